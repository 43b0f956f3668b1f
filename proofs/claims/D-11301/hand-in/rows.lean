section
/-! the pure picture: one constraint |c_p - c_q| ≥ y; a node's state is d + 7 e, d and e the values of p and q plus 1, or 0 -/
def ds_dg (P v x r : Nat) : Nat := if P = v then x + 1 else r % 7
def ds_jn (y d e : Nat) : Option Nat := if d = 0 ∨ e = 0 then some (d + 7 * e) else if e + y ≤ d ∨ d + y ≤ e then some 0 else none
def ds_mv (p q y v x st : Nat) : Option Nat := if p = v ∨ q = v then ds_jn y (ds_dg p v x st) (ds_dg q v x (st / 7)) else some st
def ds_mr (rl p q y v x st : Nat) : Option Nat := if rl = 0 then some 0 else ds_mv p q y v x st
def ds_ov (f : Nat → Nat) : Option Nat → Nat
  | none => 0
  | some s => f s
def ds_rs (B : Nat) (g : Nat → Option Nat) (f : Nat → Nat) : Nat → Nat
  | 0 => 0
  | x + 1 => ds_rs B g f x + (if B.testBit x = false then 0 else ds_ov f (g x))
def ds_G (rl p q y : Nat) (D : Nat → Nat) (v : Nat) (f : Nat → Nat) (st : Nat) : Nat := ds_rs (D v) (fun x => ds_mr rl p q y v x st) f 6
def ds_tot (rl p q y : Nat) (D : Nat → Nat) : Nat := ds_G rl p q y D 0 (ds_G rl p q y D 1 (ds_G rl p q y D 2 (ds_G rl p q y D 3 (fun _ => 1)))) 0
def ds_sm (f S W : Nat → Nat) : Nat → Nat
  | 0 => 0
  | m + 1 => ds_sm f S W m + W m * f (S m)
def ds_up (f : Nat → Nat) (k x : Nat) : Nat → Nat := fun j => if j = k then x else f j
theorem ds_us {f : Nat → Nat} {k x : Nat} : ds_up f k x k = x := if_pos rfl
theorem ds_un {f : Nat → Nat} {k x j : Nat} (h : j ≠ k) : ds_up f k x j = f j := if_neg h
theorem ds_dg_lt {P v x r : Nat} (hx : x < 6) : ds_dg P v x r < 7 := by
  unfold ds_dg
  split
  · omega
  · exact Nat.mod_lt _ (by omega)
theorem ds_jn_lt {y d e s : Nat} (hd : d < 7) (he : e < 7) (h : ds_jn y d e = some s) : s < 49 := by
  unfold ds_jn at h
  split at h
  · injection h with h
    omega
  · split at h
    · injection h with h
      omega
    · exact absurd h (by simp)
theorem ds_mv_lt {p q y v x st s : Nat} (hx : x < 6) (hst : st < 49) (h : ds_mv p q y v x st = some s) : s < 49 := by
  unfold ds_mv at h
  split at h
  · exact ds_jn_lt (ds_dg_lt hx) (ds_dg_lt hx) h
  · injection h with h
    omega
theorem ds_rs_0 {B x : Nat} {g : Nat → Option Nat} {f : Nat → Nat} (h : B.testBit x = false) : ds_rs B g f (x + 1) = ds_rs B g f x := by
  show ds_rs B g f x + (if B.testBit x = false then 0 else ds_ov f (g x)) = _
  rw [if_pos h] <;> rfl
theorem ds_rs_n {B x : Nat} {g : Nat → Option Nat} {f : Nat → Nat} (h : g x = none) : ds_rs B g f (x + 1) = ds_rs B g f x := by
  show ds_rs B g f x + (if B.testBit x = false then 0 else ds_ov f (g x)) = _
  rw [h]
  show ds_rs B g f x + (if B.testBit x = false then 0 else 0) = _
  rw [ite_self] <;> rfl
theorem ds_rs_s {B x s : Nat} {g : Nat → Option Nat} {f : Nat → Nat} (hb : ¬ B.testBit x = false) (h : g x = some s) : ds_rs B g f (x + 1) = ds_rs B g f x + f s := by
  show ds_rs B g f x + (if B.testBit x = false then 0 else ds_ov f (g x)) = _
  rw [if_neg hb, h]
  rfl
theorem ds_sm_c {f S W S' W' : Nat → Nat} : ∀ m, (∀ j, j < m → S' j = S j ∧ W' j = W j) → ds_sm f S' W' m = ds_sm f S W m := by
  intro m
  induction m with
  | zero => intro _; rfl
  | succ m ih =>
    intro h
    show ds_sm f S' W' m + W' m * f (S' m) = ds_sm f S W m + W m * f (S m)
    rw [ih (fun j hj => h j (by omega)), (h m (by omega)).1, (h m (by omega)).2]
theorem ds_sm_a {f S W : Nat → Nat} {m s w : Nat} : ds_sm f (ds_up S m s) (ds_up W m w) (m + 1) = ds_sm f S W m + w * f s := by
  show ds_sm f (ds_up S m s) (ds_up W m w) m + ds_up W m w m * f (ds_up S m s m) = _
  rw [ds_us, ds_us, ds_sm_c (S := S) (W := W) (S' := ds_up S m s) (W' := ds_up W m w) m (fun j hj => ⟨ds_un (by omega), ds_un (by omega)⟩)]
theorem ds_sm_b {f S W : Nat → Nat} {k w : Nat} : ∀ m, k < m → ds_sm f S (ds_up W k (W k + w)) m = ds_sm f S W m + w * f (S k) := by
  intro m
  induction m with
  | zero => intro h; omega
  | succ m ih =>
    intro h
    show ds_sm f S (ds_up W k (W k + w)) m + ds_up W k (W k + w) m * f (S m) = ds_sm f S W m + W m * f (S m) + w * f (S k)
    by_cases e : k = m
    · subst e
      rw [ds_us, ds_sm_c (S := S) (W := W) (S' := S) (W' := ds_up W k (W k + w)) k (fun j hj => ⟨rfl, ds_un (by omega)⟩), Nat.add_mul]
      omega
    · rw [ih (by omega), ds_un (fun z => e z.symm)]
      omega
/-! ints -/
theorem ds_b8 : ∀ n, n < 64 → (nI n).toInt8.toInt32 = nI n := by decide +kernel
theorem ds_s16 : ∀ n, n < 64 → (nI n).toInt16.toInt32 = nI n := by decide +kernel
theorem ds_vs {s : Nat} (h : s < 64) : vp_nar .short (nI s) = nI s := by rw [vp_nar_short, ds_s16 s h]
theorem ds_vb {s : Nat} (h : s < 64) : vp_nar .byte (nI s) = nI s := by rw [vp_nar_byte, ds_b8 s h]
theorem ds_d8 : ∀ n, n < 7 → 0 < n → (nI n - 1).toInt8.toInt32 = nI (n - 1) := by decide +kernel
theorem ds_bit : ∀ B, B < 64 → ∀ x, x < 6 → (((nI B >>> (nI x &&& 31)) &&& 1) = 0 ↔ B.testBit x = false) := by decide +kernel
theorem ds_ru : ∀ r, r < 2 → (((nI r >>> ((0 : Int32) &&& 31)) &&& 1) = 0 ↔ r = 0) := by decide +kernel
theorem ds_ix (N i : Nat) : 10 * nI N + nI i = nI (10 * N + i) := by rw [show (10 : Int32) = nI 10 from rfl, pk_mul, nI_add]
theorem ds_m1 : ∀ s, s < 49 → ¬ nI s = (-1) := by decide +kernel
theorem ds_sb {d e y : Nat} (hd : d < 6) (he : e < 6) (hy : y < 6) : nI y ≤ nI d - nI e ↔ e + y ≤ d := by
  rw [Int32.le_iff_toInt_le, pk_sub_toInt (a := d) (b := e) (by omega) (by omega), nI_toInt (n := y) (by omega)]
  omega
theorem ds_sl {d e y : Nat} (hd : d < 6) (he : e < 6) (hy : y < 6) : nI e - nI d < nI y ↔ ¬ d + y ≤ e := by
  rw [Int32.lt_iff_toInt_lt, pk_sub_toInt (a := e) (b := d) (by omega) (by omega), nI_toInt (n := y) (by omega)]
  omega
/-- the constraint as the object holds it -/
def ds_C (p q y : Nat) (a2 a3 a4 a5 : Nat → Int32) : Prop := p < 4 ∧ q < 4 ∧ p ≠ q ∧ y < 6 ∧ a2 0 = 6 ∧ a3 0 = nI p ∧ a4 0 = nI q ∧ a5 0 = nI y
/-- a layer of m nodes from place b on -/
def ds_LY (a13 a14 : Nat → Int32) (b m : Nat) (S W : Nat → Nat) : Prop := ∀ j, j < m → a13 (10 * (b + j)) = nI (S j) ∧ a14 (b + j) = nI (W j) ∧ S j < 49
theorem ds_LY_k {a13 a14 b13 b14 : Nat → Int32} {b m : Nat} {S W : Nat → Nat} (h : ds_LY a13 a14 b m S W) (h1 : ∀ j, j < m → b13 (10 * (b + j)) = a13 (10 * (b + j))) (h2 : ∀ j, j < m → b14 (b + j) = a14 (b + j)) : ds_LY b13 b14 b m S W := by
  intro j hj
  obtain ⟨g1, g2, g3⟩ := h j hj
  exact ⟨(h1 j hj).trans g1, (h2 j hj).trans g2, g3⟩
theorem ds_LY_a {a13 a14 b13 b14 : Nat → Int32} {b m s w : Nat} {S W : Nat → Nat} (h : ds_LY a13 a14 b m S W) (e1 : b13 (10 * (b + m)) = nI s) (e2 : b14 (b + m) = nI w) (hs : s < 49)
    (h1 : ∀ j, j < m → b13 (10 * (b + j)) = a13 (10 * (b + j))) (h2 : ∀ j, j < m → b14 (b + j) = a14 (b + j)) : ds_LY b13 b14 b (m + 1) (ds_up S m s) (ds_up W m w) := by
  intro j hj
  by_cases e : j = m
  · subst e
    rw [ds_us, ds_us]
    exact ⟨e1, e2, hs⟩
  · rw [ds_un e, ds_un e]
    exact ds_LY_k h h1 h2 j (by omega)
theorem ds_LY_b {a13 a14 b14 : Nat → Int32} {b m k w : Nat} {S W : Nat → Nat} (h : ds_LY a13 a14 b m S W) (e2 : b14 (b + k) = nI (W k + w))
    (h2 : ∀ j, j < m → j ≠ k → b14 (b + j) = a14 (b + j)) : ds_LY a13 b14 b m S (ds_up W k (W k + w)) := by
  intro j hj
  obtain ⟨g1, g2, g3⟩ := h j hj
  by_cases e : j = k
  · subst e
    rw [ds_us]
    exact ⟨g1, e2, g3⟩
  · rw [ds_un e]
    exact ⟨g1, (h2 j hj e).trans g2, g3⟩
end
section
/-! one node, one value: moveStates -/
theorem ds_isR {post : Int32 → Prop} {rl : Nat} {mo tl bs de ic : Int32} {a1 a2 a3 a4 a5 a6 a7 a8 a9 a10 a11 a12 a13 a14 a15 a16 a17 a18 : Nat → Int32} (hrl : rl < 2) (H0 : rl = 0 → post 0) (H1 : rl = 1 → post 1) : wpX_isRule post (1, 2, (nI rl), mo, tl, bs, de, ic, a1, a2, a3, a4, a5, a6, a7, a8, a9, a10, a11, a12, a13, a14, a15, a16, a17, a18) 0 :=
  ek_if (ds_ru rl hrl) H0 (fun z => H1 (by omega))
theorem ds_li {post : St2 → Prop} {rl p q y : Nat} {mo tl bs de ic : Int32} {a1 a2 a3 a4 a5 a6 a7 a8 a9 a10 a11 a12 a13 a14 a15 a16 a17 a18 : Nat → Int32} (c : ds_C p q y a2 a3 a4 a5)
    (H : ∀ b12 : Nat → Int32, b12 0 = nI p → b12 1 = nI q → post (1, 2, (nI rl), mo, tl, bs, de, 2, a1, a2, a3, a4, a5, a6, a7, a8, a9, a10, a11, b12, a13, a14, a15, a16, a17, a18)) : wpX_listInvolved post (1, 2, (nI rl), mo, tl, bs, de, ic, a1, a2, a3, a4, a5, a6, a7, a8, a9, a10, a11, a12, a13, a14, a15, a16, a17, a18) 0 := by
  obtain ⟨hp, hq, hpq, hy, h2, h3, h4, h5⟩ := c
  refine And.intro (pk_in 0 10 (by omega)) (nm_r h2 (And.intro (pk_in 0 10 (by omega)) (nm_r h3 (And.intro (pk_in 0 10 (by omega)) (nm_r h4 (And.intro (pk_in 0 10 (by omega)) (nm_e (br_f (by decide) ?_))))))))
  refine And.intro (pk_in 0 4 (by omega)) (nm_e (br_f (by decide) ?_))
  refine And.intro (pk_in 1 4 (by omega)) (nm_e (br_f (by decide) ?_))
  refine br_f (by decide) ?_
  refine H _ ?_ ?_
  · show upd (upd a12 0 (nI p).toInt8.toInt32) 1 (nI q).toInt8.toInt32 0 = nI p
    rw [pk_un (by omega), pk_us]
    exact ds_b8 p (by omega)
  · show upd (upd a12 0 (nI p).toInt8.toInt32) 1 (nI q).toInt8.toInt32 1 = nI q
    rw [pk_us]
    exact ds_b8 q (by omega)
theorem ds_ho {post : Int32 → St2 → Prop} {rl p q y : Nat} {mo tl bs de ic : Int32} {a1 a2 a3 a4 a5 a6 a7 a8 a9 a10 a11 a12 a13 a14 a15 a16 a17 a18 : Nat → Int32} {d e : Nat} (c : ds_C p q y a2 a3 a4 a5) (hd : d < 6) (he : e < 6) (ed : a8 p = nI d) (ee : a8 q = nI e)
    (H1 : (e + y ≤ d ∨ d + y ≤ e) → post 1 (1, 2, (nI rl), mo, tl, bs, de, ic, a1, a2, a3, a4, a5, a6, a7, a8, a9, a10, a11, a12, a13, a14, a15, a16, a17, a18)) (H0 : ¬ (e + y ≤ d ∨ d + y ≤ e) → post 0 (1, 2, (nI rl), mo, tl, bs, de, ic, a1, a2, a3, a4, a5, a6, a7, a8, a9, a10, a11, a12, a13, a14, a15, a16, a17, a18)) : wpX_holds post (1, 2, (nI rl), mo, tl, bs, de, ic, a1, a2, a3, a4, a5, a6, a7, a8, a9, a10, a11, a12, a13, a14, a15, a16, a17, a18) 0 := by
  obtain ⟨hp, hq, hpq, hy, h2, h3, h4, h5⟩ := c
  refine And.intro (pk_in 0 10 (by omega)) (nm_r h2 (And.intro (pk_in 0 10 (by omega)) (nm_r h3 (And.intro (pk_in 0 10 (by omega)) (nm_r h4 (And.intro (pk_in 0 10 (by omega)) (nm_r h5 ?_)))))))
  refine br_f (by decide) (br_f (by decide) (br_f (by decide) (br_f (by decide) (br_f (by decide) (br_f (by decide) (br_t rfl ?_))))))
  refine And.intro (pk_in p 4 hp) (And.intro (pk_in q 4 hq) ?_)
  rw [nI_clamp (show p < 2 ^ 31 by omega), nI_clamp (show q < 2 ^ 31 by omega), ed, ee]
  refine ek_if (ds_sb hd he hy) (fun z => H1 (Or.inl z)) (fun z => And.intro (pk_in q 4 hq) (And.intro (pk_in p 4 hp) ?_))
  exact ek_if (ds_sl hd he hy) (fun z2 => H0 (fun t => t.elim z z2)) (fun z2 => H1 (Or.inr (by omega)))
theorem ds_ml66 {post : Int32 → St2 → Prop} {J : Int32 → Int32 → Int32 → Int32 → Int32 → Int32 → (Nat → Int32) → (Nat → Int32) → (Nat → Int32) → (Nat → Int32) → (Nat → Int32) → (Nat → Int32) → (Nat → Int32) → (Nat → Int32) → (Nat → Int32) → (Nat → Int32) → (Nat → Int32) → (Nat → Int32) → (Nat → Int32) → (Nat → Int32) → (Nat → Int32) → (Nat → Int32) → (Nat → Int32) → (Nat → Int32) → Prop} {x1 x2 x3 x4 x5 cm nm : Int32} {rl : Nat} {mo tl bs de ic : Int32} {a1 a2 a3 a4 a5 a6 a7 a8 a9 a10 a11 a12 a13 a14 a15 a16 a17 a18 : Nat → Int32} {k P wt nx d : Nat} (hk : k < 4) (hP : P < 4) (hd : d < 7) (h12 : a12 k = nI P)
    (H : ∀ b8 : Nat → Int32, (0 < d → b8 P = nI (d - 1)) → (∀ j, j ≠ P → b8 j = a8 j) → J x5 (nI (wt * 7)) (nI (nx + wt * d)) (if d = 0 then 0 else cm) nm (nI (k + 1)) a1 a2 a3 a4 a5 a6 a7 b8 a9 a10 a11 a12 a13 a14 a15 a16 a17 a18) :
    wX_moveListed_66 post J x1 x2 x3 x4 x5 (nI wt) (nI nx) cm nm (nI k) (nI d) 1 2 (nI rl) mo tl bs de ic a1 a2 a3 a4 a5 a6 a7 a8 a9 a10 a11 a12 a13 a14 a15 a16 a17 a18 := by
  have e1 : nI nx + nI wt * nI d = nI (nx + wt * d) := by rw [pk_mul, nI_add]
  have e2 : nI wt * 7 = nI (wt * 7) := pk_mul wt 7
  refine pk_eq d 0 (fun z => ?_) (fun z => And.intro (pk_in k 4 hk) (And.intro (pk_in P 4 hP (by rw [nI_clamp (show k < 2 ^ 31 by omega), h12])) (nm_e ?_)))
  · have h := H a8 (fun t => absurd t (by omega)) (fun _ _ => rfl)
    rw [if_pos z] at h
    exact nm_r e1 (nm_r e2 (nm_r (nI_1 k) h))
  · have h := H (upd a8 P (nI (d - 1))) (fun _ => pk_us) (fun j hj => pk_un hj)
    rw [if_neg z] at h
    refine nm_r e1 (nm_r e2 (nm_r (nI_1 k) ?_))
    rw [nI_clamp (show k < 2 ^ 31 by omega), h12, nI_clamp (show P < 2 ^ 31 by omega), ds_d8 d hd (by omega)]
    exact h
theorem ds_ml {post : Int32 → St2 → Prop} {rl : Nat} {mo tl bs de : Int32} {a1 a2 a3 a4 a5 a6 a7 a8 a9 a10 a11 a12 a13 a14 a15 a16 a17 a18 : Nat → Int32} {st v x P k rs wt nx n : Nat} {cm nm : Int32} (hk : k < 2) (hP : P < 4) (hv : v < 4) (hx : x < 6) (hrs : rs < 2 ^ 31) (h12 : a12 k = nI P)
    (H : ∀ b8 : Nat → Int32, (0 < ds_dg P v x rs → b8 P = nI (ds_dg P v x rs - 1)) → (∀ j, j ≠ P → b8 j = a8 j) →
      wX_moveListed_23 post 0 (nI st) (nI v) (nI x) 1 2 (nI rl) mo tl bs de 2 n (nI (rs / 7)) (nI (wt * 7)) (nI (nx + wt * ds_dg P v x rs)) (if ds_dg P v x rs = 0 then 0 else cm) (if P = v then 1 else nm) (nI (k + 1)) a1 a2 a3 a4 a5 a6 a7 b8 a9 a10 a11 a12 a13 a14 a15 a16 a17 a18) :
    wX_moveListed_23 post 0 (nI st) (nI v) (nI x) 1 2 (nI rl) mo tl bs de 2 (n + 1) (nI rs) (nI wt) (nI nx) cm nm (nI k) a1 a2 a3 a4 a5 a6 a7 a8 a9 a10 a11 a12 a13 a14 a15 a16 a17 a18 := by
  refine pk_le 2 k (fun z => absurd z (by omega)) (fun _ => ?_)
  refine And.intro (by decide) (nm_r (pk_rem (d := 7) hrs (by omega) (by omega)) (And.intro (by decide) (nm_r (pk_div (d := 7) hrs (by omega) (by omega)) (And.intro (pk_in k 4 (by omega)) ?_))))
  rw [nI_clamp (show k < 2 ^ 31 by omega), h12]
  refine pk_eq P v (fun hv' => nm_r (nI_1 x) ?_) (fun hv' => ?_)
  · have e : ds_dg P v x rs = x + 1 := if_pos hv'
    rw [e, if_pos hv'] at H
    exact ds_ml66 (by omega) hP (by omega) h12 H
  · have e : ds_dg P v x rs = rs % 7 := if_neg hv'
    rw [e, if_neg hv'] at H
    exact ds_ml66 (by omega) hP (Nat.mod_lt _ (by omega)) h12 H
theorem ds_mL {post : Int32 → St2 → Prop} {rl p q y : Nat} {mo tl bs de ic : Int32} {a1 a2 a3 a4 a5 a6 a7 a8 a9 a10 a11 a12 a13 a14 a15 a16 a17 a18 : Nat → Int32} {st v x : Nat} (c : ds_C p q y a2 a3 a4 a5) (hst : st < 49) (hv : v < 4) (hx : x < 6)
    (Hn : ds_mv p q y v x st = none → ∀ (jc : Int32) (b8 b12 : Nat → Int32), post (-1) (1, 2, (nI rl), mo, tl, bs, de, jc, a1, a2, a3, a4, a5, a6, a7, b8, a9, a10, a11, b12, a13, a14, a15, a16, a17, a18))
    (Hs : ∀ s, ds_mv p q y v x st = some s → ∀ (jc : Int32) (b8 b12 : Nat → Int32), post (nI s) (1, 2, (nI rl), mo, tl, bs, de, jc, a1, a2, a3, a4, a5, a6, a7, b8, a9, a10, a11, b12, a13, a14, a15, a16, a17, a18)) :
    wpX_moveListed post (1, 2, (nI rl), mo, tl, bs, de, ic, a1, a2, a3, a4, a5, a6, a7, a8, a9, a10, a11, a12, a13, a14, a15, a16, a17, a18) 0 (nI st) (nI v) (nI x) := by
  have c' := c
  obtain ⟨hp, hq, hpq, hy, h2, h3, h4, h5⟩ := c
  unfold wpX_moveListed
  refine ds_li c' (fun b12 e0 e1 => Exists.intro 3 ?_)
  refine ds_ml (k := 0) (rs := st) (wt := 1) (nx := 0) (n := 2) (by omega) hp hv hx (by omega) e0 (fun b8 g1 g2 => ?_)
  refine ds_ml (k := 1) (n := 1) (by omega) hq hv hx (by omega) e1 (fun c8 g3 g4 => ?_)
  refine pk_le 2 2 (fun _ => ?_) (fun z => absurd z (by omega))
  have hd : ds_dg p v x st < 7 := ds_dg_lt hx
  have he : ds_dg q v x (st / 7) < 7 := ds_dg_lt hx
  by_cases hn : p = v ∨ q = v
  · have ev : ds_mv p q y v x st = ds_jn y (ds_dg p v x st) (ds_dg q v x (st / 7)) := if_pos hn
    have e9 : (if q = v then (1 : Int32) else if p = v then 1 else 0) = 1 := by
      by_cases a : q = v
      · rw [if_pos a]
      · rw [if_neg a, if_pos (hn.resolve_right a)]
    rw [e9]
    refine br_f (by decide) ?_
    by_cases hz : ds_dg p v x st = 0 ∨ ds_dg q v x (st / 7) = 0
    · have e8 : (if ds_dg q v x (st / 7) = 0 then (0 : Int32) else if ds_dg p v x st = 0 then 0 else 1) = 0 := by
        by_cases a : ds_dg q v x (st / 7) = 0
        · rw [if_pos a]
        · rw [if_neg a, if_pos (hz.resolve_right a)]
      rw [e8]
      refine br_t rfl ?_
      rw [show 0 + 1 * ds_dg p v x st + 1 * 7 * ds_dg q v x (st / 7) = ds_dg p v x st + 7 * ds_dg q v x (st / 7) by omega]
      exact Hs _ (by rw [ev]; exact if_pos hz) 2 c8 b12
    · have z1 : ds_dg p v x st ≠ 0 := fun t => hz (Or.inl t)
      have z2 : ds_dg q v x (st / 7) ≠ 0 := fun t => hz (Or.inr t)
      have e8 : (if ds_dg q v x (st / 7) = 0 then (0 : Int32) else if ds_dg p v x st = 0 then 0 else 1) = 1 := by
        rw [if_neg z2, if_neg z1]
      rw [e8]
      refine br_f (by decide) ?_
      have k1 : c8 p = nI (ds_dg p v x st - 1) := by rw [g4 p hpq]; exact g1 (by omega)
      have k2 : c8 q = nI (ds_dg q v x (st / 7) - 1) := g3 (by omega)
      refine ds_ho c' (by omega) (by omega) k1 k2 (fun z => br_f (by decide) ?_) (fun z => br_t rfl ?_)
      · exact Hs 0 (by rw [ev]; unfold ds_jn; rw [if_neg hz, if_pos (by omega)]) 2 c8 b12
      · exact Hn (by rw [ev]; unfold ds_jn; rw [if_neg hz, if_neg (by omega)]) 2 c8 b12
  · have e9 : (if q = v then (1 : Int32) else if p = v then 1 else 0) = 0 := by
      rw [if_neg (fun t => hn (Or.inr t)), if_neg (fun t => hn (Or.inl t))]
    rw [e9]
    exact br_t rfl (Hs st (if_neg hn) 2 c8 b12)
theorem ds_mSt {post : Int32 → St2 → Prop} {rl p q y : Nat} {mo tl bs de ic : Int32} {a1 a2 a3 a4 a5 a6 a7 a8 a9 a10 a11 a12 a13 a14 a15 a16 a17 a18 : Nat → Int32} {st v x : Nat} (c : ds_C p q y a2 a3 a4 a5) (hst : st < 49) (hv : v < 4) (hx : x < 6)
    (Hn : ds_mv p q y v x st = none → ∀ (jc : Int32) (b8 b12 : Nat → Int32), post (-1) (1, 2, (nI rl), mo, tl, bs, de, jc, a1, a2, a3, a4, a5, a6, a7, b8, a9, a10, a11, b12, a13, a14, a15, a16, a17, a18))
    (Hs : ∀ s, ds_mv p q y v x st = some s → ∀ (jc : Int32) (b8 b12 : Nat → Int32), post (nI s) (1, 2, (nI rl), mo, tl, bs, de, jc, a1, a2, a3, a4, a5, a6, a7, b8, a9, a10, a11, b12, a13, a14, a15, a16, a17, a18)) :
    wpX_moveState post (1, 2, (nI rl), mo, tl, bs, de, ic, a1, a2, a3, a4, a5, a6, a7, a8, a9, a10, a11, a12, a13, a14, a15, a16, a17, a18) 0 (nI st) (nI v) (nI x) := by
  refine And.intro (pk_in 0 10 (by omega)) (nm_r c.2.2.2.2.1 (br_f (by decide) (br_f (by decide) (br_f (by decide) (br_f (by decide) ?_)))))
  exact ds_mL c hst hv hx Hn Hs
theorem ds_ms_t {post : Int32 → St2 → Prop} {rl : Nat} {mo tl bs de ic : Int32} {a1 a2 a3 a4 a5 a6 a7 a8 a9 a10 a11 a12 a13 a14 a15 a16 a18 : Nat → Int32} {N v x : Int32} : ∀ (n i : Nat) (a17 : Nat → Int32), 1 ≤ i → i ≤ 10 → 10 - i < n → (∀ b17 : Nat → Int32, b17 0 = a17 0 → post 1 (1, 2, (nI rl), mo, tl, bs, de, ic, a1, a2, a3, a4, a5, a6, a7, a8, a9, a10, a11, a12, a13, a14, a15, a16, b17, a18)) →
    wX_moveStates_3 post N v x n (nI i) 1 2 (nI rl) mo tl bs de ic a1 a2 a3 a4 a5 a6 a7 a8 a9 a10 a11 a12 a13 a14 a15 a16 a17 a18 := by
  intro n
  induction n with
  | zero => intro i a17 h1 h2 h3; omega
  | succ n ih =>
    intro i a17 h1 h2 h3 H
    refine pk_le 10 i (fun z => H a17 rfl) (fun z => And.intro (pk_in i 10 (by omega)) (nm_e (pk_le 1 i (fun _ => nm_r (nI_1 i) ?_) (fun z => absurd z (by omega)))))
    refine ih (i + 1) _ (by omega) (by omega) (by omega) (fun b17 hb => H b17 ?_)
    rw [hb, nI_clamp (show i < 2 ^ 31 by omega)]
    exact pk_un (by omega)
theorem ds_mS {post : Int32 → St2 → Prop} {rl p q y : Nat} {mo tl bs de ic : Int32} {a1 a2 a3 a4 a5 a6 a7 a8 a9 a10 a11 a12 a13 a14 a15 a16 a17 a18 : Nat → Int32} {N st v x : Nat} (c : ds_C p q y a2 a3 a4 a5) (hrl : rl < 2) (hN : N < 252) (hst : st < 49) (hv : v < 4) (hx : x < 6) (h13 : a13 (10 * N) = nI st)
    (Hn : ds_mr rl p q y v x st = none → ∀ (jc : Int32) (b8 b12 b17 : Nat → Int32), post 0 (1, 2, (nI rl), mo, tl, bs, de, jc, a1, a2, a3, a4, a5, a6, a7, b8, a9, a10, a11, b12, a13, a14, a15, a16, b17, a18))
    (Hs : ∀ s, ds_mr rl p q y v x st = some s → s < 49 → ∀ (jc : Int32) (b8 b12 b17 : Nat → Int32), b17 0 = nI s → post 1 (1, 2, (nI rl), mo, tl, bs, de, jc, a1, a2, a3, a4, a5, a6, a7, b8, a9, a10, a11, b12, a13, a14, a15, a16, b17, a18)) :
    wpX_moveStates post (1, 2, (nI rl), mo, tl, bs, de, ic, a1, a2, a3, a4, a5, a6, a7, a8, a9, a10, a11, a12, a13, a14, a15, a16, a17, a18) (nI N) (nI v) (nI x) := by
  refine Exists.intro 11 ?_
  refine pk_le 10 0 (fun z => absurd z (by omega)) (fun z => And.intro (pk_in 0 10 (by omega)) (nm_e (pk_le 1 0 (fun z => absurd z (by omega)) (fun _ => ?_))))
  refine ds_isR hrl (fun z => ?_) (fun z => ?_)
  · refine br_t rfl (nm_r (nI_1 0) (ds_ms_t 10 1 _ (by omega) (by omega) (by omega) (fun b17 hb => ?_)))
    exact Hs 0 (if_pos z) (by omega) _ _ _ b17 (by rw [hb]; exact pk_us)
  · have ez : ds_mr rl p q y v x st = ds_mv p q y v x st := if_neg (by omega)
    have ei : 10 * nI N + 0 = nI (10 * N) := ds_ix N 0
    refine br_f (by decide) (And.intro (pk_in (10 * N) 2520 (by omega) ei) ?_)
    rw [ei, nI_clamp (show 10 * N < 2 ^ 31 by omega), h13]
    refine ds_mSt c hst hv hx (fun hn jc b8 b12 => br_t rfl ?_) (fun s hs jc b8 b12 => ?_)
    · exact Hn (ez.trans hn) _ _ _ _
    · have hs49 := ds_mv_lt hx hst hs
      refine br_f (ds_m1 s hs49) (And.intro (pk_in 0 10 (by omega)) (nm_e (nm_r (nI_1 0) (ds_ms_t 10 1 _ (by omega) (by omega) (by omega) (fun b17 hb => ?_)))))
      refine Hs s (ez.trans hs) hs49 _ _ _ b17 ?_
      rw [hb, ds_s16 s (by omega)]
      exact pk_us
theorem ds_aA {post : Int32 → Prop} {rl : Nat} {mo tl bs de ic : Int32} {a1 a2 a3 a4 a5 a6 a7 a8 a9 a10 a11 a12 a13 a14 a15 a16 a17 a18 : Nat → Int32} (hrl : rl < 2) (h2 : a2 0 = 6) (H : post 1) : wpX_allAccept post (1, 2, (nI rl), mo, tl, bs, de, ic, a1, a2, a3, a4, a5, a6, a7, a8, a9, a10, a11, a12, a13, a14, a15, a16, a17, a18) := by
  refine Exists.intro 2 (pk_le 1 0 (fun z => absurd z (by omega)) (fun _ => ?_))
  refine ds_isR hrl (fun _ => br_t rfl (nm_r (nI_1 0) (pk_le 1 1 (fun _ => H) (fun z => absurd z (by omega))))) (fun _ => ?_)
  refine br_f (by decide) (And.intro (pk_in 0 10 (by omega)) (nm_r h2 (And.intro (pk_in 0 10 (by omega)) (nm_e (br_f (by decide) ?_)))))
  refine br_f (by decide) ?_
  refine br_f (by decide) ?_
  exact nm_r (nI_1 0) (pk_le 1 1 (fun _ => H) (fun z => absurd z (by omega)))
end
section
/-! layers -/
theorem ds_fN2 {post : Int32 → Prop} {rl : Nat} {mo tl bs de ic : Int32} {a1 a2 a3 a4 a5 a6 a7 a8 a9 a10 a11 a12 a13 a14 a15 a16 a17 a18 : Nat → Int32} {b m s : Nat} {S W : Nat → Nat} (hL : ds_LY a13 a14 b m S W) (hb : b + m ≤ 252) (hs : s < 49) (h17 : a17 0 = nI s)
    (H : ∀ k, k ≤ m → (k < m → S k = s) → post (nI (b + k))) : ∀ n i : Nat, i ≤ m → m - i < n → wX_findNode_2 post (nI b) (nI m) 1 2 (nI rl) mo tl bs de ic a1 a2 a3 a4 a5 a6 a7 a8 a9 a10 a11 a12 a13 a14 a15 a16 a17 a18 n (nI (b + i)) := by
  intro n
  induction n with
  | zero => intro i h1 h2; omega
  | succ n ih =>
    intro i h1 h2
    refine pk_le (b + m) (b + i) (fun z => ?_) (fun z => Exists.intro 2 ?_) (nI_add b m)
    · rw [nI_add]
      exact H m (by omega) (fun t => absurd t (by omega))
    · have ei : 10 * nI (b + i) + 0 = nI (10 * (b + i)) := ds_ix (b + i) 0
      obtain ⟨g1, g2, g3⟩ := hL i (by omega)
      refine pk_le 1 0 (fun z => absurd z (by omega)) (fun _ => br_f (by decide) (And.intro (pk_in (10 * (b + i)) 2520 (by omega) ei) (And.intro (pk_in 0 10 (by omega)) ?_)))
      rw [ei, nI_clamp (show 10 * (b + i) < 2 ^ 31 by omega), g1, show a17 (0 : Int32).toNatClampNeg = nI s from h17]
      refine pk_eq (S i) s (fun e => nm_r (nI_1 0) (pk_le 1 1 (fun _ => br_f (by decide) (H i (by omega) (fun _ => e))) (fun z => absurd z (by omega)))) (fun e => nm_r (nI_1 0) (pk_le 1 1 (fun _ => br_t rfl (nm_r (nI_1 (b + i)) (ih (i + 1) (by omega) (by omega)))) (fun z => absurd z (by omega))))
theorem ds_fN {post : Int32 → Prop} {rl : Nat} {mo tl bs de ic : Int32} {a1 a2 a3 a4 a5 a6 a7 a8 a9 a10 a11 a12 a13 a14 a15 a16 a17 a18 : Nat → Int32} {b m s : Nat} {S W : Nat → Nat} (hL : ds_LY a13 a14 b m S W) (hb : b + m ≤ 252) (hs : s < 49) (h17 : a17 0 = nI s)
    (H : ∀ k, k ≤ m → (k < m → S k = s) → post (nI (b + k))) : wpX_findNode post (1, 2, (nI rl), mo, tl, bs, de, ic, a1, a2, a3, a4, a5, a6, a7, a8, a9, a10, a11, a12, a13, a14, a15, a16, a17, a18) (nI b) (nI m) :=
  Exists.intro (m + 1) (ds_fN2 hL hb hs h17 H (m + 1) 0 (by omega) (by omega))
theorem ds_oN2 {post : St2 → Prop} {rl : Nat} {mo tl bs de ic : Int32} {a1 a2 a3 a4 a5 a6 a7 a8 a9 a10 a11 a12 a14 a15 a16 a17 a18 : Nat → Int32} {N s : Nat} (hN : N < 252) (hs : s < 49) (h17 : a17 0 = nI s) : ∀ (n i : Nat) (a13 : Nat → Int32), i ≤ 10 → 10 - i < n → (0 < i → a13 (10 * N) = nI s) →
    (∀ b13 b15 b16 : Nat → Int32, b13 (10 * N) = nI s → (∀ j, j < 10 * N ∨ 10 * N + 10 ≤ j → b13 j = a13 j) → post (1, 2, (nI rl), mo, tl, bs, de, ic, a1, a2, a3, a4, a5, a6, a7, a8, a9, a10, a11, a12, b13, upd a14 N 0, b15, b16, a17, a18)) →
    wX_openNode_2 post (nI N) 1 2 (nI rl) mo tl bs de ic n (nI i) a1 a2 a3 a4 a5 a6 a7 a8 a9 a10 a11 a12 a13 a14 a15 a16 a17 a18 := by
  intro n
  induction n with
  | zero => intro i a13 h1 h2; omega
  | succ n ih =>
    intro i a13 h1 h2 h0 H
    refine pk_le 10 i (fun z => And.intro (pk_in N 252 hN) (nm_e (And.intro (pk_in N 252 hN) (nm_e (And.intro (pk_in N 252 hN) (nm_e ?_)))))) (fun z => And.intro (pk_in i 10 z) (And.intro (pk_in (10 * N + i) 2520 (by omega) (ds_ix N i)) (nm_e (nm_r (nI_1 i) ?_))))
    · rw [nI_clamp (show N < 2 ^ 31 by omega)]
      exact H a13 _ _ (h0 (by omega)) (fun _ _ => rfl)
    · rw [ds_ix N i, nI_clamp (show 10 * N + i < 2 ^ 31 by omega), nI_clamp (show i < 2 ^ 31 by omega)]
      refine ih (i + 1) _ (by omega) (by omega) (fun _ => ?_) (fun b13 b15 b16 g1 g2 => H b13 b15 b16 g1 (fun j hj => ?_))
      · by_cases e : i = 0
        · subst e
          rw [h17, ds_vs (by omega)]
          exact pk_us
        · rw [pk_un (by omega)]
          exact h0 (by omega)
      · rw [g2 j hj]
        exact pk_un (by omega)
theorem ds_oN {post : St2 → Prop} {rl : Nat} {mo tl bs de ic : Int32} {a1 a2 a3 a4 a5 a6 a7 a8 a9 a10 a11 a12 a13 a14 a15 a16 a17 a18 : Nat → Int32} {N s : Nat} (hN : N < 252) (hs : s < 49) (h17 : a17 0 = nI s)
    (H : ∀ b13 b15 b16 : Nat → Int32, b13 (10 * N) = nI s → (∀ j, j < 10 * N ∨ 10 * N + 10 ≤ j → b13 j = a13 j) → post (1, 2, (nI rl), mo, tl, bs, de, ic, a1, a2, a3, a4, a5, a6, a7, a8, a9, a10, a11, a12, b13, upd a14 N 0, b15, b16, a17, a18)) :
    wpX_openNode post (1, 2, (nI rl), mo, tl, bs, de, ic, a1, a2, a3, a4, a5, a6, a7, a8, a9, a10, a11, a12, a13, a14, a15, a16, a17, a18) (nI N) :=
  Exists.intro 11 (ds_oN2 hN hs h17 11 0 a13 (by omega) (by omega) (fun t => absurd t (by omega)) H)
theorem ds_aW55 {post : St2 → Prop} {rl : Nat} {mo tl bs de ic : Int32} {a1 a2 a3 a4 a5 a6 a7 a8 a9 a10 a11 a12 a13 a14 a15 a16 a17 a18 : Nat → Int32} {N M : Nat} {z : Int32} (hN : N < 252) (hM : M < 252) (H : ∀ b15 b16 : Nat → Int32, post (1, 2, (nI rl), mo, tl, bs, de, ic, a1, a2, a3, a4, a5, a6, a7, a8, a9, a10, a11, a12, a13, a14, b15, b16, a17, a18)) :
    wX_addWays_55 post (nI N) (nI M) z 1 2 (nI rl) mo tl bs de ic a1 a2 a3 a4 a5 a6 a7 a8 a9 a10 a11 a12 a13 a14 a15 a16 a17 a18 :=
  And.intro (pk_in N 252 hN) (nm_e (And.intro (pk_in N 252 hN) (And.intro (pk_in M 252 hM) (And.intro (pk_in N 252 hN) (nm_e (H _ _))))))
theorem ds_aW {post : St2 → Prop} {rl : Nat} {mo tl bs de ic : Int32} {a1 a2 a3 a4 a5 a6 a7 a8 a9 a10 a11 a12 a13 a14 a15 a16 a17 a18 : Nat → Int32} {N M : Nat} {z : Int32} (hN : N < 252) (hM : M < 252) (H : ∀ b15 b16 : Nat → Int32, post (1, 2, (nI rl), mo, tl, bs, de, ic, a1, a2, a3, a4, a5, a6, a7, a8, a9, a10, a11, a12, a13, upd a14 N (a14 N + a14 M), b15, b16, a17, a18)) :
    wpX_addWays post (1, 2, (nI rl), mo, tl, bs, de, ic, a1, a2, a3, a4, a5, a6, a7, a8, a9, a10, a11, a12, a13, a14, a15, a16, a17, a18) (nI N) (nI M) z := by
  have eN := nI_clamp (show N < 2 ^ 31 by omega)
  have eM := nI_clamp (show M < 2 ^ 31 by omega)
  have H' : ∀ b15 b16 : Nat → Int32, post (1, 2, (nI rl), mo, tl, bs, de, ic, a1, a2, a3, a4, a5, a6, a7, a8, a9, a10, a11, a12, a13, upd a14 (nI N).toNatClampNeg (a14 (nI N).toNatClampNeg + a14 (nI M).toNatClampNeg), b15, b16, a17, a18) := by
    rw [eN, eM]
    exact H
  refine And.intro (pk_in N 252 hN) (And.intro (pk_in M 252 hM) (And.intro (pk_in N 252 hN) (nm_e (And.intro (pk_in M 252 hM) (nm_e (And.intro (pk_in N 252 hN) ?_))))))
  exact br_c (fun _ => And.intro (pk_in N 252 hN) (br_c (fun _ => ds_aW55 hN hM H') (fun _ => And.intro (pk_in N 252 hN) (nm_e (ds_aW55 hN hM H'))))) (fun _ => H' _ _)
theorem ds_nL17 {post : Int32 → St2 → Prop} {J6 : Int32 → Int32 → Int32 → Int32 → Int32 → Int32 → Int32 → Int32 → Int32 → Int32 → (Nat → Int32) → (Nat → Int32) → (Nat → Int32) → (Nat → Int32) → (Nat → Int32) → (Nat → Int32) → (Nat → Int32) → (Nat → Int32) → (Nat → Int32) → (Nat → Int32) → (Nat → Int32) → (Nat → Int32) → (Nat → Int32) → (Nat → Int32) → (Nat → Int32) → (Nat → Int32) → (Nat → Int32) → (Nat → Int32) → Prop} {rl p q y : Nat} {mo tl bs de : Int32} {a1 a2 a3 a4 a5 a6 a7 a9 a10 a11 a18 : Nat → Int32} {v fb m tb k : Nat} {D S W : Nat → Nat} (c : ds_C p q y a2 a3 a4 a5) (hrl : rl < 2) (hv : v < 4)
    (h6 : a6 v = nI (D v)) (hD : D v < 64) (hk : k < m) (hf : fb + m ≤ 252) (ht : tb + 6 * m ≤ 252) (hd : fb + m ≤ tb ∨ tb + 6 * m ≤ fb)
    (H : ∀ (m' : Nat) (S' W' : Nat → Nat) (ic : Int32) (a8 a12 a13 a14 a15 a16 a17 : Nat → Int32), m' ≤ 6 * (k + 1) → ds_LY a13 a14 fb m S W → ds_LY a13 a14 tb m' S' W' →
      (∀ f, ds_sm f S' W' m' = ds_sm (ds_G rl p q y D v f) S W (k + 1)) → J6 (nI m') (nI (fb + k + 1)) 1 2 (nI rl) mo tl bs de ic a1 a2 a3 a4 a5 a6 a7 a8 a9 a10 a11 a12 a13 a14 a15 a16 a17 a18) :
    ∀ (n x m' : Nat) (S' W' : Nat → Nat) (ic : Int32) (a8 a12 a13 a14 a15 a16 a17 : Nat → Int32), x ≤ 6 → 6 - x < n → m' ≤ 6 * k + x → ds_LY a13 a14 fb m S W → ds_LY a13 a14 tb m' S' W' →
      (∀ f, ds_sm f S' W' m' = ds_sm (ds_G rl p q y D v f) S W k + W k * ds_rs (D v) (fun x => ds_mr rl p q y v x (S k)) f x) →
      wX_nextLayer_17 post J6 (nI v) (nI fb) (nI m) (nI tb) (nI (fb + k)) n (nI m') (nI x) 1 2 (nI rl) mo tl bs de ic a1 a2 a3 a4 a5 a6 a7 a8 a9 a10 a11 a12 a13 a14 a15 a16 a17 a18 := by
  intro n
  induction n with
  | zero => intro x m' S' W' ic a8 a12 a13 a14 a15 a16 a17 h1 h2; omega
  | succ n ih =>
    intro x m' S' W' ic a8 a12 a13 a14 a15 a16 a17 h1 h2 h3 hF hT hS
    refine pk_le 6 x (fun z => nm_r (nI_1 (fb + k)) ?_) (fun z => And.intro (pk_in v 4 hv) ?_)
    · have e : x = 6 := by omega
      subst e
      exact H m' S' W' ic a8 a12 a13 a14 a15 a16 a17 (by omega) hF hT hS
    · rw [nI_clamp (show v < 2 ^ 31 by omega), h6]
      refine ek_if (ds_bit (D v) hD x z) (fun e => nm_r (nI_1 x) ?_) (fun e => ?_)
      · exact ih (x + 1) m' S' W' ic a8 a12 a13 a14 a15 a16 a17 (by omega) (by omega) (by omega) hF hT (fun f => by rw [ds_rs_0 e]; exact hS f)
      · obtain ⟨g1, g2, g3⟩ := hF k hk
        refine ds_mS c hrl (by omega) g3 hv z g1 (fun hn jc b8 b12 b17 => br_t rfl (nm_r (nI_1 x) ?_)) (fun s hs hs49 jc b8 b12 b17 e17 => br_f (by decide) ?_)
        · exact ih (x + 1) m' S' W' jc b8 b12 a13 a14 a15 a16 b17 (by omega) (by omega) (by omega) hF hT (fun f => by rw [ds_rs_n (g := fun x => ds_mr rl p q y v x (S k)) (x := x) hn]; exact hS f)
        · refine ds_fN hT (by omega) hs49 e17 (fun i hi1 hi2 => ?_)
          refine pk_eq (tb + i) (tb + m') (fun e2 => nm_r (nI_1 m') ?_) (fun e2 => ?_) rfl (nI_add tb m')
          · have ei : i = m' := by omega
            subst ei
            refine ds_oN (by omega) hs49 e17 (fun b13 b15 b16 q1 q2 => ?_)
            refine And.intro (pk_in v 4 hv) (ds_aW (by omega) (by omega) (fun c15 c16 => nm_r (nI_1 x) ?_))
            refine ih (x + 1) (i + 1) (ds_up S' i s) (ds_up W' i (W k)) jc b8 b12 b13 _ c15 c16 b17 (by omega) (by omega) (by omega) ?_ ?_ ?_
            · refine ds_LY_k hF (fun j hj => q2 _ (by omega)) (fun j hj => ?_)
              rw [pk_un (by omega), pk_un (by omega)]
            · refine ds_LY_a hT q1 ?_ hs49 (fun j hj => q2 _ (by omega)) (fun j hj => ?_)
              · rw [pk_us, pk_us, pk_un (by omega), g2]
                exact (nI_add 0 (W k)).trans (by rw [Nat.zero_add])
              · rw [pk_un (by omega), pk_un (by omega)]
            · intro f
              rw [ds_rs_s e hs, ds_sm_a, hS f, Nat.mul_add]
              omega
          · have hi : i < m' := by omega
            refine And.intro (pk_in v 4 hv) (ds_aW (by omega) (by omega) (fun c15 c16 => nm_r (nI_1 x) ?_))
            refine ih (x + 1) m' S' (ds_up W' i (W' i + W k)) jc b8 b12 a13 _ c15 c16 b17 (by omega) (by omega) (by omega) ?_ ?_ ?_
            · exact ds_LY_k hF (fun j hj => rfl) (fun j hj => pk_un (by omega))
            · refine ds_LY_b hT ?_ (fun j hj hji => pk_un (by omega))
              rw [pk_us, g2, (hT i hi).2.1, nI_add]
            · intro f
              rw [ds_rs_s e hs, ds_sm_b m' hi, hS f, Nat.mul_add, hi2 hi]
              omega
theorem ds_nL6 {post : Int32 → St2 → Prop} {rl p q y : Nat} {mo tl bs de : Int32} {a1 a2 a3 a4 a5 a6 a7 a9 a10 a11 a18 : Nat → Int32} {v fb m tb : Nat} {D S W : Nat → Nat} (c : ds_C p q y a2 a3 a4 a5) (hrl : rl < 2) (hv : v < 4)
    (h6 : a6 v = nI (D v)) (hD : D v < 64) (hf : fb + m ≤ 252) (ht : tb + 6 * m ≤ 252) (hd : fb + m ≤ tb ∨ tb + 6 * m ≤ fb)
    (H : ∀ (m' : Nat) (S' W' : Nat → Nat) (ic : Int32) (a8 a12 a13 a14 a15 a16 a17 : Nat → Int32), m' ≤ 6 * m → ds_LY a13 a14 tb m' S' W' →
      (∀ f, ds_sm f S' W' m' = ds_sm (ds_G rl p q y D v f) S W m) → post (nI m') (1, 2, (nI rl), mo, tl, bs, de, ic, a1, a2, a3, a4, a5, a6, a7, a8, a9, a10, a11, a12, a13, a14, a15, a16, a17, a18)) :
    ∀ (n k m' : Nat) (S' W' : Nat → Nat) (ic : Int32) (a8 a12 a13 a14 a15 a16 a17 : Nat → Int32), k ≤ m → m - k < n → m' ≤ 6 * k → ds_LY a13 a14 fb m S W → ds_LY a13 a14 tb m' S' W' →
      (∀ f, ds_sm f S' W' m' = ds_sm (ds_G rl p q y D v f) S W k) →
      wX_nextLayer_6 post (nI v) (nI fb) (nI m) (nI tb) n (nI m') (nI (fb + k)) 1 2 (nI rl) mo tl bs de ic a1 a2 a3 a4 a5 a6 a7 a8 a9 a10 a11 a12 a13 a14 a15 a16 a17 a18 := by
  intro n
  induction n with
  | zero => intro k m' S' W' ic a8 a12 a13 a14 a15 a16 a17 h1 h2; omega
  | succ n ih =>
    intro k m' S' W' ic a8 a12 a13 a14 a15 a16 a17 h1 h2 h3 hF hT hS
    refine pk_le (fb + m) (fb + k) (fun z => ?_) (fun z => Exists.intro 7 ?_) (nI_add fb m)
    · have e : k = m := by omega
      subst e
      exact H m' S' W' ic a8 a12 a13 a14 a15 a16 a17 (by omega) hT hS
    · refine ds_nL17 c hrl hv h6 hD (by omega) hf ht hd (fun m2 S2 W2 ic a8 a12 a13 a14 a15 a16 a17 k1 k2 k3 k4 => ?_) 7 0 m' S' W' ic a8 a12 a13 a14 a15 a16 a17 (by omega) (by omega) (by omega) hF hT (fun f => hS f)
      exact ih (k + 1) m2 S2 W2 ic a8 a12 a13 a14 a15 a16 a17 (by omega) (by omega) (by omega) k2 k3 k4
theorem ds_nL {post : Int32 → St2 → Prop} {rl p q y : Nat} {mo tl bs de ic : Int32} {a1 a2 a3 a4 a5 a6 a7 a8 a9 a10 a11 a12 a13 a14 a15 a16 a17 a18 : Nat → Int32} {v fb m tb : Nat} {D S W : Nat → Nat} (c : ds_C p q y a2 a3 a4 a5) (hrl : rl < 2) (hv : v < 4)
    (h6 : a6 v = nI (D v)) (hD : D v < 64) (hf : fb + m ≤ 252) (ht : tb + 6 * m ≤ 252) (hd : fb + m ≤ tb ∨ tb + 6 * m ≤ fb) (hF : ds_LY a13 a14 fb m S W)
    (H : ∀ (m' : Nat) (S' W' : Nat → Nat) (ic : Int32) (a8 a12 a13 a14 a15 a16 a17 : Nat → Int32), m' ≤ 6 * m → ds_LY a13 a14 tb m' S' W' →
      (∀ f, ds_sm f S' W' m' = ds_sm (ds_G rl p q y D v f) S W m) → post (nI m') (1, 2, (nI rl), mo, tl, bs, de, ic, a1, a2, a3, a4, a5, a6, a7, a8, a9, a10, a11, a12, a13, a14, a15, a16, a17, a18)) :
    wpX_nextLayer post (1, 2, (nI rl), mo, tl, bs, de, ic, a1, a2, a3, a4, a5, a6, a7, a8, a9, a10, a11, a12, a13, a14, a15, a16, a17, a18) (nI v) (nI fb) (nI m) (nI tb) :=
  Exists.intro (m + 1) (ds_nL6 c hrl hv h6 hD hf ht hd H (m + 1) 0 0 (fun _ => 0) (fun _ => 0) ic a8 a12 a13 a14 a15 a16 a17 (by omega) (by omega) (by omega) hF (fun j hj => absurd hj (by omega)) (fun f => rfl))
theorem ds_cL12 {post : St2 → Prop} {J3 : Int32 → (Nat → Int32) → (Nat → Int32) → (Nat → Int32) → (Nat → Int32) → (Nat → Int32) → (Nat → Int32) → (Nat → Int32) → (Nat → Int32) → (Nat → Int32) → (Nat → Int32) → (Nat → Int32) → (Nat → Int32) → (Nat → Int32) → (Nat → Int32) → (Nat → Int32) → (Nat → Int32) → (Nat → Int32) → (Nat → Int32) → Prop} {rl : Nat} {mo tl bs de ic : Int32} {a1 a2 a3 a4 a5 a6 a7 a8 a9 a10 a11 a12 a14 a15 a16 a17 a18 : Nat → Int32} {x3 : Int32} {m k : Nat} {S W : Nat → Nat} (hm : m ≤ 36) (hk : k < m)
    (H : ∀ a13 a14 a15 a16 : Nat → Int32, ds_LY a13 a14 216 m S W → ds_LY a13 a14 0 (k + 1) S W → J3 (nI (k + 1)) a1 a2 a3 a4 a5 a6 a7 a8 a9 a10 a11 a12 a13 a14 a15 a16 a17 a18) (hF : ∀ j, j < m → a14 (216 + j) = nI (W j)) (hT : ∀ j, j < k → a14 (0 + j) = nI (W j)) :
    ∀ (n i : Nat) (a13 : Nat → Int32), i ≤ 10 → 10 - i < n → (∀ j, j < m → a13 (10 * (216 + j)) = nI (S j) ∧ S j < 49) → (∀ j, j < k → a13 (10 * (0 + j)) = nI (S j)) → (0 < i → a13 (10 * (0 + k)) = nI (S k)) →
      wX_copyLayer_12 post J3 216 0 x3 (nI k) 1 2 (nI rl) mo tl bs de ic n (nI i) a1 a2 a3 a4 a5 a6 a7 a8 a9 a10 a11 a12 a13 a14 a15 a16 a17 a18 := by
  intro n
  have e1 : (216 : Int32) + nI k = nI (216 + k) := nI_add 216 k
  have e2 : (0 : Int32) + nI k = nI (0 + k) := nI_add 0 k
  induction n with
  | zero => intro i a13 h1 h2; omega
  | succ n ih =>
    intro i a13 h1 h2 h3 h4 h5
    refine pk_le 10 i (fun z => ?_) (fun z => ?_)
    · refine And.intro (pk_in (216 + k) 252 (by omega) e1) (And.intro (pk_in (0 + k) 252 (by omega) e2) (nm_e (And.intro (pk_in (216 + k) 252 (by omega) e1) (And.intro (pk_in (0 + k) 252 (by omega) e2) (nm_e (And.intro (pk_in (216 + k) 252 (by omega) e1) (And.intro (pk_in (0 + k) 252 (by omega) e2) (nm_e (nm_r (nI_1 k) ?_)))))))))
      rw [e1, e2, nI_clamp (show 216 + k < 2 ^ 31 by omega), nI_clamp (show 0 + k < 2 ^ 31 by omega)]
      refine H _ _ _ _ (fun j hj => ⟨(h3 j hj).1, ?_, (h3 j hj).2⟩) (fun j hj => ?_)
      · rw [pk_un (by omega)]
        exact hF j hj
      · by_cases e : j = k
        · subst e
          exact ⟨h5 (by omega), by rw [pk_us]; exact hF j hk, (h3 j hk).2⟩
        · exact ⟨h4 j (by omega), by rw [pk_un (by omega)]; exact hT j (by omega), (h3 j (by omega)).2⟩
    · have i1 : 10 * ((216 : Int32) + nI k) + nI i = nI (10 * (216 + k) + i) := by rw [e1]; exact ds_ix _ _
      have i2 : 10 * ((0 : Int32) + nI k) + nI i = nI (10 * (0 + k) + i) := by rw [e2]; exact ds_ix _ _
      refine And.intro (pk_in (10 * (216 + k) + i) 2520 (by omega) i1) (And.intro (pk_in (10 * (0 + k) + i) 2520 (by omega) i2) (nm_e (nm_r (nI_1 i) ?_)))
      rw [i1, i2, nI_clamp (show 10 * (216 + k) + i < 2 ^ 31 by omega), nI_clamp (show 10 * (0 + k) + i < 2 ^ 31 by omega)]
      refine ih (i + 1) _ (by omega) (by omega) (fun j hj => ?_) (fun j hj => ?_) (fun _ => ?_)
      · rw [pk_un (by omega)]
        exact h3 j hj
      · rw [pk_un (by omega)]
        exact h4 j hj
      · by_cases e : i = 0
        · subst e
          show upd a13 (10 * (0 + k)) (vp_nar .short (a13 (10 * (216 + k)))) (10 * (0 + k)) = nI (S k)
          rw [pk_us, (h3 k hk).1]
          exact ds_vs (by have := (h3 k hk).2; omega)
        · rw [pk_un (by omega)]
          exact h5 (by omega)
theorem ds_cL3 {post : St2 → Prop} {rl : Nat} {mo tl bs de ic : Int32} {a1 a2 a3 a4 a5 a6 a7 a8 a9 a10 a11 a12 a17 a18 : Nat → Int32} {m : Nat} {S W : Nat → Nat} (hm : m ≤ 36)
    (H : ∀ a13 a14 a15 a16 : Nat → Int32, ds_LY a13 a14 0 m S W → post (1, 2, (nI rl), mo, tl, bs, de, ic, a1, a2, a3, a4, a5, a6, a7, a8, a9, a10, a11, a12, a13, a14, a15, a16, a17, a18)) :
    ∀ (n k : Nat) (a13 a14 a15 a16 : Nat → Int32), k ≤ m → m - k < n → ds_LY a13 a14 216 m S W → ds_LY a13 a14 0 k S W → wX_copyLayer_3 post 216 0 (nI m) 1 2 (nI rl) mo tl bs de ic n (nI k) a1 a2 a3 a4 a5 a6 a7 a8 a9 a10 a11 a12 a13 a14 a15 a16 a17 a18 := by
  intro n
  induction n with
  | zero => intro k a13 a14 a15 a16 h1 h2; omega
  | succ n ih =>
    intro k a13 a14 a15 a16 h1 h2 hF hT
    refine pk_le m k (fun z => ?_) (fun z => Exists.intro 11 ?_)
    · have e : k = m := by omega
      subst e
      exact H a13 a14 a15 a16 hT
    · refine ds_cL12 hm z (fun b13 b14 b15 b16 g1 g2 => ?_) (fun j hj => (hF j hj).2.1) (fun j hj => (hT j hj).2.1) 11 0 a13 (by omega) (by omega) (fun j hj => ⟨(hF j hj).1, (hF j hj).2.2⟩) (fun j hj => (hT j hj).1) (fun t => absurd t (by omega))
      exact ih (k + 1) b13 b14 b15 b16 (by omega) (by omega) g1 g2
theorem ds_cL {post : St2 → Prop} {rl : Nat} {mo tl bs de ic : Int32} {a1 a2 a3 a4 a5 a6 a7 a8 a9 a10 a11 a12 a13 a14 a15 a16 a17 a18 : Nat → Int32} {m : Nat} {S W : Nat → Nat} (hm : m ≤ 36) (hF : ds_LY a13 a14 216 m S W)
    (H : ∀ a13 a14 a15 a16 : Nat → Int32, ds_LY a13 a14 0 m S W → post (1, 2, (nI rl), mo, tl, bs, de, ic, a1, a2, a3, a4, a5, a6, a7, a8, a9, a10, a11, a12, a13, a14, a15, a16, a17, a18)) : wpX_copyLayer post (1, 2, (nI rl), mo, tl, bs, de, ic, a1, a2, a3, a4, a5, a6, a7, a8, a9, a10, a11, a12, a13, a14, a15, a16, a17, a18) 216 0 (nI m) :=
  Exists.intro (m + 1) (ds_cL3 hm H (m + 1) 0 a13 a14 a15 a16 (by omega) (by omega) hF (fun j hj => absurd hj (by omega)))
theorem ds_fi19 {post : St2 → Prop} {J8 : Int32 → Int32 → Int32 → Int32 → Int32 → Int32 → Int32 → Int32 → Int32 → Int32 → Int32 → (Nat → Int32) → (Nat → Int32) → (Nat → Int32) → (Nat → Int32) → (Nat → Int32) → (Nat → Int32) → (Nat → Int32) → (Nat → Int32) → (Nat → Int32) → (Nat → Int32) → (Nat → Int32) → (Nat → Int32) → (Nat → Int32) → (Nat → Int32) → (Nat → Int32) → (Nat → Int32) → (Nat → Int32) → (Nat → Int32) → Prop} {x1 x2 : Int32} {rl p q y : Nat} {mo tl de : Int32} {a1 a2 a3 a4 a5 a6 a7 a9 a10 a11 a13 a14 a15 a16 a18 : Nat → Int32} {fb m k : Nat} {D S W : Nat → Nat} (c : ds_C p q y a2 a3 a4 a5) (hrl : rl < 2)
    (h6 : a6 3 = nI (D 3)) (hD : D 3 < 64) (hk : k < m) (hf : fb + m ≤ 252) (hF : ds_LY a13 a14 fb m S W)
    (H : ∀ (x4 bs ic : Int32) (a8 a12 a17 : Nat → Int32), J8 (nI (ds_sm (ds_G rl p q y D 3 (fun _ => 1)) S W (k + 1))) x4 (nI (fb + k + 1)) 1 2 (nI rl) mo tl bs de ic a1 a2 a3 a4 a5 a6 a7 a8 a9 a10 a11 a12 a13 a14 a15 a16 a17 a18) :
    ∀ (n x acc : Nat) (x4 bs ic : Int32) (a8 a12 a17 : Nat → Int32), x ≤ 6 → 6 - x < n →
      acc = ds_sm (ds_G rl p q y D 3 (fun _ => 1)) S W k + W k * ds_rs (D 3) (fun x => ds_mr rl p q y 3 x (S k)) (fun _ => 1) x →
      wX_finish_19 post J8 x1 x2 (nI (fb + k)) n (nI acc) x4 (nI x) 1 2 (nI rl) mo tl bs de ic a1 a2 a3 a4 a5 a6 a7 a8 a9 a10 a11 a12 a13 a14 a15 a16 a17 a18 := by
  intro n
  obtain ⟨g1, g2, g3⟩ := hF k hk
  induction n with
  | zero => intro x acc x4 bs ic a8 a12 a17 h1 h2; omega
  | succ n ih =>
    intro x acc x4 bs ic a8 a12 a17 h1 h2 hacc
    refine pk_le 6 x (fun z => nm_r (nI_1 (fb + k)) ?_) (fun z => ?_)
    · have e : x = 6 := by omega
      subst e
      rw [hacc]
      exact H x4 bs ic a8 a12 a17
    · rw [h6]
      refine ek_if (ds_bit (D 3) hD x z) (fun e => nm_r (nI_1 x) ?_) (fun e => ?_)
      · exact ih (x + 1) acc x4 bs ic a8 a12 a17 (by omega) (by omega) (by rw [ds_rs_0 e]; exact hacc)
      · refine ds_mS (v := 3) c hrl (by omega) g3 (by omega) z g1 (fun hn jc b8 b12 b17 => br_t rfl (nm_r (nI_1 x) ?_)) (fun s hs hs49 jc b8 b12 b17 e17 => br_f (by decide) ?_)
        · exact ih (x + 1) acc x4 bs jc b8 b12 b17 (by omega) (by omega) (by rw [ds_rs_n (g := fun x => ds_mr rl p q y 3 x (S k)) (x := x) hn]; exact hacc)
        · have ea : nI acc + a14 (nI (fb + k)).toNatClampNeg = nI (acc + W k) := by rw [nI_clamp (by omega), g2, nI_add]
          have eb : acc + W k = ds_sm (ds_G rl p q y D 3 (fun _ => 1)) S W k + W k * ds_rs (D 3) (fun x => ds_mr rl p q y 3 x (S k)) (fun _ => 1) (x + 1) := by
            rw [ds_rs_s e hs, Nat.mul_add, hacc]
            omega
          have hi : ∀ x4 bs : Int32, wX_finish_19 post J8 x1 x2 (nI (fb + k)) n (nI (acc + W k)) x4 (nI (x + 1)) 1 2 (nI rl) mo tl bs de jc a1 a2 a3 a4 a5 a6 a7 b8 a9 a10 a11 b12 a13 a14 a15 a16 b17 a18 :=
            fun x4 bs => ih (x + 1) (acc + W k) x4 bs jc b8 b12 b17 (by omega) (by omega) eb
          refine ds_aA hrl c.2.2.2.2.1 (br_f (by decide) (And.intro (pk_in (fb + k) 252 (by omega)) (nm_r ea (And.intro (pk_in (fb + k) 252 (by omega)) (nm_e ?_)))))
          refine br_c (fun _ => br_c (fun _ => ?_) (fun _ => ?_)) (fun _ => nm_r (nI_1 x) (hi _ _))
          · exact And.intro (pk_in (fb + k) 252 (by omega)) (nm_e (nm_r (nI_1 x) (hi _ _)))
          · exact And.intro (pk_in (fb + k) 252 (by omega)) (nm_e (nm_r (nI_1 x) (hi _ _)))
theorem ds_fi8 {post : St2 → Prop} {rl p q y : Nat} {mo tl de : Int32} {a1 a2 a3 a4 a5 a6 a7 a9 a10 a11 a13 a14 a15 a16 a18 : Nat → Int32} {fb m : Nat} {D S W : Nat → Nat} (c : ds_C p q y a2 a3 a4 a5) (hrl : rl < 2) (hmo : ¬ mo = 2)
    (h6 : a6 3 = nI (D 3)) (hD : D 3 < 64) (hf : fb + m ≤ 252) (hF : ds_LY a13 a14 fb m S W)
    (H : ∀ (bs ic : Int32) (a8 a12 a17 : Nat → Int32), post (1, 2, (nI rl), mo, nI (ds_sm (ds_G rl p q y D 3 (fun _ => 1)) S W m), bs, de, ic, a1, a2, a3, a4, a5, a6, a7, a8, a9, a10, a11, a12, a13, a14, a15, a16, a17, a18)) :
    ∀ (n k : Nat) (x4 bs ic : Int32) (a8 a12 a17 : Nat → Int32), k ≤ m → m - k < n →
      wX_finish_8 post (nI fb) (nI m) n (nI (ds_sm (ds_G rl p q y D 3 (fun _ => 1)) S W k)) x4 (nI (fb + k)) 1 2 (nI rl) mo tl bs de ic a1 a2 a3 a4 a5 a6 a7 a8 a9 a10 a11 a12 a13 a14 a15 a16 a17 a18 := by
  intro n
  induction n with
  | zero => intro k x4 bs ic a8 a12 a17 h1 h2; omega
  | succ n ih =>
    intro k x4 bs ic a8 a12 a17 h1 h2
    refine pk_le (fb + m) (fb + k) (fun z => ?_) (fun z => Exists.intro 7 ?_) (nI_add fb m)
    · have e : k = m := by omega
      subst e
      exact br_f hmo (H bs ic a8 a12 a17)
    · exact ds_fi19 c hrl h6 hD (by omega) hf hF (fun x4 bs ic a8 a12 a17 => ih (k + 1) x4 bs ic a8 a12 a17 (by omega) (by omega)) 7 0 _ x4 bs ic a8 a12 a17 (by omega) (by omega) rfl
theorem ds_fi {post : St2 → Prop} {rl p q y : Nat} {mo tl bs de ic : Int32} {a1 a2 a3 a4 a5 a6 a7 a8 a9 a10 a11 a12 a13 a14 a15 a16 a17 a18 : Nat → Int32} {fb m : Nat} {D S W : Nat → Nat} (c : ds_C p q y a2 a3 a4 a5) (hrl : rl < 2) (hmo : ¬ mo = 2)
    (h6 : a6 3 = nI (D 3)) (hD : D 3 < 64) (hf : fb + m ≤ 252) (hF : ds_LY a13 a14 fb m S W)
    (H : ∀ (bs ic : Int32) (a8 a12 a17 : Nat → Int32), post (1, 2, (nI rl), mo, nI (ds_sm (ds_G rl p q y D 3 (fun _ => 1)) S W m), bs, de, ic, a1, a2, a3, a4, a5, a6, a7, a8, a9, a10, a11, a12, a13, a14, a15, a16, a17, a18)) :
    wpX_finish post (1, 2, (nI rl), mo, tl, bs, de, ic, a1, a2, a3, a4, a5, a6, a7, a8, a9, a10, a11, a12, a13, a14, a15, a16, a17, a18) (nI fb) (nI m) :=
  Exists.intro (m + 1) (ds_fi8 c hrl hmo h6 hD hf hF H (m + 1) 0 0 bs ic a8 a12 a17 (by omega) (by omega))
end
section
/-! a whole question -/
theorem ds_sL6 {post : St2 → Prop} {rl : Nat} {mo tl bs de ic : Int32} {a1 a2 a3 a4 a5 a6 a7 a8 a9 a10 a11 a12 a14 a15 a16 a17 a18 : Nat → Int32} (h2 : a2 0 = 6)
    (H : ∀ b13 b15 b16 : Nat → Int32, b13 0 = nI 0 → ∃ n, wX_solveByLayers_64 post n 0 1 0 1 2 (nI rl) mo tl bs de ic a1 a2 a3 a4 a5 a6 a7 a8 a9 a10 a11 a12 b13 (upd a14 0 1) b15 b16 a17 a18) :
    ∀ (n i : Nat) (a13 : Nat → Int32), i ≤ 10 → 10 - i < n → (0 < i → a13 0 = nI 0) → wX_solveByLayers_6 post 0 1 1 2 (nI rl) mo tl bs de ic n (nI i) a1 a2 a3 a4 a5 a6 a7 a8 a9 a10 a11 a12 a13 a14 a15 a16 a17 a18 := by
  intro n
  induction n with
  | zero => intro i a13 h1 h2; omega
  | succ n ih =>
    intro i a13 h1 h3 h0
    refine pk_le 10 i (fun z => nm_e (nm_e (nm_e (H a13 _ _ (h0 (by omega)))))) (fun z => And.intro (pk_in i 10 z) ?_)
    rw [nI_clamp (show i < 2 ^ 31 by omega)]
    refine br_c (fun _ => And.intro (pk_in i 2520 (by omega)) (nm_e (nm_r (nI_1 i) ?_))) (fun g => And.intro (pk_in i 2520 (by omega)) (nm_e (nm_r (nI_1 i) ?_)))
    · refine ih (i + 1) _ (by omega) (by omega) (fun _ => ?_)
      by_cases e : i = 0
      · subst e
        exact pk_us.trans (by decide)
      · rw [pk_un (by omega)]
        exact h0 (by omega)
    · refine ih (i + 1) _ (by omega) (by omega) (fun _ => ?_)
      by_cases e : i = 0
      · subst e
        exact absurd (by rw [h2]; decide) g
      · rw [pk_un (by omega)]
        exact h0 (by omega)
theorem ds_sL {post : St2 → Prop} {rl p q y : Nat} {mo tl bs de ic : Int32} {a1 a2 a3 a4 a5 a6 a7 a8 a9 a10 a11 a12 a13 a14 a15 a16 a17 a18 : Nat → Int32} {D : Nat → Nat} (c : ds_C p q y a2 a3 a4 a5) (hrl : rl < 2) (hmo : ¬ mo = 2) (hD : ∀ v, v < 4 → a6 v = nI (D v) ∧ D v < 64)
    (H : ∀ (bs ic : Int32) (a8 a12 a13 a14 a15 a16 a17 : Nat → Int32), post (1, 2, (nI rl), mo, nI (ds_tot rl p q y D), bs, de, ic, a1, a2, a3, a4, a5, a6, a7, a8, a9, a10, a11, a12, a13, a14, a15, a16, a17, a18)) : wpX_solveByLayers post (1, 2, (nI rl), mo, tl, bs, de, ic, a1, a2, a3, a4, a5, a6, a7, a8, a9, a10, a11, a12, a13, a14, a15, a16, a17, a18) := by
  refine Exists.intro 11 (ds_sL6 c.2.2.2.2.1 (fun b13 b15 b16 e13 => Exists.intro 4 ?_) 11 0 a13 (by omega) (by omega) (fun t => absurd t (by omega)))
  refine pk_le 3 0 (fun z => absurd z (by omega)) (fun _ => br_t rfl ?_)
  refine br_f (by decide) ?_
  refine br_f (by decide) ?_
  refine ds_nL (v := 0) (fb := 0) (m := 1) (tb := 216) (D := D) (S := fun _ => 0) (W := fun _ => 1) c hrl (by omega) (hD 0 (by omega)).1 (hD 0 (by omega)).2 (by omega) (by omega) (by omega) (fun j hj => ?_) (fun m1 S1 W1 ic a8 a12 a13 a14 a15 a16 a17 l1 L1 s1 => nm_r (nI_1 0) ?_)
  · have e : j = 0 := by omega
    subst e
    exact ⟨e13, pk_us, show (0 : Nat) < 49 by omega⟩
  refine pk_le 3 1 (fun z => absurd z (by omega)) (fun _ => br_f (by decide) (br_t rfl ?_))
  refine br_t rfl ?_
  refine ds_cL (m := m1) (by omega) L1 (fun a13 a14 a15 a16 L1 => ?_)
  refine br_f (by decide) ?_
  refine ds_nL (v := 1) (fb := 0) (m := m1) (tb := 216) (D := D) c hrl (by omega) (hD 1 (by omega)).1 (hD 1 (by omega)).2 (by omega) (by omega) (by omega) L1 (fun m2 S2 W2 ic a8 a12 a13 a14 a15 a16 a17 l2 L2 s2 => nm_r (nI_1 1) ?_)
  refine pk_le 3 2 (fun z => absurd z (by omega)) (fun _ => br_f (by decide) (br_f (by decide) ?_))
  refine br_f (by decide) ?_
  refine br_t rfl ?_
  refine ds_nL (v := 2) (fb := 216) (m := m2) (tb := 0) (D := D) c hrl (by omega) (hD 2 (by omega)).1 (hD 2 (by omega)).2 (by omega) (by omega) (by omega) L2 (fun m3 S3 W3 ic a8 a12 a13 a14 a15 a16 a17 l3 L3 s3 => nm_r (nI_1 2) ?_)
  refine pk_le 3 3 (fun _ => ?_) (fun z => absurd z (by omega))
  refine ds_fi (fb := 0) (m := m3) (D := D) c hrl hmo (hD 3 (by omega)).1 (hD 3 (by omega)).2 (by omega) L3 (fun bs ic a8 a12 a17 => ?_)
  rw [s3, s2, s1]
  have e : ds_sm (ds_G rl p q y D 0 (ds_G rl p q y D 1 (ds_G rl p q y D 2 (ds_G rl p q y D 3 (fun _ => 1))))) (fun _ => 0) (fun _ => 1) 1 = ds_tot rl p q y D := by
    show 0 + 1 * ds_tot rl p q y D = ds_tot rl p q y D
    omega
  rw [e]
  exact H bs ic a8 a12 a13 a14 a15 a16 a17
theorem ds_so19 {post : St2 → Prop} {rl p q y : Nat} {mo tl bs de ic : Int32} {a1 a2 a3 a4 a5 a6 a7 a8 a9 a10 a11 a12 a13 a14 a15 a16 a17 a18 : Nat → Int32} {D : Nat → Nat} (c : ds_C p q y a2 a3 a4 a5) (hrl : rl < 2) (hmo : ¬ mo = 2) (hD : ∀ v, v < 4 → a6 v = nI (D v) ∧ 0 < D v ∧ D v < 64)
    (H : ∀ (bs ic : Int32) (a8 a12 a13 a14 a15 a16 a17 : Nat → Int32), post (1, 2, (nI rl), mo, nI (ds_tot rl p q y D), bs, de, ic, a1, a2, a3, a4, a5, a6, a7, a8, a9, a10, a11, a12, a13, a14, a15, a16, a17, a18)) : ∀ n i : Nat, i ≤ 4 → 4 - i < n → wX_solve_19 post 1 2 (nI rl) mo tl bs de ic a1 a2 a3 a4 a5 a6 a7 a8 a9 a10 a11 a12 a13 a14 a15 a16 a17 a18 n (nI i) := by
  intro n
  induction n with
  | zero => intro i h1 h2; omega
  | succ n ih =>
    intro i h1 h2
    refine pk_le 4 i (fun _ => br_f (by decide) (br_f (by decide) ?_)) (fun z => And.intro (pk_in i 4 z) ?_)
    · exact ds_sL c hrl hmo (fun v hv => ⟨(hD v hv).1, (hD v hv).2.2⟩) H
    · have h := hD i z
      rw [nI_clamp (show i < 2 ^ 31 by omega), h.1]
      exact br_f (nI_ne0 h.2.1 (by omega)) (nm_r (nI_1 i) (ih (i + 1) (by omega) (by omega)))
theorem ds_so {post : St2 → Prop} {rl p q y : Nat} {mo tl bs de ic : Int32} {a1 a2 a3 a4 a5 a6 a7 a8 a9 a10 a11 a12 a13 a14 a15 a16 a17 a18 : Nat → Int32} {D : Nat → Nat} {w : Int32} (c : ds_C p q y a2 a3 a4 a5) (hrl : rl < 2) (hw : ¬ w = 2) (hD : ∀ v, v < 4 → a6 v = nI (D v) ∧ 0 < D v ∧ D v < 64)
    (H : ∀ (bs ic : Int32) (a8 a12 a13 a14 a15 a16 a17 : Nat → Int32), post (1, 2, (nI rl), w, nI (ds_tot rl p q y D), bs, de, ic, a1, a2, a3, a4, a5, a6, a7, a8, a9, a10, a11, a12, a13, a14, a15, a16, a17, a18)) : wpX_solve post (1, 2, (nI rl), mo, tl, bs, de, ic, a1, a2, a3, a4, a5, a6, a7, a8, a9, a10, a11, a12, a13, a14, a15, a16, a17, a18) w :=
  Exists.intro 5 (ds_so19 c hrl hw hD H 5 0 (by omega) (by omega))
theorem ds_st14 {post : St2 → Prop} {rl : Nat} {mo tl bs de ic : Int32} {a1 a2 a3 a4 a5 a7 a8 a9 a10 a11 a12 a13 a14 a15 a16 a17 a18 : Nat → Int32} {D : Nat → Nat} (h1 : ∀ v, v < 4 → a1 v = nI (D v) ∧ 0 < D v ∧ D v < 64)
    (H : ∀ a6 : Nat → Int32, (∀ v, v < 4 → a6 v = nI (D v)) → post (1, 2, (nI rl), mo, tl, bs, de, ic, a1, a2, a3, a4, a5, a6, a7, a8, a9, a10, a11, a12, a13, a14, a15, a16, a17, a18)) : ∀ (n i : Nat) (a6 : Nat → Int32), i ≤ 4 → 4 - i < n → (∀ v, v < i → a6 v = nI (D v)) → wX_start_14 post 1 2 (nI rl) mo tl bs de ic n (nI i) a1 a2 a3 a4 a5 a6 a7 a8 a9 a10 a11 a12 a13 a14 a15 a16 a17 a18 := by
  intro n
  induction n with
  | zero => intro i a6 k1 k2; omega
  | succ n ih =>
    intro i a6 k1 k2 k3
    refine pk_le 4 i (fun z => H a6 (fun v hv => k3 v (by omega))) (fun z => And.intro (pk_in i 4 z) (And.intro (pk_in i 4 z) (nm_e (nm_r (nI_1 i) ?_))))
    have h := h1 i z
    rw [nI_clamp (show i < 2 ^ 31 by omega), h.1, ds_vb (by omega)]
    refine ih (i + 1) _ (by omega) (by omega) (fun v hv => ?_)
    by_cases e : v = i
    · subst e
      exact pk_us
    · rw [pk_un e]
      exact k3 v (by omega)
theorem ds_st {post : St2 → Prop} {ru mo tl bs de ic : Int32} {a1 a2 a3 a4 a5 a6 a7 a8 a9 a10 a11 a12 a13 a14 a15 a16 a17 a18 : Nat → Int32} {D : Nat → Nat} (h1 : ∀ v, v < 4 → a1 v = nI (D v) ∧ 0 < D v ∧ D v < 64)
    (H : ∀ a6 : Nat → Int32, (∀ v, v < 4 → a6 v = nI (D v)) → post (1, 2, (nI 1), mo, tl, bs, de, ic, a1, a2, a3, a4, a5, a6, a7, a8, a9, a10, a11, a12, a13, a14, a15, a16, a17, a18)) : wpX_start post (1, 2, ru, mo, tl, bs, de, ic, a1, a2, a3, a4, a5, a6, a7, a8, a9, a10, a11, a12, a13, a14, a15, a16, a17, a18) := by
  refine nm_r (e' := nI 1) (by decide) (Exists.intro 5 ?_)
  exact ds_st14 (rl := 1) h1 H 5 0 a6 (by omega) (by omega) (fun v hv => absurd hv (by omega))
/-- the object between the law's calls: one constraint, the domains D -/
def ds_O (p q y : Nat) (D : Nat → Nat) (u : St2) : Prop := ∃ (ru mo tl bs de ic : Int32) (a1 a2 a3 a4 a5 a6 a7 a8 a9 a10 a11 a12 a13 a14 a15 a16 a17 a18 : Nat → Int32),
  u = (1, 2, ru, mo, tl, bs, de, ic, a1, a2, a3, a4, a5, a6, a7, a8, a9, a10, a11, a12, a13, a14, a15, a16, a17, a18) ∧ ds_C p q y a2 a3 a4 a5 ∧ (∀ v, v < 4 → a1 v = nI (D v) ∧ 0 < D v ∧ D v < 64)
theorem ds_O_i {p q y : Nat} {D : Nat → Nat} {ru mo tl bs de ic : Int32} {a1 a2 a3 a4 a5 a6 a7 a8 a9 a10 a11 a12 a13 a14 a15 a16 a17 a18 : Nat → Int32} (c : ds_C p q y a2 a3 a4 a5)
    (h1 : ∀ v, v < 4 → a1 v = nI (D v) ∧ 0 < D v ∧ D v < 64) : ds_O p q y D (1, 2, ru, mo, tl, bs, de, ic, a1, a2, a3, a4, a5, a6, a7, a8, a9, a10, a11, a12, a13, a14, a15, a16, a17, a18) :=
  ⟨ru, mo, tl, bs, de, ic, a1, a2, a3, a4, a5, a6, a7, a8, a9, a10, a11, a12, a13, a14, a15, a16, a17, a18, rfl, c, h1⟩
theorem ds_cnt {post : Int32 → St2 → Prop} {p q y : Nat} {D : Nat → Nat} {u : St2} (h : ds_O p q y D u) (H : ∀ u', ds_O p q y D u' → post (nI (ds_tot 1 p q y D)) u') : wpX_count post u := by
  obtain ⟨ru, mo, tl, bs, de, ic, a1, a2, a3, a4, a5, a6, a7, a8, a9, a10, a11, a12, a13, a14, a15, a16, a17, a18, rfl, c, h1⟩ := h
  unfold wpX_count
  refine ds_st h1 (fun a6 h6 => ?_)
  refine ds_so (rl := 1) (D := D) c (by omega) (by decide) (fun v hv => ⟨h6 v hv, (h1 v hv).2⟩) (fun bs ic a8 a12 a13 a14 a15 a16 a17 => ?_)
  exact H _ (ds_O_i c h1)
theorem ds_hS {post : Int32 → St2 → Prop} {rl p q y : Nat} {mo tl bs de ic : Int32} {a1 a2 a3 a4 a5 a6 a7 a8 a9 a10 a11 a12 a13 a14 a15 a16 a17 a18 : Nat → Int32} {D : Nat → Nat} (c : ds_C p q y a2 a3 a4 a5) (hrl : rl < 2) (hD : ∀ v, v < 4 → a6 v = nI (D v) ∧ 0 < D v ∧ D v < 64) (ht : 0 < ds_tot rl p q y D) (ht2 : ds_tot rl p q y D < 2 ^ 31)
    (H : ∀ (tl bs ic : Int32) (a8 a12 a13 a14 a15 a16 a17 : Nat → Int32), post 1 (1, 2, (nI rl), 0, tl, bs, de, ic, a1, a2, a3, a4, a5, a6, a7, a8, a9, a10, a11, a12, a13, a14, a15, a16, a17, a18)) : wpX_hasSolution post (1, 2, (nI rl), mo, tl, bs, de, ic, a1, a2, a3, a4, a5, a6, a7, a8, a9, a10, a11, a12, a13, a14, a15, a16, a17, a18) := by
  unfold wpX_hasSolution
  refine ds_so (D := D) c hrl (by decide) hD (fun bs ic a8 a12 a13 a14 a15 a16 a17 => ?_)
  exact br_f (nI_nle ht ht2) (H _ bs ic a8 a12 a13 a14 a15 a16 a17)
theorem ds_sv {post : Int32 → St2 → Prop} {p q y : Nat} {D : Nat → Nat} {u : St2} (h : ds_O p q y D u) (ht : 0 < ds_tot 1 p q y D) (ht2 : ds_tot 1 p q y D < 2 ^ 31) (H : ∀ u', ds_O p q y D u' → post 1 u') : wpX_solvable post u := by
  obtain ⟨ru, mo, tl, bs, de, ic, a1, a2, a3, a4, a5, a6, a7, a8, a9, a10, a11, a12, a13, a14, a15, a16, a17, a18, rfl, c, h1⟩ := h
  unfold wpX_solvable
  refine ds_st h1 (fun a6 h6 => ?_)
  refine ds_hS (rl := 1) (D := D) c (by omega) (fun v hv => ⟨h6 v hv, (h1 v hv).2⟩) ht ht2 (fun tl bs ic a8 a12 a13 a14 a15 a16 a17 => ?_)
  exact And.intro rfl (H _ (ds_O_i c h1))
theorem ds_bl {post : Int32 → St2 → Prop} {p q y : Nat} {D : Nat → Nat} {u : St2} (h : ds_O p q y D u) (ht : 0 < ds_tot 1 p q y D) (ht2 : ds_tot 1 p q y D < 2 ^ 31) (H : ∀ u', ds_O p q y D u' → post 0 u') : wpX_blame post u := by
  obtain ⟨ru, mo, tl, bs, de, ic, a1, a2, a3, a4, a5, a6, a7, a8, a9, a10, a11, a12, a13, a14, a15, a16, a17, a18, rfl, c, h1⟩ := h
  unfold wpX_blame
  refine ds_st h1 (fun a6 h6 => ?_)
  refine ds_hS (rl := 1) (D := D) c (by omega) (fun v hv => ⟨h6 v hv, (h1 v hv).2⟩) ht ht2 (fun tl bs ic a8 a12 a13 a14 a15 a16 a17 => ?_)
  exact br_f (by decide) (H _ (ds_O_i c h1))
theorem ds_nd {post : Int32 → St2 → Prop} {p q y : Nat} {D : Nat → Nat} {u : St2} (h : ds_O p q y D u) (ht : ds_tot 1 p q y D < 2 ^ 31) (ht2 : ds_tot 0 p q y D < 2 ^ 31)
    (H1 : ds_tot 0 p q y D = ds_tot 1 p q y D → ∀ u', ds_O p q y D u' → post 1 u') (H0 : ds_tot 0 p q y D ≠ ds_tot 1 p q y D → ∀ u', ds_O p q y D u' → post 0 u') : wpX_needless post u 0 := by
  obtain ⟨ru, mo, tl, bs, de, ic, a1, a2, a3, a4, a5, a6, a7, a8, a9, a10, a11, a12, a13, a14, a15, a16, a17, a18, rfl, c, h1⟩ := h
  refine br_f (by decide) (br_t (by decide) ?_)
  refine ds_st h1 (fun a6 h6 => ?_)
  refine ds_so (rl := 1) (D := D) c (by omega) (by decide) (fun v hv => ⟨h6 v hv, (h1 v hv).2⟩) (fun bs ic a8 a12 a13 a14 a15 a16 a17 => ?_)
  refine nm_r (e' := nI 0) (by decide) ?_
  refine ds_so (rl := 0) (D := D) c (by omega) (by decide) (fun v hv => ⟨h6 v hv, (h1 v hv).2⟩) (fun bs ic a8 a12 a13 a14 a15 a16 a17 => ?_)
  exact pk_eq (ds_tot 0 p q y D) (ds_tot 1 p q y D) (fun z => H1 z _ (ds_O_i c h1)) (fun z => H0 z _ (ds_O_i c h1)) rfl rfl ht2 ht
theorem ds_and1 : ∀ B, B < 64 → B % 2 = 1 → ((nI B &&& ((1 : Int32) <<< ((0 : Int32) &&& 31))).toInt8.toInt32) = nI 1 := by decide +kernel
theorem ds_cw {post : Int32 → St2 → Prop} {p q y : Nat} {D D' : Nat → Nat} {u : St2} (h : ds_O p q y D u) (ho : D p % 2 = 1) (e1 : D' p = 1) (e2 : ∀ v, v < 4 → v ≠ p → D' v = D v)
    (H : ∀ u', ds_O p q y D u' → post (nI (ds_tot 1 p q y D')) u') : wpX_countWith post u (nI p) 0 := by
  obtain ⟨ru, mo, tl, bs, de, ic, a1, a2, a3, a4, a5, a6, a7, a8, a9, a10, a11, a12, a13, a14, a15, a16, a17, a18, rfl, c, h1⟩ := h
  have hp := c.1
  refine br_f (nI_pos (by omega)) (br_f (nI_nlt (a := 3) (b := p) (by omega) (by omega)) (br_f (by decide) (br_t (by decide) ?_)))
  refine ds_st h1 (fun a6 h6 => ?_)
  refine And.intro (pk_in p 4 hp) (And.intro (pk_in p 4 hp) (nm_e ?_))
  refine ds_so (rl := 1) (D := D') c (by omega) (by decide) (fun v hv => ?_) (fun bs ic a8 a12 a13 a14 a15 a16 a17 => ?_)
  · rw [nI_clamp (show p < 2 ^ 31 by omega), h6 p hp, ds_and1 (D p) (h1 p hp).2.2 ho]
    by_cases e : v = p
    · subst e
      rw [e1]
      exact ⟨pk_us, by omega, by omega⟩
    · rw [e2 v hv e, pk_un e]
      exact ⟨h6 v hv, (h1 v hv).2⟩
  · exact H _ (ds_O_i c h1)
end
section
/-! the plain law: how many there are -/
def ds_D (p t : Nat) : Nat → Nat := fun v => if v = p then 2 ^ (t + 1) - 1 else 63
def ds_pr (y t : Nat) : Nat := if y = 0 then 6 * (t + 1) else (t + 1 - y) * (t + 2 - y) / 2 + (if 6 - y ≤ t + 1 then 6 - y else t + 1) * (6 - y) - (if 6 - y ≤ t + 1 then 6 - y else t + 1) * ((if 6 - y ≤ t + 1 then 6 - y else t + 1) - 1) / 2
/-- a variable that the constraint does not name: six values, the state stays -/
theorem ds_G6 {p q y t v st : Nat} {f : Nat → Nat} (h1 : v ≠ p) (h2 : v ≠ q) : ds_G 1 p q y (ds_D p t) v f st = 6 * f st := by
  have e : ∀ x, ds_mr 1 p q y v x st = some st := fun x => by
    unfold ds_mr ds_mv
    rw [if_neg (by omega), if_neg (by omega)]
  have eD : ds_D p t v = 63 := if_neg h1
  unfold ds_G
  rw [eD, show (fun x => ds_mr 1 p q y v x st) = fun _ => some st from funext e]
  show 0 + f st + f st + f st + f st + f st + f st = 6 * f st
  omega
def ds_H (p q y t v : Nat) (f : Nat → Nat) (st : Nat) : Nat := if v = p ∨ v = q then ds_G 1 p q y (ds_D p t) v f st else 6 * f st
theorem ds_GH (p q y t v : Nat) : ds_G 1 p q y (ds_D p t) v = ds_H p q y t v := by
  funext f st
  unfold ds_H
  split
  · rfl
  · next h => exact ds_G6 (fun z => h (Or.inl z)) (fun z => h (Or.inr z))
theorem ds_T1' : ∀ p, p < 4 → ∀ s, s < 3 → ∀ y, y < 6 → ∀ t, t < 6 → ds_H p ((p + 1 + s) % 4) y t 0 (ds_H p ((p + 1 + s) % 4) y t 1 (ds_H p ((p + 1 + s) % 4) y t 2 (ds_H p ((p + 1 + s) % 4) y t 3 (fun _ => 1)))) 0 = 36 * ds_pr y t := by decide +kernel
theorem ds_T1 {p s y t : Nat} (hp : p < 4) (hs : s < 3) (hy : y < 6) (ht : t < 6) : ds_tot 1 p ((p + 1 + s) % 4) y (ds_D p t) = 36 * ds_pr y t := by
  unfold ds_tot
  rw [ds_GH, ds_GH, ds_GH, ds_GH]
  exact ds_T1' p hp s hs y hy t ht
theorem ds_G0 {p q y v st : Nat} {D : Nat → Nat} {f : Nat → Nat} : ds_G 0 p q y D v f st = ds_rs (D v) (fun _ => some 0) f 6 := rfl
theorem ds_rsc {B : Nat} {f : Nat → Nat} : ∀ n, ds_rs B (fun _ => some 0) f n = ds_rs B (fun _ => some 0) (fun _ => 1) n * f 0 := by
  intro n
  induction n with
  | zero => exact (Nat.zero_mul _).symm
  | succ n ih =>
    show ds_rs B (fun _ => some 0) f n + (if B.testBit n = false then 0 else f 0) = (ds_rs B (fun _ => some 0) (fun _ => 1) n + (if B.testBit n = false then 0 else 1)) * f 0
    rw [ih, Nat.add_mul]
    split
    · rw [Nat.zero_mul]
    · rw [Nat.one_mul]
theorem ds_G0' {p q y v st : Nat} {D : Nat → Nat} {f : Nat → Nat} : ds_G 0 p q y D v f st = ds_rs (D v) (fun _ => some 0) (fun _ => 1) 6 * f 0 := ds_G0.trans (ds_rsc 6)
theorem ds_T0' : ∀ p, p < 4 → ∀ t, t < 6 → ds_rs (ds_D p t 0) (fun _ => some 0) (fun _ => 1) 6 * (ds_rs (ds_D p t 1) (fun _ => some 0) (fun _ => 1) 6 * (ds_rs (ds_D p t 2) (fun _ => some 0) (fun _ => 1) 6 * (ds_rs (ds_D p t 3) (fun _ => some 0) (fun _ => 1) 6 * 1))) = 216 * (t + 1) := by decide +kernel
theorem ds_T0 {p q y t : Nat} (hp : p < 4) (ht : t < 6) : ds_tot 0 p q y (ds_D p t) = 216 * (t + 1) := by
  unfold ds_tot
  rw [ds_G0', ds_G0', ds_G0', ds_G0']
  exact ds_T0' p hp t ht
theorem ds_prb : ∀ y, y < 6 → ∀ t, t < 6 → 0 < ds_pr y t ∧ ds_pr y t ≤ 36 ∧ (36 * ds_pr y t = 216 * (t + 1) ↔ y = 0) := by decide +kernel
theorem ds_pr0 : ∀ y, y < 6 → nI (36 * ds_pr y 0) = 36 * (6 - nI y) := by decide +kernel
theorem ds_x0 : ∀ y, y < 6 → ∀ t, t < 6 → y = 0 → 6 * (nI t + 1) = nI (ds_pr y t) := by decide +kernel
theorem ds_x1 : ∀ y, y < 6 → ∀ t, t < 6 → y ≠ 0 → nI t - nI y + 1 ≤ 0 → 6 - nI y ≤ nI t + 1 → (0 + (6 - nI y) * (6 - nI y)) - ((6 - nI y) * ((6 - nI y) - 1)) / 2 = nI (ds_pr y t) := by decide +kernel
theorem ds_x2 : ∀ y, y < 6 → ∀ t, t < 6 → y ≠ 0 → nI t - nI y + 1 ≤ 0 → ¬ 6 - nI y ≤ nI t + 1 → (0 + (nI t + 1) * (6 - nI y)) - ((nI t + 1) * ((nI t + 1) - 1)) / 2 = nI (ds_pr y t) := by decide +kernel
theorem ds_x3 : ∀ y, y < 6 → ∀ t, t < 6 → y ≠ 0 → ¬ nI t - nI y + 1 ≤ 0 → 6 - nI y ≤ nI t + 1 → ((((nI t - nI y) + 1) * ((nI t - nI y) + 2)) / 2 + (6 - nI y) * (6 - nI y)) - ((6 - nI y) * ((6 - nI y) - 1)) / 2 = nI (ds_pr y t) := by decide +kernel
theorem ds_x4 : ∀ y, y < 6 → ∀ t, t < 6 → y ≠ 0 → ¬ nI t - nI y + 1 ≤ 0 → ¬ 6 - nI y ≤ nI t + 1 → ((((nI t - nI y) + 1) * ((nI t - nI y) + 2)) / 2 + (nI t + 1) * (6 - nI y)) - ((nI t + 1) * ((nI t + 1) - 1)) / 2 = nI (ds_pr y t) := by decide +kernel
theorem ds_dom : ∀ t, t < 6 → ((2 : Int32) <<< (nI t &&& 31)) - 1 = nI (2 ^ (t + 1) - 1) := by decide +kernel
end
section
/-! the law -/
theorem ds_in152 {post : St2 → Prop} {mc ms kc ks : Nat} {mo tl bs de ic : Int32} {a2 a3 a4 a5 a6 a7 a8 a9 a10 a11 a12 a13 a14 a15 a16 a17 a18 : Nat → Int32} (H : ∀ a1 : Nat → Int32, (∀ v, v < 4 → a1 v = nI 63) → post (0, 2, 0, mo, tl, bs, de, ic, a1, a2, a3, a4, a5, a6, a7, a8, a9, a10, a11, a12, a13, a14, a15, a16, a17, a18)) :
    ∀ (n i : Nat) (a1 : Nat → Int32), i ≤ 4 → 4 - i < n → (∀ v, v < i → a1 v = nI 63) → wX_init_152 post mc ms kc ks 0 2 0 mo tl bs de ic n (nI i) a1 a2 a3 a4 a5 a6 a7 a8 a9 a10 a11 a12 a13 a14 a15 a16 a17 a18 := by
  intro n
  induction n with
  | zero => intro i a1 k1 k2; omega
  | succ n ih =>
    intro i a1 k1 k2 k3
    refine pk_le 4 i (fun z => H a1 (fun v hv => k3 v (by omega))) (fun z => And.intro (pk_in i 4 z) (nm_e (nm_r (nI_1 i) ?_)))
    rw [nI_clamp (show i < 2 ^ 31 by omega)]
    refine ih (i + 1) _ (by omega) (by omega) (fun v hv => ?_)
    by_cases e : v = i
    · subst e
      exact pk_us
    · rw [pk_un e]
      exact k3 v (by omega)
theorem ds_iw {post : Int32 → Prop} {cc wn ru mo tl bs de ic : Int32} {a1 a2 a3 a4 a5 a6 a7 a8 a9 a10 a11 a12 a13 a14 a15 a16 a17 a18 : Nat → Int32} {n m : Nat} (h : n ≤ m) (hm : m < 2 ^ 31) (H : post 1) : wpX_isWithin post (cc, wn, ru, mo, tl, bs, de, ic, a1, a2, a3, a4, a5, a6, a7, a8, a9, a10, a11, a12, a13, a14, a15, a16, a17, a18) (nI n) (nI m) :=
  br_f (nI_pos (by omega)) (br_f (nI_nlt h hm) H)
theorem ds_co {post : Int32 → St2 → Prop} {p q y : Nat} {a1 : Nat → Int32} (hp : p < 4) (hq : q < 4) (hpq : p ≠ q) (hy : y < 6) (h1 : ∀ v, v < 4 → a1 v = nI 63)
    (H : ∀ u, ds_O p q y (fun _ => 63) u → post 1 u) :
    wpX_constraint post (0, 2, 0, 0, 0, 0, 0, 0, a1, (fun _ => 0), (fun _ => 0), (fun _ => 0), (fun _ => 0), (fun _ => 0), (fun _ => 0), (fun _ => 0), (fun _ => 0), (fun _ => 0), (fun _ => 0), (fun _ => 0), (fun _ => 0), (fun _ => 0), (fun _ => 0), (fun _ => 0), (fun _ => 0), (fun _ => 0)) 6 (nI p) (nI q) (nI y) := by
  refine br_t (by decide) (br_f (by decide) (br_f (by decide) ?_))
  refine br_f (by decide) (br_f (by decide) (br_f (by decide) (br_f (by decide) (br_f (by decide) (br_f (by decide) (br_t rfl ?_))))))
  refine ds_iw (m := 3) (by omega) (by omega) (br_f (by decide) ?_)
  refine ds_iw (m := 3) (by omega) (by omega) (br_f (by decide) ?_)
  refine ds_iw (m := 5) (by omega) (by omega) (br_f (by decide) ?_)
  refine br_f (by decide) (And.intro (pk_in 0 10 (by omega)) (nm_e (And.intro (pk_in 0 10 (by omega)) (nm_e (And.intro (pk_in 0 10 (by omega)) (nm_e (And.intro (pk_in 0 10 (by omega)) (nm_e (nm_r (nI_1 0) ?_)))))))))
  refine H _ (ds_O_i ⟨hp, hq, hpq, hy, pk_us.trans (by decide), pk_us, pk_us, pk_us⟩ (fun v hv => ⟨h1 v hv, by omega, by omega⟩))
theorem ds_do {post : Int32 → St2 → Prop} {p q y t : Nat} {u : St2} (ht : t < 6) (h : ds_O p q y (fun _ => 63) u) (H : ∀ u, ds_O p q y (ds_D p t) u → post 1 u) :
    wpX_domain post u (nI p) (((2 : Int32) <<< (nI t &&& 31)) - 1) := by
  obtain ⟨ru, mo, tl, bs, de, ic, a1, a2, a3, a4, a5, a6, a7, a8, a9, a10, a11, a12, a13, a14, a15, a16, a17, a18, rfl, c, h1⟩ := h
  have hp := c.1
  have hB : ∀ t, t < 6 → 0 < 2 ^ (t + 1) - 1 ∧ 2 ^ (t + 1) - 1 < 64 := by decide
  have hb := hB t ht
  rw [ds_dom t ht]
  refine br_f (nI_pos (by omega)) (br_f (nI_nlt (a := 3) (b := p) (by omega) (by omega)) (br_f (nI_pos (Nat.lt_trans hb.2 (by decide))) (br_t (nI_le (b := 63) (Nat.le_of_lt_succ hb.2) (by decide)) ?_)))
  refine And.intro (pk_in p 4 hp) (nm_e ?_)
  rw [nI_clamp (show p < 2 ^ 31 by omega), ds_b8 _ hb.2]
  refine H _ (ds_O_i c (fun v hv => ?_))
  by_cases e : v = p
  · subst e
    rw [pk_us, show ds_D v t v = 2 ^ (t + 1) - 1 from if_pos rfl]
    exact ⟨rfl, hb⟩
  · rw [pk_un e, show ds_D p t v = 63 from if_neg e]
    exact h1 v hv
theorem ds_238 {post : Int32 → St0 → Prop} {mc ms kc ks p s y t : Nat} {z f1 f2 f3 f4 f5 f6 f7 f8 : Int32} {a1 a2 a3 a4 a5 a6 a7 a8 a9 a10 a11 a12 a13 a14 a15 a16 a17 a18 : Nat → Int32} (hp : p < 4) (hs : s < 3) (hy : y < 6) (ht : t < 6)
    (hu : ds_O p ((p + 1 + s) % 4) y (ds_D p t) (f1, f2, f3, f4, f5, f6, f7, f8, a1, a2, a3, a4, a5, a6, a7, a8, a9, a10, a11, a12, a13, a14, a15, a16, a17, a18)) (H : post 1 ()) :
    wL_lawOf_238 post mc ms (nI p) (nI y) (nI (ds_pr y t)) z z kc ks f1 f2 f3 f4 f5 f6 f7 f8 a1 a2 a3 a4 a5 a6 a7 a8 a9 a10 a11 a12 a13 a14 a15 a16 a17 a18 := by
  have T1 : ∀ t, t < 6 → ds_tot 1 p ((p + 1 + s) % 4) y (ds_D p t) = 36 * ds_pr y t := fun t ht => ds_T1 hp hs hy ht
  obtain ⟨b1, b2, b3⟩ := ds_prb y hy t ht
  have hx8 : ¬ nI (ds_pr y t) ≤ 0 := nI_nle b1 (by omega)
  have ho : ∀ t, t < 6 → (2 ^ (t + 1) - 1) % 2 = 1 := by decide
  refine br_t rfl (ds_bl hu (by rw [T1 t ht]; omega) (by rw [T1 t ht]; omega) (fun u hu => ?_))
  obtain ⟨f1, f2, f3, f4, f5, f6, f7, f8, a1, a2, a3, a4, a5, a6, a7, a8, a9, a10, a11, a12, a13, a14, a15, a16, a17, a18⟩ := u
  refine br_f hx8 (br_t rfl (ds_cw (D' := ds_D p 0) hu ?_ (if_pos rfl) (fun v _ e => ?_) (fun u hu => ?_)))
  · rw [show ds_D p t p = 2 ^ (t + 1) - 1 from if_pos rfl]
    exact ho t ht
  · rw [show ds_D p 0 v = 63 from if_neg e, show ds_D p t v = 63 from if_neg e]
  · obtain ⟨f1, f2, f3, f4, f5, f6, f7, f8, a1, a2, a3, a4, a5, a6, a7, a8, a9, a10, a11, a12, a13, a14, a15, a16, a17, a18⟩ := u
    rw [T1 0 (by omega)]
    exact br_t (ds_pr0 y hy) H
theorem ds_141 {post : Int32 → St0 → Prop} {mc ms p s y t : Nat} (hp : p < 4) (hs : s < 3) (hy : y < 6) (ht : t < 6) (hmc : 19 ≤ mc) (hms : 3512 ≤ ms) (H : post 1 ()) :
    wL_lawOf_141 post mc ms (nI p) (nI ((p + 1 + s) % 4)) (nI y) (nI t) (nI (ds_pr y t)) 0 0 := by
  have hq : (p + 1 + s) % 4 < 4 := Nat.mod_lt _ (by omega)
  have hpq : p ≠ (p + 1 + s) % 4 := by omega
  have T1 : ds_tot 1 p ((p + 1 + s) % 4) y (ds_D p t) = 36 * ds_pr y t := ds_T1 hp hs hy ht
  have T0 : ds_tot 0 p ((p + 1 + s) % 4) y (ds_D p t) = 216 * (t + 1) := ds_T0 hp ht
  obtain ⟨b1, b2, b3⟩ := ds_prb y hy t ht
  have c36 : nI (36 * ds_pr y t) = 36 * nI (ds_pr y t) := (pk_mul 36 (ds_pr y t)).symm
  have hx8 : ¬ nI (ds_pr y t) ≤ 0 := nI_nle b1 (by omega)
  refine And.intro (by omega) (And.intro (by omega) (Exists.intro 18 (Exists.intro 3486 (And.intro (by omega) (And.intro (by omega) ?_)))))
  refine And.intro (by omega) (And.intro (by omega) (And.intro (by omega) (And.intro (by omega) (And.intro (by omega) (And.intro (by omega) (And.intro (by omega) (And.intro (by omega) (And.intro (by omega) (And.intro (by omega) (And.intro (by omega) (And.intro (by omega) (And.intro (by omega) (And.intro (by omega) (And.intro (by omega) (And.intro (by omega) (And.intro (by omega) (And.intro (by omega) (And.intro (by omega) (And.intro (by omega) (And.intro (by omega) (And.intro (by omega) (And.intro (by omega) (And.intro (by omega) (And.intro (by omega) (And.intro (by omega) (And.intro (by omega) (And.intro (by omega) (And.intro (by omega) (And.intro (by omega) (And.intro (by omega) (And.intro (by omega) (And.intro (by omega) (And.intro (by omega) (And.intro (by omega) (And.intro (by omega) (Exists.intro 5 ?_))))))))))))))))))))))))))))))))))))
  refine ds_in152 (fun a1 h1 => ?_) 5 0 _ (by omega) (by omega) (fun v hv => absurd hv (by omega))
  refine ds_co hp hq hpq hy h1 (fun u hu => ?_)
  obtain ⟨f1, f2, f3, f4, f5, f6, f7, f8, a1, a2, a3, a4, a5, a6, a7, a8, a9, a10, a11, a12, a13, a14, a15, a16, a17, a18⟩ := u
  refine br_t rfl (ds_do ht hu (fun u hu => ?_))
  obtain ⟨f1, f2, f3, f4, f5, f6, f7, f8, a1, a2, a3, a4, a5, a6, a7, a8, a9, a10, a11, a12, a13, a14, a15, a16, a17, a18⟩ := u
  refine br_f (by decide) (ds_cnt hu (fun u hu => ?_))
  obtain ⟨f1, f2, f3, f4, f5, f6, f7, f8, a1, a2, a3, a4, a5, a6, a7, a8, a9, a10, a11, a12, a13, a14, a15, a16, a17, a18⟩ := u
  refine br_t (by rw [T1]; exact c36) (ds_sv hu (by rw [T1]; omega) (by rw [T1]; omega) (fun u hu => ?_))
  obtain ⟨f1, f2, f3, f4, f5, f6, f7, f8, a1, a2, a3, a4, a5, a6, a7, a8, a9, a10, a11, a12, a13, a14, a15, a16, a17, a18⟩ := u
  refine br_f hx8 (br_t rfl (ds_nd hu (by rw [T1]; omega) (by rw [T0]; omega) (fun e u hu => ?_) (fun e u hu => ?_)))
  · obtain ⟨f1, f2, f3, f4, f5, f6, f7, f8, a1, a2, a3, a4, a5, a6, a7, a8, a9, a10, a11, a12, a13, a14, a15, a16, a17, a18⟩ := u
    rw [T1, T0] at e
    have y0 : y = 0 := b3.mp e.symm
    exact br_t ((congrArg nI y0).trans nI_0) (ds_238 hp hs hy ht hu H)
  · obtain ⟨f1, f2, f3, f4, f5, f6, f7, f8, a1, a2, a3, a4, a5, a6, a7, a8, a9, a10, a11, a12, a13, a14, a15, a16, a17, a18⟩ := u
    rw [T1, T0] at e
    have y0 : ¬ y = 0 := fun z => e (b3.mpr z).symm
    exact br_f (nI_ne0 (by omega) (by omega)) (ds_238 hp hs hy ht hu H)
theorem ds_law {mc ms : Nat} {a b c d : Int32} (hmc : 19 ≤ mc) (hms : 3512 ≤ ms) : wpL_lawOf (fun r _ => r = 1) mc ms () a b c d := by
  obtain ⟨p, hp, ep⟩ := pk_andE a (m := 3) 2 (by decide)
  obtain ⟨s, hs, es⟩ := pk_andE b (m := 255) 8 (by decide)
  obtain ⟨y, hy, ey⟩ := pk_andE c (m := 255) 8 (by decide)
  obtain ⟨t, ht, et⟩ := pk_andE d (m := 255) 8 (by decide)
  have hy6 : y % 6 < 6 := Nat.mod_lt _ (by omega)
  have ht6 : t % 6 < 6 := Nat.mod_lt _ (by omega)
  have hs3 : s % 3 < 3 := Nat.mod_lt _ (by omega)
  have es' : ((nI p + 1) + ((b &&& 255) - (b &&& 255) / 3 * 3)) &&& 3 = nI ((p + 1 + s % 3) % 4) := by
    rw [es, show nI s - nI s / 3 * 3 = nI (s % 3) from pk_rem (d := 3) (by omega) (by omega) (by omega), nI_1, nI_add]
    exact pk_andN (by omega) 2 (by decide)
  have ey' : (c &&& 255) - (c &&& 255) / 6 * 6 = nI (y % 6) := by
    rw [ey]
    exact pk_rem (d := 6) (by omega) (by omega) (by omega)
  have et' : (d &&& 255) - (d &&& 255) / 6 * 6 = nI (t % 6) := by
    rw [et]
    exact pk_rem (d := 6) (by omega) (by omega) (by omega)
  have h : wL_lawOf_141 (fun r (_ : St0) => r = 1) mc ms (nI p) (nI ((p + 1 + s % 3) % 4)) (nI (y % 6)) (nI (t % 6)) (nI (ds_pr (y % 6) (t % 6))) 0 0 := ds_141 hp hs3 hy6 ht6 hmc hms rfl
  unfold wpL_lawOf
  refine nm_r ep (And.intro (by decide) (nm_r es' (And.intro (by decide) (nm_r ey' (And.intro (by decide) (nm_r et' ?_))))))
  refine pk_eq (y % 6) 0 (fun z => nm_r (ds_x0 (y % 6) hy6 (t % 6) ht6 z) h) (fun z => br_c (fun g => ?_) (fun g => And.intro (by decide) ?_))
  · unfold wL_lawOf_92
    refine nm_e (br_c (fun g2 => ?_) (fun g2 => ?_))
    · exact And.intro (by decide) (nm_r (ds_x1 (y % 6) hy6 (t % 6) ht6 z g g2) h)
    · exact And.intro (by decide) (nm_r (ds_x2 (y % 6) hy6 (t % 6) ht6 z g g2) h)
  · unfold wL_lawOf_92
    refine nm_e (br_c (fun g2 => ?_) (fun g2 => ?_))
    · exact And.intro (by decide) (nm_r (ds_x3 (y % 6) hy6 (t % 6) ht6 z g g2) h)
    · exact And.intro (by decide) (nm_r (ds_x4 (y % 6) hy6 (t % 6) ht6 z g g2) h)
theorem ds_ca {post : Int32 → Prop} {xs : Nat → Int32} {L i : Nat} (hL : L ≤ 4) (hi : i ≤ 4) (H : ∀ r, post r) : wpL_cellAt post L xs () (nI i) :=
  pk_le L i (fun _ => H _) (fun z => And.intro (pk_in i L z) (H _))
theorem i_vc (xs : Nat → Int32) (L : Nat) (hL : L ≤ 4) : wpL_law (fun r => r = 1) L xs := by
  unfold wpL_law
  refine ds_ca (i := 0) hL (by omega) (fun r1 => ?_)
  refine ds_ca (i := 1) hL (by omega) (fun r2 => ?_)
  refine ds_ca (i := 2) hL (by omega) (fun r3 => ?_)
  refine ds_ca (i := 3) hL (by omega) (fun r4 => ?_)
  exact ⟨100, 10000, by omega, by omega, ds_law (by omega) (by omega)⟩
end
