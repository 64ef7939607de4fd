/-! reading what the component holds -/
section FACT
variable {g : GC} {A : Nat → Nat → Nat} {σ : AH} {z : ZT} {k : Nat}
theorem rgB (h : RepC g A σ z) (r k : Nat) : gB g ≤ A r k := (h.2.1.2 r k).1
theorem rA (h : RepC g A σ z) : cA g A σ := h.2.1
theorem rgs (h : RepC g A σ z) : gB g ≤ hsz σ := h.1.1
theorem r5t (h : RepC g A σ z) (hk : k < zn z) : hty σ (A 4 k) = some 5 := (h.2.2.1.2.2 k hk).1
theorem r6t (h : RepC g A σ z) (hk : k < zn z) : hty σ (A 5 k) = some 6 := (h.2.2.1.2.2 k hk).2.1
theorem r7t (h : RepC g A σ z) (hk : k < zn z) : hty σ (A 7 k) = some 20 := (h.2.2.1.2.2 k hk).2.2.1.1
theorem r7l (h : RepC g A σ z) (hk : k < zn z) : hln σ (A 7 k) = 6 := (h.2.2.1.2.2 k hk).2.2.1.2
theorem r8t (h : RepC g A σ z) (hk : k < zn z) : hty σ (A 8 k) = some 20 := (h.2.2.1.2.2 k hk).2.2.2.1.1
theorem r8l (h : RepC g A σ z) (hk : k < zn z) : hln σ (A 8 k) = 5 := (h.2.2.1.2.2 k hk).2.2.2.1.2
theorem r9t (h : RepC g A σ z) (hk : k < zn z) : hty σ (A 9 k) = some 21 := (h.2.2.1.2.2 k hk).2.2.2.2.1.1
theorem r9l (h : RepC g A σ z) (hk : k < zn z) : hln σ (A 9 k) = 6 := (h.2.2.1.2.2 k hk).2.2.2.2.1.2
theorem r10t (h : RepC g A σ z) (hk : k < zn z) : hty σ (A 10 k) = some 21 := (h.2.2.1.2.2 k hk).2.2.2.2.2.1.1
theorem r10l (h : RepC g A σ z) (hk : k < zn z) : hln σ (A 10 k) = 6 := (h.2.2.1.2.2 k hk).2.2.2.2.2.1.2
theorem r11t (h : RepC g A σ z) (hk : k < zn z) (hs : z.1 1 k 30 = 1) : hty σ (A 11 k) = some 21 := ((h.2.2.1.2.2 k hk).2.2.2.2.2.2.1 hs).1
theorem r11l (h : RepC g A σ z) (hk : k < zn z) (hs : z.1 1 k 30 = 1) : hln σ (A 11 k) = 6 := ((h.2.2.1.2.2 k hk).2.2.2.2.2.2.1 hs).2
theorem r12t (h : RepC g A σ z) (hk : k < zn z) (hs : z.1 1 k 31 = 1) : hty σ (A 12 k) = some 9 := ((h.2.2.1.2.2 k hk).2.2.2.2.2.2.2 hs).1
theorem r15t (h : RepC g A σ z) (hk : k < zn z) (hs : z.1 1 k 31 = 1) : hty σ (A 15 k) = some 6 := ((h.2.2.1.2.2 k hk).2.2.2.2.2.2.2 hs).2.1
theorem r17t (h : RepC g A σ z) (hk : k < zn z) (hs : z.1 1 k 31 = 1) : hty σ (A 17 k) = some 20 := ((h.2.2.1.2.2 k hk).2.2.2.2.2.2.2 hs).2.2.1
theorem r17l (h : RepC g A σ z) (hk : k < zn z) (hs : z.1 1 k 31 = 1) : hln σ (A 17 k) = 6 := ((h.2.2.1.2.2 k hk).2.2.2.2.2.2.2 hs).2.2.2
theorem r18t (h : RepC g A σ z) {i : Nat} (hi : i < zf z) : hty σ (A 18 i) = some 2 := h.2.2.1.2.1 i hi
theorem r1t (h : RepC g A σ z) : hty σ (A 1 0) = some 1 := h.2.2.1.1
theorem r10_ (h : RepC g A σ z) : hv σ 1 (A 1 0) 0 = .ref (A 2 0) := h.2.2.2.1.1
theorem r11_ (h : RepC g A σ z) : hv σ 1 (A 1 0) 1 = .ref (A 3 0) := h.2.2.2.1.2.1
theorem r13_ (h : RepC g A σ z) : hv σ 1 (A 1 0) 3 = gref A (z.1 0 0 3) := h.2.2.2.1.2.2.1
theorem r14_ (h : RepC g A σ z) : hv σ 1 (A 1 0) 4 = gref A (z.1 0 0 4) := h.2.2.2.1.2.2.2.1
theorem r1s (h : RepC g A σ z) {j : Nat} (hj : msc j = true) : hv σ 1 (A 1 0) j = .int (z.1 0 0 j) := h.2.2.2.1.2.2.2.2 j hj
theorem r20_ (h : RepC g A σ z) {i : Nat} (hi : i < zf z) : hv σ 2 (A 18 i) 0 = gref A (z.1 8 i 0) := (h.2.2.2.2.1 i hi).1
theorem r21_ (h : RepC g A σ z) {i : Nat} (hi : i < zf z) : hv σ 2 (A 18 i) 1 = .int (z.1 8 i 1) := (h.2.2.2.2.1 i hi).2.1
theorem r22_ (h : RepC g A σ z) {i : Nat} (hi : i < zf z) : hv σ 2 (A 18 i) 2 = .int (z.1 8 i 2) := (h.2.2.2.2.1 i hi).2.2
theorem r5n (h : RepC g A σ z) (hk : k < zn z) : hv σ 5 (A 4 k) 0 = .int (Int32.ofNat k) := (h.2.2.2.2.2.1 k hk).1
theorem r5m (h : RepC g A σ z) (hk : k < zn z) : hv σ 5 (A 4 k) 2 = .ref (A 5 k) := (h.2.2.2.2.2.1 k hk).2.1
theorem r5e (h : RepC g A σ z) (hk : k < zn z) : hv σ 5 (A 4 k) 13 = .ref (A 8 k) := (h.2.2.2.2.2.1 k hk).2.2.1
theorem r5d (h : RepC g A σ z) (hk : k < zn z) : hv σ 5 (A 4 k) 14 = .ref (A 9 k) := (h.2.2.2.2.2.1 k hk).2.2.2.1
theorem r5v (h : RepC g A σ z) (hk : k < zn z) : hv σ 5 (A 4 k) 15 = .ref (A 10 k) := (h.2.2.2.2.2.1 k hk).2.2.2.2.1
theorem r5l (h : RepC g A σ z) (hk : k < zn z) : hv σ 5 (A 4 k) 16 = if z.1 1 k 30 = 1 then .ref (A 11 k) else .null := (h.2.2.2.2.2.1 k hk).2.2.2.2.2.1
theorem r5p (h : RepC g A σ z) (hk : k < zn z) : hv σ 5 (A 4 k) 21 = if z.1 1 k 31 = 1 then .ref (A 12 k) else .null := (h.2.2.2.2.2.1 k hk).2.2.2.2.2.2.1
theorem r5g (h : RepC g A σ z) (hk : k < zn z) {j : Nat} (hj : gsc j = true) : hv σ 5 (A 4 k) j = .int (z.1 1 k j) := (h.2.2.2.2.2.1 k hk).2.2.2.2.2.2.2 j hj
theorem r60 (h : RepC g A σ z) (hk : k < zn z) : hv σ 6 (A 5 k) 0 = .ref (A 6 k) := (h.2.2.2.2.2.2.1 k hk).1.1
theorem r61 (h : RepC g A σ z) (hk : k < zn z) : hv σ 6 (A 5 k) 1 = .ref (A 7 k) := (h.2.2.2.2.2.2.1 k hk).1.2.1
theorem r62 (h : RepC g A σ z) (hk : k < zn z) : hv σ 6 (A 5 k) 2 = .int (z.1 1 k 22) := (h.2.2.2.2.2.2.1 k hk).1.2.2.1
theorem r63 (h : RepC g A σ z) (hk : k < zn z) : hv σ 6 (A 5 k) 3 = .int (z.1 1 k 23) := (h.2.2.2.2.2.2.1 k hk).1.2.2.2
theorem r15_ (h : RepC g A σ z) (hk : k < zn z) (hs : z.1 1 k 31 = 1) : hv σ 6 (A 15 k) 0 = .ref (A 16 k) ∧ hv σ 6 (A 15 k) 1 = .ref (A 17 k) ∧ hv σ 6 (A 15 k) 2 = .int (z.1 1 k 32) ∧ hv σ 6 (A 15 k) 3 = .int (z.1 1 k 33) := (h.2.2.2.2.2.2.1 k hk).2 hs
theorem r9_ (h : RepC g A σ z) (hk : k < zn z) (hs : z.1 1 k 31 = 1) : hv σ 9 (A 12 k) 0 = .ref (A 15 k) ∧ hv σ 9 (A 12 k) 1 = .ref (A 13 k) ∧ hv σ 9 (A 12 k) 2 = .ref (A 14 k) ∧ hv σ 9 (A 12 k) 3 = .int (z.1 1 k 24) ∧ hv σ 9 (A 12 k) 4 = .int (z.1 1 k 25) := h.2.2.2.2.2.2.2.1 k hk hs
theorem r7v (h : RepC g A σ z) (hk : k < zn z) {p : Nat} (hp : p < 6) : hv σ 20 (A 7 k) p = .int (z.1 2 k p) := (h.2.2.2.2.2.2.2.2.1 k hk).1 p hp
theorem r8v (h : RepC g A σ z) (hk : k < zn z) {p : Nat} (hp : p < 5) : hv σ 20 (A 8 k) p = .int (z.1 3 k p) := (h.2.2.2.2.2.2.2.2.1 k hk).2.1 p hp
theorem r17v (h : RepC g A σ z) (hk : k < zn z) (hs : z.1 1 k 31 = 1) {p : Nat} (hp : p < 6) : hv σ 20 (A 17 k) p = .int (z.1 7 k p) := (h.2.2.2.2.2.2.2.2.1 k hk).2.2 hs p hp
theorem r9v (h : RepC g A σ z) (hk : k < zn z) {p : Nat} (hp : p < 6) : hv σ 21 (A 9 k) p = .int (z.1 4 k p) := (h.2.2.2.2.2.2.2.2.2.1 k hk).1 p hp
theorem r10v (h : RepC g A σ z) (hk : k < zn z) {p : Nat} (hp : p < 6) : hv σ 21 (A 10 k) p = .int (z.1 5 k p) := (h.2.2.2.2.2.2.2.2.2.1 k hk).2.1 p hp
theorem r11v (h : RepC g A σ z) (hk : k < zn z) (hs : z.1 1 k 30 = 1) {p : Nat} (hp : p < 6) : hv σ 21 (A 11 k) p = .int (z.1 6 k p) := (h.2.2.2.2.2.2.2.2.2.1 k hk).2.2 hs p hp
theorem rL (h : RepC g A σ z) : cL g A σ z := h.2.2.2.2.2.2.2.2.2.2
theorem rLg (h : RepC g A σ z) : isL g σ (A 2 0) (A 22 0) (zn z) (fun k => .ref (A 4 k)) := h.2.2.2.2.2.2.2.2.2.2.1.1
theorem rLf (h : RepC g A σ z) : isL g σ (A 3 0) (A 23 0) (zf z) (fun i => .ref (A 18 i)) := h.2.2.2.2.2.2.2.2.2.2.1.2
theorem rLt (h : RepC g A σ z) (hk : k < zn z) : cL1 g A σ z k := (h.2.2.2.2.2.2.2.2.2.2.2 k hk).1
theorem rLp (h : RepC g A σ z) (hk : k < zn z) (hs : z.1 1 k 31 = 1) : cL2 g A σ z k := (h.2.2.2.2.2.2.2.2.2.2.2 k hk).2 hs
/-- a cell of the component that may be written -/
def mutR (r : Nat) : Bool := Nat.ble r 39 && !(r == 0 || r == 2 || r == 3 || r == 15 || r == 16 || r == 17 || r == 22 || r == 23 || r == 36)
def FC (A : Nat → Nat → Nat) (a : Nat) : Prop := ∃ r k, a = A r k ∧ mutR r = true
theorem FC_i {r k : Nat} (h : mutR r = true) : FC A (A r k) := ⟨r, k, rfl, h⟩
theorem kp_FC {r k t j : Nat} {x : Value} (h : mutR r = true) : kp (FC A) 0 0 σ (hput σ t (A r k) j x) := kp_put (fun _ => FC_i h)
/-! an op on the math state -/
def zpl (z : ZT) (k : Nat) : Nat := (z.1 1 k 22).toNatClampNeg
def zkd (z : ZT) (k : Nat) : Int32 := z.1 9 k (zpl z k)
def zar (z : ZT) (k : Nat) : Nat := (z.1 10 k (zpl z k)).toNatClampNeg
def workZ (z : ZT) (k : Nat) (told : Int32) : ZT := zs (if zkd z k = 1 then zs z 1 k 23 (irm (z.1 1 k 23 + z.1 2 k (zar z k) + 1) 1000) else if zkd z k = 2 then zs z 2 k (zar z k) (irm (3 * z.1 2 k (zar z k) + z.1 1 k 23 + 1) 1000) else if zkd z k = 4 then zs z 1 k 23 (irm (z.1 1 k 23 + told) 1000) else if zkd z k = 5 then zs z 1 k 23 (irm told 1000) else z) 1 k 22 (Int32.ofNat ((zpl z k + 1) % z.2 2 k))
def finishZ (z : ZT) (k : Nat) (told : Int32) : ZT := zs (zs (workZ z k told) 1 k 10 (z.1 1 k 10 + 1)) 1 k 24 (z.1 1 k 24 + 1)
/-- tapes, places -/
def okT (z : ZT) (k : Nat) : Prop := z.2 2 k ≤ 12 ∧ (∀ i, i < z.2 2 k → (z.1 9 k i = 0 ∨ z.1 9 k i = 1 ∨ z.1 9 k i = 2 ∨ z.1 9 k i = 3 ∨ z.1 9 k i = 4 ∨ z.1 9 k i = 5 ∨ z.1 9 k i = 6) ∧ (z.1 9 k i = 1 ∨ z.1 9 k i = 2 → ∃ a, z.1 10 k i = Int32.ofNat a ∧ a < 6)) ∧ z.1 1 k 22 = Int32.ofNat (zpl z k)
theorem workZ_2 (z : ZT) (k : Nat) (t : Int32) : (workZ z k t).2 = z.2 := by
  unfold workZ
  rw [zs_2]
  split
  · rfl
  · split
    · rfl
    · split
      · rfl
      · split <;> rfl
theorem workZ_j (z : ZT) (k : Nat) (t : Int32) {b j : Nat} (h1 : j ≠ 22) (h2 : j ≠ 23) : (workZ z k t).1 1 b j = z.1 1 b j := by
  unfold workZ
  rw [zs_j _ h1]
  split
  · rw [zs_j _ h2]
  · split
    · rw [zs_k _ (by decide)]
    · split
      · rw [zs_j _ h2]
      · split
        · rw [zs_j _ h2]
        · rfl
theorem rc_work (h : RepC g A σ z) (hk : k < zn z) {told : Int32} (ha : zkd z k = 2 → zar z k < 6) : RepC g A (wkH σ (A 5 k) (A 7 k) (zkd z k) (zar z k) (z.1 1 k 23) (z.1 2 k (zar z k)) told (zpl z k) (z.2 2 k)) (workZ z k told) := by
  unfold wkH workZ
  by_cases e1 : zkd z k = 1
  · rw [if_pos e1, if_pos e1]; exact rc_mi (rc_mi h hk (Or.inr rfl)) hk (Or.inl rfl)
  · rw [if_neg e1, if_neg e1]
    by_cases e2 : zkd z k = 2
    · rw [if_pos e2, if_pos e2]; exact rc_mi (rc_val h hk (ha e2)) hk (Or.inl rfl)
    · rw [if_neg e2, if_neg e2]
      by_cases e3 : zkd z k = 4
      · rw [if_pos e3, if_pos e3]; exact rc_mi (rc_mi h hk (Or.inr rfl)) hk (Or.inl rfl)
      · rw [if_neg e3, if_neg e3]
        by_cases e4 : zkd z k = 5
        · rw [if_pos e4, if_pos e4]; exact rc_mi (rc_mi h hk (Or.inr rfl)) hk (Or.inl rfl)
        · rw [if_neg e4, if_neg e4]; exact rc_mi h hk (Or.inl rfl)
theorem wkH_kp {m v : Nat} {kd : Int32} {a : Nat} {mk va told : Int32} {p n : Nat} : kp (fun x => x = m ∨ x = v) 0 0 σ (wkH σ m v kd a mk va told p n) := by
  have k6 : ∀ (s1 : AH) (j : Nat) (w : Value), kp (fun x => x = m ∨ x = v) 0 0 s1 (hput s1 6 m j w) := fun s1 j w => kp_put (fun _ => Or.inl rfl)
  have k20 : ∀ (s1 : AH) (j : Nat) (w : Value), kp (fun x => x = m ∨ x = v) 0 0 s1 (hput s1 20 v j w) := fun s1 j w => kp_put (fun _ => Or.inr rfl)
  unfold wkH
  refine kp_trans (c1 := 0) (s1 := 0) (c2 := 0) (s2 := 0) ?_ (k6 _ _ _)
  split
  · exact k6 _ _ _
  · split
    · exact k20 _ _ _
    · split
      · exact k6 _ _ _
      · split
        · exact k6 _ _ _
        · exact kp_refl _ _
/-- a guest's mind works -/
theorem c_gwork {Q : AQ} (h : RepC g A σ z) (hk : k < zn z) (ht : okT z k) (hp : zpl z k < z.2 2 k) {told : Int32} : aw g 204 0 [some (.ref (A 5 k)), some (.int told), none] [] σ Q = Q (.inl none) (wkH σ (A 5 k) (A 7 k) (zkd z k) (zar z k) (z.1 1 k 23) (z.1 2 k (zar z k)) told (zpl z k) (z.2 2 k)) := by
  obtain ⟨f, f1, f2⟩ := rLt h hk
  obtain ⟨t1, t2, t3⟩ := ht
  refine c_work (r6t h hk) (rgB h _ _) (r60 h hk) f1 (by rw [r62 h hk, t3]) hp (f2 _ hp) (r61 h hk) (r7t h hk) (r7l h hk) (rgB h _ _) (r63 h hk) (t2 _ hp).1 (fun q => ?_) (by omega)
  obtain ⟨a, a1, a2⟩ := (t2 _ hp).2 q
  have ea : zar z k = a := by unfold zar; rw [a1, n32_nat (by omega)]
  exact ⟨by rw [ea]; exact a1, by omega, by rw [r7v h hk (by omega)]⟩
theorem zar_lt (ht : okT z k) (hp : zpl z k < z.2 2 k) (q : zkd z k = 1 ∨ zkd z k = 2) : zar z k < 6 := by
  obtain ⟨a, a1, a2⟩ := (ht.2.1 _ hp).2 q
  unfold zar; rw [a1, n32_nat (by omega)]; exact a2
theorem c_finish {Q : AQ} (h : RepC g A σ z) (hk : k < zn z) (ht : okT z k) (hp : zpl z k < z.2 2 k) {told : Int32}
    (hQ : ∀ σ', RepC g A σ' (finishZ z k told) → kp (FC A) 0 0 σ σ' → Q (.inl none) σ') : aw g 120 0 [some (.ref (A 4 k)), some (.int told)] [] σ Q := by
  have h1 := rc_work h hk (told := told) (fun e => zar_lt ht hp (Or.inr e))
  have k1 : kp (FC A) 0 0 σ (wkH σ (A 5 k) (A 7 k) (zkd z k) (zar z k) (z.1 1 k 23) (z.1 2 k (zar z k)) told (zpl z k) (z.2 2 k)) := kp_mono wkH_kp (Nat.le_refl _) (Nat.le_refl _) (fun a _ e => by rcases e with e | e <;> (subst e; exact FC_i (by decide)))
  have e1 := fun Q' => c_gwork (Q := Q') h hk ht hp (told := told)
  have hk1 : k < zn (workZ z k told) := by unfold zn; rw [workZ_2]; exact hk
  have e10 := workZ_j z k told (b := k) (j := 10) (by decide) (by decide)
  have e24 := workZ_j z k told (b := k) (j := 24) (by decide) (by decide)
  have e31 := workZ_j z k told (b := k) (j := 31) (by decide) (by decide)
  generalize wkH σ (A 5 k) (A 7 k) (zkd z k) (zar z k) (z.1 1 k 23) (z.1 2 k (zar z k)) told (zpl z k) (z.2 2 k) = σ1 at *
  have h2 := rc_g h1 hk1 (j := 10) (v := z.1 1 k 10 + 1) (by decide)
  have k2 := kp_trans k1 (kp_FC (A := A) (σ := σ1) (r := 4) (k := k) (t := 5) (j := 10) (x := .int (z.1 1 k 10 + 1)) (by decide))
  by_cases hs : z.1 1 k 31 = 1
  · have hs1 : (workZ z k told).1 1 k 31 = 1 := e31.trans hs
    have p9 := r9_ h1 hk1 hs1
    have p12 := r12t h1 hk1 hs1
    rw [e24] at p9
    simp (config := {decide := true}) only [vRf_r, vRf_n, vI_i, vL_l, vD_d, pI_i, pR_r, pR_n, vZ_0, vZ_1, ct_i, ct_r, ct_n, ct_l, ct_d, csum_n, csum_c, kt_v, kt_n, kt_e, oc_n, oc_i, oc_r, oc_l, oc_u, oc_d, true_and, and_true, Bool.and_true, Bool.true_and, ne_eq, not_false_eq_true, not_true_eq_false, implies_true, false_imp, true_imp_iff, hsz_put, hsl_put, hln_put, hty_put, hsz_new, hsl_new, hln_new, hty_new, Nat.zero_add, Nat.add_zero, eq_self, decide_true, t32_0, t32_1, t32_2, t32_3, t32_4, t32_5, t32_6, hv_same, hv_kne, hv_tne, hv_ntne, hv_nsame, hv_ctne, hty_cpy, hln_cpy, hsz_cpy, hsl_cpy, vrn, vnr, vrr, A120_0, A120_1, A120_4, A120_5, A120_8, A120_9, A120_10, A120_13, A120_14, A120_15, A120_18, A120_19, A120_22, A120_25, A120_26, A120_29, A120_30, A120_33, A120_34, A120_35, A120_38, r5t h hk, r5g h hk, r5n h hk, r5m h hk, r5e h hk, r5d h hk, r5v h hk, r5l h hk, r5p h hk, r6t h hk, r60 h hk, r61 h hk, r62 h hk, r63 h hk, r7t h hk, r7l h hk, r8t h hk, r8l h hk, r9t h hk, r9l h hk, r10t h hk, r10l h hk, rgB h, r5t h1 hk1, r5g h1 hk1, r5n h1 hk1, r5m h1 hk1, r5e h1 hk1, r5d h1 hk1, r5v h1 hk1, r5l h1 hk1, r5p h1 hk1, r6t h1 hk1, r60 h1 hk1, r61 h1 hk1, r62 h1 hk1, r63 h1 hk1, r7t h1 hk1, r7l h1 hk1, r8t h1 hk1, r8l h1 hk1, r9t h1 hk1, r9l h1 hk1, r10t h1 hk1, r10l h1 hk1, rgB h1, e1, e10, hs1, p9, p12, if_true]
    exact hQ _ (rc_p3 h2 hk1) (kp_trans k2 (kp_FC (by decide)))
  · have hs1 : ((workZ z k told).1 1 k 31 = 1) = False := eq_false (by rw [e31]; exact hs)
    simp (config := {decide := true}) only [vRf_r, vRf_n, vI_i, vL_l, vD_d, pI_i, pR_r, pR_n, vZ_0, vZ_1, ct_i, ct_r, ct_n, ct_l, ct_d, csum_n, csum_c, kt_v, kt_n, kt_e, oc_n, oc_i, oc_r, oc_l, oc_u, oc_d, true_and, and_true, Bool.and_true, Bool.true_and, ne_eq, not_false_eq_true, not_true_eq_false, implies_true, false_imp, true_imp_iff, hsz_put, hsl_put, hln_put, hty_put, hsz_new, hsl_new, hln_new, hty_new, Nat.zero_add, Nat.add_zero, eq_self, decide_true, t32_0, t32_1, t32_2, t32_3, t32_4, t32_5, t32_6, hv_same, hv_kne, hv_tne, hv_ntne, hv_nsame, hv_ctne, hty_cpy, hln_cpy, hsz_cpy, hsl_cpy, vrn, vnr, vrr, A120_0, A120_1, A120_4, A120_5, A120_8, A120_9, A120_10, A120_13, A120_14, A120_15, A120_18, A120_19, A120_22, A120_25, A120_26, A120_29, A120_30, A120_33, A120_34, A120_35, A120_38, r5t h hk, r5g h hk, r5n h hk, r5m h hk, r5e h hk, r5d h hk, r5v h hk, r5l h hk, r5p h hk, r6t h hk, r60 h hk, r61 h hk, r62 h hk, r63 h hk, r7t h hk, r7l h hk, r8t h hk, r8l h hk, r9t h hk, r9l h hk, r10t h hk, r10l h hk, rgB h, r5t h1 hk1, r5g h1 hk1, r5n h1 hk1, r5m h1 hk1, r5e h1 hk1, r5d h1 hk1, r5v h1 hk1, r5l h1 hk1, r5p h1 hk1, r6t h1 hk1, r60 h1 hk1, r61 h1 hk1, r62 h1 hk1, r63 h1 hk1, r7t h1 hk1, r7l h1 hk1, r8t h1 hk1, r8l h1 hk1, r9t h1 hk1, r9l h1 hk1, r10t h1 hk1, r10l h1 hk1, rgB h1, e1, e10, hs1, if_false]
    exact hQ _ (rc_p0 h2 (by rw [zs_j _ (by decide), e31]; exact hs) (Or.inl rfl)) k2
end FACT
