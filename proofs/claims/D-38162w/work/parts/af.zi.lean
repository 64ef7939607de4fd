/-! what links the two: kept by every step -/
/-- the guest's state, what it was before a pause, till when it is stuck -/
def K1 (z : ZT) (k : Nat) : Prop := (z.1 1 k 3 = 2 → z.1 1 k 6 = z.1 1 k 35) ∧ (z.1 1 k 3 = 3 → z.1 1 k 4 = z.1 1 k 36) ∧ (z.1 1 k 3 = 3 → z.1 1 k 4 = 2 → z.1 1 k 6 = z.1 1 k 35) ∧ (z.1 1 k 3 ≠ 2 → ¬ (z.1 1 k 3 = 3 ∧ z.1 1 k 4 = 2) → z.1 1 k 6 = -1)
/-- credits, weight -/
def K2 (z : ZT) (k : Nat) : Prop := (0 ≤ (z.1 1 k 9).toInt ∧ (z.1 1 k 9).toInt ≤ 32) ∧ 1 ≤ (z.1 1 k 1).toInt ∧ (z.1 1 k 1).toInt ≤ 4
/-- small numbers -/
def upto (x : Int32) (T : Nat) : Prop := ∃ t, t ≤ T ∧ x = Int32.ofNat t
def K3 (z : ZT) (k T S : Nat) : Prop := upto (z.1 1 k 12) 4 ∧ upto (z.1 1 k 8) S ∧ upto (z.1 1 k 7) T ∧ upto (z.1 1 k 24) S ∧ upto (z.1 1 k 10) S
def K5 (z : ZT) (k : Nat) : Prop := ZL z k ∧ upto (z.1 1 k 17) 3 ∧ upto (z.1 1 k 34) 63
def K6 (z : ZT) (k : Nat) : Prop := b01 (z.1 1 k 5) ∧ b01 (z.1 1 k 19) ∧ b01 (z.1 1 k 25) ∧ b01 (z.1 1 k 30) ∧ b01 (z.1 1 k 31)
def KG (z : ZT) (k T S : Nat) : Prop := K1 z k ∧ K2 z k ∧ K3 z k T S ∧ ZP z k ∧ K5 z k ∧ K6 z k
def KM (z : ZT) (T : Nat) : Prop := lkL z ∧ ((z.1 0 0 4 = -1 ∧ z.1 0 0 5 = -1) ∨ (z.1 0 0 4 ≠ -1 ∧ z.1 0 0 5 = z.1 0 0 10)) ∧ z.1 0 0 2 = Int32.ofNat T
def ZI (z : ZT) (T S : Nat) : Prop := ZF z ∧ KM z T ∧ ∀ k, k < zn z → KG z k T S
section ZIS
variable {z z' : ZT} {κ i j k T S : Nat} {v : Int32}
/-- the places of a guest that KG looks at -/
def kgp (j : Nat) : Bool := j == 1 || j == 3 || j == 4 || j == 5 || j == 6 || j == 7 || j == 8 || j == 9 || j == 10 || j == 12 || j == 17 || j == 19 || j == 24 || j == 25 || j == 30 || j == 31 || j == 34 || j == 35 || j == 36
theorem KG_of (h : KG z k T S) (e : ∀ j, kgp j = true → z'.1 1 k j = z.1 1 k j) (e4 : z'.1 4 k = z.1 4 k) (e5 : z'.1 5 k = z.1 5 k) (e6 : z'.1 6 k = z.1 6 k) (e14 : z'.1 14 k = z.1 14 k) : KG z' k T S := by
  unfold KG K1 K2 K3 ZP K5 ZL K6
  rw [e 1 rfl, e 3 rfl, e 4 rfl, e 5 rfl, e 6 rfl, e 7 rfl, e 8 rfl, e 9 rfl, e 10 rfl, e 12 rfl, e 17 rfl, e 19 rfl, e 24 rfl, e 25 rfl, e 30 rfl, e 31 rfl, e 34 rfl, e 35 rfl, e 36 rfl, e4, e5, e6, e14]
  exact h
theorem upto_mono {x : Int32} {T T' : Nat} (h : upto x T) (hT : T ≤ T') : upto x T' := by
  obtain ⟨t, t1, t2⟩ := h
  exact ⟨t, by omega, t2⟩
/-- places that the link does not look at -/
def hrm (κ j : Nat) : Bool := κ == 4 || κ == 5 || κ == 6 || κ == 8 || κ == 14 || κ == 15 || κ == 16 || (κ == 1 && kgp j) || (κ == 0 && (j == 2 || j == 4 || j == 5 || j == 6 || j == 10 || j == 11))
theorem ZI_zs (h : ZI z T S) (hh : hrm κ j = false) : ZI (zs z κ i j v) T S := by
  have hk : κ ≠ 4 ∧ κ ≠ 5 ∧ κ ≠ 6 ∧ κ ≠ 8 ∧ κ ≠ 14 ∧ κ ≠ 15 ∧ κ ≠ 16 := by
    simp [hrm] at hh
    omega
  have h1 : κ ≠ 1 ∨ kgp j = false := by
    by_cases e : κ = 1
    · subst e
      right
      simpa [hrm] using hh
    · exact Or.inl e
  have h0 : κ ≠ 0 ∨ (j ≠ 2 ∧ j ≠ 4 ∧ j ≠ 5 ∧ j ≠ 6 ∧ j ≠ 10 ∧ j ≠ 11) := by
    by_cases e : κ = 0
    · subst e
      right
      simp [hrm] at hh
      omega
    · exact Or.inl e
  have e0 : ∀ j', j' = 2 ∨ j' = 4 ∨ j' = 5 ∨ j' = 6 ∨ j' = 10 ∨ j' = 11 → (zs z κ i j v).1 0 0 j' = z.1 0 0 j' := by
    intro j' hj'
    rcases h0 with e | e
    · rw [zs_k _ (Ne.symm e)]
    · exact zs_j _ (by omega)
  refine ⟨ZF_zs h.1 (by omega), ?_, fun k hk' => KG_of (h.2.2 k hk') (fun j' hj' => ?_) ?_ ?_ ?_ ?_⟩
  · unfold KM lkL
    rw [e0 2 (by decide), e0 4 (by decide), e0 5 (by decide), e0 6 (by decide), e0 10 (by decide), e0 11 (by decide)]
    exact h.2.1
  · rcases h1 with e | e
    · rw [zs_k _ (Ne.symm e)]
    · exact zs_j _ (fun q => by rw [q] at hj'; rw [hj'] at e; cases e)
  · rw [zs_k _ (by omega)]
  · rw [zs_k _ (by omega)]
  · rw [zs_k _ (by omega)]
  · rw [zs_k _ (by omega)]
end ZIS
