/-! the link is kept: one place is written -/
section KEEP
variable {z z' : ZT} {κ i j k T S : Nat} {v : Int32}
theorem zs_o {a b c : Nat} (h : a ≠ κ ∨ b ≠ i ∨ c ≠ j) : (zs z κ i j v).1 a b c = z.1 a b c := if_neg (fun q => by omega)
theorem K1_zs (h : K1 z k) (hj : κ ≠ 1 ∨ i ≠ k ∨ (j ≠ 3 ∧ j ≠ 4 ∧ j ≠ 6 ∧ j ≠ 35 ∧ j ≠ 36)) : K1 (zs z κ i j v) k := by
  unfold K1
  rw [zs_o (c := 3) (by omega), zs_o (c := 4) (by omega), zs_o (c := 6) (by omega), zs_o (c := 35) (by omega), zs_o (c := 36) (by omega)]
  exact h
theorem K2_zs (h : K2 z k) (hj : κ ≠ 1 ∨ i ≠ k ∨ (j ≠ 1 ∧ j ≠ 9)) : K2 (zs z κ i j v) k := by
  unfold K2
  rw [zs_o (c := 1) (by omega), zs_o (c := 9) (by omega)]
  exact h
theorem K3_zs (h : K3 z k T S) (hj : κ ≠ 1 ∨ i ≠ k ∨ (j ≠ 12 ∧ j ≠ 8 ∧ j ≠ 7 ∧ j ≠ 24 ∧ j ≠ 10)) : K3 (zs z κ i j v) k T S := by
  unfold K3
  rw [zs_o (c := 12) (by omega), zs_o (c := 8) (by omega), zs_o (c := 7) (by omega), zs_o (c := 24) (by omega), zs_o (c := 10) (by omega)]
  exact h
theorem ZP_zs (h : ZP z k) (hj : i ≠ k ∨ (κ ≠ 4 ∧ κ ≠ 5 ∧ κ ≠ 14)) : ZP (zs z κ i j v) k := by
  intro p hp
  rw [zs_o (a := 5) (by omega), zs_o (a := 4) (by omega), zs_o (a := 14) (by omega)]
  exact h p hp
theorem K5_zs (h : K5 z k) (hj : i ≠ k ∨ (κ ≠ 6 ∧ (κ ≠ 1 ∨ (j ≠ 17 ∧ j ≠ 34 ∧ j ≠ 30)))) : K5 (zs z κ i j v) k := by
  obtain ⟨h1, h2, h3⟩ := h
  unfold K5 ZL
  rw [zs_o (c := 17) (by omega), zs_o (c := 34) (by omega), zs_o (c := 30) (by omega)]
  refine ⟨fun e => ?_, h2, h3⟩
  obtain ⟨l, l1, l2, l3⟩ := h1 e
  exact ⟨l, l1, l2, fun p hp => by rw [zs_o (a := 6) (by omega)]; exact l3 p hp⟩
theorem K6_zs (h : K6 z k) (hj : κ ≠ 1 ∨ i ≠ k ∨ (j ≠ 5 ∧ j ≠ 19 ∧ j ≠ 25 ∧ j ≠ 30 ∧ j ≠ 31)) : K6 (zs z κ i j v) k := by
  unfold K6
  rw [zs_o (c := 5) (by omega), zs_o (c := 19) (by omega), zs_o (c := 25) (by omega), zs_o (c := 30) (by omega), zs_o (c := 31) (by omega)]
  exact h
theorem KG_i (h : KG z k T S) (hi : i ≠ k) : KG (zs z κ i j v) k T S := ⟨K1_zs h.1 (by omega), K2_zs h.2.1 (by omega), K3_zs h.2.2.1 (by omega), ZP_zs h.2.2.2.1 (by omega), K5_zs h.2.2.2.2.1 (by omega), K6_zs h.2.2.2.2.2 (by omega)⟩
theorem KM_zs (h : KM z T) (hk : κ ≠ 0) : KM (zs z κ i j v) T := by
  unfold KM lkL
  rw [zs_k _ (Ne.symm hk)]
  exact h
/-- one place of guest k: what is left to show -/
theorem ZI_k (h : ZI z T S) (hκ : κ ≠ 0 ∧ κ ≠ 8 ∧ κ ≠ 14 ∧ κ ≠ 15 ∧ κ ≠ 16) (hg : k < zn z → KG (zs z κ k j v) k T S) : ZI (zs z κ k j v) T S := by
  refine ⟨ZF_zs h.1 hκ.2, KM_zs h.2.1 hκ.1, fun i hi => ?_⟩
  by_cases e : i = k
  · rw [e] at hi ⊢; exact hg hi
  · exact KG_i (h.2.2 i hi) (Ne.symm e)
/-- time, pending, done, since, queue -/
theorem ZI_k3 (h : ZI z T S) (hj : j = 12 ∨ j = 8 ∨ j = 7 ∨ j = 24 ∨ j = 10) (hv : k < zn z → upto v (if j = 12 then 4 else if j = 7 then T else S)) : ZI (zs z 1 k j v) T S := by
  refine ZI_k h (by decide) (fun hk => ?_)
  obtain ⟨a, b, c, d, e, f⟩ := h.2.2 k hk
  refine ⟨K1_zs a (by omega), K2_zs b (by omega), ?_, ZP_zs d (by omega), K5_zs e (by omega), K6_zs f (by omega)⟩
  obtain ⟨c1, c2, c3, c4, c5⟩ := c
  have hv := hv hk
  unfold K3
  rcases hj with q | q | q | q | q <;> subst q
  · rw [zs_at, zs_o (c := 8) (by omega), zs_o (c := 7) (by omega), zs_o (c := 24) (by omega), zs_o (c := 10) (by omega)]
    exact ⟨hv, c2, c3, c4, c5⟩
  · rw [zs_at, zs_o (c := 12) (by omega), zs_o (c := 7) (by omega), zs_o (c := 24) (by omega), zs_o (c := 10) (by omega)]
    exact ⟨c1, hv, c3, c4, c5⟩
  · rw [zs_at, zs_o (c := 12) (by omega), zs_o (c := 8) (by omega), zs_o (c := 24) (by omega), zs_o (c := 10) (by omega)]
    exact ⟨c1, c2, hv, c4, c5⟩
  · rw [zs_at, zs_o (c := 12) (by omega), zs_o (c := 8) (by omega), zs_o (c := 7) (by omega), zs_o (c := 10) (by omega)]
    exact ⟨c1, c2, c3, hv, c5⟩
  · rw [zs_at, zs_o (c := 12) (by omega), zs_o (c := 8) (by omega), zs_o (c := 7) (by omega), zs_o (c := 24) (by omega)]
    exact ⟨c1, c2, c3, c4, hv⟩
/-- credits -/
theorem ZI_k9 (h : ZI z T S) (hv : k < zn z → 0 ≤ v.toInt ∧ v.toInt ≤ 32) : ZI (zs z 1 k 9 v) T S := by
  refine ZI_k h (by decide) (fun hk => ?_)
  obtain ⟨a, b, c, d, e, f⟩ := h.2.2 k hk
  refine ⟨K1_zs a (by omega), ?_, K3_zs c (by omega), ZP_zs d (by omega), K5_zs e (by omega), K6_zs f (by omega)⟩
  unfold K2
  rw [zs_at, zs_o (c := 1) (by omega)]
  exact ⟨hv hk, b.2⟩
end KEEP
