/-! one write, one update -/
section PUT
variable {g : GC} {A : Nat → Nat → Nat} {σ : AH} {z : ZT} {h : Nat → Nat → Value} {κ i j : Nat} {v : Int32}
theorem zs_1j {n' : Nat} (h : κ ≠ 1 ∨ j ≠ n') (k : Nat) : (zs z κ i j v).1 1 k n' = z.1 1 k n' := by
  rcases h with h | h
  · rw [zs_k _ (Ne.symm h)]
  · rw [zs_j _ (Ne.symm h)]
theorem cT_zs (q : cT A σ z) (h1 : κ ≠ 1 ∨ j ≠ 30) (h2 : κ ≠ 1 ∨ j ≠ 31) : cT A σ (zs z κ i j v) := by
  refine ⟨q.1, q.2.1, fun k hk => ?_⟩
  rw [zs_1j h1, zs_1j h2]
  exact q.2.2 k hk
theorem cH1_zs (q : cH1 A h z) (h1 : κ ≠ 0) : cH1 A h (zs z κ i j v) := by
  unfold cH1
  rw [zs_k _ (Ne.symm h1)]
  exact q
theorem cH2_zs (q : cH2 A h z) (h1 : κ ≠ 8) : cH2 A h (zs z κ i j v) := by
  unfold cH2
  rw [zs_k _ (Ne.symm h1)]
  exact q
theorem cH5_zs (q : cH5 A h z) (h1 : κ ≠ 1 ∨ j ≠ 30) (h2 : κ ≠ 1 ∨ j ≠ 31) (h3 : κ ≠ 1 ∨ gsc j = false) : cH5 A h (zs z κ i j v) := by
  intro k hk
  obtain ⟨x0, x1, x2, x3, x4, x5, x6, x7⟩ := q k hk
  refine ⟨x0, x1, x2, x3, x4, by rw [zs_1j h1]; exact x5, by rw [zs_1j h2]; exact x6, fun j' hj' => ?_⟩
  rw [zs_1j (n' := j') (h3.imp_right fun e q => by rw [q, hj'] at e; cases e)]
  exact x7 j' hj'
theorem cH6_zs (q : cH6 A h z) (h1 : κ ≠ 1 ∨ j ≠ 22) (h2 : κ ≠ 1 ∨ j ≠ 23) (h3 : κ ≠ 1 ∨ j ≠ 31) (h4 : κ ≠ 1 ∨ j ≠ 32) (h5 : κ ≠ 1 ∨ j ≠ 33) : cH6 A h (zs z κ i j v) := by
  intro k hk
  rw [zs_1j h1, zs_1j h2, zs_1j h3, zs_1j h4, zs_1j h5]
  exact q k hk
theorem cH9_zs (q : cH9 A h z) (h1 : κ ≠ 1 ∨ j ≠ 24) (h2 : κ ≠ 1 ∨ j ≠ 25) (h3 : κ ≠ 1 ∨ j ≠ 31) : cH9 A h (zs z κ i j v) := by
  intro k hk
  rw [zs_1j h1, zs_1j h2, zs_1j h3]
  exact q k hk
theorem cH20_zs (q : cH20 A h z) (h1 : κ ≠ 1 ∨ j ≠ 31) (h2 : κ ≠ 2) (h3 : κ ≠ 3) (h4 : κ ≠ 7) : cH20 A h (zs z κ i j v) := by
  intro k hk
  rw [zs_1j h1, zs_k _ (Ne.symm h2), zs_k _ (Ne.symm h3), zs_k _ (Ne.symm h4)]
  exact q k hk
theorem cH21_zs (q : cH21 A h z) (h1 : κ ≠ 1 ∨ j ≠ 30) (h2 : κ ≠ 4) (h3 : κ ≠ 5) (h4 : κ ≠ 6) : cH21 A h (zs z κ i j v) := by
  intro k hk
  rw [zs_1j h1, zs_k _ (Ne.symm h2), zs_k _ (Ne.symm h3), zs_k _ (Ne.symm h4)]
  exact q k hk
theorem Bas_put (q : Bas g σ) {t a k : Nat} {x : Value} (ha : gB g ≤ a) : Bas g (hput σ t a k x) := Bas_kp q (kp_put (W := fun y => y = a) (fun _ => rfl)) (fun y e => by rw [e]; exact ha)
/-- what the component does not hold -/
def mod1 (κ j : Nat) : Bool := (κ == 0 && (j == 10 || j == 11)) || (κ == 1 && (j == 34 || j == 35 || j == 36)) || κ == 14 || κ == 15 || κ == 16
theorem msc_no {j : Nat} (h : msc j = true) : j ≠ 0 ∧ j ≠ 1 ∧ j ≠ 3 ∧ j ≠ 4 ∧ j ≠ 10 ∧ j ≠ 11 := by
  refine ⟨?_, ?_, ?_, ?_, ?_, ?_⟩ <;> (intro e; subst e; revert h; decide)
theorem gsc_no {j : Nat} (h : gsc j = true) : j ≠ 0 ∧ j ≠ 2 ∧ j ≠ 13 ∧ j ≠ 14 ∧ j ≠ 15 ∧ j ≠ 16 ∧ j ≠ 21 ∧ j ≠ 22 ∧ j ≠ 23 ∧ j ≠ 24 ∧ j ≠ 25 ∧ j ≠ 30 ∧ j ≠ 31 ∧ j ≠ 32 ∧ j ≠ 33 := by
  refine ⟨?_, ?_, ?_, ?_, ?_, ?_, ?_, ?_, ?_, ?_, ?_, ?_, ?_, ?_, ?_⟩ <;> (intro e; subst e; revert h; decide)
theorem rc_mod (q : RepC g A σ z) (hm : mod1 κ j = true) : RepC g A σ (zs z κ i j v) := by
  obtain ⟨q1, q2, q3, q4, q5, q6, q7, q8, q9, q10, q11⟩ := q
  have hk : (κ = 0 ∧ (j = 10 ∨ j = 11)) ∨ (κ = 1 ∧ (j = 34 ∨ j = 35 ∨ j = 36)) ∨ κ = 14 ∨ κ = 15 ∨ κ = 16 := by
    simpa [mod1, or_assoc] using hm
  refine ⟨q1, q2, cT_zs q3 (by omega) (by omega), ?_, cH2_zs q5 (by omega), cH5_zs q6 (by omega) (by omega) ?_, cH6_zs q7 (by omega) (by omega) (by omega) (by omega) (by omega), cH9_zs q8 (by omega) (by omega) (by omega), cH20_zs q9 (by omega) (by omega) (by omega) (by omega), cH21_zs q10 (by omega) (by omega) (by omega) (by omega), cL_zs q11 (by omega) (by omega) (by omega) (by omega) (by omega) (by omega)⟩
  · obtain ⟨x0, x1, x2, x3, x4⟩ := q4
    by_cases h0 : κ = 0
    · refine ⟨x0, x1, by rw [zs_j _ (by omega)]; exact x2, by rw [zs_j _ (by omega)]; exact x3, fun j' hj' => ?_⟩
      have := msc_no hj'
      rw [zs_j _ (by omega)]
      exact x4 j' hj'
    · exact cH1_zs ⟨x0, x1, x2, x3, x4⟩ h0
  · by_cases h1 : κ = 1
    · right
      have h2 : j = 34 ∨ j = 35 ∨ j = 36 := by omega
      rcases h2 with e | e | e <;> (subst e; decide)
    · exact Or.inl h1
theorem rc_g (q : RepC g A σ z) {k : Nat} (hk : k < zn z) (hj : gsc j = true) : RepC g A (hput σ 5 (A 4 k) j (.int v)) (zs z 1 k j v) := by
  obtain ⟨q1, q2, q3, q4, q5, q6, q7, q8, q9, q10, q11⟩ := q
  have hn := gsc_no hj
  refine ⟨Bas_put q1 (q2.2 4 k).1, q2, cT_zs q3 (by omega) (by omega), ?_, ?_, ?_, ?_, ?_, ?_, ?_, cL_zs (cL_tag q11 (by decide) (by decide) (by decide) (by decide) (by decide)) (by omega) (by decide) (by decide) (by decide) (by decide) (by decide)⟩
  · rw [hv_tne _ (by decide)]; exact cH1_zs q4 (by decide)
  · rw [hv_tne _ (by decide)]; exact cH2_zs q5 (by decide)
  · intro k' hk'
    obtain ⟨x0, x1, x2, x3, x4, x5, x6, x7⟩ := q6 k' hk'
    refine ⟨by rw [hv_kne _ (by omega)]; exact x0, by rw [hv_kne _ (by omega)]; exact x1, by rw [hv_kne _ (by omega)]; exact x2, by rw [hv_kne _ (by omega)]; exact x3, by rw [hv_kne _ (by omega)]; exact x4, by rw [hv_kne _ (by omega), zs_j _ (by omega)]; exact x5, by rw [hv_kne _ (by omega), zs_j _ (by omega)]; exact x6, fun j' hj' => ?_⟩
    by_cases e1 : j' = j
    · by_cases e2 : k' = k
      · subst e1; subst e2; rw [hv_same, zs_at]
      · rw [hv_ane _ (fun e => e2 (q2.1 _ _ _ _ e).2), zs_i _ e2]; exact x7 j' hj'
    · rw [hv_kne _ e1, zs_j _ e1]; exact x7 j' hj'
  · rw [hv_tne _ (by decide)]; exact cH6_zs q7 (by omega) (by omega) (by omega) (by omega) (by omega)
  · rw [hv_tne _ (by decide)]; exact cH9_zs q8 (by omega) (by omega) (by omega)
  · rw [hv_tne _ (by decide)]; exact cH20_zs q9 (by omega) (by decide) (by decide) (by decide)
  · rw [hv_tne _ (by decide)]; exact cH21_zs q10 (by omega) (by decide) (by decide) (by decide)
theorem rc_m (q : RepC g A σ z) (hj : msc j = true) : RepC g A (hput σ 1 (A 1 0) j (.int v)) (zs z 0 0 j v) := by
  obtain ⟨q1, q2, q3, q4, q5, q6, q7, q8, q9, q10, q11⟩ := q
  have hn := msc_no hj
  refine ⟨Bas_put q1 (q2.2 1 0).1, q2, cT_zs q3 (by omega) (by omega), ?_, ?_, ?_, ?_, ?_, ?_, ?_, cL_zs (cL_tag q11 (by decide) (by decide) (by decide) (by decide) (by decide)) (by omega) (by decide) (by decide) (by decide) (by decide) (by decide)⟩
  · obtain ⟨x0, x1, x2, x3, x4⟩ := q4
    refine ⟨by rw [hv_kne _ (by omega)]; exact x0, by rw [hv_kne _ (by omega)]; exact x1, by rw [hv_kne _ (by omega), zs_j _ (by omega)]; exact x2, by rw [hv_kne _ (by omega), zs_j _ (by omega)]; exact x3, fun j' hj' => ?_⟩
    by_cases e1 : j' = j
    · subst e1; rw [hv_same, zs_at]
    · rw [hv_kne _ e1, zs_j _ e1]; exact x4 j' hj'
  · rw [hv_tne _ (by decide)]; exact cH2_zs q5 (by omega)
  · rw [hv_tne _ (by decide)]; exact cH5_zs q6 (by omega) (by omega) (Or.inl (by decide))
  · rw [hv_tne _ (by decide)]; exact cH6_zs q7 (by omega) (by omega) (by omega) (by omega) (by omega)
  · rw [hv_tne _ (by decide)]; exact cH9_zs q8 (by omega) (by omega) (by omega)
  · rw [hv_tne _ (by decide)]; exact cH20_zs q9 (by omega) (by omega) (by omega) (by omega)
  · rw [hv_tne _ (by decide)]; exact cH21_zs q10 (by omega) (by omega) (by omega) (by omega)
/-- latest, inWork -/
theorem rc_r (q : RepC g A σ z) (hj : j = 3 ∨ j = 4) {w : Value} (hw : w = gref A v) : RepC g A (hput σ 1 (A 1 0) j w) (zs z 0 0 j v) := by
  subst hw
  obtain ⟨q1, q2, q3, q4, q5, q6, q7, q8, q9, q10, q11⟩ := q
  refine ⟨Bas_put q1 (q2.2 1 0).1, q2, cT_zs q3 (by omega) (by omega), ?_, ?_, ?_, ?_, ?_, ?_, ?_, cL_zs (cL_tag q11 (by decide) (by decide) (by decide) (by decide) (by decide)) (by omega) (by decide) (by decide) (by decide) (by decide) (by decide)⟩
  · obtain ⟨x0, x1, x2, x3, x4⟩ := q4
    refine ⟨by rw [hv_kne _ (by omega)]; exact x0, by rw [hv_kne _ (by omega)]; exact x1, ?_, ?_, fun j' hj' => ?_⟩
    · rcases hj with e | e <;> subst e
      · rw [hv_same, zs_at]
      · rw [hv_kne _ (by decide), zs_j _ (by decide)]; exact x2
    · rcases hj with e | e <;> subst e
      · rw [hv_kne _ (by decide), zs_j _ (by decide)]; exact x3
      · rw [hv_same, zs_at]
    · have hn := msc_no hj'
      rw [hv_kne _ (by omega), zs_j _ (by omega)]; exact x4 j' hj'
  · rw [hv_tne _ (by decide)]; exact cH2_zs q5 (by omega)
  · rw [hv_tne _ (by decide)]; exact cH5_zs q6 (by omega) (by omega) (Or.inl (by decide))
  · rw [hv_tne _ (by decide)]; exact cH6_zs q7 (by omega) (by omega) (by omega) (by omega) (by omega)
  · rw [hv_tne _ (by decide)]; exact cH9_zs q8 (by omega) (by omega) (by omega)
  · rw [hv_tne _ (by decide)]; exact cH20_zs q9 (by omega) (by omega) (by omega) (by omega)
  · rw [hv_tne _ (by decide)]; exact cH21_zs q10 (by omega) (by omega) (by omega) (by omega)
/-- a mind's place (22), mark (23) -/
theorem rc_mi (q : RepC g A σ z) {k : Nat} (hk : k < zn z) (hj : j = 2 ∨ j = 3) : RepC g A (hput σ 6 (A 5 k) j (.int v)) (zs z 1 k (j + 20) v) := by
  obtain ⟨q1, q2, q3, q4, q5, q6, q7, q8, q9, q10, q11⟩ := q
  refine ⟨Bas_put q1 (q2.2 5 k).1, q2, cT_zs q3 (by omega) (by omega), ?_, ?_, ?_, ?_, ?_, ?_, ?_, cL_zs (cL_tag q11 (by decide) (by decide) (by decide) (by decide) (by decide)) (by omega) (by decide) (by decide) (by decide) (by decide) (by decide)⟩
  · rw [hv_tne _ (by decide)]; exact cH1_zs q4 (by decide)
  · rw [hv_tne _ (by decide)]; exact cH2_zs q5 (by decide)
  · rw [hv_tne _ (by decide)]; exact cH5_zs q6 (by omega) (by omega) (by rcases hj with e | e <;> (subst e; decide))
  · intro k' hk'
    obtain ⟨⟨x0, x1, x2, x3⟩, x4⟩ := q7 k' hk'
    refine ⟨⟨by rw [hv_kne _ (by omega)]; exact x0, by rw [hv_kne _ (by omega)]; exact x1, ?_, ?_⟩, fun hs => ?_⟩
    · by_cases e2 : k' = k
      · subst e2
        rcases hj with e | e <;> subst e
        · rw [hv_same]; exact congrArg _ (zs_at z 1 k' 22 v).symm
        · rw [hv_kne _ (by decide), zs_j _ (by decide)]; exact x2
      · rw [hv_ane _ (fun e => e2 (q2.1 _ _ _ _ e).2), zs_i _ e2]; exact x2
    · by_cases e2 : k' = k
      · subst e2
        rcases hj with e | e <;> subst e
        · rw [hv_kne _ (by decide), zs_j _ (by decide)]; exact x3
        · rw [hv_same]; exact congrArg _ (zs_at z 1 k' 23 v).symm
      · rw [hv_ane _ (fun e => e2 (q2.1 _ _ _ _ e).2), zs_i _ e2]; exact x3
    · rw [zs_j _ (by omega)] at hs
      rw [hv_ane _ (fun e => by have := (q2.1 _ _ _ _ e).1; omega), hv_ane _ (fun e => by have := (q2.1 _ _ _ _ e).1; omega), hv_ane _ (fun e => by have := (q2.1 _ _ _ _ e).1; omega), hv_ane _ (fun e => by have := (q2.1 _ _ _ _ e).1; omega), zs_j _ (by omega), zs_j _ (by omega)]
      exact x4 hs
  · rw [hv_tne _ (by decide)]; exact cH9_zs q8 (by omega) (by omega) (by omega)
  · rw [hv_tne _ (by decide)]; exact cH20_zs q9 (by omega) (by decide) (by decide) (by decide)
  · rw [hv_tne _ (by decide)]; exact cH21_zs q10 (by omega) (by decide) (by decide) (by decide)
end PUT
