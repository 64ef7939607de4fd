/-! writes into arrays, frames, pasts -/
section PUT2
variable {g : GC} {A : Nat → Nat → Nat} {σ : AH} {z : ZT} {v : Int32} {k p j : Nat}
theorem rc_val (q : RepC g A σ z) (hk : k < zn z) (hp : p < 6) : RepC g A (hput σ 20 (A 7 k) p (.int v)) (zs z 2 k p v) := by
  obtain ⟨q1, q2, q3, q4, q5, q6, q7, q8, q9, q10, q11⟩ := q
  refine ⟨Bas_put q1 (q2.2 7 k).1, q2, cT_zs q3 (by omega) (by omega), ?_, ?_, ?_, ?_, ?_, ?_, ?_, cL_zs (cL_arr q11 (fun q hq => hq 7 k)) (by omega) (by decide) (by decide) (by decide) (by decide) (by decide)⟩
  · rw [hv_tne _ (by decide)]; exact cH1_zs q4 (by omega)
  · rw [hv_tne _ (by decide)]; exact cH2_zs q5 (by omega)
  · rw [hv_tne _ (by decide)]; exact cH5_zs q6 (by omega) (by omega) (Or.inl (by omega))
  · rw [hv_tne _ (by decide)]; exact cH6_zs q7 (by omega) (by omega) (by omega) (by omega) (by omega)
  · rw [hv_tne _ (by decide)]; exact cH9_zs q8 (by omega) (by omega) (by omega)
  · intro k' hk'
    obtain ⟨x0, x1, x2⟩ := q9 k' hk'
    refine ⟨?_, ?_, ?_⟩
    · intro p' hp'
      by_cases e1 : p' = p
      · by_cases e2 : k' = k
        · subst e1; subst e2; rw [hv_same, zs_at]
        · rw [hv_ane _ (fun e => e2 (q2.1 _ _ _ _ e).2), zs_i _ e2]; exact x0 p' hp'
      · rw [hv_kne _ e1, zs_j _ e1]; exact x0 p' hp'
    · intro p' hp'
      rw [hv_ane _ (fun e => absurd (q2.1 _ _ _ _ e).1 (by decide)), zs_k _ (by decide)]; exact x1 p' hp'
    · intro hs p' hp'
      rw [zs_1j (by omega)] at hs
      rw [hv_ane _ (fun e => absurd (q2.1 _ _ _ _ e).1 (by decide)), zs_k _ (by decide)]; exact x2 hs p' hp'
  · rw [hv_tne _ (by decide)]; exact cH21_zs q10 (by omega) (by omega) (by omega) (by omega)
theorem rc_ex (q : RepC g A σ z) (hk : k < zn z) (hp : p < 5) : RepC g A (hput σ 20 (A 8 k) p (.int v)) (zs z 3 k p v) := by
  obtain ⟨q1, q2, q3, q4, q5, q6, q7, q8, q9, q10, q11⟩ := q
  refine ⟨Bas_put q1 (q2.2 8 k).1, q2, cT_zs q3 (by omega) (by omega), ?_, ?_, ?_, ?_, ?_, ?_, ?_, cL_zs (cL_arr q11 (fun q hq => hq 8 k)) (by omega) (by decide) (by decide) (by decide) (by decide) (by decide)⟩
  · rw [hv_tne _ (by decide)]; exact cH1_zs q4 (by omega)
  · rw [hv_tne _ (by decide)]; exact cH2_zs q5 (by omega)
  · rw [hv_tne _ (by decide)]; exact cH5_zs q6 (by omega) (by omega) (Or.inl (by omega))
  · rw [hv_tne _ (by decide)]; exact cH6_zs q7 (by omega) (by omega) (by omega) (by omega) (by omega)
  · rw [hv_tne _ (by decide)]; exact cH9_zs q8 (by omega) (by omega) (by omega)
  · intro k' hk'
    obtain ⟨x0, x1, x2⟩ := q9 k' hk'
    refine ⟨?_, ?_, ?_⟩
    · intro p' hp'
      rw [hv_ane _ (fun e => absurd (q2.1 _ _ _ _ e).1 (by decide)), zs_k _ (by decide)]; exact x0 p' hp'
    · intro p' hp'
      by_cases e1 : p' = p
      · by_cases e2 : k' = k
        · subst e1; subst e2; rw [hv_same, zs_at]
        · rw [hv_ane _ (fun e => e2 (q2.1 _ _ _ _ e).2), zs_i _ e2]; exact x1 p' hp'
      · rw [hv_kne _ e1, zs_j _ e1]; exact x1 p' hp'
    · intro hs p' hp'
      rw [zs_1j (by omega)] at hs
      rw [hv_ane _ (fun e => absurd (q2.1 _ _ _ _ e).1 (by decide)), zs_k _ (by decide)]; exact x2 hs p' hp'
  · rw [hv_tne _ (by decide)]; exact cH21_zs q10 (by omega) (by omega) (by omega) (by omega)
theorem rc_dsk (q : RepC g A σ z) (hk : k < zn z) (hp : p < 6) : RepC g A (hput σ 21 (A 9 k) p (.int v)) (zs z 4 k p v) := by
  obtain ⟨q1, q2, q3, q4, q5, q6, q7, q8, q9, q10, q11⟩ := q
  refine ⟨Bas_put q1 (q2.2 9 k).1, q2, cT_zs q3 (by omega) (by omega), ?_, ?_, ?_, ?_, ?_, ?_, ?_, cL_zs (cL_tag q11 (by decide) (by decide) (by decide) (by decide) (by decide)) (by omega) (by decide) (by decide) (by decide) (by decide) (by decide)⟩
  · rw [hv_tne _ (by decide)]; exact cH1_zs q4 (by omega)
  · rw [hv_tne _ (by decide)]; exact cH2_zs q5 (by omega)
  · rw [hv_tne _ (by decide)]; exact cH5_zs q6 (by omega) (by omega) (Or.inl (by omega))
  · rw [hv_tne _ (by decide)]; exact cH6_zs q7 (by omega) (by omega) (by omega) (by omega) (by omega)
  · rw [hv_tne _ (by decide)]; exact cH9_zs q8 (by omega) (by omega) (by omega)
  · rw [hv_tne _ (by decide)]; exact cH20_zs q9 (by omega) (by omega) (by omega) (by omega)
  · intro k' hk'
    obtain ⟨x0, x1, x2⟩ := q10 k' hk'
    refine ⟨?_, ?_, ?_⟩
    · intro p' hp'
      by_cases e1 : p' = p
      · by_cases e2 : k' = k
        · subst e1; subst e2; rw [hv_same, zs_at]
        · rw [hv_ane _ (fun e => e2 (q2.1 _ _ _ _ e).2), zs_i _ e2]; exact x0 p' hp'
      · rw [hv_kne _ e1, zs_j _ e1]; exact x0 p' hp'
    · intro p' hp'
      rw [hv_ane _ (fun e => absurd (q2.1 _ _ _ _ e).1 (by decide)), zs_k _ (by decide)]; exact x1 p' hp'
    · intro hs p' hp'
      rw [zs_1j (by omega)] at hs
      rw [hv_ane _ (fun e => absurd (q2.1 _ _ _ _ e).1 (by decide)), zs_k _ (by decide)]; exact x2 hs p' hp'
theorem rc_giv (q : RepC g A σ z) (hk : k < zn z) (hp : p < 6) : RepC g A (hput σ 21 (A 10 k) p (.int v)) (zs z 5 k p v) := by
  obtain ⟨q1, q2, q3, q4, q5, q6, q7, q8, q9, q10, q11⟩ := q
  refine ⟨Bas_put q1 (q2.2 10 k).1, q2, cT_zs q3 (by omega) (by omega), ?_, ?_, ?_, ?_, ?_, ?_, ?_, cL_zs (cL_tag q11 (by decide) (by decide) (by decide) (by decide) (by decide)) (by omega) (by decide) (by decide) (by decide) (by decide) (by decide)⟩
  · rw [hv_tne _ (by decide)]; exact cH1_zs q4 (by omega)
  · rw [hv_tne _ (by decide)]; exact cH2_zs q5 (by omega)
  · rw [hv_tne _ (by decide)]; exact cH5_zs q6 (by omega) (by omega) (Or.inl (by omega))
  · rw [hv_tne _ (by decide)]; exact cH6_zs q7 (by omega) (by omega) (by omega) (by omega) (by omega)
  · rw [hv_tne _ (by decide)]; exact cH9_zs q8 (by omega) (by omega) (by omega)
  · rw [hv_tne _ (by decide)]; exact cH20_zs q9 (by omega) (by omega) (by omega) (by omega)
  · intro k' hk'
    obtain ⟨x0, x1, x2⟩ := q10 k' hk'
    refine ⟨?_, ?_, ?_⟩
    · intro p' hp'
      rw [hv_ane _ (fun e => absurd (q2.1 _ _ _ _ e).1 (by decide)), zs_k _ (by decide)]; exact x0 p' hp'
    · intro p' hp'
      by_cases e1 : p' = p
      · by_cases e2 : k' = k
        · subst e1; subst e2; rw [hv_same, zs_at]
        · rw [hv_ane _ (fun e => e2 (q2.1 _ _ _ _ e).2), zs_i _ e2]; exact x1 p' hp'
      · rw [hv_kne _ e1, zs_j _ e1]; exact x1 p' hp'
    · intro hs p' hp'
      rw [zs_1j (by omega)] at hs
      rw [hv_ane _ (fun e => absurd (q2.1 _ _ _ _ e).1 (by decide)), zs_k _ (by decide)]; exact x2 hs p' hp'
theorem rc_left (q : RepC g A σ z) (hk : k < zn z) (hp : p < 6) : RepC g A (hput σ 21 (A 11 k) p (.int v)) (zs z 6 k p v) := by
  obtain ⟨q1, q2, q3, q4, q5, q6, q7, q8, q9, q10, q11⟩ := q
  refine ⟨Bas_put q1 (q2.2 11 k).1, q2, cT_zs q3 (by omega) (by omega), ?_, ?_, ?_, ?_, ?_, ?_, ?_, cL_zs (cL_tag q11 (by decide) (by decide) (by decide) (by decide) (by decide)) (by omega) (by decide) (by decide) (by decide) (by decide) (by decide)⟩
  · rw [hv_tne _ (by decide)]; exact cH1_zs q4 (by omega)
  · rw [hv_tne _ (by decide)]; exact cH2_zs q5 (by omega)
  · rw [hv_tne _ (by decide)]; exact cH5_zs q6 (by omega) (by omega) (Or.inl (by omega))
  · rw [hv_tne _ (by decide)]; exact cH6_zs q7 (by omega) (by omega) (by omega) (by omega) (by omega)
  · rw [hv_tne _ (by decide)]; exact cH9_zs q8 (by omega) (by omega) (by omega)
  · rw [hv_tne _ (by decide)]; exact cH20_zs q9 (by omega) (by omega) (by omega) (by omega)
  · intro k' hk'
    obtain ⟨x0, x1, x2⟩ := q10 k' hk'
    refine ⟨?_, ?_, ?_⟩
    · intro p' hp'
      rw [hv_ane _ (fun e => absurd (q2.1 _ _ _ _ e).1 (by decide)), zs_k _ (by decide)]; exact x0 p' hp'
    · intro p' hp'
      rw [hv_ane _ (fun e => absurd (q2.1 _ _ _ _ e).1 (by decide)), zs_k _ (by decide)]; exact x1 p' hp'
    · intro hs p' hp'
      rw [zs_1j (by omega)] at hs
      by_cases e1 : p' = p
      · by_cases e2 : k' = k
        · subst e1; subst e2; rw [hv_same, zs_at]
        · rw [hv_ane _ (fun e => e2 (q2.1 _ _ _ _ e).2), zs_i _ e2]; exact x2 hs p' hp'
      · rw [hv_kne _ e1, zs_j _ e1]; exact x2 hs p' hp'
theorem rc_f0 (q : RepC g A σ z) (hk : k < zf z) {w : Value} (hw : w = gref A v) : RepC g A (hput σ 2 (A 18 k) 0 w) (zs z 8 k 0 v) := by
  obtain ⟨q1, q2, q3, q4, q5, q6, q7, q8, q9, q10, q11⟩ := q
  subst hw
  refine ⟨Bas_put q1 (q2.2 18 k).1, q2, cT_zs q3 (by omega) (by omega), ?_, ?_, ?_, ?_, ?_, ?_, ?_, cL_zs (cL_tag q11 (by decide) (by decide) (by decide) (by decide) (by decide)) (by omega) (by decide) (by decide) (by decide) (by decide) (by decide)⟩
  · rw [hv_tne _ (by decide)]; exact cH1_zs q4 (by omega)
  · intro i hi
    obtain ⟨x0, x1, x2⟩ := q5 i hi
    by_cases e2 : i = k
    · subst e2
      exact ⟨by rw [hv_same, zs_at], by rw [hv_kne _ (by decide), zs_j _ (by decide)]; exact x1, by rw [hv_kne _ (by decide), zs_j _ (by decide)]; exact x2⟩
    · refine ⟨by rw [hv_ane _ (fun e => e2 (q2.1 _ _ _ _ e).2), zs_i _ e2]; exact x0, by rw [hv_ane _ (fun e => e2 (q2.1 _ _ _ _ e).2), zs_i _ e2]; exact x1, by rw [hv_ane _ (fun e => e2 (q2.1 _ _ _ _ e).2), zs_i _ e2]; exact x2⟩
  · rw [hv_tne _ (by decide)]; exact cH5_zs q6 (by omega) (by omega) (Or.inl (by omega))
  · rw [hv_tne _ (by decide)]; exact cH6_zs q7 (by omega) (by omega) (by omega) (by omega) (by omega)
  · rw [hv_tne _ (by decide)]; exact cH9_zs q8 (by omega) (by omega) (by omega)
  · rw [hv_tne _ (by decide)]; exact cH20_zs q9 (by omega) (by omega) (by omega) (by omega)
  · rw [hv_tne _ (by decide)]; exact cH21_zs q10 (by omega) (by omega) (by omega) (by omega)
theorem rc_f1 (q : RepC g A σ z) (hk : k < zf z) : RepC g A (hput σ 2 (A 18 k) 1 (.int v)) (zs z 8 k 1 v) := by
  obtain ⟨q1, q2, q3, q4, q5, q6, q7, q8, q9, q10, q11⟩ := q
  refine ⟨Bas_put q1 (q2.2 18 k).1, q2, cT_zs q3 (by omega) (by omega), ?_, ?_, ?_, ?_, ?_, ?_, ?_, cL_zs (cL_tag q11 (by decide) (by decide) (by decide) (by decide) (by decide)) (by omega) (by decide) (by decide) (by decide) (by decide) (by decide)⟩
  · rw [hv_tne _ (by decide)]; exact cH1_zs q4 (by omega)
  · intro i hi
    obtain ⟨x0, x1, x2⟩ := q5 i hi
    by_cases e2 : i = k
    · subst e2
      exact ⟨by rw [hv_kne _ (by decide), zs_j _ (by decide)]; exact x0, by rw [hv_same, zs_at], by rw [hv_kne _ (by decide), zs_j _ (by decide)]; exact x2⟩
    · refine ⟨by rw [hv_ane _ (fun e => e2 (q2.1 _ _ _ _ e).2), zs_i _ e2]; exact x0, by rw [hv_ane _ (fun e => e2 (q2.1 _ _ _ _ e).2), zs_i _ e2]; exact x1, by rw [hv_ane _ (fun e => e2 (q2.1 _ _ _ _ e).2), zs_i _ e2]; exact x2⟩
  · rw [hv_tne _ (by decide)]; exact cH5_zs q6 (by omega) (by omega) (Or.inl (by omega))
  · rw [hv_tne _ (by decide)]; exact cH6_zs q7 (by omega) (by omega) (by omega) (by omega) (by omega)
  · rw [hv_tne _ (by decide)]; exact cH9_zs q8 (by omega) (by omega) (by omega)
  · rw [hv_tne _ (by decide)]; exact cH20_zs q9 (by omega) (by omega) (by omega) (by omega)
  · rw [hv_tne _ (by decide)]; exact cH21_zs q10 (by omega) (by omega) (by omega) (by omega)
theorem rc_f2 (q : RepC g A σ z) (hk : k < zf z) : RepC g A (hput σ 2 (A 18 k) 2 (.int v)) (zs z 8 k 2 v) := by
  obtain ⟨q1, q2, q3, q4, q5, q6, q7, q8, q9, q10, q11⟩ := q
  refine ⟨Bas_put q1 (q2.2 18 k).1, q2, cT_zs q3 (by omega) (by omega), ?_, ?_, ?_, ?_, ?_, ?_, ?_, cL_zs (cL_tag q11 (by decide) (by decide) (by decide) (by decide) (by decide)) (by omega) (by decide) (by decide) (by decide) (by decide) (by decide)⟩
  · rw [hv_tne _ (by decide)]; exact cH1_zs q4 (by omega)
  · intro i hi
    obtain ⟨x0, x1, x2⟩ := q5 i hi
    by_cases e2 : i = k
    · subst e2
      exact ⟨by rw [hv_kne _ (by decide), zs_j _ (by decide)]; exact x0, by rw [hv_kne _ (by decide), zs_j _ (by decide)]; exact x1, by rw [hv_same, zs_at]⟩
    · refine ⟨by rw [hv_ane _ (fun e => e2 (q2.1 _ _ _ _ e).2), zs_i _ e2]; exact x0, by rw [hv_ane _ (fun e => e2 (q2.1 _ _ _ _ e).2), zs_i _ e2]; exact x1, by rw [hv_ane _ (fun e => e2 (q2.1 _ _ _ _ e).2), zs_i _ e2]; exact x2⟩
  · rw [hv_tne _ (by decide)]; exact cH5_zs q6 (by omega) (by omega) (Or.inl (by omega))
  · rw [hv_tne _ (by decide)]; exact cH6_zs q7 (by omega) (by omega) (by omega) (by omega) (by omega)
  · rw [hv_tne _ (by decide)]; exact cH9_zs q8 (by omega) (by omega) (by omega)
  · rw [hv_tne _ (by decide)]; exact cH20_zs q9 (by omega) (by omega) (by omega) (by omega)
  · rw [hv_tne _ (by decide)]; exact cH21_zs q10 (by omega) (by omega) (by omega) (by omega)
theorem rc_p3 (q : RepC g A σ z) (hk : k < zn z) : RepC g A (hput σ 9 (A 12 k) 3 (.int v)) (zs z 1 k 24 v) := by
  obtain ⟨q1, q2, q3, q4, q5, q6, q7, q8, q9, q10, q11⟩ := q
  refine ⟨Bas_put q1 (q2.2 12 k).1, q2, cT_zs q3 (by omega) (by omega), ?_, ?_, ?_, ?_, ?_, ?_, ?_, cL_zs (cL_tag q11 (by decide) (by decide) (by decide) (by decide) (by decide)) (by omega) (by decide) (by decide) (by decide) (by decide) (by decide)⟩
  · rw [hv_tne _ (by decide)]; exact cH1_zs q4 (by omega)
  · rw [hv_tne _ (by decide)]; exact cH2_zs q5 (by omega)
  · rw [hv_tne _ (by decide)]; exact cH5_zs q6 (by omega) (by omega) (Or.inr (by decide))
  · rw [hv_tne _ (by decide)]; exact cH6_zs q7 (by omega) (by omega) (by omega) (by omega) (by omega)
  · intro k' hk' hs
    rw [zs_j _ (by decide)] at hs
    obtain ⟨x0, x1, x2, x3, x4⟩ := q8 k' hk' hs
    by_cases e2 : k' = k
    · subst e2
      exact ⟨by rw [hv_kne _ (by decide)]; exact x0, by rw [hv_kne _ (by decide)]; exact x1, by rw [hv_kne _ (by decide)]; exact x2, by rw [hv_same, zs_at], by rw [hv_kne _ (by decide), zs_j _ (by decide)]; exact x4⟩
    · refine ⟨by rw [hv_ane _ (fun e => e2 (q2.1 _ _ _ _ e).2)]; exact x0, by rw [hv_ane _ (fun e => e2 (q2.1 _ _ _ _ e).2)]; exact x1, by rw [hv_ane _ (fun e => e2 (q2.1 _ _ _ _ e).2)]; exact x2, by rw [hv_ane _ (fun e => e2 (q2.1 _ _ _ _ e).2), zs_i _ e2]; exact x3, by rw [hv_ane _ (fun e => e2 (q2.1 _ _ _ _ e).2), zs_i _ e2]; exact x4⟩
  · rw [hv_tne _ (by decide)]; exact cH20_zs q9 (by omega) (by omega) (by omega) (by omega)
  · rw [hv_tne _ (by decide)]; exact cH21_zs q10 (by omega) (by omega) (by omega) (by omega)
theorem rc_p4 (q : RepC g A σ z) (hk : k < zn z) : RepC g A (hput σ 9 (A 12 k) 4 (.int v)) (zs z 1 k 25 v) := by
  obtain ⟨q1, q2, q3, q4, q5, q6, q7, q8, q9, q10, q11⟩ := q
  refine ⟨Bas_put q1 (q2.2 12 k).1, q2, cT_zs q3 (by omega) (by omega), ?_, ?_, ?_, ?_, ?_, ?_, ?_, cL_zs (cL_tag q11 (by decide) (by decide) (by decide) (by decide) (by decide)) (by omega) (by decide) (by decide) (by decide) (by decide) (by decide)⟩
  · rw [hv_tne _ (by decide)]; exact cH1_zs q4 (by omega)
  · rw [hv_tne _ (by decide)]; exact cH2_zs q5 (by omega)
  · rw [hv_tne _ (by decide)]; exact cH5_zs q6 (by omega) (by omega) (Or.inr (by decide))
  · rw [hv_tne _ (by decide)]; exact cH6_zs q7 (by omega) (by omega) (by omega) (by omega) (by omega)
  · intro k' hk' hs
    rw [zs_j _ (by decide)] at hs
    obtain ⟨x0, x1, x2, x3, x4⟩ := q8 k' hk' hs
    by_cases e2 : k' = k
    · subst e2
      exact ⟨by rw [hv_kne _ (by decide)]; exact x0, by rw [hv_kne _ (by decide)]; exact x1, by rw [hv_kne _ (by decide)]; exact x2, by rw [hv_kne _ (by decide), zs_j _ (by decide)]; exact x3, by rw [hv_same, zs_at]⟩
    · refine ⟨by rw [hv_ane _ (fun e => e2 (q2.1 _ _ _ _ e).2)]; exact x0, by rw [hv_ane _ (fun e => e2 (q2.1 _ _ _ _ e).2)]; exact x1, by rw [hv_ane _ (fun e => e2 (q2.1 _ _ _ _ e).2)]; exact x2, by rw [hv_ane _ (fun e => e2 (q2.1 _ _ _ _ e).2), zs_i _ e2]; exact x3, by rw [hv_ane _ (fun e => e2 (q2.1 _ _ _ _ e).2), zs_i _ e2]; exact x4⟩
  · rw [hv_tne _ (by decide)]; exact cH20_zs q9 (by omega) (by omega) (by omega) (by omega)
  · rw [hv_tne _ (by decide)]; exact cH21_zs q10 (by omega) (by omega) (by omega) (by omega)
theorem rc_p0 (q : RepC g A σ z) (hs : z.1 1 k 31 ≠ 1) (hj : j = 24 ∨ j = 25) : RepC g A σ (zs z 1 k j v) := by
  obtain ⟨q1, q2, q3, q4, q5, q6, q7, q8, q9, q10, q11⟩ := q
  refine ⟨q1, q2, cT_zs q3 (by omega) (by omega), cH1_zs q4 (by omega), cH2_zs q5 (by omega), cH5_zs q6 (by omega) (by omega) (Or.inr (by rcases hj with e | e <;> (subst e; decide))), cH6_zs q7 (by omega) (by omega) (by omega) (by omega) (by omega), ?_, cH20_zs q9 (by omega) (by omega) (by omega) (by omega), cH21_zs q10 (by omega) (by omega) (by omega) (by omega), cL_zs q11 (by omega) (by decide) (by decide) (by decide) (by decide) (by decide)⟩
  intro k' hk' hs'
  rw [zs_j _ (by omega)] at hs'
  obtain ⟨x0, x1, x2, x3, x4⟩ := q8 k' hk' hs'
  have e2 : k' ≠ k := fun e => hs (by rw [← e]; exact hs')
  exact ⟨x0, x1, x2, by rw [zs_i _ e2]; exact x3, by rw [zs_i _ e2]; exact x4⟩
theorem rc_left0 (q : RepC g A σ z) (hk : k < zn z) : RepC g A (hput σ 5 (A 4 k) 16 .null) (zs z 1 k 30 0) := by
  obtain ⟨q1, q2, q3, q4, q5, q6, q7, q8, q9, q10, q11⟩ := q
  refine ⟨Bas_put q1 (q2.2 4 k).1, q2, ?_, ?_, ?_, ?_, ?_, ?_, ?_, ?_, cL_zs (cL_tag q11 (by decide) (by decide) (by decide) (by decide) (by decide)) (by omega) (by decide) (by decide) (by decide) (by decide) (by decide)⟩
  · refine ⟨q3.1, q3.2.1, fun k' hk' => ?_⟩
    obtain ⟨x0, x1, x2, x3, x4, x5, x6, x7⟩ := q3.2.2 k' hk'
    refine ⟨x0, x1, x2, x3, x4, x5, fun hs => ?_, by rw [zs_j _ (by decide)]; exact x7⟩
    by_cases e2 : k' = k
    · subst e2; rw [zs_at] at hs; exact absurd hs (by decide)
    · rw [zs_i _ e2] at hs; exact x6 hs
  · rw [hv_tne _ (by decide)]; exact cH1_zs q4 (by omega)
  · rw [hv_tne _ (by decide)]; exact cH2_zs q5 (by omega)
  · intro k' hk'
    obtain ⟨x0, x1, x2, x3, x4, x5, x6, x7⟩ := q6 k' hk'
    refine ⟨by rw [hv_kne _ (by decide)]; exact x0, by rw [hv_kne _ (by decide)]; exact x1, by rw [hv_kne _ (by decide)]; exact x2, by rw [hv_kne _ (by decide)]; exact x3, by rw [hv_kne _ (by decide)]; exact x4, ?_, by rw [hv_kne _ (by decide), zs_j _ (by decide)]; exact x6, fun j' hj' => ?_⟩
    · by_cases e2 : k' = k
      · subst e2; rw [hv_same, zs_at, if_neg (by decide)]
      · rw [hv_ane _ (fun e => e2 (q2.1 _ _ _ _ e).2), zs_i _ e2]; exact x5
    · have hn := gsc_no hj'
      rw [hv_kne _ (by omega), zs_j _ (by omega)]; exact x7 j' hj'
  · rw [hv_tne _ (by decide)]; exact cH6_zs q7 (by omega) (by omega) (by omega) (by omega) (by omega)
  · rw [hv_tne _ (by decide)]; exact cH9_zs q8 (by omega) (by omega) (by omega)
  · rw [hv_tne _ (by decide)]; exact cH20_zs q9 (by omega) (by omega) (by omega) (by omega)
  · rw [hv_tne _ (by decide)]
    intro k' hk'
    obtain ⟨x0, x1, x2⟩ := q10 k' hk'
    refine ⟨x0, x1, fun hs => ?_⟩
    by_cases e2 : k' = k
    · subst e2; rw [zs_at] at hs; exact absurd hs (by decide)
    · rw [zs_i _ e2] at hs; exact x2 hs
theorem rc_past0 (q : RepC g A σ z) (hk : k < zn z) : RepC g A (hput σ 5 (A 4 k) 21 .null) (zs z 1 k 31 0) := by
  obtain ⟨q1, q2, q3, q4, q5, q6, q7, q8, q9, q10, q11⟩ := q
  have no : ∀ k', (zs z 1 k 31 0).1 1 k' 31 = 1 → k' ≠ k ∧ z.1 1 k' 31 = 1 := by
    intro k' hs
    by_cases e2 : k' = k
    · subst e2; rw [zs_at] at hs; exact absurd hs (by decide)
    · rw [zs_i _ e2] at hs; exact ⟨e2, hs⟩
  refine ⟨Bas_put q1 (q2.2 4 k).1, q2, ?_, ?_, ?_, ?_, ?_, ?_, ?_, ?_, ?_⟩
  · refine ⟨q3.1, q3.2.1, fun k' hk' => ?_⟩
    obtain ⟨x0, x1, x2, x3, x4, x5, x6, x7⟩ := q3.2.2 k' hk'
    exact ⟨x0, x1, x2, x3, x4, x5, by rw [zs_j _ (by decide)]; exact x6, fun hs => x7 (no k' hs).2⟩
  · rw [hv_tne _ (by decide)]; exact cH1_zs q4 (by omega)
  · rw [hv_tne _ (by decide)]; exact cH2_zs q5 (by omega)
  · intro k' hk'
    obtain ⟨x0, x1, x2, x3, x4, x5, x6, x7⟩ := q6 k' hk'
    refine ⟨by rw [hv_kne _ (by decide)]; exact x0, by rw [hv_kne _ (by decide)]; exact x1, by rw [hv_kne _ (by decide)]; exact x2, by rw [hv_kne _ (by decide)]; exact x3, by rw [hv_kne _ (by decide)]; exact x4, by rw [hv_kne _ (by decide), zs_j _ (by decide)]; exact x5, ?_, fun j' hj' => ?_⟩
    · by_cases e2 : k' = k
      · subst e2; rw [hv_same, zs_at, if_neg (by decide)]
      · rw [hv_ane _ (fun e => e2 (q2.1 _ _ _ _ e).2), zs_i _ e2]; exact x6
    · have hn := gsc_no hj'
      rw [hv_kne _ (by omega), zs_j _ (by omega)]; exact x7 j' hj'
  · rw [hv_tne _ (by decide)]
    intro k' hk'
    obtain ⟨x0, x1⟩ := q7 k' hk'
    refine ⟨by rw [zs_j _ (by decide), zs_j _ (by decide)]; exact x0, fun hs => by rw [zs_j _ (by decide), zs_j _ (by decide)]; exact x1 (no k' hs).2⟩
  · rw [hv_tne _ (by decide)]
    intro k' hk' hs
    rw [zs_j _ (by decide), zs_j _ (by decide)]; exact q8 k' hk' (no k' hs).2
  · rw [hv_tne _ (by decide)]
    intro k' hk'
    obtain ⟨x0, x1, x2⟩ := q9 k' hk'
    exact ⟨x0, x1, fun hs => x2 (no k' hs).2⟩
  · rw [hv_tne _ (by decide)]; exact cH21_zs q10 (by omega) (by omega) (by omega) (by omega)
  · obtain ⟨y0, y1⟩ := cL_tag (t := 5) (c := A 4 k) (k := 21) (v := .null) q11 (by decide) (by decide) (by decide) (by decide) (by decide)
    refine ⟨y0, fun k' hk' => ⟨(y1 k' hk').1, fun hs => (y1 k' hk').2 (no k' hs).2⟩⟩
end PUT2
