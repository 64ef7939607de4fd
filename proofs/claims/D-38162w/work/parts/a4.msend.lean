/-! the model's send, out -/
section MSEND
variable {g : GC} {n : Nat} {M M' : Nat → Nat → Nat} {σ σ' : AH} {z z' : ZT} {k p i : Nat} {Q : AQ}
theorem dn_n (z : ZT) (k : Nat) : (dnZ z k).2 = z.2 := rfl
theorem w_send (h : RepW g M σ z) (hk : k < zn z) (h3 : zn z ≤ 3) (ht : okG z k) (hR : okR z (z.1 0 0 4)) (hkd : zkd z k = 3) (hQ : ∀ σ', SW g 60 M M σ σ' (sendZ z k) 0 0 → Q (.inl none) σ') : aw g 189 0 [some (.ref (M 41 0)), some (.ref (M 44 k))] [] σ Q := by
  have hp := ht.1.2.2
  have hl : zpl z k < z.2 2 k ∧ z.2 2 k ≤ 12 := ⟨ht.2, ht.1.1⟩
  have fin : ∀ z1 : ZT, (∀ κ i j, κ = 9 ∨ (κ = 1 ∧ j = 22) → z1.1 κ i j = z.1 κ i j) → finishZ z1 k 0 = dnZ z1 k ∨ zkd z1 k ≠ 3 := by
    intro z1 hz
    by_cases e : zkd z1 k = 3
    · left
      rw [finish_dn]
      unfold mkZ
      rw [e, if_neg (by decide), if_neg (by decide), if_neg (by decide), if_neg (by decide)]
    · exact Or.inr e
  have kd : ∀ z1 : ZT, (∀ κ i j, κ = 9 ∨ (κ = 1 ∧ j = 22) → z1.1 κ i j = z.1 κ i j) → finishZ z1 k 0 = dnZ z1 k := by
    intro z1 hz
    rcases fin z1 hz with e | e
    · exact e
    · refine absurd ?_ e
      unfold zkd zpl
      rw [hz _ _ _ (Or.inr ⟨rfl, rfl⟩), hz _ _ _ (Or.inl rfl)]
      exact hkd
  have x4 := wa_51 h hk (p := 4) (by decide)
  have x1 := wa_51 h hk (p := 1) (by decide)
  have e4 : (4 : Int32).toNatClampNeg < 5 := by decide
  have eL := wL h
  have t3 := eL.1
  have e75 : (∃ t, t ∈ [7] ∧ some 7 = some t) = True := eq_true ⟨7, by decide, rfl⟩
  by_cases h4 : z.1 1 k 12 = 4
  · have e1 : sendZ z k = zs (zs z 3 k 4 (z.1 3 k 4 + 1)) 1 k 9 (mn0 (z.1 1 k 9)) := by unfold sendZ; rw [if_pos h4]
    rw [e1] at hQ
    have S := SW_s (SW_a (p := 4) (SW_refl 60 h) hk 51 3 (v := z.1 3 k 4 + 1) (by decide) rfl (by decide)) hk 9 9 (v := mn0 (z.1 1 k 9)) rfl (by decide)
    have := hQ _ S
    simp (config := {decide := true}) only [vRf_r, vRf_n, vI_i, vL_l, vD_d, pI_i, pR_r, pR_n, vZ_0, vZ_1, ct_i, ct_r, ct_n, ct_l, ct_d, csum_n, csum_c, kt_v, kt_n, kt_e, oc_n, oc_i, oc_r, oc_l, oc_u, oc_d, true_and, and_true, Bool.and_true, Bool.true_and, ne_eq, not_false_eq_true, not_true_eq_false, implies_true, false_imp, true_imp_iff, hsz_put, hsl_put, hln_put, hty_put, hsz_new, hsl_new, hln_new, hty_new, Nat.zero_add, Nat.add_zero, eq_self, decide_true, t32_0, t32_1, t32_2, t32_3, t32_4, t32_5, t32_6, hv_same, hv_kne, hv_tne, hv_ntne, hv_nsame, hv_ctne, hty_cpy, hln_cpy, hsz_cpy, hsl_cpy, vrn, vnr, vrr, A189_0, A189_1, A189_4, A189_5, A189_8, A189_9, A189_12, A189_13, A189_14, A189_15, A189_16, A189_17, A189_18, A189_19, A189_20, A189_21, A189_24, A189_27, A189_30, A189_31, A189_32, A189_35, A189_38, A189_39, A189_42, A189_43, A189_46, A189_47, A189_50, A189_51, A189_54, A189_57, A189_58, A189_61, A189_62, A189_65, A189_66, A189_67, A189_68, A189_69, A189_70, A189_71, A189_72, A189_73, A189_76, A189_77, A189_78, A189_81, A189_82, A189_85, wgt h hk, wg_0 h hk, wg_2 h hk, wg_3 h hk, wg_4 h hk, wg_5 h hk, wg_6 h hk, wg_7 h hk, wg_8 h hk, wg_9 h hk, wg_10 h hk, wg_11 h hk, wg_12 h hk, wg_18 h hk, wg_19 h hk, wg_20 h hk, wg_21 h hk, wg_22 h hk, wg_23 h hk, wg_24 h hk, wg_25 h hk, wg_26 h hk, wg_27 h hk, wg_29 h hk, wg_1 h hk, wg_30 h hk, wg_31 h hk, wg_13 h hk, wg_14 h hk, wg_15 h hk, wg_16 h hk, wg_17 h hk, wg_28 h hk, wt_47 h hk, wl_47 h hk, wt_48 h hk, wl_48 h hk, wt_49 h hk, wl_49 h hk, wt_50 h hk, wl_50 h hk, wt_51 h hk, wl_51 h hk, wt_52 h hk, wl_52 h hk, wgAe h, wgBe h, h4, x4, l_min]
    exact this
  · have step : ∀ σ1 z1, SW g 60 M M σ σ1 z1 0 0 → (∀ κ i j, κ = 9 ∨ (κ = 1 ∧ j = 22) → z1.1 κ i j = z.1 κ i j) → z1.2 = z.2 → (∀ σ', SW g 60 M M σ σ' (finishZ (zs z1 1 k 12 (z1.1 1 k 12 + 1)) k 0) 0 0 → Q (.inl none) σ') → aw g 189 71 [some (.ref (M 41 0)), some (.ref (M 44 k))] [] σ1 Q := by
      intro σ1 z1 S hz h2 hQ1
      have hk1 : k < zn z1 := by unfold zn; rw [h2]; exact hk
      have S2 := SW_s S hk1 12 12 (v := z1.1 1 k 12 + 1) rfl (by decide)
      have hz2 : ∀ κ i j, κ = 9 ∨ (κ = 1 ∧ j = 22) → (zs z1 1 k 12 (z1.1 1 k 12 + 1)).1 κ i j = z.1 κ i j := by
        intro κ i j e
        rw [← hz κ i j e]
        rcases e with e | e
        · rw [e, zs_k _ (by decide)]
        · rw [e.1, e.2, zs_j _ (by decide)]
      simp (config := {decide := true}) only [vRf_r, vRf_n, vI_i, vL_l, vD_d, pI_i, pR_r, pR_n, vZ_0, vZ_1, ct_i, ct_r, ct_n, ct_l, ct_d, csum_n, csum_c, kt_v, kt_n, kt_e, oc_n, oc_i, oc_r, oc_l, oc_u, oc_d, true_and, and_true, Bool.and_true, Bool.true_and, ne_eq, not_false_eq_true, not_true_eq_false, implies_true, false_imp, true_imp_iff, hsz_put, hsl_put, hln_put, hty_put, hsz_new, hsl_new, hln_new, hty_new, Nat.zero_add, Nat.add_zero, eq_self, decide_true, t32_0, t32_1, t32_2, t32_3, t32_4, t32_5, t32_6, hv_same, hv_kne, hv_tne, hv_ntne, hv_nsame, hv_ctne, hty_cpy, hln_cpy, hsz_cpy, hsl_cpy, vrn, vnr, vrr, A189_71, A189_72, A189_73, A189_76, A189_77, A189_78, A189_81, A189_82, wgt S.1 hk1, wg_0 S.1 hk1, wg_2 S.1 hk1, wg_3 S.1 hk1, wg_4 S.1 hk1, wg_5 S.1 hk1, wg_6 S.1 hk1, wg_7 S.1 hk1, wg_8 S.1 hk1, wg_9 S.1 hk1, wg_10 S.1 hk1, wg_11 S.1 hk1, wg_12 S.1 hk1, wg_18 S.1 hk1, wg_19 S.1 hk1, wg_20 S.1 hk1, wg_21 S.1 hk1, wg_22 S.1 hk1, wg_23 S.1 hk1, wg_24 S.1 hk1, wg_25 S.1 hk1, wg_26 S.1 hk1, wg_27 S.1 hk1, wg_29 S.1 hk1, wg_1 S.1 hk1, wg_30 S.1 hk1, wg_31 S.1 hk1, wg_13 S.1 hk1, wg_14 S.1 hk1, wg_15 S.1 hk1, wg_16 S.1 hk1, wg_17 S.1 hk1, wg_28 S.1 hk1, wt_47 S.1 hk1, wl_47 S.1 hk1, wt_48 S.1 hk1, wl_48 S.1 hk1, wt_49 S.1 hk1, wl_49 S.1 hk1, wt_50 S.1 hk1, wl_50 S.1 hk1, wt_51 S.1 hk1, wl_51 S.1 hk1, wt_52 S.1 hk1, wl_52 S.1 hk1, wgAe S.1, wgBe S.1]
      refine w_isDone (n := 60) S2.1 hk1 ?_ ?_ ?_
      · have e := hz2 1 k 22 (Or.inr ⟨rfl, rfl⟩)
        unfold zpl
        rw [e]; exact hp
      · have e := hz2 1 k 22 (Or.inr ⟨rfl, rfl⟩)
        unfold zpl
        rw [e, zs_2, h2]; exact hl
      · intro σ' S3
        simp (config := {decide := true}) only [vRf_r, vRf_n, vI_i, vL_l, vD_d, pI_i, pR_r, pR_n, vZ_0, vZ_1, ct_i, ct_r, ct_n, ct_l, ct_d, csum_n, csum_c, kt_v, kt_n, kt_e, oc_n, oc_i, oc_r, oc_l, oc_u, oc_d, true_and, and_true, Bool.and_true, Bool.true_and, ne_eq, not_false_eq_true, not_true_eq_false, implies_true, false_imp, true_imp_iff, hsz_put, hsl_put, hln_put, hty_put, hsz_new, hsl_new, hln_new, hty_new, Nat.zero_add, Nat.add_zero, eq_self, decide_true, t32_0, t32_1, t32_2, t32_3, t32_4, t32_5, t32_6, hv_same, hv_kne, hv_tne, hv_ntne, hv_nsame, hv_ctne, hty_cpy, hln_cpy, hsz_cpy, hsl_cpy, vrn, vnr, vrr, A189_85]
        refine hQ1 σ' ?_
        rw [kd _ hz2]
        exact SW_trans S2 S3
    by_cases h0 : z.1 1 k 12 = 0 ∧ z.1 0 0 4 ≠ Int32.ofNat k
    · have e1 : sendZ z k = finishZ (zs (zs z 3 k 1 (z.1 3 k 1 + 1)) 1 k 12 (z.1 1 k 12 + 1)) k 0 := by unfold sendZ; rw [if_neg h4, if_pos h0]
      rw [e1] at hQ
      have S := SW_a (p := 1) (SW_refl 60 h) hk 51 3 (v := z.1 3 k 1 + 1) (by decide) rfl (by decide)
      have nx := step _ _ S (fun κ i j e => by rw [zs_k _ (by omega)]) rfl (fun σ' S => hQ σ' (by rw [zs_k (a := 1) _ (by decide)] at S; exact S))
      have h12 := h0.1
      rcases hR with e | ⟨j, j1, e⟩
      · simp (config := {decide := true}) only [vRf_r, vRf_n, vI_i, vL_l, vD_d, pI_i, pR_r, pR_n, vZ_0, vZ_1, ct_i, ct_r, ct_n, ct_l, ct_d, csum_n, csum_c, kt_v, kt_n, kt_e, oc_n, oc_i, oc_r, oc_l, oc_u, oc_d, true_and, and_true, Bool.and_true, Bool.true_and, ne_eq, not_false_eq_true, not_true_eq_false, implies_true, false_imp, true_imp_iff, hsz_put, hsl_put, hln_put, hty_put, hsz_new, hsl_new, hln_new, hty_new, Nat.zero_add, Nat.add_zero, eq_self, decide_true, t32_0, t32_1, t32_2, t32_3, t32_4, t32_5, t32_6, hv_same, hv_kne, hv_tne, hv_ntne, hv_nsame, hv_ctne, hty_cpy, hln_cpy, hsz_cpy, hsl_cpy, vrn, vnr, vrr, A189_0, A189_1, A189_4, A189_5, A189_8, A189_9, A189_12, A189_13, A189_14, A189_15, A189_16, A189_17, A189_18, A189_19, A189_20, A189_21, A189_24, A189_27, A189_30, A189_31, A189_32, A189_35, A189_38, A189_39, A189_42, A189_43, A189_46, A189_47, A189_50, A189_51, A189_54, A189_57, A189_58, A189_61, A189_62, A189_65, A189_66, A189_67, A189_68, A189_69, A189_70, wgt h hk, wg_0 h hk, wg_2 h hk, wg_3 h hk, wg_4 h hk, wg_5 h hk, wg_6 h hk, wg_7 h hk, wg_8 h hk, wg_9 h hk, wg_10 h hk, wg_11 h hk, wg_12 h hk, wg_18 h hk, wg_19 h hk, wg_20 h hk, wg_21 h hk, wg_22 h hk, wg_23 h hk, wg_24 h hk, wg_25 h hk, wg_26 h hk, wg_27 h hk, wg_29 h hk, wg_1 h hk, wg_30 h hk, wg_31 h hk, wg_13 h hk, wg_14 h hk, wg_15 h hk, wg_16 h hk, wg_17 h hk, wg_28 h hk, wt_47 h hk, wl_47 h hk, wt_48 h hk, wl_48 h hk, wt_49 h hk, wl_49 h hk, wt_50 h hk, wl_50 h hk, wt_51 h hk, wl_51 h hk, wt_52 h hk, wl_52 h hk, wgAe h, wgBe h, wwt h, ww_0 h, ww_1 h, ww_2 h, ww_3 h, ww_4 h, ww_5 h, ww_6 h, ww_7 h, ww_8 h, ww_9 h, wgAe h, wgBe h, h12, e, x1]
        exact nx
      · have g1 : (Int32.ofNat j = -1) = False := n32_m1 (by omega)
        have g2 : (M 44 j = M 44 k) = False := eq_false (fun q => h0.2 (by rw [e, (h.2.1.1 _ _ _ _ q).2]))
        have e5 := fun Q' => l_get (Q := Q') eL j1
        simp (config := {decide := true}) only [vRf_r, vRf_n, vI_i, vL_l, vD_d, pI_i, pR_r, pR_n, vZ_0, vZ_1, ct_i, ct_r, ct_n, ct_l, ct_d, csum_n, csum_c, kt_v, kt_n, kt_e, oc_n, oc_i, oc_r, oc_l, oc_u, oc_d, true_and, and_true, Bool.and_true, Bool.true_and, ne_eq, not_false_eq_true, not_true_eq_false, implies_true, false_imp, true_imp_iff, hsz_put, hsl_put, hln_put, hty_put, hsz_new, hsl_new, hln_new, hty_new, Nat.zero_add, Nat.add_zero, eq_self, decide_true, t32_0, t32_1, t32_2, t32_3, t32_4, t32_5, t32_6, hv_same, hv_kne, hv_tne, hv_ntne, hv_nsame, hv_ctne, hty_cpy, hln_cpy, hsz_cpy, hsl_cpy, vrn, vnr, vrr, A189_0, A189_1, A189_4, A189_5, A189_8, A189_9, A189_12, A189_13, A189_14, A189_15, A189_16, A189_17, A189_18, A189_19, A189_20, A189_21, A189_24, A189_27, A189_30, A189_31, A189_32, A189_35, A189_38, A189_39, A189_42, A189_43, A189_46, A189_47, A189_50, A189_51, A189_54, A189_57, A189_58, A189_61, A189_62, A189_65, A189_66, A189_67, A189_68, A189_69, A189_70, wgt h hk, wg_0 h hk, wg_2 h hk, wg_3 h hk, wg_4 h hk, wg_5 h hk, wg_6 h hk, wg_7 h hk, wg_8 h hk, wg_9 h hk, wg_10 h hk, wg_11 h hk, wg_12 h hk, wg_18 h hk, wg_19 h hk, wg_20 h hk, wg_21 h hk, wg_22 h hk, wg_23 h hk, wg_24 h hk, wg_25 h hk, wg_26 h hk, wg_27 h hk, wg_29 h hk, wg_1 h hk, wg_30 h hk, wg_31 h hk, wg_13 h hk, wg_14 h hk, wg_15 h hk, wg_16 h hk, wg_17 h hk, wg_28 h hk, wt_47 h hk, wl_47 h hk, wt_48 h hk, wl_48 h hk, wt_49 h hk, wl_49 h hk, wt_50 h hk, wl_50 h hk, wt_51 h hk, wl_51 h hk, wt_52 h hk, wl_52 h hk, wgAe h, wgBe h, wwt h, ww_0 h, ww_1 h, ww_2 h, ww_3 h, ww_4 h, ww_5 h, ww_6 h, ww_7 h, ww_8 h, ww_9 h, wgAe h, wgBe h, h12, e, g1, g2, e5, x1, t3]
        exact nx
    · have e1 : sendZ z k = finishZ (zs z 1 k 12 (z.1 1 k 12 + 1)) k 0 := by unfold sendZ; rw [if_neg h4, if_neg h0]
      rw [e1] at hQ
      have nx := step _ _ (SW_refl 60 h) (fun κ i j e => rfl) rfl hQ
      by_cases h12 : z.1 1 k 12 = 0
      · have e : z.1 0 0 4 = Int32.ofNat k := Classical.byContradiction (fun e => h0 ⟨h12, e⟩)
        have g1 : (Int32.ofNat k = -1) = False := n32_m1 (by omega)
        have e5 := fun Q' => l_get (Q := Q') eL hk
        simp (config := {decide := true}) only [vRf_r, vRf_n, vI_i, vL_l, vD_d, pI_i, pR_r, pR_n, vZ_0, vZ_1, ct_i, ct_r, ct_n, ct_l, ct_d, csum_n, csum_c, kt_v, kt_n, kt_e, oc_n, oc_i, oc_r, oc_l, oc_u, oc_d, true_and, and_true, Bool.and_true, Bool.true_and, ne_eq, not_false_eq_true, not_true_eq_false, implies_true, false_imp, true_imp_iff, hsz_put, hsl_put, hln_put, hty_put, hsz_new, hsl_new, hln_new, hty_new, Nat.zero_add, Nat.add_zero, eq_self, decide_true, t32_0, t32_1, t32_2, t32_3, t32_4, t32_5, t32_6, hv_same, hv_kne, hv_tne, hv_ntne, hv_nsame, hv_ctne, hty_cpy, hln_cpy, hsz_cpy, hsl_cpy, vrn, vnr, vrr, A189_0, A189_1, A189_4, A189_5, A189_8, A189_9, A189_12, A189_13, A189_14, A189_15, A189_16, A189_17, A189_18, A189_19, A189_20, A189_21, A189_24, A189_27, A189_30, A189_31, A189_32, A189_35, A189_38, A189_39, A189_42, A189_43, A189_46, A189_47, A189_50, A189_51, A189_54, A189_57, A189_58, A189_61, A189_62, A189_65, A189_66, A189_67, A189_68, A189_69, A189_70, wgt h hk, wg_0 h hk, wg_2 h hk, wg_3 h hk, wg_4 h hk, wg_5 h hk, wg_6 h hk, wg_7 h hk, wg_8 h hk, wg_9 h hk, wg_10 h hk, wg_11 h hk, wg_12 h hk, wg_18 h hk, wg_19 h hk, wg_20 h hk, wg_21 h hk, wg_22 h hk, wg_23 h hk, wg_24 h hk, wg_25 h hk, wg_26 h hk, wg_27 h hk, wg_29 h hk, wg_1 h hk, wg_30 h hk, wg_31 h hk, wg_13 h hk, wg_14 h hk, wg_15 h hk, wg_16 h hk, wg_17 h hk, wg_28 h hk, wt_47 h hk, wl_47 h hk, wt_48 h hk, wl_48 h hk, wt_49 h hk, wl_49 h hk, wt_50 h hk, wl_50 h hk, wt_51 h hk, wl_51 h hk, wt_52 h hk, wl_52 h hk, wgAe h, wgBe h, wwt h, ww_0 h, ww_1 h, ww_2 h, ww_3 h, ww_4 h, ww_5 h, ww_6 h, ww_7 h, ww_8 h, ww_9 h, wgAe h, wgBe h, h12, e, g1, e5, t3]
        exact nx
      · simp (config := {decide := true}) only [vRf_r, vRf_n, vI_i, vL_l, vD_d, pI_i, pR_r, pR_n, vZ_0, vZ_1, ct_i, ct_r, ct_n, ct_l, ct_d, csum_n, csum_c, kt_v, kt_n, kt_e, oc_n, oc_i, oc_r, oc_l, oc_u, oc_d, true_and, and_true, Bool.and_true, Bool.true_and, ne_eq, not_false_eq_true, not_true_eq_false, implies_true, false_imp, true_imp_iff, hsz_put, hsl_put, hln_put, hty_put, hsz_new, hsl_new, hln_new, hty_new, Nat.zero_add, Nat.add_zero, eq_self, decide_true, t32_0, t32_1, t32_2, t32_3, t32_4, t32_5, t32_6, hv_same, hv_kne, hv_tne, hv_ntne, hv_nsame, hv_ctne, hty_cpy, hln_cpy, hsz_cpy, hsl_cpy, vrn, vnr, vrr, A189_0, A189_1, A189_4, A189_5, A189_8, A189_9, A189_12, A189_13, A189_14, A189_15, A189_16, A189_17, A189_18, A189_19, A189_20, A189_21, A189_24, A189_27, A189_30, A189_31, A189_32, A189_35, A189_38, A189_39, A189_42, A189_43, A189_46, A189_47, A189_50, A189_51, A189_54, A189_57, A189_58, A189_61, A189_62, A189_65, A189_66, A189_67, A189_68, A189_69, A189_70, wgt h hk, wg_0 h hk, wg_2 h hk, wg_3 h hk, wg_4 h hk, wg_5 h hk, wg_6 h hk, wg_7 h hk, wg_8 h hk, wg_9 h hk, wg_10 h hk, wg_11 h hk, wg_12 h hk, wg_18 h hk, wg_19 h hk, wg_20 h hk, wg_21 h hk, wg_22 h hk, wg_23 h hk, wg_24 h hk, wg_25 h hk, wg_26 h hk, wg_27 h hk, wg_29 h hk, wg_1 h hk, wg_30 h hk, wg_31 h hk, wg_13 h hk, wg_14 h hk, wg_15 h hk, wg_16 h hk, wg_17 h hk, wg_28 h hk, wt_47 h hk, wl_47 h hk, wt_48 h hk, wl_48 h hk, wt_49 h hk, wl_49 h hk, wt_50 h hk, wl_50 h hk, wt_51 h hk, wl_51 h hk, wt_52 h hk, wl_52 h hk, wgAe h, wgBe h, wwt h, ww_0 h, ww_1 h, ww_2 h, ww_3 h, ww_4 h, ww_5 h, ww_6 h, ww_7 h, ww_8 h, ww_9 h, wgAe h, wgBe h, h12, h4]
        exact nx
/-- what an occupied frame holds, as the model tells it -/
theorem inZ_of (hF : ZF z) (h3 : zn z ≤ 3) (hi : i < zf z) (h0 : z.1 8 i 0 ≠ -1) : ∃ k p, k < zn z ∧ p < 6 ∧ z.1 8 i 0 = Int32.ofNat k ∧ z.1 8 i 1 = Int32.ofNat p ∧ z.1 14 k p = 0 ∧ z.1 15 k p = Int32.ofNat i ∧ z.1 16 k p = z.1 8 i 2 ∧ inZ z i = Int32.ofNat (8 * k + p) ∧ Int32.ofNat (8 * k + p) / 8 = Int32.ofNat k ∧ Int32.ofNat (8 * k + p) - Int32.ofNat (8 * k + p) / 8 * 8 = Int32.ofNat p := by
  obtain ⟨k, p, k1, p1, x1, x2, x3, x4, x5⟩ := hF.2 i hi h0
  have hkp : k = 0 ∨ k = 1 ∨ k = 2 := by omega
  have hpp : p = 0 ∨ p = 1 ∨ p = 2 ∨ p = 3 ∨ p = 4 ∨ p = 5 := by omega
  refine ⟨k, p, k1, p1, x1, x2, x3, x4, x5, ?_, ?_, ?_⟩
  · unfold inZ; rw [if_neg h0, x1, x2, n32_8]
  · rcases hkp with e | e | e <;> subst e <;> rcases hpp with e | e | e | e | e | e <;> subst e <;> decide
  · rcases hkp with e | e | e <;> subst e <;> rcases hpp with e | e | e | e | e | e <;> subst e <;> decide
/-- what is in a frame goes to the disk -/
theorem w_out (h : RepW g M σ z) (hn : zn z ≤ 3 ∧ zf z ≤ 10) (hF : ZF z) (hi : i < zf z) (hQ : ∀ σ', SW g 60 M M σ σ' (if z.1 8 i 0 = -1 then z else toDiskZ z i) 0 0 → Q (.inl (some (.int (if z.1 8 i 0 = -1 then 0 else 1)))) σ') : aw g 179 0 [some (.ref (M 41 0)), some (.int (Int32.ofNat i)), none] [] σ Q := by
  have e1 := fun Q' => w_in (Q := Q') h hn hF hi
  by_cases h0 : z.1 8 i 0 = -1
  · have e2 : inZ z i = -1 := if_pos h0
    rw [if_pos h0, if_pos h0] at hQ
    have := hQ _ (SW_refl 60 h)
    simp (config := {decide := true}) only [vRf_r, vRf_n, vI_i, vL_l, vD_d, pI_i, pR_r, pR_n, vZ_0, vZ_1, ct_i, ct_r, ct_n, ct_l, ct_d, csum_n, csum_c, kt_v, kt_n, kt_e, oc_n, oc_i, oc_r, oc_l, oc_u, oc_d, true_and, and_true, Bool.and_true, Bool.true_and, ne_eq, not_false_eq_true, not_true_eq_false, implies_true, false_imp, true_imp_iff, hsz_put, hsl_put, hln_put, hty_put, hsz_new, hsl_new, hln_new, hty_new, Nat.zero_add, Nat.add_zero, eq_self, decide_true, t32_0, t32_1, t32_2, t32_3, t32_4, t32_5, t32_6, hv_same, hv_kne, hv_tne, hv_ntne, hv_nsame, hv_ctne, hty_cpy, hln_cpy, hsz_cpy, hsl_cpy, vrn, vnr, vrr, A179_0, A179_1, A179_2, A179_5, A179_6, A179_7, A179_8, A179_11, A179_12, A179_13, A179_14, A179_17, A179_18, A179_20, A179_21, A179_24, A179_24r, A179_27, A179_30, A179_31, A179_33, A179_34, A179_35, A179_36, A179_37, A179_38, A179_41, A179_42, A179_43, A179_46, A179_47, wwt h, ww_0 h, ww_1 h, ww_2 h, ww_3 h, ww_4 h, ww_5 h, ww_6 h, ww_7 h, ww_8 h, ww_9 h, wgAe h, wgBe h, e1, e2]
    exact this
  · obtain ⟨k, p, k1, p1, x1, x2, x3, x4, x5, x6, x7, x8⟩ := inZ_of hF hn.1 hi h0
    rw [if_neg h0, if_neg h0] at hQ
    rw [x7] at x8
    have g1 : (Int32.ofNat (8 * k + p) = -1) = False := n32_m1 (by omega)
    have e5 := fun Q' => l_get (Q := Q') (wL h) k1
    have t3 := (wL h).1
    have e75 : (∃ t, t ∈ [7] ∧ some 7 = some t) = True := eq_true ⟨7, by decide, rfl⟩
    have b1 : (Int32.ofNat p < 0) = False := n32_neg (by omega)
    have b2 : (Int32.ofNat p).toNatClampNeg = p := n32_nat (by omega)
    have b3 : (p < 6) = True := eq_true p1
    have b4 : (Int32.ofNat k).toNatClampNeg = k := n32_nat (by omega)
    have S := SW_w (SW_a (p := p) (SW_refl 60 h) k1 48 14 (v := 1) (by decide) rfl p1) 8 8 (v := z.1 0 0 8 + 1) rfl (by decide)
    have := hQ _ (SW_z S (by
      unfold toDiskZ
      rw [x1, x2, b4, b2]
      exact VE_zs (VE_hr (VE_hr (VE_hr (VE_hr (VE_refl _) rfl) rfl) rfl) rfl)))
    simp (config := {decide := true}) only [vRf_r, vRf_n, vI_i, vL_l, vD_d, pI_i, pR_r, pR_n, vZ_0, vZ_1, ct_i, ct_r, ct_n, ct_l, ct_d, csum_n, csum_c, kt_v, kt_n, kt_e, oc_n, oc_i, oc_r, oc_l, oc_u, oc_d, true_and, and_true, Bool.and_true, Bool.true_and, ne_eq, not_false_eq_true, not_true_eq_false, implies_true, false_imp, true_imp_iff, hsz_put, hsl_put, hln_put, hty_put, hsz_new, hsl_new, hln_new, hty_new, Nat.zero_add, Nat.add_zero, eq_self, decide_true, t32_0, t32_1, t32_2, t32_3, t32_4, t32_5, t32_6, hv_same, hv_kne, hv_tne, hv_ntne, hv_nsame, hv_ctne, hty_cpy, hln_cpy, hsz_cpy, hsl_cpy, vrn, vnr, vrr, A179_0, A179_1, A179_2, A179_5, A179_6, A179_7, A179_8, A179_11, A179_12, A179_13, A179_14, A179_17, A179_18, A179_20, A179_21, A179_24, A179_24r, A179_27, A179_30, A179_31, A179_33, A179_34, A179_35, A179_36, A179_37, A179_38, A179_41, A179_42, A179_43, A179_46, A179_47, wwt h, ww_0 h, ww_1 h, ww_2 h, ww_3 h, ww_4 h, ww_5 h, ww_6 h, ww_7 h, ww_8 h, ww_9 h, wgAe h, wgBe h, wgt h k1, wg_0 h k1, wg_2 h k1, wg_3 h k1, wg_4 h k1, wg_5 h k1, wg_6 h k1, wg_7 h k1, wg_8 h k1, wg_9 h k1, wg_10 h k1, wg_11 h k1, wg_12 h k1, wg_18 h k1, wg_19 h k1, wg_20 h k1, wg_21 h k1, wg_22 h k1, wg_23 h k1, wg_24 h k1, wg_25 h k1, wg_26 h k1, wg_27 h k1, wg_29 h k1, wg_1 h k1, wg_30 h k1, wg_31 h k1, wg_13 h k1, wg_14 h k1, wg_15 h k1, wg_16 h k1, wg_17 h k1, wg_28 h k1, wt_47 h k1, wl_47 h k1, wt_48 h k1, wl_48 h k1, wt_49 h k1, wl_49 h k1, wt_50 h k1, wl_50 h k1, wt_51 h k1, wl_51 h k1, wt_52 h k1, wl_52 h k1, wgAe h, wgBe h, e1, x6, x7, x8, g1, e5, e75, t3, b1, b2, b3]
    exact this
end MSEND
