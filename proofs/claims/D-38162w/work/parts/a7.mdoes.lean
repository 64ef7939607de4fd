/-! the model's touch of a page in a frame; an op -/
section MDOES
variable {g : GC} {n : Nat} {M M' : Nat → Nat → Nat} {σ σ' : AH} {z z' : ZT} {k p i q : Nat} {Q : AQ}
theorem w_use (h : RepW g M σ z) (hk : k < zn z) (hn : zn z ≤ 3 ∧ zf z ≤ 10) (hF : ZF z) (ht : okG z k) (hb : b01 (z.1 1 k 30)) (hkd : zkd z k = 1 ∨ zkd z k = 2) (hp : p < 6) (hpa : zar z k = p) (h0 : z.1 14 k p = 0) (ho : oq M σ q (zkd z k) (Int32.ofNat p)) (hQ : ∀ σ', SW g 60 M M σ σ' (touchZ z k) 0 0 → Q (.inl none) σ') : aw g 187 0 [some (.ref (M 41 0)), some (.ref (M 44 k)), some (.ref q), none, none, none] [] σ Q := by
  obtain ⟨o1, o2, o3, o4, o5⟩ := ho
  have hpl := ht.1.2.2
  have hl : zpl z k < z.2 2 k ∧ z.2 2 k ≤ 12 := ⟨ht.2, ht.1.1⟩
  have b1 : (Int32.ofNat p < 0) = False := n32_neg (by omega)
  have b2 : (Int32.ofNat p).toNatClampNeg = p := n32_nat (by omega)
  have b3 : (p < 6) = True := eq_true hp
  have v1 := wa_48 h hk hp
  obtain ⟨i, i1, fr, f15, f80, f81⟩ := frOf_in hF hn hk hp h0
  have S1 := SW_a (p := p) (SW_refl 60 h) hk 50 16 (v := z.1 0 0 2) (by decide) rfl hp
  have o3' : hv (hput σ 20 (M 50 k) p (.int (z.1 0 0 2))) 20 q 0 = .int (zkd z k) := by rw [hv_ane _ (o5 50 k)]; exact o3
  have v2 := wa_47 S1.1 hk hp
  rw [zs_k _ (by decide)] at v2
  have v23 := wg_3 S1.1 hk
  rw [zs_k _ (by decide)] at v23
  have v30 := wg_18 S1.1 hk
  rw [zs_k _ (by decide)] at v30
  have v34 := wg_22 S1.1 hk
  rw [zs_k _ (by decide)] at v34
  have k0 : ∀ z1 : ZT, z1.1 9 = z.1 9 → z1.1 10 = z.1 10 → (z1.1 1 k 22 = z.1 1 k 22) → zkd z1 k = zkd z k ∧ zar z1 k = zar z k ∧ zpl z1 k = zpl z k := by
    intro z1 e9 e10 e22
    unfold zar zkd zpl
    rw [e9, e10, e22]
    exact ⟨rfl, rfl, rfl⟩
  have z16 : ∀ v, (zs z 16 k p v).1 1 = z.1 1 := fun _ => zs_k _ (by decide)
  rcases hkd with hd | hd
  · have eT : touchZ z k = finishZ (zs (zs z 16 k p (z.1 0 0 2)) 8 i 2 (z.1 0 0 2)) k 0 := by
      unfold touchZ
      rw [hpa, fr]
      simp only []
      rw [if_neg (fun e => absurd (hd.symm.trans e.1) (by decide))]
    rw [eT, finish_dn] at hQ
    obtain ⟨e1, e2, e3⟩ := k0 (zs (zs z 16 k p (z.1 0 0 2)) 8 i 2 (z.1 0 0 2)) (by rw [zs_k _ (by decide), zs_k _ (by decide)]) (by rw [zs_k _ (by decide), zs_k _ (by decide)]) (by rw [zs_k _ (by decide), zs_k _ (by decide)])
    have eM : mkZ (zs (zs z 16 k p (z.1 0 0 2)) 8 i 2 (z.1 0 0 2)) k 0 = zs (zs (zs z 16 k p (z.1 0 0 2)) 8 i 2 (z.1 0 0 2)) 1 k 23 (irm (z.1 1 k 23 + z.1 2 k p + 1) 1000) := by
      unfold mkZ
      rw [e1, if_pos hd, e2, hpa, zs_k _ (by decide), zs_k _ (by decide), zs_k _ (by decide), zs_k _ (by decide)]
    rw [eM] at hQ
    have S2 := SW_s S1 hk 3 23 (v := irm (z.1 1 k 23 + z.1 2 k p + 1) 1000) rfl (by decide)
    have S2' := SW_z S2 (VE_zs (VE_hr (VE_refl _) rfl) : VE _ (zs (zs (zs z 16 k p (z.1 0 0 2)) 8 i 2 (z.1 0 0 2)) 1 k 23 (irm (z.1 1 k 23 + z.1 2 k p + 1) 1000)))
    have fin := w_isDone (n := 60) (Q := kt (aw g) 187 217 [some (.ref (M 41 0)), some (.ref (M 44 k)), some (.ref q), some (.int (Int32.ofNat p)), none, none] [] Q) S2'.1 hk (by
      unfold zpl
      rw [zs_j _ (by decide), zs_k _ (by decide), zs_k _ (by decide)]; exact hpl) (by
      unfold zpl
      rw [zs_j _ (by decide), zs_k _ (by decide), zs_k _ (by decide)]; exact hl) (fun σ' S3 => by
      simp (config := {decide := true}) only [vRf_r, vRf_n, vI_i, vL_l, vD_d, pI_i, pR_r, pR_n, vZ_0, vZ_1, ct_i, ct_r, ct_n, ct_l, ct_d, csum_n, csum_c, kt_v, kt_n, kt_e, oc_n, oc_i, oc_r, oc_l, oc_u, oc_d, true_and, and_true, Bool.and_true, Bool.true_and, ne_eq, not_false_eq_true, not_true_eq_false, implies_true, false_imp, true_imp_iff, hsz_put, hsl_put, hln_put, hty_put, hsz_new, hsl_new, hln_new, hty_new, Nat.zero_add, Nat.add_zero, eq_self, decide_true, t32_0, t32_1, t32_2, t32_3, t32_4, t32_5, t32_6, hv_same, hv_kne, hv_tne, hv_ntne, hv_nsame, hv_ctne, hty_cpy, hln_cpy, hsz_cpy, hsl_cpy, vrn, vnr, vrr, A187_217]
      exact hQ _ (SW_trans S2' S3))
    unfold irm at fin
    simp (config := {decide := true}) only [vRf_r, vRf_n, vI_i, vL_l, vD_d, pI_i, pR_r, pR_n, vZ_0, vZ_1, ct_i, ct_r, ct_n, ct_l, ct_d, csum_n, csum_c, kt_v, kt_n, kt_e, oc_n, oc_i, oc_r, oc_l, oc_u, oc_d, true_and, and_true, Bool.and_true, Bool.true_and, ne_eq, not_false_eq_true, not_true_eq_false, implies_true, false_imp, true_imp_iff, hsz_put, hsl_put, hln_put, hty_put, hsz_new, hsl_new, hln_new, hty_new, Nat.zero_add, Nat.add_zero, eq_self, decide_true, t32_0, t32_1, t32_2, t32_3, t32_4, t32_5, t32_6, hv_same, hv_kne, hv_tne, hv_ntne, hv_nsame, hv_ctne, hty_cpy, hln_cpy, hsz_cpy, hsl_cpy, vrn, vnr, vrr, A187_0, A187_1, A187_2, A187_3, A187_4, A187_5, A187_8, A187_9, A187_10, A187_11, A187_14, A187_15, A187_18, A187_19, A187_20, A187_21, A187_22, A187_23, A187_24, A187_25, A187_28, A187_29, A187_30, A187_31, A187_32, A187_33, A187_36, A187_37, A187_38, A187_41, A187_42, A187_45, A187_46, A187_47, A187_48, A187_49, A187_50, A187_51, A187_52, A187_55, A187_56, A187_57, A187_58, A187_61, A187_62, A187_65, A187_66, A187_68, A187_69, A187_72, A187_74, A187_75, A187_77, A187_80, A187_81, A187_82, A187_85, A187_86, A187_87, A187_88, A187_89, A187_92, A187_93, A187_95, A187_96, A187_97, A187_100, A187_101, A187_102, A187_105, A187_106, A187_108, A187_111, A187_112, A187_113, A187_114, A187_117, A187_118, A187_119, A187_122, A187_123, A187_124, A187_127, A187_128, A187_129, A187_132, A187_133, A187_134, A187_137, A187_138, A187_139, A187_140, A187_141, A187_142, A187_145, A187_146, A187_147, A187_150, A187_151, A187_154, A187_155, A187_156, A187_157, A187_158, A187_159, A187_162, A187_163, A187_166, A187_169, A187_170, A187_173, A187_174, A187_175, A187_176, A187_179, A187_180, A187_181, A187_182, A187_183, A187_186, A187_187, A187_188, A187_189, A187_192, A187_193, A187_194, A187_195, A187_198, A187_201, A187_202, A187_203, A187_206, A187_207, A187_208, A187_209, A187_210, A187_213, A187_214, wgt h hk, wg_0 h hk, wg_2 h hk, wg_3 h hk, wg_4 h hk, wg_5 h hk, wg_6 h hk, wg_7 h hk, wg_8 h hk, wg_9 h hk, wg_10 h hk, wg_11 h hk, wg_12 h hk, wg_18 h hk, wg_19 h hk, wg_20 h hk, wg_21 h hk, wg_22 h hk, wg_23 h hk, wg_24 h hk, wg_25 h hk, wg_26 h hk, wg_27 h hk, wg_29 h hk, wg_1 h hk, wg_30 h hk, wg_31 h hk, wg_13 h hk, wg_14 h hk, wg_15 h hk, wg_16 h hk, wg_17 h hk, wg_28 h hk, wt_47 h hk, wl_47 h hk, wt_48 h hk, wl_48 h hk, wt_49 h hk, wl_49 h hk, wt_50 h hk, wl_50 h hk, wt_51 h hk, wl_51 h hk, wt_52 h hk, wl_52 h hk, wgAe h, wgBe h, wwt h, ww_0 h, ww_1 h, ww_2 h, ww_3 h, ww_4 h, ww_5 h, ww_6 h, ww_7 h, ww_8 h, ww_9 h, wgAe h, wgBe h, wgt S1.1 hk, wg_0 S1.1 hk, wg_2 S1.1 hk, wg_3 S1.1 hk, wg_4 S1.1 hk, wg_5 S1.1 hk, wg_6 S1.1 hk, wg_7 S1.1 hk, wg_8 S1.1 hk, wg_9 S1.1 hk, wg_10 S1.1 hk, wg_11 S1.1 hk, wg_12 S1.1 hk, wg_18 S1.1 hk, wg_19 S1.1 hk, wg_20 S1.1 hk, wg_21 S1.1 hk, wg_22 S1.1 hk, wg_23 S1.1 hk, wg_24 S1.1 hk, wg_25 S1.1 hk, wg_26 S1.1 hk, wg_27 S1.1 hk, wg_29 S1.1 hk, wg_1 S1.1 hk, wg_30 S1.1 hk, wg_31 S1.1 hk, wg_13 S1.1 hk, wg_14 S1.1 hk, wg_15 S1.1 hk, wg_16 S1.1 hk, wg_17 S1.1 hk, wg_28 S1.1 hk, wt_47 S1.1 hk, wl_47 S1.1 hk, wt_48 S1.1 hk, wl_48 S1.1 hk, wt_49 S1.1 hk, wl_49 S1.1 hk, wt_50 S1.1 hk, wl_50 S1.1 hk, wt_51 S1.1 hk, wl_51 S1.1 hk, wt_52 S1.1 hk, wl_52 S1.1 hk, wgAe S1.1, wgBe S1.1, o1, o2, o3', o4, hd, b1, b2, b3, v1, h0, v2, v23]
    exact fin
  · have S2 := SW_a (p := p) S1 hk 47 2 (v := irm (3 * z.1 2 k p + z.1 1 k 23 + 1) 1000) (by decide) rfl hp
    by_cases hm : z.1 1 k 30 = 1
    · have eT : touchZ z k = finishZ (zs (zs (zs (zs z 16 k p (z.1 0 0 2)) 8 i 2 (z.1 0 0 2)) 1 k 34 (z.1 1 k 34 ||| (1 <<< (Int32.ofNat p &&& 31)))) 6 k p 1) k 0 := by
        unfold touchZ
        rw [hpa, fr]
        simp only []
        rw [if_pos ⟨hd, hm⟩]
      rw [eT, finish_dn] at hQ
      obtain ⟨e1, e2, e3⟩ := k0 (zs (zs (zs (zs z 16 k p (z.1 0 0 2)) 8 i 2 (z.1 0 0 2)) 1 k 34 (z.1 1 k 34 ||| (1 <<< (Int32.ofNat p &&& 31)))) 6 k p 1) (by rw [zs_k _ (by decide), zs_k _ (by decide), zs_k _ (by decide), zs_k _ (by decide)]) (by rw [zs_k _ (by decide), zs_k _ (by decide), zs_k _ (by decide), zs_k _ (by decide)]) (by rw [zs_k _ (by decide), zs_j _ (by decide), zs_k _ (by decide), zs_k _ (by decide)])
      have eM : mkZ (zs (zs (zs (zs z 16 k p (z.1 0 0 2)) 8 i 2 (z.1 0 0 2)) 1 k 34 (z.1 1 k 34 ||| (1 <<< (Int32.ofNat p &&& 31)))) 6 k p 1) k 0 = zs (zs (zs (zs (zs z 16 k p (z.1 0 0 2)) 8 i 2 (z.1 0 0 2)) 1 k 34 (z.1 1 k 34 ||| (1 <<< (Int32.ofNat p &&& 31)))) 6 k p 1) 2 k p (irm (3 * z.1 2 k p + z.1 1 k 23 + 1) 1000) := by
        unfold mkZ
        rw [e1, if_neg (fun e => absurd (hd.symm.trans e) (by decide)), if_pos hd, e2, hpa, zs_k (a := 2) _ (by decide), zs_k (a := 2) _ (by decide), zs_k (a := 2) _ (by decide), zs_k (a := 2) _ (by decide), zs_k (a := 1) _ (by decide), zs_j _ (by decide), zs_k (a := 1) _ (by decide), zs_k (a := 1) _ (by decide)]
      rw [eM] at hQ
      have S3 := SW_s S2 hk 22 34 (v := z.1 1 k 34 ||| (1 <<< (Int32.ofNat p &&& 31))) rfl (by decide)
      have S3' := SW_z S3 (show VE _ (zs (zs (zs (zs (zs z 16 k p (z.1 0 0 2)) 8 i 2 (z.1 0 0 2)) 1 k 34 (z.1 1 k 34 ||| (1 <<< (Int32.ofNat p &&& 31)))) 6 k p 1) 2 k p (irm (3 * z.1 2 k p + z.1 1 k 23 + 1) 1000)) from by
        rw [zs_comm (κ := 2) (κ' := 1) (Or.inl (by decide))]
        exact VE_zs (VE_hr (VE_zs (VE_hr (VE_refl _) rfl)) rfl))
      have w30 := wg_18 S2.1 hk
      rw [zs_k _ (by decide), zs_k _ (by decide), hm] at w30
      have w34 := wg_22 S2.1 hk
      rw [zs_k _ (by decide), zs_k _ (by decide)] at w34
      have fin := w_isDone (n := 60) (Q := kt (aw g) 187 217 [some (.ref (M 41 0)), some (.ref (M 44 k)), some (.ref q), some (.int (Int32.ofNat p)), none, none] [] Q) S3'.1 hk (by
        unfold zpl
        rw [zs_k _ (by decide), zs_k _ (by decide), zs_j _ (by decide), zs_k _ (by decide), zs_k _ (by decide)]; exact hpl) (by
        unfold zpl
        rw [zs_k _ (by decide), zs_k _ (by decide), zs_j _ (by decide), zs_k _ (by decide), zs_k _ (by decide)]; exact hl) (fun σ' S4 => by
        simp (config := {decide := true}) only [vRf_r, vRf_n, vI_i, vL_l, vD_d, pI_i, pR_r, pR_n, vZ_0, vZ_1, ct_i, ct_r, ct_n, ct_l, ct_d, csum_n, csum_c, kt_v, kt_n, kt_e, oc_n, oc_i, oc_r, oc_l, oc_u, oc_d, true_and, and_true, Bool.and_true, Bool.true_and, ne_eq, not_false_eq_true, not_true_eq_false, implies_true, false_imp, true_imp_iff, hsz_put, hsl_put, hln_put, hty_put, hsz_new, hsl_new, hln_new, hty_new, Nat.zero_add, Nat.add_zero, eq_self, decide_true, t32_0, t32_1, t32_2, t32_3, t32_4, t32_5, t32_6, hv_same, hv_kne, hv_tne, hv_ntne, hv_nsame, hv_ctne, hty_cpy, hln_cpy, hsz_cpy, hsl_cpy, vrn, vnr, vrr, A187_217]
        exact hQ _ (SW_trans S3' S4))
      unfold irm at fin w30 w34
      simp (config := {decide := true}) only [vRf_r, vRf_n, vI_i, vL_l, vD_d, pI_i, pR_r, pR_n, vZ_0, vZ_1, ct_i, ct_r, ct_n, ct_l, ct_d, csum_n, csum_c, kt_v, kt_n, kt_e, oc_n, oc_i, oc_r, oc_l, oc_u, oc_d, true_and, and_true, Bool.and_true, Bool.true_and, ne_eq, not_false_eq_true, not_true_eq_false, implies_true, false_imp, true_imp_iff, hsz_put, hsl_put, hln_put, hty_put, hsz_new, hsl_new, hln_new, hty_new, Nat.zero_add, Nat.add_zero, eq_self, decide_true, t32_0, t32_1, t32_2, t32_3, t32_4, t32_5, t32_6, hv_same, hv_kne, hv_tne, hv_ntne, hv_nsame, hv_ctne, hty_cpy, hln_cpy, hsz_cpy, hsl_cpy, vrn, vnr, vrr, A187_0, A187_1, A187_2, A187_3, A187_4, A187_5, A187_8, A187_9, A187_10, A187_11, A187_14, A187_15, A187_18, A187_19, A187_20, A187_21, A187_22, A187_23, A187_24, A187_25, A187_28, A187_29, A187_30, A187_31, A187_32, A187_33, A187_36, A187_37, A187_38, A187_41, A187_42, A187_45, A187_46, A187_47, A187_48, A187_49, A187_50, A187_51, A187_52, A187_55, A187_56, A187_57, A187_58, A187_61, A187_62, A187_65, A187_66, A187_68, A187_69, A187_72, A187_74, A187_75, A187_77, A187_80, A187_81, A187_82, A187_85, A187_86, A187_87, A187_88, A187_89, A187_92, A187_93, A187_95, A187_96, A187_97, A187_100, A187_101, A187_102, A187_105, A187_106, A187_108, A187_111, A187_112, A187_113, A187_114, A187_117, A187_118, A187_119, A187_122, A187_123, A187_124, A187_127, A187_128, A187_129, A187_132, A187_133, A187_134, A187_137, A187_138, A187_139, A187_140, A187_141, A187_142, A187_145, A187_146, A187_147, A187_150, A187_151, A187_154, A187_155, A187_156, A187_157, A187_158, A187_159, A187_162, A187_163, A187_166, A187_169, A187_170, A187_173, A187_174, A187_175, A187_176, A187_179, A187_180, A187_181, A187_182, A187_183, A187_186, A187_187, A187_188, A187_189, A187_192, A187_193, A187_194, A187_195, A187_198, A187_201, A187_202, A187_203, A187_206, A187_207, A187_208, A187_209, A187_210, A187_213, A187_214, wgt h hk, wg_0 h hk, wg_2 h hk, wg_3 h hk, wg_4 h hk, wg_5 h hk, wg_6 h hk, wg_7 h hk, wg_8 h hk, wg_9 h hk, wg_10 h hk, wg_11 h hk, wg_12 h hk, wg_18 h hk, wg_19 h hk, wg_20 h hk, wg_21 h hk, wg_22 h hk, wg_23 h hk, wg_24 h hk, wg_25 h hk, wg_26 h hk, wg_27 h hk, wg_29 h hk, wg_1 h hk, wg_30 h hk, wg_31 h hk, wg_13 h hk, wg_14 h hk, wg_15 h hk, wg_16 h hk, wg_17 h hk, wg_28 h hk, wt_47 h hk, wl_47 h hk, wt_48 h hk, wl_48 h hk, wt_49 h hk, wl_49 h hk, wt_50 h hk, wl_50 h hk, wt_51 h hk, wl_51 h hk, wt_52 h hk, wl_52 h hk, wgAe h, wgBe h, wwt h, ww_0 h, ww_1 h, ww_2 h, ww_3 h, ww_4 h, ww_5 h, ww_6 h, ww_7 h, ww_8 h, ww_9 h, wgAe h, wgBe h, wgt S1.1 hk, wg_0 S1.1 hk, wg_2 S1.1 hk, wg_3 S1.1 hk, wg_4 S1.1 hk, wg_5 S1.1 hk, wg_6 S1.1 hk, wg_7 S1.1 hk, wg_8 S1.1 hk, wg_9 S1.1 hk, wg_10 S1.1 hk, wg_11 S1.1 hk, wg_12 S1.1 hk, wg_18 S1.1 hk, wg_19 S1.1 hk, wg_20 S1.1 hk, wg_21 S1.1 hk, wg_22 S1.1 hk, wg_23 S1.1 hk, wg_24 S1.1 hk, wg_25 S1.1 hk, wg_26 S1.1 hk, wg_27 S1.1 hk, wg_29 S1.1 hk, wg_1 S1.1 hk, wg_30 S1.1 hk, wg_31 S1.1 hk, wg_13 S1.1 hk, wg_14 S1.1 hk, wg_15 S1.1 hk, wg_16 S1.1 hk, wg_17 S1.1 hk, wg_28 S1.1 hk, wt_47 S1.1 hk, wl_47 S1.1 hk, wt_48 S1.1 hk, wl_48 S1.1 hk, wt_49 S1.1 hk, wl_49 S1.1 hk, wt_50 S1.1 hk, wl_50 S1.1 hk, wt_51 S1.1 hk, wl_51 S1.1 hk, wt_52 S1.1 hk, wl_52 S1.1 hk, wgAe S1.1, wgBe S1.1, o1, o2, o3', o4, hd, b1, b2, b3, v1, h0, v2, v23, w30, w34, hm, hv_tne, z16]
      exact fin
    · have hm0 : z.1 1 k 30 = 0 := hb.resolve_right hm
      have eT : touchZ z k = finishZ (zs (zs z 16 k p (z.1 0 0 2)) 8 i 2 (z.1 0 0 2)) k 0 := by
        unfold touchZ
        rw [hpa, fr]
        simp only []
        rw [if_neg (fun e => hm e.2)]
      rw [eT, finish_dn] at hQ
      obtain ⟨e1, e2, e3⟩ := k0 (zs (zs z 16 k p (z.1 0 0 2)) 8 i 2 (z.1 0 0 2)) (by rw [zs_k _ (by decide), zs_k _ (by decide)]) (by rw [zs_k _ (by decide), zs_k _ (by decide)]) (by rw [zs_k _ (by decide), zs_k _ (by decide)])
      have eM : mkZ (zs (zs z 16 k p (z.1 0 0 2)) 8 i 2 (z.1 0 0 2)) k 0 = zs (zs (zs z 16 k p (z.1 0 0 2)) 8 i 2 (z.1 0 0 2)) 2 k p (irm (3 * z.1 2 k p + z.1 1 k 23 + 1) 1000) := by
        unfold mkZ
        rw [e1, if_neg (fun e => absurd (hd.symm.trans e) (by decide)), if_pos hd, e2, hpa, zs_k _ (by decide), zs_k _ (by decide), zs_k _ (by decide), zs_k _ (by decide)]
      rw [eM] at hQ
      have S2' := SW_z S2 (VE_zs (VE_hr (VE_refl _) rfl) : VE _ (zs (zs (zs z 16 k p (z.1 0 0 2)) 8 i 2 (z.1 0 0 2)) 2 k p (irm (3 * z.1 2 k p + z.1 1 k 23 + 1) 1000)))
      have w30 := wg_18 S2.1 hk
      rw [zs_k _ (by decide), zs_k _ (by decide), hm0] at w30
      have fin := w_isDone (n := 60) (Q := kt (aw g) 187 217 [some (.ref (M 41 0)), some (.ref (M 44 k)), some (.ref q), some (.int (Int32.ofNat p)), none, none] [] Q) S2'.1 hk (by
        unfold zpl
        rw [zs_k _ (by decide), zs_k _ (by decide), zs_k _ (by decide)]; exact hpl) (by
        unfold zpl
        rw [zs_k _ (by decide), zs_k _ (by decide), zs_k _ (by decide)]; exact hl) (fun σ' S4 => by
        simp (config := {decide := true}) only [vRf_r, vRf_n, vI_i, vL_l, vD_d, pI_i, pR_r, pR_n, vZ_0, vZ_1, ct_i, ct_r, ct_n, ct_l, ct_d, csum_n, csum_c, kt_v, kt_n, kt_e, oc_n, oc_i, oc_r, oc_l, oc_u, oc_d, true_and, and_true, Bool.and_true, Bool.true_and, ne_eq, not_false_eq_true, not_true_eq_false, implies_true, false_imp, true_imp_iff, hsz_put, hsl_put, hln_put, hty_put, hsz_new, hsl_new, hln_new, hty_new, Nat.zero_add, Nat.add_zero, eq_self, decide_true, t32_0, t32_1, t32_2, t32_3, t32_4, t32_5, t32_6, hv_same, hv_kne, hv_tne, hv_ntne, hv_nsame, hv_ctne, hty_cpy, hln_cpy, hsz_cpy, hsl_cpy, vrn, vnr, vrr, A187_217]
        exact hQ _ (SW_trans S2' S4))
      unfold irm at fin w30
      simp (config := {decide := true}) only [vRf_r, vRf_n, vI_i, vL_l, vD_d, pI_i, pR_r, pR_n, vZ_0, vZ_1, ct_i, ct_r, ct_n, ct_l, ct_d, csum_n, csum_c, kt_v, kt_n, kt_e, oc_n, oc_i, oc_r, oc_l, oc_u, oc_d, true_and, and_true, Bool.and_true, Bool.true_and, ne_eq, not_false_eq_true, not_true_eq_false, implies_true, false_imp, true_imp_iff, hsz_put, hsl_put, hln_put, hty_put, hsz_new, hsl_new, hln_new, hty_new, Nat.zero_add, Nat.add_zero, eq_self, decide_true, t32_0, t32_1, t32_2, t32_3, t32_4, t32_5, t32_6, hv_same, hv_kne, hv_tne, hv_ntne, hv_nsame, hv_ctne, hty_cpy, hln_cpy, hsz_cpy, hsl_cpy, vrn, vnr, vrr, A187_0, A187_1, A187_2, A187_3, A187_4, A187_5, A187_8, A187_9, A187_10, A187_11, A187_14, A187_15, A187_18, A187_19, A187_20, A187_21, A187_22, A187_23, A187_24, A187_25, A187_28, A187_29, A187_30, A187_31, A187_32, A187_33, A187_36, A187_37, A187_38, A187_41, A187_42, A187_45, A187_46, A187_47, A187_48, A187_49, A187_50, A187_51, A187_52, A187_55, A187_56, A187_57, A187_58, A187_61, A187_62, A187_65, A187_66, A187_68, A187_69, A187_72, A187_74, A187_75, A187_77, A187_80, A187_81, A187_82, A187_85, A187_86, A187_87, A187_88, A187_89, A187_92, A187_93, A187_95, A187_96, A187_97, A187_100, A187_101, A187_102, A187_105, A187_106, A187_108, A187_111, A187_112, A187_113, A187_114, A187_117, A187_118, A187_119, A187_122, A187_123, A187_124, A187_127, A187_128, A187_129, A187_132, A187_133, A187_134, A187_137, A187_138, A187_139, A187_140, A187_141, A187_142, A187_145, A187_146, A187_147, A187_150, A187_151, A187_154, A187_155, A187_156, A187_157, A187_158, A187_159, A187_162, A187_163, A187_166, A187_169, A187_170, A187_173, A187_174, A187_175, A187_176, A187_179, A187_180, A187_181, A187_182, A187_183, A187_186, A187_187, A187_188, A187_189, A187_192, A187_193, A187_194, A187_195, A187_198, A187_201, A187_202, A187_203, A187_206, A187_207, A187_208, A187_209, A187_210, A187_213, A187_214, wgt h hk, wg_0 h hk, wg_2 h hk, wg_3 h hk, wg_4 h hk, wg_5 h hk, wg_6 h hk, wg_7 h hk, wg_8 h hk, wg_9 h hk, wg_10 h hk, wg_11 h hk, wg_12 h hk, wg_18 h hk, wg_19 h hk, wg_20 h hk, wg_21 h hk, wg_22 h hk, wg_23 h hk, wg_24 h hk, wg_25 h hk, wg_26 h hk, wg_27 h hk, wg_29 h hk, wg_1 h hk, wg_30 h hk, wg_31 h hk, wg_13 h hk, wg_14 h hk, wg_15 h hk, wg_16 h hk, wg_17 h hk, wg_28 h hk, wt_47 h hk, wl_47 h hk, wt_48 h hk, wl_48 h hk, wt_49 h hk, wl_49 h hk, wt_50 h hk, wl_50 h hk, wt_51 h hk, wl_51 h hk, wt_52 h hk, wl_52 h hk, wgAe h, wgBe h, wwt h, ww_0 h, ww_1 h, ww_2 h, ww_3 h, ww_4 h, ww_5 h, ww_6 h, ww_7 h, ww_8 h, ww_9 h, wgAe h, wgBe h, wgt S1.1 hk, wg_0 S1.1 hk, wg_2 S1.1 hk, wg_3 S1.1 hk, wg_4 S1.1 hk, wg_5 S1.1 hk, wg_6 S1.1 hk, wg_7 S1.1 hk, wg_8 S1.1 hk, wg_9 S1.1 hk, wg_10 S1.1 hk, wg_11 S1.1 hk, wg_12 S1.1 hk, wg_18 S1.1 hk, wg_19 S1.1 hk, wg_20 S1.1 hk, wg_21 S1.1 hk, wg_22 S1.1 hk, wg_23 S1.1 hk, wg_24 S1.1 hk, wg_25 S1.1 hk, wg_26 S1.1 hk, wg_27 S1.1 hk, wg_29 S1.1 hk, wg_1 S1.1 hk, wg_30 S1.1 hk, wg_31 S1.1 hk, wg_13 S1.1 hk, wg_14 S1.1 hk, wg_15 S1.1 hk, wg_16 S1.1 hk, wg_17 S1.1 hk, wg_28 S1.1 hk, wt_47 S1.1 hk, wl_47 S1.1 hk, wt_48 S1.1 hk, wl_48 S1.1 hk, wt_49 S1.1 hk, wl_49 S1.1 hk, wt_50 S1.1 hk, wl_50 S1.1 hk, wt_51 S1.1 hk, wl_51 S1.1 hk, wt_52 S1.1 hk, wl_52 S1.1 hk, wgAe S1.1, wgBe S1.1, o1, o2, o3', o4, hd, b1, b2, b3, v1, h0, v2, v23, w30, hm0, hv_tne, z16]
      exact fin
theorem w_touch (h : RepW g M σ z) (hk : k < zn z) (hn : zn z ≤ 3 ∧ zf z ≤ 10) (hf : 0 < zf z) (hF : ZF z) (hP : ZP z k) (ht : okG z k) (hb : b01 (z.1 1 k 30)) (hkd : zkd z k = 1 ∨ zkd z k = 2) (hp : p < 6) (hpa : zar z k = p) (ho : oq M σ q (zkd z k) (Int32.ofNat p)) (hQ : ∀ σ', SW g 60 M M σ σ' (touchZ z k) 0 0 → Q (.inl none) σ') : aw g 187 0 [some (.ref (M 41 0)), some (.ref (M 44 k)), some (.ref q), none, none, none] [] σ Q := by
  by_cases h0 : z.1 14 k p = 0
  · exact w_use h hk hn hF ht hb hkd hp hpa h0 ho hQ
  · have fr := frOf_out hF hn hk hp h0
    by_cases h2 : z.1 14 k p = 2
    · have n5 : z.1 5 k p ≠ 0 := fun e => ((hP p hp).1.1 e) h2
      have eT : touchZ z k = zs (zs (zs z 14 k p 3) 3 k 3 (z.1 3 k 3 + 1)) 5 k p 0 := by
        unfold touchZ
        rw [hpa, fr]
        exact if_neg n5
      rw [eT] at hQ
      exact w_given h hk hp h2 ho hQ
    · have n5 : z.1 5 k p = 0 := (hP p hp).1.2 h2
      have eT : touchZ z k = fetchZ (zs z 3 k 0 (z.1 3 k 0 + 1)) k p := by
        unfold touchZ
        rw [hpa, fr]
        exact if_pos n5
      rw [eT] at hQ
      exact w_fetch h hk hn hf hF hP hp h2 h0 ho hQ
end MDOES
