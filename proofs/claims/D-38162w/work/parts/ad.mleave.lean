/-! the model's move: it leaves -/
def mlD (k : Nat) : ZT → Nat → Nat → ZT
  | z, _, 0 => z
  | z, c, m + 1 => mlD k (if z.1 14 k c = 2 then z else zs z 14 k c 3) (c + 1) m
section MLEAVE
variable {g : GC} {n : Nat} {M M' : Nat → Nat → Nat} {σ σ' : AH} {z z' : ZT} {k p i q : Nat} {Q : AQ}
theorem mlD_2 (k : Nat) : ∀ m (z : ZT) c, (mlD k z c m).2 = z.2 := by
  intro m
  induction m with
  | zero => intro z c; rfl
  | succ m ih =>
    intro z c
    refine (ih _ _).trans ?_
    split
    · rfl
    · rfl
theorem mlD_0 (k : Nat) : ∀ m (z : ZT) c, (mlD k z c m).1 0 = z.1 0 := by
  intro m
  induction m with
  | zero => intro z c; rfl
  | succ m ih =>
    intro z c
    refine (ih _ _).trans ?_
    split
    · rfl
    · exact zs_k _ (by decide)
theorem mlD_lvD (k : Nat) : ∀ m (z z' : ZT) c, VE z z' → VE (mlD k z c m) (lvD k z' c m) := by
  intro m
  induction m with
  | zero => intro z z' c h; exact h
  | succ m ih =>
    intro z z' c h
    refine ih _ _ _ ?_
    have e := h.2 14 k c rfl
    rw [e]
    split
    · exact VE_hr h rfl
    · exact VE_hr (VE_zs h) rfl
theorem lvF_VE (k : Nat) : ∀ m (z z' : ZT) c, VE z z' → VE z (lvF k z' c m) := by
  intro m
  induction m with
  | zero => intro z z' c h; exact h
  | succ m ih =>
    intro z z' c h
    refine ih _ _ _ ?_
    split
    · exact VE_hr (VE_hr (VE_hr h rfl) rfl) rfl
    · exact h
theorem w_leave (h : RepW g M σ z) (hk : k < zn z) (hn : zn z ≤ 3) (hR : okR z (z.1 0 0 4)) (h19 : z.1 1 k 19 = 1) (hQ : ∀ σ', SW g 60 M M σ σ' (leaveZ z k) 0 0 → Q (.inl none) σ') : aw g 191 0 [some (.ref (M 41 0)), some (.int (Int32.ofNat k)), none, none, none] [] σ Q := by
  have e5 := fun Q' => l_get (Q := Q') (wL h) hk
  have t3 := (wL h).1
  have e75 : (∃ t, t ∈ [7] ∧ some 7 = some t) = True := eq_true ⟨7, by decide, rfl⟩
  have S1 := SW_s (SW_s (SW_s (SW_refl 60 h) hk 6 3 (v := 4) rfl (by decide)) hk 18 30 (v := 0) rfl (by decide)) hk 12 12 (v := 0) rfl (by decide)
  generalize hz1 : zs (zs (zs z 1 k 3 4) 1 k 30 0) 1 k 12 0 = z1 at *
  have c0 : z1.1 0 = z.1 0 := by rw [← hz1, zs_k _ (by decide), zs_k _ (by decide), zs_k _ (by decide)]
  have c2 : z1.2 = z.2 := by rw [← hz1]; rfl
  have V : VE (mlD k z1 0 6) (lvD k (lvF k (lv1Z z k) 0 (zf z)) 0 6) := by
    refine mlD_lvD k 6 _ _ 0 (lvF_VE k _ _ _ 0 ?_)
    unfold lv1Z
    rw [hz1]
    exact VE_hr (VE_refl _) rfl
  have fin : ∀ σ2, SW g 60 M M σ σ2 (mlD k z1 0 6) 0 0 → ∀ l3, aw g 191 65 [some (.ref (M 41 0)), some (.int (Int32.ofNat k)), some (.ref (M 44 k)), l3, none] [] σ2 Q := by
    intro σ2 S2 l3
    have w4 := ww_4 S2.1
    rw [mlD_0, c0] at w4
    by_cases g4 : z.1 0 0 4 = Int32.ofNat k
    · have eL : leaveZ z k = zs (zs (lvD k (lvF k (lv1Z z k) 0 (zf z)) 0 6) 0 0 4 (-1)) 0 0 5 (-1) := if_pos g4
      rw [eL] at hQ
      have := hQ _ (SW_z (SW_w S2 4 4 (v := -1) rfl (by decide)) (VE_hr (VE_zs V) rfl))
      rw [g4] at w4
      simp (config := {decide := true}) only [vRf_r, vRf_n, vI_i, vL_l, vD_d, pI_i, pR_r, pR_n, vZ_0, vZ_1, ct_i, ct_r, ct_n, ct_l, ct_d, csum_n, csum_c, kt_v, kt_n, kt_e, oc_n, oc_i, oc_r, oc_l, oc_u, oc_d, true_and, and_true, Bool.and_true, Bool.true_and, ne_eq, not_false_eq_true, not_true_eq_false, implies_true, false_imp, true_imp_iff, hsz_put, hsl_put, hln_put, hty_put, hsz_new, hsl_new, hln_new, hty_new, Nat.zero_add, Nat.add_zero, eq_self, decide_true, t32_0, t32_1, t32_2, t32_3, t32_4, t32_5, t32_6, hv_same, hv_kne, hv_tne, hv_ntne, hv_nsame, hv_ctne, hty_cpy, hln_cpy, hsz_cpy, hsl_cpy, vrn, vnr, vrr, A191_65, A191_66, A191_69, A191_70, A191_73, A191_74, A191_75, A191_78, wwt S2.1, wgAe S2.1, w4]
      exact this
    · have eL : leaveZ z k = lvD k (lvF k (lv1Z z k) 0 (zf z)) 0 6 := if_neg g4
      rw [eL] at hQ
      have := hQ _ (SW_z S2 V)
      simp (config := {decide := true}) only [vRf_r, vRf_n, vI_i, vL_l, vD_d, pI_i, pR_r, pR_n, vZ_0, vZ_1, ct_i, ct_r, ct_n, ct_l, ct_d, csum_n, csum_c, kt_v, kt_n, kt_e, oc_n, oc_i, oc_r, oc_l, oc_u, oc_d, true_and, and_true, Bool.and_true, Bool.true_and, ne_eq, not_false_eq_true, not_true_eq_false, implies_true, false_imp, true_imp_iff, hsz_put, hsl_put, hln_put, hty_put, hsz_new, hsl_new, hln_new, hty_new, Nat.zero_add, Nat.add_zero, eq_self, decide_true, t32_0, t32_1, t32_2, t32_3, t32_4, t32_5, t32_6, hv_same, hv_kne, hv_tne, hv_ntne, hv_nsame, hv_ctne, hty_cpy, hln_cpy, hsz_cpy, hsl_cpy, vrn, vnr, vrr, A191_65, A191_66, A191_69, A191_70, A191_73, A191_74, A191_75, A191_78, wwt S2.1, wgAe S2.1, w4, g4]
      exact this
  have loop : ∀ m c z2 σ2, c + m = 6 → z2.2 = z1.2 → SW g 60 M M σ σ2 z2 0 0 → mlD k z2 c m = mlD k z1 0 6 → aw g 191 36 [some (.ref (M 41 0)), some (.int (Int32.ofNat k)), some (.ref (M 44 k)), some (.int (Int32.ofNat c)), none] [] σ2 Q := by
    intro m
    induction m with
    | zero =>
      intro c z2 σ2 hc h2 S2 ez
      have hc6 : c = 6 := by omega
      subst hc6
      have e1 : ((6 : Int32) ≤ Int32.ofNat 6) = True := eq_true (by decide)
      have ez : z2 = mlD k z1 0 6 := ez
      rw [ez] at S2
      have := fin σ2 S2 (some (.int (Int32.ofNat 6)))
      simp (config := {decide := true}) only [vRf_r, vRf_n, vI_i, vL_l, vD_d, pI_i, pR_r, pR_n, vZ_0, vZ_1, ct_i, ct_r, ct_n, ct_l, ct_d, csum_n, csum_c, kt_v, kt_n, kt_e, oc_n, oc_i, oc_r, oc_l, oc_u, oc_d, true_and, and_true, Bool.and_true, Bool.true_and, ne_eq, not_false_eq_true, not_true_eq_false, implies_true, false_imp, true_imp_iff, hsz_put, hsl_put, hln_put, hty_put, hsz_new, hsl_new, hln_new, hty_new, Nat.zero_add, Nat.add_zero, eq_self, decide_true, t32_0, t32_1, t32_2, t32_3, t32_4, t32_5, t32_6, hv_same, hv_kne, hv_tne, hv_ntne, hv_nsame, hv_ctne, hty_cpy, hln_cpy, hsz_cpy, hsl_cpy, vrn, vnr, vrr, A191_36, A191_37, A191_39, e1]
      exact this
    | succ m ih =>
      intro c z2 σ2 hc h2 S2 ez
      have hk2 : k < zn z2 := by unfold zn; rw [h2, c2]; exact hk
      have hc6 : c < 6 := by omega
      have e1 : ((6 : Int32) ≤ Int32.ofNat c) = False := by rw [show (6 : Int32) = Int32.ofNat 6 from rfl, n32_le (by omega) (by omega)]; exact eq_false (by omega)
      have b1 : (Int32.ofNat c < 0) = False := n32_neg (by omega)
      have b2 : (Int32.ofNat c).toNatClampNeg = c := n32_nat (by omega)
      have b3 : (c < 6) = True := eq_true hc6
      have b4 := n32_inc c
      have v := wa_48 S2.1 hk2 hc6
      rw [A191_36]
      by_cases g0 : z2.1 14 k c = 2
      · have e2 : mlD k z2 c (m + 1) = mlD k z2 (c + 1) m := by rw [mlD, if_pos g0]
        have nx := ih (c + 1) z2 σ2 (by omega) h2 S2 (by rw [← e2]; exact ez)
        simp (config := {decide := true}) only [vRf_r, vRf_n, vI_i, vL_l, vD_d, pI_i, pR_r, pR_n, vZ_0, vZ_1, ct_i, ct_r, ct_n, ct_l, ct_d, csum_n, csum_c, kt_v, kt_n, kt_e, oc_n, oc_i, oc_r, oc_l, oc_u, oc_d, true_and, and_true, Bool.and_true, Bool.true_and, ne_eq, not_false_eq_true, not_true_eq_false, implies_true, false_imp, true_imp_iff, hsz_put, hsl_put, hln_put, hty_put, hsz_new, hsl_new, hln_new, hty_new, Nat.zero_add, Nat.add_zero, eq_self, decide_true, t32_0, t32_1, t32_2, t32_3, t32_4, t32_5, t32_6, hv_same, hv_kne, hv_tne, hv_ntne, hv_nsame, hv_ctne, hty_cpy, hln_cpy, hsz_cpy, hsl_cpy, vrn, vnr, vrr, A191_37, A191_39, A191_42, A191_43, A191_46, A191_47, A191_48, A191_49, A191_52, A191_53, A191_56, A191_57, A191_58, A191_59, A191_62, wgt S2.1 hk2, wg_0 S2.1 hk2, wg_2 S2.1 hk2, wg_3 S2.1 hk2, wg_4 S2.1 hk2, wg_5 S2.1 hk2, wg_6 S2.1 hk2, wg_7 S2.1 hk2, wg_8 S2.1 hk2, wg_9 S2.1 hk2, wg_10 S2.1 hk2, wg_11 S2.1 hk2, wg_12 S2.1 hk2, wg_18 S2.1 hk2, wg_19 S2.1 hk2, wg_20 S2.1 hk2, wg_21 S2.1 hk2, wg_22 S2.1 hk2, wg_23 S2.1 hk2, wg_24 S2.1 hk2, wg_25 S2.1 hk2, wg_26 S2.1 hk2, wg_27 S2.1 hk2, wg_29 S2.1 hk2, wg_1 S2.1 hk2, wg_30 S2.1 hk2, wg_31 S2.1 hk2, wg_13 S2.1 hk2, wg_14 S2.1 hk2, wg_15 S2.1 hk2, wg_16 S2.1 hk2, wg_17 S2.1 hk2, wg_28 S2.1 hk2, wt_47 S2.1 hk2, wl_47 S2.1 hk2, wt_48 S2.1 hk2, wl_48 S2.1 hk2, wt_49 S2.1 hk2, wl_49 S2.1 hk2, wt_50 S2.1 hk2, wl_50 S2.1 hk2, wt_51 S2.1 hk2, wl_51 S2.1 hk2, wt_52 S2.1 hk2, wl_52 S2.1 hk2, wgAe S2.1, wgBe S2.1, e1, b1, b2, b3, b4, v, g0]
        exact nx
      · have e2 : mlD k z2 c (m + 1) = mlD k (zs z2 14 k c 3) (c + 1) m := by rw [mlD, if_neg g0]
        have nx := ih (c + 1) _ _ (by omega) (by rw [zs_2]; exact h2) (SW_a (p := c) S2 hk2 48 14 (v := 3) (by decide) rfl hc6) (by rw [← e2]; exact ez)
        simp (config := {decide := true}) only [vRf_r, vRf_n, vI_i, vL_l, vD_d, pI_i, pR_r, pR_n, vZ_0, vZ_1, ct_i, ct_r, ct_n, ct_l, ct_d, csum_n, csum_c, kt_v, kt_n, kt_e, oc_n, oc_i, oc_r, oc_l, oc_u, oc_d, true_and, and_true, Bool.and_true, Bool.true_and, ne_eq, not_false_eq_true, not_true_eq_false, implies_true, false_imp, true_imp_iff, hsz_put, hsl_put, hln_put, hty_put, hsz_new, hsl_new, hln_new, hty_new, Nat.zero_add, Nat.add_zero, eq_self, decide_true, t32_0, t32_1, t32_2, t32_3, t32_4, t32_5, t32_6, hv_same, hv_kne, hv_tne, hv_ntne, hv_nsame, hv_ctne, hty_cpy, hln_cpy, hsz_cpy, hsl_cpy, vrn, vnr, vrr, A191_37, A191_39, A191_42, A191_43, A191_46, A191_47, A191_48, A191_49, A191_52, A191_53, A191_56, A191_57, A191_58, A191_59, A191_62, wgt S2.1 hk2, wg_0 S2.1 hk2, wg_2 S2.1 hk2, wg_3 S2.1 hk2, wg_4 S2.1 hk2, wg_5 S2.1 hk2, wg_6 S2.1 hk2, wg_7 S2.1 hk2, wg_8 S2.1 hk2, wg_9 S2.1 hk2, wg_10 S2.1 hk2, wg_11 S2.1 hk2, wg_12 S2.1 hk2, wg_18 S2.1 hk2, wg_19 S2.1 hk2, wg_20 S2.1 hk2, wg_21 S2.1 hk2, wg_22 S2.1 hk2, wg_23 S2.1 hk2, wg_24 S2.1 hk2, wg_25 S2.1 hk2, wg_26 S2.1 hk2, wg_27 S2.1 hk2, wg_29 S2.1 hk2, wg_1 S2.1 hk2, wg_30 S2.1 hk2, wg_31 S2.1 hk2, wg_13 S2.1 hk2, wg_14 S2.1 hk2, wg_15 S2.1 hk2, wg_16 S2.1 hk2, wg_17 S2.1 hk2, wg_28 S2.1 hk2, wt_47 S2.1 hk2, wl_47 S2.1 hk2, wt_48 S2.1 hk2, wl_48 S2.1 hk2, wt_49 S2.1 hk2, wl_49 S2.1 hk2, wt_50 S2.1 hk2, wl_50 S2.1 hk2, wt_51 S2.1 hk2, wl_51 S2.1 hk2, wt_52 S2.1 hk2, wl_52 S2.1 hk2, wgAe S2.1, wgBe S2.1, e1, b1, b2, b3, b4, v, g0]
        exact nx
  have nx := loop 6 0 z1 _ (by omega) rfl S1 rfl
  rw [z32_0] at nx
  simp (config := {decide := true}) only [vRf_r, vRf_n, vI_i, vL_l, vD_d, pI_i, pR_r, pR_n, vZ_0, vZ_1, ct_i, ct_r, ct_n, ct_l, ct_d, csum_n, csum_c, kt_v, kt_n, kt_e, oc_n, oc_i, oc_r, oc_l, oc_u, oc_d, true_and, and_true, Bool.and_true, Bool.true_and, ne_eq, not_false_eq_true, not_true_eq_false, implies_true, false_imp, true_imp_iff, hsz_put, hsl_put, hln_put, hty_put, hsz_new, hsl_new, hln_new, hty_new, Nat.zero_add, Nat.add_zero, eq_self, decide_true, t32_0, t32_1, t32_2, t32_3, t32_4, t32_5, t32_6, hv_same, hv_kne, hv_tne, hv_ntne, hv_nsame, hv_ctne, hty_cpy, hln_cpy, hsz_cpy, hsl_cpy, vrn, vnr, vrr, A191_0, A191_1, A191_4, A191_5, A191_8, A191_8r, A191_11, A191_12, A191_13, A191_16, A191_19, A191_20, A191_21, A191_24, A191_25, A191_26, A191_29, A191_30, A191_31, A191_34, A191_35, wwt h, ww_0 h, ww_1 h, ww_2 h, ww_3 h, ww_4 h, ww_5 h, ww_6 h, ww_7 h, ww_8 h, ww_9 h, wgAe h, wgBe h, wgt h hk, wg_0 h hk, wg_2 h hk, wg_3 h hk, wg_4 h hk, wg_5 h hk, wg_6 h hk, wg_7 h hk, wg_8 h hk, wg_9 h hk, wg_10 h hk, wg_11 h hk, wg_12 h hk, wg_18 h hk, wg_19 h hk, wg_20 h hk, wg_21 h hk, wg_22 h hk, wg_23 h hk, wg_24 h hk, wg_25 h hk, wg_26 h hk, wg_27 h hk, wg_29 h hk, wg_1 h hk, wg_30 h hk, wg_31 h hk, wg_13 h hk, wg_14 h hk, wg_15 h hk, wg_16 h hk, wg_17 h hk, wg_28 h hk, wt_47 h hk, wl_47 h hk, wt_48 h hk, wl_48 h hk, wt_49 h hk, wl_49 h hk, wt_50 h hk, wl_50 h hk, wt_51 h hk, wl_51 h hk, wt_52 h hk, wl_52 h hk, wgAe h, wgBe h, e5, t3, e75, h19]
  exact nx
end MLEAVE
