/-! the model's device, walked -/
section MDEV2
variable {g : GC} {n : Nat} {M M' : Nat → Nat → Nat} {σ σ' : AH} {z z' : ZT} {k p i q : Nat} {Q : AQ}
/-- what the device needs of the state -/
def lkL (z : ZT) : Prop := (z.1 0 0 6 = -1 ∧ z.1 0 0 11 = 2) ∨ ∃ j, j < zn z ∧ z.1 0 0 6 = Int32.ofNat j ∧ z.1 0 0 11 = Int32.ofNat j
def quI (z : ZT) : Prop := ∀ k, k < zn z → 0 ≤ (z.1 1 k 12).toInt
theorem mdE {l l2 : Int32} {m : Nat} (hm : m ≤ 3) (hl : (l = -1 ∧ l2 = 2) ∨ ∃ j, j < m ∧ l = Int32.ofNat j ∧ l2 = Int32.ofNat j) {c : Nat} (h1 : 1 ≤ c) (h2 : c ≤ 3) : irm (l2 + Int32.ofNat c) 3 = Int32.ofNat (mdN l2 c) ∧ mdN l2 c < 3 := by
  have hc : c = 1 ∨ c = 2 ∨ c = 3 := by omega
  rcases hl with ⟨_, e⟩ | ⟨j, j1, _, e⟩
  · subst e
    rcases hc with e | e | e <;> subst e <;> exact ⟨rfl, by decide⟩
  · have hj : j = 0 ∨ j = 1 ∨ j = 2 := by omega
    subst e
    rcases hj with e | e | e <;> subst e <;> rcases hc with e | e | e <;> subst e <;> exact ⟨rfl, by decide⟩
theorem w_dv2 {z1 : ZT} {σ1 : AH} (S : SW g 60 M M σ σ1 z1 0 0) (hn : zn z1 ≤ 3) (hl : lkL z1) (hq : quI z1) (hQ : ∀ σ', SW g 60 M M σ σ' (dv2Z z1) 0 0 → Q (.inl none) σ') : ∀ l1, aw g 190 74 [some (.ref (M 41 0)), l1, none] [] σ1 Q := by
  intro l1
  have h := S.1
  by_cases g4 : z1.1 0 0 4 = -1
  · have e1 := fun Q' => l_size (Q := Q') (wL h)
    have t3 := (wL h).1
    have e75 : (∃ t, t ∈ [7] ∧ some 7 = some t) = True := eq_true ⟨7, by decide, rfl⟩
    have eD : dv2Z z1 = match mdS (qP z1) (z1.1 0 0 11) (zn z1) 1 3 with
        | none => z1
        | some k => beginZ z1 k := by
      unfold dv2Z
      rw [if_pos g4, dvF_S, dv_md (qP z1) hn hl]
      cases dvS (qP z1) (z1.1 0 0 6) (zn z1) 1 (zn z1) <;> rfl
    rw [eD] at hQ
    have loop : ∀ m c, c + m = 4 → 1 ≤ c → mdS (qP z1) (z1.1 0 0 11) (zn z1) c m = mdS (qP z1) (z1.1 0 0 11) (zn z1) 1 3 → ∀ l2, aw g 190 76 [some (.ref (M 41 0)), some (.int (Int32.ofNat c)), l2] [] σ1 Q := by
      intro m
      induction m with
      | zero =>
        intro c hc h1 he l2
        have hc4 : c = 4 := by omega
        subst hc4
        rw [← he] at hQ
        have e2 : ((3 : Int32) < Int32.ofNat 4) = True := eq_true (by decide)
        have := hQ _ S
        simp (config := {decide := true}) only [vRf_r, vRf_n, vI_i, vL_l, vD_d, pI_i, pR_r, pR_n, vZ_0, vZ_1, ct_i, ct_r, ct_n, ct_l, ct_d, csum_n, csum_c, kt_v, kt_n, kt_e, oc_n, oc_i, oc_r, oc_l, oc_u, oc_d, true_and, and_true, Bool.and_true, Bool.true_and, ne_eq, not_false_eq_true, not_true_eq_false, implies_true, false_imp, true_imp_iff, hsz_put, hsl_put, hln_put, hty_put, hsz_new, hsl_new, hln_new, hty_new, Nat.zero_add, Nat.add_zero, eq_self, decide_true, t32_0, t32_1, t32_2, t32_3, t32_4, t32_5, t32_6, hv_same, hv_kne, hv_tne, hv_ntne, hv_nsame, hv_ctne, hty_cpy, hln_cpy, hsz_cpy, hsl_cpy, vrn, vnr, vrr, A190_76, A190_77, A190_78, A190_173, e2]
        exact this
      | succ m ih =>
        intro c hc h1 he l2
        obtain ⟨d1, d2⟩ := mdE hn hl h1 (by omega : c ≤ 3)
        unfold irm at d1
        have e2 : ((3 : Int32) < Int32.ofNat c) = False := by rw [show (3 : Int32) = Int32.ofNat 3 from rfl, n32_lt (by omega) (by omega)]; exact eq_false (by omega)
        have b0 := n32_inc c
        rw [A190_76]
        by_cases g0 : mdN (z1.1 0 0 11) c < zn z1
        · have e3 : (Int32.ofNat (zn z1) ≤ Int32.ofNat (mdN (z1.1 0 0 11) c)) = False := by rw [n32_le (by omega) (by omega)]; exact eq_false (by omega)
          have e5 := fun Q' => l_get (Q := Q') (wL h) g0
          have hqk := hq _ g0
          generalize hk : mdN (z1.1 0 0 11) c = k at *
          by_cases g1 : z1.1 1 k 12 = 0
          · have nq : qP z1 k = false := by
              unfold qP
              rw [g1]; rfl
            have e6 : mdS (qP z1) (z1.1 0 0 11) (zn z1) c (m + 1) = mdS (qP z1) (z1.1 0 0 11) (zn z1) (c + 1) m := by
              rw [mdS, hk, if_neg (fun w => by rw [nq] at w; cases w.2)]
            rw [e6] at he
            have nx := ih (c + 1) (by omega) (by omega) he (some (.int (Int32.ofNat k)))
            simp (config := {decide := true}) only [vRf_r, vRf_n, vI_i, vL_l, vD_d, pI_i, pR_r, pR_n, vZ_0, vZ_1, ct_i, ct_r, ct_n, ct_l, ct_d, csum_n, csum_c, kt_v, kt_n, kt_e, oc_n, oc_i, oc_r, oc_l, oc_u, oc_d, true_and, and_true, Bool.and_true, Bool.true_and, ne_eq, not_false_eq_true, not_true_eq_false, implies_true, false_imp, true_imp_iff, hsz_put, hsl_put, hln_put, hty_put, hsz_new, hsl_new, hln_new, hty_new, Nat.zero_add, Nat.add_zero, eq_self, decide_true, t32_0, t32_1, t32_2, t32_3, t32_4, t32_5, t32_6, hv_same, hv_kne, hv_tne, hv_ntne, hv_nsame, hv_ctne, hty_cpy, hln_cpy, hsz_cpy, hsl_cpy, vrn, vnr, vrr, A190_77, A190_78, A190_81, A190_82, A190_85, A190_86, A190_89, A190_90, A190_93, A190_94, A190_95, A190_96, A190_97, A190_98, A190_99, A190_100, A190_103, A190_106, A190_109, A190_110, A190_113, A190_114, A190_117, A190_117r, A190_120, A190_123, A190_126, A190_167, A190_170, wwt h, ww_0 h, ww_1 h, ww_2 h, ww_3 h, ww_4 h, ww_5 h, ww_6 h, ww_7 h, ww_8 h, ww_9 h, wgAe h, wgBe h, wgt h g0, wg_0 h g0, wg_2 h g0, wg_3 h g0, wg_4 h g0, wg_5 h g0, wg_6 h g0, wg_7 h g0, wg_8 h g0, wg_9 h g0, wg_10 h g0, wg_11 h g0, wg_12 h g0, wg_18 h g0, wg_19 h g0, wg_20 h g0, wg_21 h g0, wg_22 h g0, wg_23 h g0, wg_24 h g0, wg_25 h g0, wg_26 h g0, wg_27 h g0, wg_29 h g0, wg_1 h g0, wg_30 h g0, wg_31 h g0, wg_13 h g0, wg_14 h g0, wg_15 h g0, wg_16 h g0, wg_17 h g0, wg_28 h g0, wt_47 h g0, wl_47 h g0, wt_48 h g0, wl_48 h g0, wt_49 h g0, wl_49 h g0, wt_50 h g0, wl_50 h g0, wt_51 h g0, wl_51 h g0, wt_52 h g0, wl_52 h g0, wgAe h, wgBe h, e1, e2, e3, e5, e75, t3, b0, d1, g1, g4]
            exact nx
          · have nq : qP z1 k = true := by
              refine decide_eq_true (Int32.lt_iff_toInt_lt.2 ?_)
              have : (z1.1 1 k 12).toInt ≠ 0 := fun w => g1 (Int32.toInt_inj.1 (w.trans rfl))
              have h0 : (0 : Int32).toInt = 0 := rfl
              omega
            have e6 : mdS (qP z1) (z1.1 0 0 11) (zn z1) c (m + 1) = some k := by
              rw [mdS, hk, if_pos ⟨g0, nq⟩]
            rw [← he, e6] at hQ
            have S5 := SW_w (SW_w (SW_w (SW_s S g0 12 12 (v := z1.1 1 k 12 - 1) rfl (by decide)) 4 4 (v := Int32.ofNat k) rfl (by decide)) 5 10 (v := z1.1 0 0 2) rfl (by decide)) 6 11 (v := Int32.ofNat k) rfl (by decide)
            have nx := hQ _ (SW_z S5 (VE_zs (VE_zs (VE_hr (VE_hr (VE_refl _) rfl) rfl))))
            have g5 : (Int32.ofNat k = -1) = False := n32_m1 (by omega)
            by_cases g6 : ¬ (3 : Int32) < Int32.ofNat (c + 1)
            · have w4 := ww_4 S5.1
              rw [zs_j _ (by decide), zs_j _ (by decide), zs_at] at w4
              simp (config := {decide := true}) only [vRf_r, vRf_n, vI_i, vL_l, vD_d, pI_i, pR_r, pR_n, vZ_0, vZ_1, ct_i, ct_r, ct_n, ct_l, ct_d, csum_n, csum_c, kt_v, kt_n, kt_e, oc_n, oc_i, oc_r, oc_l, oc_u, oc_d, true_and, and_true, Bool.and_true, Bool.true_and, ne_eq, not_false_eq_true, not_true_eq_false, implies_true, false_imp, true_imp_iff, hsz_put, hsl_put, hln_put, hty_put, hsz_new, hsl_new, hln_new, hty_new, Nat.zero_add, Nat.add_zero, eq_self, decide_true, t32_0, t32_1, t32_2, t32_3, t32_4, t32_5, t32_6, hv_same, hv_kne, hv_tne, hv_ntne, hv_nsame, hv_ctne, hty_cpy, hln_cpy, hsz_cpy, hsl_cpy, vrn, vnr, vrr, A190_77, A190_78, A190_81, A190_82, A190_85, A190_86, A190_89, A190_90, A190_93, A190_94, A190_95, A190_96, A190_97, A190_98, A190_99, A190_100, A190_103, A190_106, A190_109, A190_110, A190_113, A190_114, A190_117, A190_117r, A190_120, A190_123, A190_129, A190_130, A190_133, A190_134, A190_137, A190_137r, A190_140, A190_141, A190_144, A190_145, A190_146, A190_149, A190_150, A190_151, A190_154, A190_155, A190_156, A190_159, A190_162, A190_163, A190_164, A190_167, A190_170, wwt h, ww_0 h, ww_1 h, ww_2 h, ww_3 h, ww_4 h, ww_5 h, ww_6 h, ww_7 h, ww_8 h, ww_9 h, wgAe h, wgBe h, wgt h g0, wg_0 h g0, wg_2 h g0, wg_3 h g0, wg_4 h g0, wg_5 h g0, wg_6 h g0, wg_7 h g0, wg_8 h g0, wg_9 h g0, wg_10 h g0, wg_11 h g0, wg_12 h g0, wg_18 h g0, wg_19 h g0, wg_20 h g0, wg_21 h g0, wg_22 h g0, wg_23 h g0, wg_24 h g0, wg_25 h g0, wg_26 h g0, wg_27 h g0, wg_29 h g0, wg_1 h g0, wg_30 h g0, wg_31 h g0, wg_13 h g0, wg_14 h g0, wg_15 h g0, wg_16 h g0, wg_17 h g0, wg_28 h g0, wt_47 h g0, wl_47 h g0, wt_48 h g0, wl_48 h g0, wt_49 h g0, wl_49 h g0, wt_50 h g0, wl_50 h g0, wt_51 h g0, wl_51 h g0, wt_52 h g0, wl_52 h g0, wgAe h, wgBe h, e1, e2, e3, e5, e75, t3, b0, d1, g1, g4]
              rw [A190_76]
              simp (config := {decide := true}) only [vRf_r, vRf_n, vI_i, vL_l, vD_d, pI_i, pR_r, pR_n, vZ_0, vZ_1, ct_i, ct_r, ct_n, ct_l, ct_d, csum_n, csum_c, kt_v, kt_n, kt_e, oc_n, oc_i, oc_r, oc_l, oc_u, oc_d, true_and, and_true, Bool.and_true, Bool.true_and, ne_eq, not_false_eq_true, not_true_eq_false, implies_true, false_imp, true_imp_iff, hsz_put, hsl_put, hln_put, hty_put, hsz_new, hsl_new, hln_new, hty_new, Nat.zero_add, Nat.add_zero, eq_self, decide_true, t32_0, t32_1, t32_2, t32_3, t32_4, t32_5, t32_6, hv_same, hv_kne, hv_tne, hv_ntne, hv_nsame, hv_ctne, hty_cpy, hln_cpy, hsz_cpy, hsl_cpy, vrn, vnr, vrr, A190_77, A190_78, A190_81, A190_82, A190_85, A190_86, A190_173, wwt h, ww_0 h, ww_1 h, ww_2 h, ww_3 h, ww_4 h, ww_5 h, ww_6 h, ww_7 h, ww_8 h, ww_9 h, wgAe h, wgBe h, g5, g6, w4]
              exact nx
            · have g6 := Classical.not_not.1 g6
              simp (config := {decide := true}) only [vRf_r, vRf_n, vI_i, vL_l, vD_d, pI_i, pR_r, pR_n, vZ_0, vZ_1, ct_i, ct_r, ct_n, ct_l, ct_d, csum_n, csum_c, kt_v, kt_n, kt_e, oc_n, oc_i, oc_r, oc_l, oc_u, oc_d, true_and, and_true, Bool.and_true, Bool.true_and, ne_eq, not_false_eq_true, not_true_eq_false, implies_true, false_imp, true_imp_iff, hsz_put, hsl_put, hln_put, hty_put, hsz_new, hsl_new, hln_new, hty_new, Nat.zero_add, Nat.add_zero, eq_self, decide_true, t32_0, t32_1, t32_2, t32_3, t32_4, t32_5, t32_6, hv_same, hv_kne, hv_tne, hv_ntne, hv_nsame, hv_ctne, hty_cpy, hln_cpy, hsz_cpy, hsl_cpy, vrn, vnr, vrr, A190_77, A190_78, A190_81, A190_82, A190_85, A190_86, A190_89, A190_90, A190_93, A190_94, A190_95, A190_96, A190_97, A190_98, A190_99, A190_100, A190_103, A190_106, A190_109, A190_110, A190_113, A190_114, A190_117, A190_117r, A190_120, A190_123, A190_129, A190_130, A190_133, A190_134, A190_137, A190_137r, A190_140, A190_141, A190_144, A190_145, A190_146, A190_149, A190_150, A190_151, A190_154, A190_155, A190_156, A190_159, A190_162, A190_163, A190_164, A190_167, A190_170, wwt h, ww_0 h, ww_1 h, ww_2 h, ww_3 h, ww_4 h, ww_5 h, ww_6 h, ww_7 h, ww_8 h, ww_9 h, wgAe h, wgBe h, wgt h g0, wg_0 h g0, wg_2 h g0, wg_3 h g0, wg_4 h g0, wg_5 h g0, wg_6 h g0, wg_7 h g0, wg_8 h g0, wg_9 h g0, wg_10 h g0, wg_11 h g0, wg_12 h g0, wg_18 h g0, wg_19 h g0, wg_20 h g0, wg_21 h g0, wg_22 h g0, wg_23 h g0, wg_24 h g0, wg_25 h g0, wg_26 h g0, wg_27 h g0, wg_29 h g0, wg_1 h g0, wg_30 h g0, wg_31 h g0, wg_13 h g0, wg_14 h g0, wg_15 h g0, wg_16 h g0, wg_17 h g0, wg_28 h g0, wt_47 h g0, wl_47 h g0, wt_48 h g0, wl_48 h g0, wt_49 h g0, wl_49 h g0, wt_50 h g0, wl_50 h g0, wt_51 h g0, wl_51 h g0, wt_52 h g0, wl_52 h g0, wgAe h, wgBe h, e1, e2, e3, e5, e75, t3, b0, d1, g1, g4]
              rw [A190_76]
              simp (config := {decide := true}) only [vRf_r, vRf_n, vI_i, vL_l, vD_d, pI_i, pR_r, pR_n, vZ_0, vZ_1, ct_i, ct_r, ct_n, ct_l, ct_d, csum_n, csum_c, kt_v, kt_n, kt_e, oc_n, oc_i, oc_r, oc_l, oc_u, oc_d, true_and, and_true, Bool.and_true, Bool.true_and, ne_eq, not_false_eq_true, not_true_eq_false, implies_true, false_imp, true_imp_iff, hsz_put, hsl_put, hln_put, hty_put, hsz_new, hsl_new, hln_new, hty_new, Nat.zero_add, Nat.add_zero, eq_self, decide_true, t32_0, t32_1, t32_2, t32_3, t32_4, t32_5, t32_6, hv_same, hv_kne, hv_tne, hv_ntne, hv_nsame, hv_ctne, hty_cpy, hln_cpy, hsz_cpy, hsl_cpy, vrn, vnr, vrr, A190_77, A190_78, A190_81, A190_82, A190_85, A190_86, A190_173, wwt h, ww_0 h, ww_1 h, ww_2 h, ww_3 h, ww_4 h, ww_5 h, ww_6 h, ww_7 h, ww_8 h, ww_9 h, wgAe h, wgBe h, g6]
              exact nx
        · have e3 : (Int32.ofNat (zn z1) ≤ Int32.ofNat (mdN (z1.1 0 0 11) c)) = True := by rw [n32_le (by omega) (by omega)]; exact eq_true (by omega)
          have e6 : mdS (qP z1) (z1.1 0 0 11) (zn z1) c (m + 1) = mdS (qP z1) (z1.1 0 0 11) (zn z1) (c + 1) m := by
            rw [mdS, if_neg (fun w => g0 w.1)]
          rw [e6] at he
          have nx := ih (c + 1) (by omega) (by omega) he (some (.int (Int32.ofNat (mdN (z1.1 0 0 11) c))))
          simp (config := {decide := true}) only [vRf_r, vRf_n, vI_i, vL_l, vD_d, pI_i, pR_r, pR_n, vZ_0, vZ_1, ct_i, ct_r, ct_n, ct_l, ct_d, csum_n, csum_c, kt_v, kt_n, kt_e, oc_n, oc_i, oc_r, oc_l, oc_u, oc_d, true_and, and_true, Bool.and_true, Bool.true_and, ne_eq, not_false_eq_true, not_true_eq_false, implies_true, false_imp, true_imp_iff, hsz_put, hsl_put, hln_put, hty_put, hsz_new, hsl_new, hln_new, hty_new, Nat.zero_add, Nat.add_zero, eq_self, decide_true, t32_0, t32_1, t32_2, t32_3, t32_4, t32_5, t32_6, hv_same, hv_kne, hv_tne, hv_ntne, hv_nsame, hv_ctne, hty_cpy, hln_cpy, hsz_cpy, hsl_cpy, vrn, vnr, vrr, A190_77, A190_78, A190_81, A190_82, A190_85, A190_86, A190_89, A190_90, A190_93, A190_94, A190_95, A190_96, A190_97, A190_98, A190_99, A190_100, A190_103, A190_106, A190_109, A190_110, A190_113, A190_114, A190_117, A190_117r, A190_120, A190_123, A190_126, A190_167, A190_170, wwt h, ww_0 h, ww_1 h, ww_2 h, ww_3 h, ww_4 h, ww_5 h, ww_6 h, ww_7 h, ww_8 h, ww_9 h, wgAe h, wgBe h, e1, e2, e3, t3, b0, d1, g4]
          exact nx
    have nx := loop 3 1 (by omega) (by omega) rfl none
    have z1' : Int32.ofNat 1 = 1 := rfl
    rw [z1'] at nx
    simp (config := {decide := true}) only [vRf_r, vRf_n, vI_i, vL_l, vD_d, pI_i, pR_r, pR_n, vZ_0, vZ_1, ct_i, ct_r, ct_n, ct_l, ct_d, csum_n, csum_c, kt_v, kt_n, kt_e, oc_n, oc_i, oc_r, oc_l, oc_u, oc_d, true_and, and_true, Bool.and_true, Bool.true_and, ne_eq, not_false_eq_true, not_true_eq_false, implies_true, false_imp, true_imp_iff, hsz_put, hsl_put, hln_put, hty_put, hsz_new, hsl_new, hln_new, hty_new, Nat.zero_add, Nat.add_zero, eq_self, decide_true, t32_0, t32_1, t32_2, t32_3, t32_4, t32_5, t32_6, hv_same, hv_kne, hv_tne, hv_ntne, hv_nsame, hv_ctne, hty_cpy, hln_cpy, hsz_cpy, hsl_cpy, vrn, vnr, vrr, A190_74, A190_75]
    exact nx
  · have eD : dv2Z z1 = z1 := if_neg g4
    rw [eD] at hQ
    have nx := hQ _ S
    simp (config := {decide := true}) only [vRf_r, vRf_n, vI_i, vL_l, vD_d, pI_i, pR_r, pR_n, vZ_0, vZ_1, ct_i, ct_r, ct_n, ct_l, ct_d, csum_n, csum_c, kt_v, kt_n, kt_e, oc_n, oc_i, oc_r, oc_l, oc_u, oc_d, true_and, and_true, Bool.and_true, Bool.true_and, ne_eq, not_false_eq_true, not_true_eq_false, implies_true, false_imp, true_imp_iff, hsz_put, hsl_put, hln_put, hty_put, hsz_new, hsl_new, hln_new, hty_new, Nat.zero_add, Nat.add_zero, eq_self, decide_true, t32_0, t32_1, t32_2, t32_3, t32_4, t32_5, t32_6, hv_same, hv_kne, hv_tne, hv_ntne, hv_nsame, hv_ctne, hty_cpy, hln_cpy, hsz_cpy, hsl_cpy, vrn, vnr, vrr, A190_74, A190_75, A190_76, A190_77, A190_78, A190_81, A190_82, A190_85, A190_86, A190_173, wwt h, ww_0 h, ww_1 h, ww_2 h, ww_3 h, ww_4 h, ww_5 h, ww_6 h, ww_7 h, ww_8 h, ww_9 h, wgAe h, wgBe h, g4]
    exact nx
theorem w_device (h : RepW g M σ z) (hn : zn z ≤ 3) (hR : okR z (z.1 0 0 4)) (h5 : z.1 0 0 4 ≠ -1 → z.1 0 0 5 = z.1 0 0 10) (hl : lkL z) (hq : quI z) (hQ : ∀ σ', SW g 60 M M σ σ' (deviceZ z) 0 0 → Q (.inl none) σ') : aw g 190 0 [some (.ref (M 41 0)), none, none] [] σ Q := by
  by_cases g0 : z.1 0 0 4 = -1
  · have eD : deviceZ z = dv2Z z := by unfold deviceZ; rw [if_neg (fun e => e.1 g0)]
    rw [eD] at hQ
    have nx := w_dv2 (SW_refl 60 h) hn hl hq hQ none
    simp (config := {decide := true}) only [vRf_r, vRf_n, vI_i, vL_l, vD_d, pI_i, pR_r, pR_n, vZ_0, vZ_1, ct_i, ct_r, ct_n, ct_l, ct_d, csum_n, csum_c, kt_v, kt_n, kt_e, oc_n, oc_i, oc_r, oc_l, oc_u, oc_d, true_and, and_true, Bool.and_true, Bool.true_and, ne_eq, not_false_eq_true, not_true_eq_false, implies_true, false_imp, true_imp_iff, hsz_put, hsl_put, hln_put, hty_put, hsz_new, hsl_new, hln_new, hty_new, Nat.zero_add, Nat.add_zero, eq_self, decide_true, t32_0, t32_1, t32_2, t32_3, t32_4, t32_5, t32_6, hv_same, hv_kne, hv_tne, hv_ntne, hv_nsame, hv_ctne, hty_cpy, hln_cpy, hsz_cpy, hsl_cpy, vrn, vnr, vrr, A190_0, A190_1, A190_4, A190_5, wwt h, ww_0 h, ww_1 h, ww_2 h, ww_3 h, ww_4 h, ww_5 h, ww_6 h, ww_7 h, ww_8 h, ww_9 h, wgAe h, wgBe h, g0]
    exact nx
  · have e5 := h5 g0
    by_cases g1 : z.1 0 0 2 - z.1 0 0 10 < 3
    · have eD : deviceZ z = dv2Z z := by unfold deviceZ; rw [if_neg (fun e => e.2 (by rw [e5]; exact g1))]
      rw [eD] at hQ
      have nx := w_dv2 (SW_refl 60 h) hn hl hq hQ none
      simp (config := {decide := true}) only [vRf_r, vRf_n, vI_i, vL_l, vD_d, pI_i, pR_r, pR_n, vZ_0, vZ_1, ct_i, ct_r, ct_n, ct_l, ct_d, csum_n, csum_c, kt_v, kt_n, kt_e, oc_n, oc_i, oc_r, oc_l, oc_u, oc_d, true_and, and_true, Bool.and_true, Bool.true_and, ne_eq, not_false_eq_true, not_true_eq_false, implies_true, false_imp, true_imp_iff, hsz_put, hsl_put, hln_put, hty_put, hsz_new, hsl_new, hln_new, hty_new, Nat.zero_add, Nat.add_zero, eq_self, decide_true, t32_0, t32_1, t32_2, t32_3, t32_4, t32_5, t32_6, hv_same, hv_kne, hv_tne, hv_ntne, hv_nsame, hv_ctne, hty_cpy, hln_cpy, hsz_cpy, hsl_cpy, vrn, vnr, vrr, A190_0, A190_1, A190_4, A190_5, A190_8, A190_9, A190_12, A190_13, A190_16, A190_17, A190_18, wwt h, ww_0 h, ww_1 h, ww_2 h, ww_3 h, ww_4 h, ww_5 h, ww_6 h, ww_7 h, ww_8 h, ww_9 h, wgAe h, wgBe h, g0, g1]
      exact nx
    · have eD : deviceZ z = dv2Z (dv1Z z (z.1 0 0 4).toNatClampNeg) := by unfold deviceZ; rw [if_pos ⟨g0, by rw [e5]; exact g1⟩]
      rw [eD] at hQ
      obtain ⟨k, hk, ek⟩ := hR.resolve_left g0
      have b1 : (Int32.ofNat k).toNatClampNeg = k := n32_nat (by omega)
      rw [ek, b1] at hQ
      have e6 := fun Q' => l_get (Q := Q') (wL h) hk
      have t3 := (wL h).1
      have e75 : (∃ t, t ∈ [7] ∧ some 7 = some t) = True := eq_true ⟨7, by decide, rfl⟩
      have g5 : (Int32.ofNat k = -1) = False := n32_m1 (by omega)
      have ln : ∀ z1 : ZT, z1.2 = z.2 → z1.1 0 0 6 = z.1 0 0 6 → z1.1 0 0 11 = z.1 0 0 11 → (∀ i, z1.1 1 i 12 = z.1 1 i 12) → lkL z1 ∧ quI z1 ∧ zn z1 ≤ 3 := by
        intro z1 a1 a2 a3 a4
        have : zn z1 = zn z := by unfold zn; rw [a1]
        refine ⟨?_, fun i hi => by rw [a4 i]; exact hq i (by omega), by omega⟩
        unfold lkL
        rw [a2, a3, this]; exact hl
      by_cases g2 : z.1 1 k 3 = 1
      · have eV : dv1Z z k = zs (zs (zs (zs (zs z 1 k 8 (z.1 1 k 8 + 1)) 1 k 3 0) 0 0 9 (z.1 0 0 9 + 1)) 0 0 4 (-1)) 0 0 5 (-1) := by unfold dv1Z; rw [if_pos g2]
        rw [eV] at hQ
        have S := SW_w (SW_s (SW_w (SW_s (SW_refl 60 h) hk 5 8 (v := z.1 1 k 8 + 1) rfl (by decide)) 9 9 (v := z.1 0 0 9 + 1) rfl (by decide)) hk 6 3 (v := 0) rfl (by decide)) 4 4 (v := -1) rfl (by decide)
        have S2 := SW_z S (show VE _ (zs (zs (zs (zs (zs z 1 k 8 (z.1 1 k 8 + 1)) 1 k 3 0) 0 0 9 (z.1 0 0 9 + 1)) 0 0 4 (-1)) 0 0 5 (-1)) from VE_hr (VE_zs (by rw [zs_comm (κ := 0) (κ' := 1) (Or.inl (by decide))]; exact VE_refl _)) rfl)
        obtain ⟨y1, y2, y3⟩ := ln (zs (zs (zs (zs (zs z 1 k 8 (z.1 1 k 8 + 1)) 1 k 3 0) 0 0 9 (z.1 0 0 9 + 1)) 0 0 4 (-1)) 0 0 5 (-1)) rfl (by rw [zs_j _ (by decide), zs_j _ (by decide), zs_j _ (by decide), zs_j _ (by decide), zs_j _ (by decide)]) (by rw [zs_j _ (by decide), zs_j _ (by decide), zs_j _ (by decide), zs_j _ (by decide), zs_j _ (by decide)]) (fun i => by rw [zs_j _ (by decide), zs_j _ (by decide), zs_j _ (by decide), zs_j _ (by decide), zs_j _ (by decide)])
        have nx := w_dv2 S2 y3 y1 y2 hQ (some (.ref (M 44 k)))
        simp (config := {decide := true}) only [vRf_r, vRf_n, vI_i, vL_l, vD_d, pI_i, pR_r, pR_n, vZ_0, vZ_1, ct_i, ct_r, ct_n, ct_l, ct_d, csum_n, csum_c, kt_v, kt_n, kt_e, oc_n, oc_i, oc_r, oc_l, oc_u, oc_d, true_and, and_true, Bool.and_true, Bool.true_and, ne_eq, not_false_eq_true, not_true_eq_false, implies_true, false_imp, true_imp_iff, hsz_put, hsl_put, hln_put, hty_put, hsz_new, hsl_new, hln_new, hty_new, Nat.zero_add, Nat.add_zero, eq_self, decide_true, t32_0, t32_1, t32_2, t32_3, t32_4, t32_5, t32_6, hv_same, hv_kne, hv_tne, hv_ntne, hv_nsame, hv_ctne, hty_cpy, hln_cpy, hsz_cpy, hsl_cpy, vrn, vnr, vrr, A190_0, A190_1, A190_4, A190_5, A190_8, A190_9, A190_12, A190_13, A190_16, A190_17, A190_18, A190_21, A190_22, A190_25, A190_26, A190_29, A190_32, A190_32r, A190_35, A190_36, A190_37, A190_38, A190_41, A190_42, A190_43, A190_46, A190_47, A190_48, A190_51, A190_52, A190_53, A190_56, A190_57, A190_60, A190_61, A190_64, A190_65, A190_66, A190_69, A190_70, A190_71, wwt h, ww_0 h, ww_1 h, ww_2 h, ww_3 h, ww_4 h, ww_5 h, ww_6 h, ww_7 h, ww_8 h, ww_9 h, wgAe h, wgBe h, wgt h hk, wg_0 h hk, wg_2 h hk, wg_3 h hk, wg_4 h hk, wg_5 h hk, wg_6 h hk, wg_7 h hk, wg_8 h hk, wg_9 h hk, wg_10 h hk, wg_11 h hk, wg_12 h hk, wg_18 h hk, wg_19 h hk, wg_20 h hk, wg_21 h hk, wg_22 h hk, wg_23 h hk, wg_24 h hk, wg_25 h hk, wg_26 h hk, wg_27 h hk, wg_29 h hk, wg_1 h hk, wg_30 h hk, wg_31 h hk, wg_13 h hk, wg_14 h hk, wg_15 h hk, wg_16 h hk, wg_17 h hk, wg_28 h hk, wt_47 h hk, wl_47 h hk, wt_48 h hk, wl_48 h hk, wt_49 h hk, wl_49 h hk, wt_50 h hk, wl_50 h hk, wt_51 h hk, wl_51 h hk, wt_52 h hk, wl_52 h hk, wgAe h, wgBe h, g1, ek, g5, e6, e75, t3, g2]
        exact nx
      · have eV : dv1Z z k = zs (zs (zs (zs z 1 k 8 (z.1 1 k 8 + 1)) 0 0 9 (z.1 0 0 9 + 1)) 0 0 4 (-1)) 0 0 5 (-1) := by unfold dv1Z; rw [if_neg g2]
        rw [eV] at hQ
        have S := SW_w (SW_w (SW_s (SW_refl 60 h) hk 5 8 (v := z.1 1 k 8 + 1) rfl (by decide)) 9 9 (v := z.1 0 0 9 + 1) rfl (by decide)) 4 4 (v := -1) rfl (by decide)
        have S2 := SW_z S (show VE _ (zs (zs (zs (zs z 1 k 8 (z.1 1 k 8 + 1)) 0 0 9 (z.1 0 0 9 + 1)) 0 0 4 (-1)) 0 0 5 (-1)) from VE_hr (VE_refl _) rfl)
        obtain ⟨y1, y2, y3⟩ := ln (zs (zs (zs (zs z 1 k 8 (z.1 1 k 8 + 1)) 0 0 9 (z.1 0 0 9 + 1)) 0 0 4 (-1)) 0 0 5 (-1)) rfl (by rw [zs_j _ (by decide), zs_j _ (by decide), zs_j _ (by decide), zs_j _ (by decide)]) (by rw [zs_j _ (by decide), zs_j _ (by decide), zs_j _ (by decide), zs_j _ (by decide)]) (fun i => by rw [zs_j _ (by decide), zs_j _ (by decide), zs_j _ (by decide), zs_j _ (by decide)])
        have nx := w_dv2 S2 y3 y1 y2 hQ (some (.ref (M 44 k)))
        simp (config := {decide := true}) only [vRf_r, vRf_n, vI_i, vL_l, vD_d, pI_i, pR_r, pR_n, vZ_0, vZ_1, ct_i, ct_r, ct_n, ct_l, ct_d, csum_n, csum_c, kt_v, kt_n, kt_e, oc_n, oc_i, oc_r, oc_l, oc_u, oc_d, true_and, and_true, Bool.and_true, Bool.true_and, ne_eq, not_false_eq_true, not_true_eq_false, implies_true, false_imp, true_imp_iff, hsz_put, hsl_put, hln_put, hty_put, hsz_new, hsl_new, hln_new, hty_new, Nat.zero_add, Nat.add_zero, eq_self, decide_true, t32_0, t32_1, t32_2, t32_3, t32_4, t32_5, t32_6, hv_same, hv_kne, hv_tne, hv_ntne, hv_nsame, hv_ctne, hty_cpy, hln_cpy, hsz_cpy, hsl_cpy, vrn, vnr, vrr, A190_0, A190_1, A190_4, A190_5, A190_8, A190_9, A190_12, A190_13, A190_16, A190_17, A190_18, A190_21, A190_22, A190_25, A190_26, A190_29, A190_32, A190_32r, A190_35, A190_36, A190_37, A190_38, A190_41, A190_42, A190_43, A190_46, A190_47, A190_48, A190_51, A190_52, A190_53, A190_56, A190_57, A190_60, A190_61, A190_64, A190_65, A190_66, A190_69, A190_70, A190_71, wwt h, ww_0 h, ww_1 h, ww_2 h, ww_3 h, ww_4 h, ww_5 h, ww_6 h, ww_7 h, ww_8 h, ww_9 h, wgAe h, wgBe h, wgt h hk, wg_0 h hk, wg_2 h hk, wg_3 h hk, wg_4 h hk, wg_5 h hk, wg_6 h hk, wg_7 h hk, wg_8 h hk, wg_9 h hk, wg_10 h hk, wg_11 h hk, wg_12 h hk, wg_18 h hk, wg_19 h hk, wg_20 h hk, wg_21 h hk, wg_22 h hk, wg_23 h hk, wg_24 h hk, wg_25 h hk, wg_26 h hk, wg_27 h hk, wg_29 h hk, wg_1 h hk, wg_30 h hk, wg_31 h hk, wg_13 h hk, wg_14 h hk, wg_15 h hk, wg_16 h hk, wg_17 h hk, wg_28 h hk, wt_47 h hk, wl_47 h hk, wt_48 h hk, wl_48 h hk, wt_49 h hk, wl_49 h hk, wt_50 h hk, wl_50 h hk, wt_51 h hk, wl_51 h hk, wt_52 h hk, wl_52 h hk, wgAe h, wgBe h, g1, ek, g5, e6, e75, t3, g2]
        exact nx
end MDEV2
