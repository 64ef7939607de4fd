/-! an op of the model's -/
section MDOES2
variable {g : GC} {n : Nat} {M M' : Nat → Nat → Nat} {σ σ' : AH} {z z' : ZT} {k p i q : Nat} {Q : AQ}
theorem logZ_8 (z : ZT) (k : Nat) (t v : Int32) : logZ (zs z 1 k 8 v) k t = zs (logZ z k t) 1 k 8 v := by
  have e31 : (zs z 1 k 8 v).1 1 k 31 = z.1 1 k 31 := zs_j _ (by decide)
  unfold logZ
  rw [e31, zs_2]
  split
  · split
    · exact zs_comm (Or.inr (Or.inr (by decide)))
    · exact congrArg (fun y => zl y 3 k (z.2 3 k + 1)) (zs_comm (Or.inl (by decide)))
  · rfl
theorem logZ_23 (z : ZT) (k : Nat) (t v : Int32) : logZ (zs z 1 k 23 v) k t = zs (logZ z k t) 1 k 23 v := by
  have e31 : (zs z 1 k 23 v).1 1 k 31 = z.1 1 k 31 := zs_j _ (by decide)
  unfold logZ
  rw [e31, zs_2]
  split
  · split
    · exact zs_comm (Or.inr (Or.inr (by decide)))
    · exact congrArg (fun y => zl y 3 k (z.2 3 k + 1)) (zs_comm (Or.inl (by decide)))
  · rfl
theorem logZ_1 (z : ZT) (k : Nat) (t : Int32) : (∀ j, j ≠ 25 → (logZ z k t).1 1 k j = z.1 1 k j) ∧ (logZ z k t).1 9 = z.1 9 ∧ (logZ z k t).1 10 = z.1 10 ∧ (logZ z k t).2 2 = z.2 2 := by
  unfold logZ
  split
  · split
    · exact ⟨fun j hj => zs_j _ hj, zs_k _ (by decide), zs_k _ (by decide), rfl⟩
    · exact ⟨fun j hj => by rw [zl_1, zs_k _ (by decide)], by rw [zl_1, zs_k _ (by decide)], by rw [zl_1, zs_k _ (by decide)], by rw [zl_k _ (by decide)]; rfl⟩
  · exact ⟨fun _ _ => rfl, rfl, rfl, rfl⟩
theorem irm_irm {x : Int32} (h : ¬ x < 0) : irm (irm x 1000) 1000 = irm x 1000 := by
  have e := n32_of h
  have hb := n32_bd x
  rw [e, show (1000 : Int32) = Int32.ofNat 1000 from rfl, n32_rem hb (by decide), n32_rem (by omega) (by decide), Nat.mod_mod]
/-- what an op needs of the state -/
def ZO (z : ZT) (k : Nat) : Prop := (zn z ≤ 3 ∧ zf z ≤ 10 ∧ 0 < zf z) ∧ ZF z ∧ ZP z k ∧ okG z k ∧ b01 (z.1 1 k 30) ∧ b01 (z.1 1 k 31) ∧ z.2 3 k ≤ 60 ∧ okR z (z.1 0 0 4) ∧ ¬ z.1 1 k 7 < 0
theorem sw186 : tswf 1 147 [40, 40, 47, 53, 109, 132] 0 = 147 ∧ tswf 1 147 [40, 40, 47, 53, 109, 132] 1 = 40 ∧ tswf 1 147 [40, 40, 47, 53, 109, 132] 2 = 40 ∧ tswf 1 147 [40, 40, 47, 53, 109, 132] 3 = 47 ∧ tswf 1 147 [40, 40, 47, 53, 109, 132] 4 = 53 ∧ tswf 1 147 [40, 40, 47, 53, 109, 132] 5 = 109 ∧ tswf 1 147 [40, 40, 47, 53, 109, 132] 6 = 132 := by decide
theorem w_does (h : RepW g M σ z) (hk : k < zn z) (hO : ZO z k) (ho : oq M σ q (zkd z k) (z.1 10 k (zpl z k))) (hc : hsz σ + 2 ≤ gC g) (hs : hsl σ + 101 ≤ gS g) (hQ : ∀ M' σ', SW g 60 M M' σ σ' (goZ z k) 2 101 → Q (.inl none) σ') : aw g 186 0 [some (.ref (M 41 0)), some (.ref (M 44 k)), some (.ref q)] [] σ Q := by
  obtain ⟨⟨hn, hf10, hf⟩, hF, hP, ht, hb30, hb31, hl3, hR, h7⟩ := hO
  have ho0 := ho
  obtain ⟨o1, o2, o3, o4, o5⟩ := ho
  have hpl := ht.1.2.2
  have hl : zpl z k < z.2 2 k ∧ z.2 2 k ≤ 12 := ⟨ht.2, ht.1.1⟩
  obtain ⟨hkind, harg⟩ := ht.1.2.1 (zpl z k) ht.2
  have hkind : zkd z k = 0 ∨ zkd z k = 1 ∨ zkd z k = 2 ∨ zkd z k = 3 ∨ zkd z k = 4 ∨ zkd z k = 5 ∨ zkd z k = 6 := hkind
  have harg : zkd z k = 1 ∨ zkd z k = 2 → ∃ a, z.1 10 k (zpl z k) = Int32.ofNat a ∧ a < 6 := harg
  have ar := wgA h
  -- the end of what is done
  have fin : ∀ M1 σ1 z1, SW g 60 M M1 σ σ1 z1 2 101 → zpl z1 k = zpl z k → z1.1 1 k 22 = z.1 1 k 22 → z1.2 2 = z.2 2 → zn z1 = zn z → dnZ z1 k = goZ z k → aw g 186 147 [some (.ref (M 41 0)), some (.ref (M 44 k)), some (.ref q)] [] σ1 Q := by
    intro M1 σ1 z1 S e1 e2 e3 e4 e5
    have m44 : M1 44 = M 44 := SW_r S (by decide)
    have hk1 : k < zn z1 := by rw [e4]; exact hk
    have d := w_isDone (n := 60) (Q := kt (aw g) 186 151 [some (.ref (M 41 0)), some (.ref (M 44 k)), some (.ref q)] [] Q) S.1 hk1 (by rw [e1, e2]; exact hpl) (by rw [e1, e3]; exact hl) (fun σ' S2 => by
      simp (config := {decide := true}) only [vRf_r, vRf_n, vI_i, vL_l, vD_d, pI_i, pR_r, pR_n, vZ_0, vZ_1, ct_i, ct_r, ct_n, ct_l, ct_d, csum_n, csum_c, kt_v, kt_n, kt_e, oc_n, oc_i, oc_r, oc_l, oc_u, oc_d, true_and, and_true, Bool.and_true, Bool.true_and, ne_eq, not_false_eq_true, not_true_eq_false, implies_true, false_imp, true_imp_iff, hsz_put, hsl_put, hln_put, hty_put, hsz_new, hsl_new, hln_new, hty_new, Nat.zero_add, Nat.add_zero, eq_self, decide_true, t32_0, t32_1, t32_2, t32_3, t32_4, t32_5, t32_6, hv_same, hv_kne, hv_tne, hv_ntne, hv_nsame, hv_ctne, hty_cpy, hln_cpy, hsz_cpy, hsl_cpy, vrn, vnr, vrr, A186_151]
      refine hQ M1 σ' ?_
      rw [← e5]
      exact SW_trans S S2)
    have t7 := wgt S.1 hk1
    rw [m44] at d t7
    simp (config := {decide := true}) only [vRf_r, vRf_n, vI_i, vL_l, vD_d, pI_i, pR_r, pR_n, vZ_0, vZ_1, ct_i, ct_r, ct_n, ct_l, ct_d, csum_n, csum_c, kt_v, kt_n, kt_e, oc_n, oc_i, oc_r, oc_l, oc_u, oc_d, true_and, and_true, Bool.and_true, Bool.true_and, ne_eq, not_false_eq_true, not_true_eq_false, implies_true, false_imp, true_imp_iff, hsz_put, hsl_put, hln_put, hty_put, hsz_new, hsl_new, hln_new, hty_new, Nat.zero_add, Nat.add_zero, eq_self, decide_true, t32_0, t32_1, t32_2, t32_3, t32_4, t32_5, t32_6, hv_same, hv_kne, hv_tne, hv_ntne, hv_nsame, hv_ctne, hty_cpy, hln_cpy, hsz_cpy, hsl_cpy, vrn, vnr, vrr, A186_147, A186_148, t7]
    exact d
  have start : SW g 60 M M σ σ z 2 101 := SW_mono (SW_refl 60 h) (by omega) (by omega)
  rcases hkind with hd | hd | hd | hd | hd | hd | hd
  · -- work
    have e : dnZ z k = goZ z k := by
      unfold goZ
      rw [hd]
      rw [if_neg (by decide), if_neg (by decide), if_neg (by decide), if_neg (by decide), if_neg (by decide), finish_dn]
      unfold mkZ
      rw [hd, if_neg (by decide), if_neg (by decide), if_neg (by decide), if_neg (by decide)]
    have := fin M σ z start rfl rfl rfl rfl e
    rw [hd] at o3
    simp (config := {decide := true}) only [vRf_r, vRf_n, vI_i, vL_l, vD_d, pI_i, pR_r, pR_n, vZ_0, vZ_1, ct_i, ct_r, ct_n, ct_l, ct_d, csum_n, csum_c, kt_v, kt_n, kt_e, oc_n, oc_i, oc_r, oc_l, oc_u, oc_d, true_and, and_true, Bool.and_true, Bool.true_and, ne_eq, not_false_eq_true, not_true_eq_false, implies_true, false_imp, true_imp_iff, hsz_put, hsl_put, hln_put, hty_put, hsz_new, hsl_new, hln_new, hty_new, Nat.zero_add, Nat.add_zero, eq_self, decide_true, t32_0, t32_1, t32_2, t32_3, t32_4, t32_5, t32_6, hv_same, hv_kne, hv_tne, hv_ntne, hv_nsame, hv_ctne, hty_cpy, hln_cpy, hsz_cpy, hsl_cpy, vrn, vnr, vrr, A186_0, A186_1, A186_2, A186_3, o1, o2, o3, sw186.1, sw186.2.1, sw186.2.2.1, sw186.2.2.2.1, sw186.2.2.2.2.1, sw186.2.2.2.2.2.1, sw186.2.2.2.2.2.2]
    exact this
  · -- read
    obtain ⟨a, a1, a2⟩ := harg (Or.inl hd)
    have e : goZ z k = touchZ z k := if_pos (Or.inl hd)
    have hpa : zar z k = a := by unfold zar; rw [a1]; exact n32_nat (by omega)
    have oo : oq M σ q (zkd z k) (Int32.ofNat a) := by rw [← a1]; exact ho0
    rw [hd] at o3
    simp (config := {decide := true}) only [vRf_r, vRf_n, vI_i, vL_l, vD_d, pI_i, pR_r, pR_n, vZ_0, vZ_1, ct_i, ct_r, ct_n, ct_l, ct_d, csum_n, csum_c, kt_v, kt_n, kt_e, oc_n, oc_i, oc_r, oc_l, oc_u, oc_d, true_and, and_true, Bool.and_true, Bool.true_and, ne_eq, not_false_eq_true, not_true_eq_false, implies_true, false_imp, true_imp_iff, hsz_put, hsl_put, hln_put, hty_put, hsz_new, hsl_new, hln_new, hty_new, Nat.zero_add, Nat.add_zero, eq_self, decide_true, t32_0, t32_1, t32_2, t32_3, t32_4, t32_5, t32_6, hv_same, hv_kne, hv_tne, hv_ntne, hv_nsame, hv_ctne, hty_cpy, hln_cpy, hsz_cpy, hsl_cpy, vrn, vnr, vrr, A186_0, A186_1, A186_2, A186_3, A186_40, A186_41, A186_42, A186_43, wwt h, o1, o2, o3, sw186.1, sw186.2.1, sw186.2.2.1, sw186.2.2.2.1, sw186.2.2.2.2.1, sw186.2.2.2.2.2.1, sw186.2.2.2.2.2.2]
    refine w_touch h hk ⟨hn, hf10⟩ hf hF hP ht hb30 (Or.inl hd) a2 hpa oo (fun σ' S => ?_)
    simp (config := {decide := true}) only [vRf_r, vRf_n, vI_i, vL_l, vD_d, pI_i, pR_r, pR_n, vZ_0, vZ_1, ct_i, ct_r, ct_n, ct_l, ct_d, csum_n, csum_c, kt_v, kt_n, kt_e, oc_n, oc_i, oc_r, oc_l, oc_u, oc_d, true_and, and_true, Bool.and_true, Bool.true_and, ne_eq, not_false_eq_true, not_true_eq_false, implies_true, false_imp, true_imp_iff, hsz_put, hsl_put, hln_put, hty_put, hsz_new, hsl_new, hln_new, hty_new, Nat.zero_add, Nat.add_zero, eq_self, decide_true, t32_0, t32_1, t32_2, t32_3, t32_4, t32_5, t32_6, hv_same, hv_kne, hv_tne, hv_ntne, hv_nsame, hv_ctne, hty_cpy, hln_cpy, hsz_cpy, hsl_cpy, vrn, vnr, vrr, A186_46]
    exact hQ M σ' (by rw [e]; exact SW_mono S (by omega) (by omega))
  · -- write
    obtain ⟨a, a1, a2⟩ := harg (Or.inr hd)
    have e : goZ z k = touchZ z k := if_pos (Or.inr hd)
    have hpa : zar z k = a := by unfold zar; rw [a1]; exact n32_nat (by omega)
    have oo : oq M σ q (zkd z k) (Int32.ofNat a) := by rw [← a1]; exact ho0
    rw [hd] at o3
    simp (config := {decide := true}) only [vRf_r, vRf_n, vI_i, vL_l, vD_d, pI_i, pR_r, pR_n, vZ_0, vZ_1, ct_i, ct_r, ct_n, ct_l, ct_d, csum_n, csum_c, kt_v, kt_n, kt_e, oc_n, oc_i, oc_r, oc_l, oc_u, oc_d, true_and, and_true, Bool.and_true, Bool.true_and, ne_eq, not_false_eq_true, not_true_eq_false, implies_true, false_imp, true_imp_iff, hsz_put, hsl_put, hln_put, hty_put, hsz_new, hsl_new, hln_new, hty_new, Nat.zero_add, Nat.add_zero, eq_self, decide_true, t32_0, t32_1, t32_2, t32_3, t32_4, t32_5, t32_6, hv_same, hv_kne, hv_tne, hv_ntne, hv_nsame, hv_ctne, hty_cpy, hln_cpy, hsz_cpy, hsl_cpy, vrn, vnr, vrr, A186_0, A186_1, A186_2, A186_3, A186_40, A186_41, A186_42, A186_43, wwt h, o1, o2, o3, sw186.1, sw186.2.1, sw186.2.2.1, sw186.2.2.2.1, sw186.2.2.2.2.1, sw186.2.2.2.2.2.1, sw186.2.2.2.2.2.2]
    refine w_touch h hk ⟨hn, hf10⟩ hf hF hP ht hb30 (Or.inr hd) a2 hpa oo (fun σ' S => ?_)
    simp (config := {decide := true}) only [vRf_r, vRf_n, vI_i, vL_l, vD_d, pI_i, pR_r, pR_n, vZ_0, vZ_1, ct_i, ct_r, ct_n, ct_l, ct_d, csum_n, csum_c, kt_v, kt_n, kt_e, oc_n, oc_i, oc_r, oc_l, oc_u, oc_d, true_and, and_true, Bool.and_true, Bool.true_and, ne_eq, not_false_eq_true, not_true_eq_false, implies_true, false_imp, true_imp_iff, hsz_put, hsl_put, hln_put, hty_put, hsz_new, hsl_new, hln_new, hty_new, Nat.zero_add, Nat.add_zero, eq_self, decide_true, t32_0, t32_1, t32_2, t32_3, t32_4, t32_5, t32_6, hv_same, hv_kne, hv_tne, hv_ntne, hv_nsame, hv_ctne, hty_cpy, hln_cpy, hsz_cpy, hsl_cpy, vrn, vnr, vrr, A186_46]
    exact hQ M σ' (by rw [e]; exact SW_mono S (by omega) (by omega))
  · -- send
    have e : goZ z k = sendZ z k := by unfold goZ; rw [hd, if_neg (by decide), if_pos rfl]
    rw [hd] at o3
    simp (config := {decide := true}) only [vRf_r, vRf_n, vI_i, vL_l, vD_d, pI_i, pR_r, pR_n, vZ_0, vZ_1, ct_i, ct_r, ct_n, ct_l, ct_d, csum_n, csum_c, kt_v, kt_n, kt_e, oc_n, oc_i, oc_r, oc_l, oc_u, oc_d, true_and, and_true, Bool.and_true, Bool.true_and, ne_eq, not_false_eq_true, not_true_eq_false, implies_true, false_imp, true_imp_iff, hsz_put, hsl_put, hln_put, hty_put, hsz_new, hsl_new, hln_new, hty_new, Nat.zero_add, Nat.add_zero, eq_self, decide_true, t32_0, t32_1, t32_2, t32_3, t32_4, t32_5, t32_6, hv_same, hv_kne, hv_tne, hv_ntne, hv_nsame, hv_ctne, hty_cpy, hln_cpy, hsz_cpy, hsl_cpy, vrn, vnr, vrr, A186_0, A186_1, A186_2, A186_3, A186_47, A186_48, A186_49, wwt h, o1, o2, o3, sw186.1, sw186.2.1, sw186.2.2.1, sw186.2.2.2.1, sw186.2.2.2.2.1, sw186.2.2.2.2.2.1, sw186.2.2.2.2.2.2]
    refine w_send h hk hn ht hR hd (fun σ' S => ?_)
    simp (config := {decide := true}) only [vRf_r, vRf_n, vI_i, vL_l, vD_d, pI_i, pR_r, pR_n, vZ_0, vZ_1, ct_i, ct_r, ct_n, ct_l, ct_d, csum_n, csum_c, kt_v, kt_n, kt_e, oc_n, oc_i, oc_r, oc_l, oc_u, oc_d, true_and, and_true, Bool.and_true, Bool.true_and, ne_eq, not_false_eq_true, not_true_eq_false, implies_true, false_imp, true_imp_iff, hsz_put, hsl_put, hln_put, hty_put, hsz_new, hsl_new, hln_new, hty_new, Nat.zero_add, Nat.add_zero, eq_self, decide_true, t32_0, t32_1, t32_2, t32_3, t32_4, t32_5, t32_6, hv_same, hv_kne, hv_tne, hv_ntne, hv_nsame, hv_ctne, hty_cpy, hln_cpy, hsz_cpy, hsl_cpy, vrn, vnr, vrr, A186_52]
    exact hQ M σ' (by rw [e]; exact SW_mono S (by omega) (by omega))
  · -- wait
    have e : goZ z k = awaitZ z k := by unfold goZ; rw [hd, if_neg (by decide), if_neg (by decide), if_pos rfl]
    rw [hd] at o3
    by_cases h8 : z.1 1 k 8 = 0
    · have e2 : awaitZ z k = zs (zs z 3 k 2 (z.1 3 k 2 + 1)) 1 k 3 1 := if_pos h8
      have x2 := wa_51 h hk (p := 2) (by decide)
      have S := SW_s (SW_a (p := 2) (SW_refl 60 h) hk 51 3 (v := z.1 3 k 2 + 1) (by decide) rfl (by decide)) hk 6 3 (v := 1) rfl (by decide)
      have := hQ M _ (by rw [e, e2]; exact SW_mono S (by omega) (by omega))
      simp (config := {decide := true}) only [vRf_r, vRf_n, vI_i, vL_l, vD_d, pI_i, pR_r, pR_n, vZ_0, vZ_1, ct_i, ct_r, ct_n, ct_l, ct_d, csum_n, csum_c, kt_v, kt_n, kt_e, oc_n, oc_i, oc_r, oc_l, oc_u, oc_d, true_and, and_true, Bool.and_true, Bool.true_and, ne_eq, not_false_eq_true, not_true_eq_false, implies_true, false_imp, true_imp_iff, hsz_put, hsl_put, hln_put, hty_put, hsz_new, hsl_new, hln_new, hty_new, Nat.zero_add, Nat.add_zero, eq_self, decide_true, t32_0, t32_1, t32_2, t32_3, t32_4, t32_5, t32_6, hv_same, hv_kne, hv_tne, hv_ntne, hv_nsame, hv_ctne, hty_cpy, hln_cpy, hsz_cpy, hsl_cpy, vrn, vnr, vrr, A186_0, A186_1, A186_2, A186_3, A186_53, A186_54, A186_57, A186_60, A186_61, A186_64, A186_65, A186_66, A186_67, A186_68, A186_69, A186_70, A186_71, A186_72, A186_75, wgt h hk, wg_0 h hk, wg_2 h hk, wg_3 h hk, wg_4 h hk, wg_5 h hk, wg_6 h hk, wg_7 h hk, wg_8 h hk, wg_9 h hk, wg_10 h hk, wg_11 h hk, wg_12 h hk, wg_18 h hk, wg_19 h hk, wg_20 h hk, wg_21 h hk, wg_22 h hk, wg_23 h hk, wg_24 h hk, wg_25 h hk, wg_26 h hk, wg_27 h hk, wg_29 h hk, wg_1 h hk, wg_30 h hk, wg_31 h hk, wg_13 h hk, wg_14 h hk, wg_15 h hk, wg_16 h hk, wg_17 h hk, wg_28 h hk, wt_47 h hk, wl_47 h hk, wt_48 h hk, wl_48 h hk, wt_49 h hk, wl_49 h hk, wt_50 h hk, wl_50 h hk, wt_51 h hk, wl_51 h hk, wt_52 h hk, wl_52 h hk, wgAe h, wgBe h, o1, o2, o3, sw186.1, sw186.2.1, sw186.2.2.1, sw186.2.2.2.1, sw186.2.2.2.2.1, sw186.2.2.2.2.2.1, sw186.2.2.2.2.2.2, h8, x2]
      exact this
    · have e2 : awaitZ z k = finishZ (logZ (zs z 1 k 8 0) k (z.1 1 k 8)) k (z.1 1 k 8) := if_neg h8
      simp (config := {decide := true}) only [vRf_r, vRf_n, vI_i, vL_l, vD_d, pI_i, pR_r, pR_n, vZ_0, vZ_1, ct_i, ct_r, ct_n, ct_l, ct_d, csum_n, csum_c, kt_v, kt_n, kt_e, oc_n, oc_i, oc_r, oc_l, oc_u, oc_d, true_and, and_true, Bool.and_true, Bool.true_and, ne_eq, not_false_eq_true, not_true_eq_false, implies_true, false_imp, true_imp_iff, hsz_put, hsl_put, hln_put, hty_put, hsz_new, hsl_new, hln_new, hty_new, Nat.zero_add, Nat.add_zero, eq_self, decide_true, t32_0, t32_1, t32_2, t32_3, t32_4, t32_5, t32_6, hv_same, hv_kne, hv_tne, hv_ntne, hv_nsame, hv_ctne, hty_cpy, hln_cpy, hsz_cpy, hsl_cpy, vrn, vnr, vrr, A186_0, A186_1, A186_2, A186_3, A186_53, A186_54, A186_57, A186_60, A186_61, A186_64, A186_65, A186_66, A186_67, A186_68, A186_69, A186_70, A186_71, A186_72, A186_75, A186_76, A186_77, A186_78, A186_81, wgt h hk, wg_0 h hk, wg_2 h hk, wg_3 h hk, wg_4 h hk, wg_5 h hk, wg_6 h hk, wg_7 h hk, wg_8 h hk, wg_9 h hk, wg_10 h hk, wg_11 h hk, wg_12 h hk, wg_18 h hk, wg_19 h hk, wg_20 h hk, wg_21 h hk, wg_22 h hk, wg_23 h hk, wg_24 h hk, wg_25 h hk, wg_26 h hk, wg_27 h hk, wg_29 h hk, wg_1 h hk, wg_30 h hk, wg_31 h hk, wg_13 h hk, wg_14 h hk, wg_15 h hk, wg_16 h hk, wg_17 h hk, wg_28 h hk, wt_47 h hk, wl_47 h hk, wt_48 h hk, wl_48 h hk, wt_49 h hk, wl_49 h hk, wt_50 h hk, wl_50 h hk, wt_51 h hk, wl_51 h hk, wt_52 h hk, wl_52 h hk, wgAe h, wgBe h, o1, o2, o3, sw186.1, sw186.2.1, sw186.2.2.1, sw186.2.2.2.1, sw186.2.2.2.2.1, sw186.2.2.2.2.2.1, sw186.2.2.2.2.2.2, h8]
      refine w_log h hk hl3 hb31 hc hs (fun M1 σ1 S => ?_)
      have m44 : M1 44 = M 44 := SW_r S (by decide)
      obtain ⟨c1, c2, c3, c4⟩ := logZ_1 z k (z.1 1 k 8)
      have n1 := (logZ_n z k (z.1 1 k 8)).1
      have hk1 : k < zn (logZ z k (z.1 1 k 8)) := by rw [n1]; exact hk
      have S2 := SW_s (SW_s S hk1 3 23 (v := irm (z.1 1 k 23 + z.1 1 k 8) 1000) rfl (by decide)) hk1 5 8 (v := 0) rfl (by decide)
      have t7 := wgt S.1 hk1
      have w3 := wg_3 S.1 hk1
      have w5 := wg_5 S.1 hk1
      rw [c1 23 (by decide)] at w3
      rw [c1 8 (by decide)] at w5
      have kd1 : zkd (zs (logZ z k (z.1 1 k 8)) 1 k 8 0) k = 4 := by
        have : zkd (zs (logZ z k (z.1 1 k 8)) 1 k 8 0) k = zkd z k := by
          unfold zkd zpl
          rw [zs_k _ (by decide), zs_j _ (by decide), c1 22 (by decide), c2]
        rw [this]; exact hd
      have p1 : ∀ j, j ≠ 8 → j ≠ 23 → j ≠ 25 → (zs (zs (logZ z k (z.1 1 k 8)) 1 k 23 (irm (z.1 1 k 23 + z.1 1 k 8) 1000)) 1 k 8 0).1 1 k j = z.1 1 k j := fun j h1 h2 h3 => by rw [zs_j _ h1, zs_j _ h2, c1 j h3]
      have nx := fin M1 _ _ S2 (by unfold zpl; rw [p1 22 (by decide) (by decide) (by decide)]) (p1 22 (by decide) (by decide) (by decide)) (by rw [zs_2, zs_2]; exact c4) n1 (by
        rw [e, e2, finish_dn, logZ_8]
        unfold mkZ
        rw [kd1, if_neg (by decide), if_neg (by decide), if_pos rfl, zs_j _ (by decide), c1 23 (by decide), zs_comm (j := 8) (j' := 23) (Or.inr (Or.inr (by decide)))])
      rw [m44] at t7 w3 w5 nx
      unfold irm at nx
      have gA := wgA h 44 k
      simp (config := {decide := true}) only [vRf_r, vRf_n, vI_i, vL_l, vD_d, pI_i, pR_r, pR_n, vZ_0, vZ_1, ct_i, ct_r, ct_n, ct_l, ct_d, csum_n, csum_c, kt_v, kt_n, kt_e, oc_n, oc_i, oc_r, oc_l, oc_u, oc_d, true_and, and_true, Bool.and_true, Bool.true_and, ne_eq, not_false_eq_true, not_true_eq_false, implies_true, false_imp, true_imp_iff, hsz_put, hsl_put, hln_put, hty_put, hsz_new, hsl_new, hln_new, hty_new, Nat.zero_add, Nat.add_zero, eq_self, decide_true, t32_0, t32_1, t32_2, t32_3, t32_4, t32_5, t32_6, hv_same, hv_kne, hv_tne, hv_ntne, hv_nsame, hv_ctne, hty_cpy, hln_cpy, hsz_cpy, hsl_cpy, vrn, vnr, vrr, A186_84, A186_85, A186_86, A186_89, A186_90, A186_93, A186_94, A186_97, A186_98, A186_101, A186_102, A186_103, A186_106, t7, w3, w5, gA]
      exact nx
  · -- clock
    have e : goZ z k = finishZ (logZ z k (irm (z.1 1 k 7) 1000)) k (irm (z.1 1 k 7) 1000) := by unfold goZ; rw [hd, if_neg (by decide), if_neg (by decide), if_neg (by decide), if_pos rfl]
    rw [hd] at o3
    have S1 := SW_s (SW_refl 60 h) hk 3 23 (v := irm (z.1 1 k 7) 1000) rfl (by decide)
    have sim : aw g 208 0 [some (.ref (M 44 k)), some (.int (irm (z.1 1 k 7) 1000))] [] (hput σ 7 (M 44 k) 3 (.int (irm (z.1 1 k 7) 1000))) (kt (aw g) 186 129 [some (.ref (M 41 0)), some (.ref (M 44 k)), some (.ref q)] [] Q) := by
      refine w_log S1.1 hk hl3 (by rw [zs_j _ (by decide)]; exact hb31) hc hs (fun M1 σ1 S => ?_)
      have S2 := SW_mono (c' := 2) (s' := 101) (SW_trans S1 S) (by omega) (by omega)
      rw [logZ_23] at S2
      obtain ⟨c1, c2, c3, c4⟩ := logZ_1 z k (irm (z.1 1 k 7) 1000)
      have n1 := (logZ_n z k (irm (z.1 1 k 7) 1000)).1
      have kd1 : zkd (logZ z k (irm (z.1 1 k 7) 1000)) k = 5 := by
        have : zkd (logZ z k (irm (z.1 1 k 7) 1000)) k = zkd z k := by
          unfold zkd zpl
          rw [c1 22 (by decide), c2]
        rw [this]; exact hd
      have nx := fin M1 σ1 _ S2 (by unfold zpl; rw [zs_j _ (by decide), c1 22 (by decide)]) (by rw [zs_j _ (by decide), c1 22 (by decide)]) (by rw [zs_2]; exact c4) n1 (by
        rw [e, finish_dn]
        unfold mkZ
        rw [kd1, if_neg (by decide), if_neg (by decide), if_neg (by decide), if_pos rfl, irm_irm h7])
      simp (config := {decide := true}) only [vRf_r, vRf_n, vI_i, vL_l, vD_d, pI_i, pR_r, pR_n, vZ_0, vZ_1, ct_i, ct_r, ct_n, ct_l, ct_d, csum_n, csum_c, kt_v, kt_n, kt_e, oc_n, oc_i, oc_r, oc_l, oc_u, oc_d, true_and, and_true, Bool.and_true, Bool.true_and, ne_eq, not_false_eq_true, not_true_eq_false, implies_true, false_imp, true_imp_iff, hsz_put, hsl_put, hln_put, hty_put, hsz_new, hsl_new, hln_new, hty_new, Nat.zero_add, Nat.add_zero, eq_self, decide_true, t32_0, t32_1, t32_2, t32_3, t32_4, t32_5, t32_6, hv_same, hv_kne, hv_tne, hv_ntne, hv_nsame, hv_ctne, hty_cpy, hln_cpy, hsz_cpy, hsl_cpy, vrn, vnr, vrr, A186_129]
      exact nx
    unfold irm at sim
    simp (config := {decide := true}) only [vRf_r, vRf_n, vI_i, vL_l, vD_d, pI_i, pR_r, pR_n, vZ_0, vZ_1, ct_i, ct_r, ct_n, ct_l, ct_d, csum_n, csum_c, kt_v, kt_n, kt_e, oc_n, oc_i, oc_r, oc_l, oc_u, oc_d, true_and, and_true, Bool.and_true, Bool.true_and, ne_eq, not_false_eq_true, not_true_eq_false, implies_true, false_imp, true_imp_iff, hsz_put, hsl_put, hln_put, hty_put, hsz_new, hsl_new, hln_new, hty_new, Nat.zero_add, Nat.add_zero, eq_self, decide_true, t32_0, t32_1, t32_2, t32_3, t32_4, t32_5, t32_6, hv_same, hv_kne, hv_tne, hv_ntne, hv_nsame, hv_ctne, hty_cpy, hln_cpy, hsz_cpy, hsl_cpy, vrn, vnr, vrr, A186_0, A186_1, A186_2, A186_3, A186_109, A186_110, A186_111, A186_114, A186_117, A186_118, A186_121, A186_122, A186_123, A186_126, wgt h hk, wg_0 h hk, wg_2 h hk, wg_3 h hk, wg_4 h hk, wg_5 h hk, wg_6 h hk, wg_7 h hk, wg_8 h hk, wg_9 h hk, wg_10 h hk, wg_11 h hk, wg_12 h hk, wg_18 h hk, wg_19 h hk, wg_20 h hk, wg_21 h hk, wg_22 h hk, wg_23 h hk, wg_24 h hk, wg_25 h hk, wg_26 h hk, wg_27 h hk, wg_29 h hk, wg_1 h hk, wg_30 h hk, wg_31 h hk, wg_13 h hk, wg_14 h hk, wg_15 h hk, wg_16 h hk, wg_17 h hk, wg_28 h hk, wt_47 h hk, wl_47 h hk, wt_48 h hk, wl_48 h hk, wt_49 h hk, wl_49 h hk, wt_50 h hk, wl_50 h hk, wt_51 h hk, wl_51 h hk, wt_52 h hk, wl_52 h hk, wgAe h, wgBe h, o1, o2, o3, sw186.1, sw186.2.1, sw186.2.2.1, sw186.2.2.2.1, sw186.2.2.2.2.1, sw186.2.2.2.2.2.1, sw186.2.2.2.2.2.2]
    exact sim
  · -- yield
    have e : goZ z k = finishZ (zs z 1 k 9 (mn0 (z.1 1 k 9))) k 0 := by unfold goZ; rw [hd, if_neg (by decide), if_neg (by decide), if_neg (by decide), if_neg (by decide), if_pos rfl]
    rw [hd] at o3
    have S1 := SW_s (SW_refl 60 h) hk 9 9 (v := mn0 (z.1 1 k 9)) rfl (by decide)
    have kd1 : zkd (zs z 1 k 9 (mn0 (z.1 1 k 9))) k = 6 := by
      have : zkd (zs z 1 k 9 (mn0 (z.1 1 k 9))) k = zkd z k := by
        unfold zkd zpl
        rw [zs_k _ (by decide), zs_j _ (by decide)]
      rw [this]; exact hd
    have nx := fin M _ _ (SW_mono S1 (by omega) (by omega)) (by unfold zpl; rw [zs_j _ (by decide)]) (zs_j _ (by decide)) rfl rfl (by
      rw [e, finish_dn]
      unfold mkZ
      rw [kd1, if_neg (by decide), if_neg (by decide), if_neg (by decide), if_neg (by decide)])
    have e9 := fun Q' (σ : AH) => l_min (g := g) (σ := σ) (Q := Q') 0 (z.1 1 k 9)
    unfold mn0 at nx
    simp (config := {decide := true}) only [vRf_r, vRf_n, vI_i, vL_l, vD_d, pI_i, pR_r, pR_n, vZ_0, vZ_1, ct_i, ct_r, ct_n, ct_l, ct_d, csum_n, csum_c, kt_v, kt_n, kt_e, oc_n, oc_i, oc_r, oc_l, oc_u, oc_d, true_and, and_true, Bool.and_true, Bool.true_and, ne_eq, not_false_eq_true, not_true_eq_false, implies_true, false_imp, true_imp_iff, hsz_put, hsl_put, hln_put, hty_put, hsz_new, hsl_new, hln_new, hty_new, Nat.zero_add, Nat.add_zero, eq_self, decide_true, t32_0, t32_1, t32_2, t32_3, t32_4, t32_5, t32_6, hv_same, hv_kne, hv_tne, hv_ntne, hv_nsame, hv_ctne, hty_cpy, hln_cpy, hsz_cpy, hsl_cpy, vrn, vnr, vrr, A186_0, A186_1, A186_2, A186_3, A186_132, A186_133, A186_134, A186_135, A186_138, A186_141, A186_144, wgt h hk, wg_0 h hk, wg_2 h hk, wg_3 h hk, wg_4 h hk, wg_5 h hk, wg_6 h hk, wg_7 h hk, wg_8 h hk, wg_9 h hk, wg_10 h hk, wg_11 h hk, wg_12 h hk, wg_18 h hk, wg_19 h hk, wg_20 h hk, wg_21 h hk, wg_22 h hk, wg_23 h hk, wg_24 h hk, wg_25 h hk, wg_26 h hk, wg_27 h hk, wg_29 h hk, wg_1 h hk, wg_30 h hk, wg_31 h hk, wg_13 h hk, wg_14 h hk, wg_15 h hk, wg_16 h hk, wg_17 h hk, wg_28 h hk, wt_47 h hk, wl_47 h hk, wt_48 h hk, wl_48 h hk, wt_49 h hk, wl_49 h hk, wt_50 h hk, wl_50 h hk, wt_51 h hk, wl_51 h hk, wt_52 h hk, wl_52 h hk, wgAe h, wgBe h, o1, o2, o3, sw186.1, sw186.2.1, sw186.2.2.1, sw186.2.2.2.1, sw186.2.2.2.2.1, sw186.2.2.2.2.2.1, sw186.2.2.2.2.2.2, e9]
    exact nx
end MDOES2
