/-! the model's touch -/
section MTOUCH2
variable {g : GC} {n : Nat} {M M' : Nat → Nat → Nat} {σ σ' : AH} {z z' : ZT} {k p i q : Nat} {Q : AQ}
/-- an op's array -/
def oq (M : Nat → Nat → Nat) (σ : AH) (q : Nat) (kd a : Int32) : Prop := hty σ q = some 20 ∧ hln σ q = 2 ∧ hv σ 20 q 0 = .int kd ∧ hv σ 20 q 1 = .int a ∧ ∀ r k, q ≠ M r k
theorem w_given (h : RepW g M σ z) (hk : k < zn z) (hp : p < 6) (h14 : z.1 14 k p = 2) {a : Int32} (ho : oq M σ q a (Int32.ofNat p)) (hQ : ∀ σ', SW g 60 M M σ σ' (zs (zs (zs z 14 k p 3) 3 k 3 (z.1 3 k 3 + 1)) 5 k p 0) 0 0 → Q (.inl none) σ') : aw g 187 0 [some (.ref (M 41 0)), some (.ref (M 44 k)), some (.ref q), none, none, none] [] σ Q := by
  obtain ⟨o1, o2, o3, o4, o5⟩ := ho
  have b1 : (Int32.ofNat p < 0) = False := n32_neg (by omega)
  have b2 : (Int32.ofNat p).toNatClampNeg = p := n32_nat (by omega)
  have b3 : (p < 6) = True := eq_true hp
  have v1 := wa_48 h hk hp
  have x3 := wa_51 h hk (p := 3) (by decide)
  have S := SW_a (p := p) (SW_a (p := 3) (SW_refl 60 h) hk 51 3 (v := z.1 3 k 3 + 1) (by decide) rfl (by decide)) hk 48 14 (v := 3) (by decide) rfl hp
  have := hQ _ (SW_z S (VE_hr (by rw [zs_comm (κ := 3) (κ' := 14) (Or.inl (by decide))]; exact VE_refl _) rfl))
  simp (config := {decide := true}) only [vRf_r, vRf_n, vI_i, vL_l, vD_d, pI_i, pR_r, pR_n, vZ_0, vZ_1, ct_i, ct_r, ct_n, ct_l, ct_d, csum_n, csum_c, kt_v, kt_n, kt_e, oc_n, oc_i, oc_r, oc_l, oc_u, oc_d, true_and, and_true, Bool.and_true, Bool.true_and, ne_eq, not_false_eq_true, not_true_eq_false, implies_true, false_imp, true_imp_iff, hsz_put, hsl_put, hln_put, hty_put, hsz_new, hsl_new, hln_new, hty_new, Nat.zero_add, Nat.add_zero, eq_self, decide_true, t32_0, t32_1, t32_2, t32_3, t32_4, t32_5, t32_6, hv_same, hv_kne, hv_tne, hv_ntne, hv_nsame, hv_ctne, hty_cpy, hln_cpy, hsz_cpy, hsl_cpy, vrn, vnr, vrr, A187_0, A187_1, A187_2, A187_3, A187_4, A187_5, A187_8, A187_9, A187_10, A187_11, A187_14, A187_15, A187_18, A187_19, A187_20, A187_21, A187_22, A187_23, A187_24, A187_25, A187_28, A187_29, A187_30, A187_31, wgt h hk, wg_0 h hk, wg_2 h hk, wg_3 h hk, wg_4 h hk, wg_5 h hk, wg_6 h hk, wg_7 h hk, wg_8 h hk, wg_9 h hk, wg_10 h hk, wg_11 h hk, wg_12 h hk, wg_18 h hk, wg_19 h hk, wg_20 h hk, wg_21 h hk, wg_22 h hk, wg_23 h hk, wg_24 h hk, wg_25 h hk, wg_26 h hk, wg_27 h hk, wg_29 h hk, wg_1 h hk, wg_30 h hk, wg_31 h hk, wg_13 h hk, wg_14 h hk, wg_15 h hk, wg_16 h hk, wg_17 h hk, wg_28 h hk, wt_47 h hk, wl_47 h hk, wt_48 h hk, wl_48 h hk, wt_49 h hk, wl_49 h hk, wt_50 h hk, wl_50 h hk, wt_51 h hk, wl_51 h hk, wt_52 h hk, wl_52 h hk, wgAe h, wgBe h, o1, o2, o4, b1, b2, b3, v1, h14, x3]
  exact this
/-- it is taken from the disk, or is new -/
theorem w_fetch (h : RepW g M σ z) (hk : k < zn z) (hn : zn z ≤ 3 ∧ zf z ≤ 10) (hf : 0 < zf z) (hF : ZF z) (hP : ZP z k) (hp : p < 6) (h2 : z.1 14 k p ≠ 2) (h0 : z.1 14 k p ≠ 0) {a : Int32} (ho : oq M σ q a (Int32.ofNat p)) (hQ : ∀ σ', SW g 60 M M σ σ' (fetchZ (zs z 3 k 0 (z.1 3 k 0 + 1)) k p) 0 0 → Q (.inl none) σ') : aw g 187 0 [some (.ref (M 41 0)), some (.ref (M 44 k)), some (.ref q), none, none, none] [] σ Q := by
  obtain ⟨o1, o2, o3, o4, o5⟩ := ho
  have b1 : (Int32.ofNat p < 0) = False := n32_neg (by omega)
  have b2 : (Int32.ofNat p).toNatClampNeg = p := n32_nat (by omega)
  have b3 : (p < 6) = True := eq_true hp
  have v1 := wa_48 h hk hp
  have x0 := wa_51 h hk (p := 0) (by decide)
  have S1 := SW_a (p := 0) (SW_refl 60 h) hk 51 3 (v := z.1 3 k 0 + 1) (by decide) rfl (by decide)
  generalize hz1 : zs z 3 k 0 (z.1 3 k 0 + 1) = z1 at *
  have c1 : ∀ κ, κ ≠ 3 → z1.1 κ = z.1 κ := fun κ e => by rw [← hz1]; exact zs_k _ e
  have n1 : zn z1 = zn z ∧ zf z1 = zf z := by rw [← hz1]; exact ⟨rfl, rfl⟩
  have F1 : ZF z1 := by rw [← hz1]; exact ZF_zs hF (by decide)
  have hn1 : zn z1 ≤ 3 ∧ zf z1 ≤ 10 := by rw [n1.1, n1.2]; exact hn
  have hk1 : k < zn z1 := by rw [n1.1]; exact hk
  have hf1 : 0 < zf z1 := by rw [n1.2]; exact hf
  have hi1 := takenI_lt hf1
  have e5 := fun Q' => w_frame (Q := Q') S1.1 hn1 hf1 F1
  have v2 := wa_48 S1.1 hk1 hp
  rw [c1 14 (by decide)] at v2
  -- what comes after the frame is free
  have ez : takenZ z1 = if z1.1 8 (takenI z1) 0 = -1 then z1 else toDiskZ z1 (takenI z1) := takenZ_if hf1
  have e4 : (takenZ z1).1 4 k p = z1.1 4 k p ∧ (takenZ z1).1 0 0 2 = z1.1 0 0 2 ∧ (takenZ z1).2 = z1.2 := by
    rw [ez]
    by_cases g0 : z1.1 8 (takenI z1) 0 = -1
    · rw [if_pos g0]; exact ⟨rfl, rfl, rfl⟩
    · rw [if_neg g0]
      obtain ⟨k', p', k1, p1, y1, y2, y3, y4, _⟩ := F1.2 _ hi1 g0
      have d1 : (Int32.ofNat p').toNatClampNeg = p' := n32_nat (by omega)
      have d2 : (Int32.ofNat k').toNatClampNeg = k' := n32_nat (by omega)
      unfold toDiskZ
      rw [y1, y2, d1, d2]
      refine ⟨?_, ?_, rfl⟩
      · rw [zs_k _ (by decide), zs_k _ (by decide), zs_k _ (by decide), zs_k _ (by decide)]
        have : ¬ (k = k' ∧ p = p') := fun e => by
          rw [← e.1, ← e.2, c1 14 (by decide)] at y3
          exact h0 y3
        by_cases ek : k = k'
        · rw [zs_j _ (fun e => this ⟨ek, e⟩), zs_k _ (by decide)]
        · rw [zs_i _ ek, zs_k _ (by decide)]
      · rw [zs_j _ (by decide), zs_k _ (by decide), zs_k _ (by decide), zs_k _ (by decide), zs_k _ (by decide), zs_k _ (by decide)]
  have fin : ∀ st : Int32, (st = 1 ↔ z.1 14 k p = 1) → (st = 0 ∨ st = 1) → ∀ l5, aw g 187 68 [some (.ref (M 41 0)), some (.ref (M 44 k)), some (.ref q), some (.int (Int32.ofNat p)), some (.int st), l5] [] (hput σ 20 (M 51 k) 0 (.int (z.1 3 k 0 + 1))) Q := by
    intro st hst hst2 l5
    have t41 := wwt S1.1
    simp (config := {decide := true}) only [vRf_r, vRf_n, vI_i, vL_l, vD_d, pI_i, pR_r, pR_n, vZ_0, vZ_1, ct_i, ct_r, ct_n, ct_l, ct_d, csum_n, csum_c, kt_v, kt_n, kt_e, oc_n, oc_i, oc_r, oc_l, oc_u, oc_d, true_and, and_true, Bool.and_true, Bool.true_and, ne_eq, not_false_eq_true, not_true_eq_false, implies_true, false_imp, true_imp_iff, hsz_put, hsl_put, hln_put, hty_put, hsz_new, hsl_new, hln_new, hty_new, Nat.zero_add, Nat.add_zero, eq_self, decide_true, t32_0, t32_1, t32_2, t32_3, t32_4, t32_5, t32_6, hv_same, hv_kne, hv_tne, hv_ntne, hv_nsame, hv_ctne, hty_cpy, hln_cpy, hsz_cpy, hsl_cpy, vrn, vnr, vrr, A187_68, A187_69, A187_72, A187_74, A187_75, A187_77, e5, t41]
    refine w_out S1.1 hn1 F1 hi1 ?_
    intro σ2 S2
    rw [← ez] at S2
    have S2 := SW_trans S1 S2
    have hk2 : k < zn (takenZ z1) := by unfold zn; rw [e4.2.2]; exact hk1
    have now2 := ww_1 S2.1
    rw [e4.2.1] at now2
    have S3 := SW_a (p := p) (SW_a (p := p) (SW_a (p := p) S2 hk2 48 14 (v := 0) (by decide) rfl hp) hk2 49 15 (v := Int32.ofNat (takenI z1)) (by decide) rfl hp) hk2 50 16 (v := z1.1 0 0 2) (by decide) rfl hp
    have eF : fetchZ z1 k p = if z1.1 4 k p = 0 then zs (zs (zs (zs (zs (zs (takenZ z1) 8 (takenI z1) 0 (Int32.ofNat k)) 8 (takenI z1) 1 (Int32.ofNat p)) 8 (takenI z1) 2 (z1.1 0 0 2)) 14 k p 0) 15 k p (Int32.ofNat (takenI z1))) 16 k p (z1.1 0 0 2) else zs (zs (zs (zs (zs (zs (zs (zs (zs (zs (takenZ z1) 8 (takenI z1) 0 (Int32.ofNat k)) 8 (takenI z1) 1 (Int32.ofNat p)) 8 (takenI z1) 2 (z1.1 0 0 2)) 14 k p 0) 15 k p (Int32.ofNat (takenI z1))) 16 k p (z1.1 0 0 2)) 4 k p 0) 1 k 3 2) 1 k 6 (z1.1 0 0 2 + 2)) 1 k 35 (z1.1 0 0 2 + 2) := by
      unfold fetchZ
      simp only []
      rw [e4.1]
    have V0 : VE (zs (zs (zs (takenZ z1) 14 k p 0) 15 k p (Int32.ofNat (takenI z1))) 16 k p (z1.1 0 0 2)) (zs (zs (zs (zs (zs (zs (takenZ z1) 8 (takenI z1) 0 (Int32.ofNat k)) 8 (takenI z1) 1 (Int32.ofNat p)) 8 (takenI z1) 2 (z1.1 0 0 2)) 14 k p 0) 15 k p (Int32.ofNat (takenI z1))) 16 k p (z1.1 0 0 2)) := VE_zs (VE_zs (VE_zs (VE_hr (VE_hr (VE_hr (VE_refl _) rfl) rfl) rfl)))
    have now3 := ww_1 S3.1
    rw [zs_k _ (by decide), zs_k _ (by decide), zs_k _ (by decide), e4.2.1] at now3
    by_cases s1 : z.1 14 k p = 1
    · have e1 : st = 1 := hst.2 s1
      have n4 : z1.1 4 k p ≠ 0 := by
        rw [c1 4 (by decide)]
        exact fun e => ((hP p hp).2.1 e) s1
      rw [eF, if_neg n4] at hQ
      have S4 := SW_s (SW_s S3 hk2 6 3 (v := 2) rfl (by decide)) hk2 8 35 (v := z1.1 0 0 2 + 2) rfl (by decide)
      have := hQ _ (SW_mono (SW_z S4 (VE_zs (VE_hr (VE_zs (VE_hr V0 rfl)) rfl))) (by omega) (by omega))
      simp (config := {decide := true}) only [vRf_r, vRf_n, vI_i, vL_l, vD_d, pI_i, pR_r, pR_n, vZ_0, vZ_1, ct_i, ct_r, ct_n, ct_l, ct_d, csum_n, csum_c, kt_v, kt_n, kt_e, oc_n, oc_i, oc_r, oc_l, oc_u, oc_d, true_and, and_true, Bool.and_true, Bool.true_and, ne_eq, not_false_eq_true, not_true_eq_false, implies_true, false_imp, true_imp_iff, hsz_put, hsl_put, hln_put, hty_put, hsz_new, hsl_new, hln_new, hty_new, Nat.zero_add, Nat.add_zero, eq_self, decide_true, t32_0, t32_1, t32_2, t32_3, t32_4, t32_5, t32_6, hv_same, hv_kne, hv_tne, hv_ntne, hv_nsame, hv_ctne, hty_cpy, hln_cpy, hsz_cpy, hsl_cpy, vrn, vnr, vrr, A187_80, A187_81, A187_82, A187_85, A187_86, A187_87, A187_88, A187_89, A187_92, A187_93, A187_95, A187_96, A187_97, A187_100, A187_101, A187_102, A187_105, A187_106, A187_108, A187_111, A187_112, A187_113, A187_114, A187_117, A187_118, A187_119, A187_122, A187_123, A187_124, A187_127, wgt S2.1 hk2, wg_0 S2.1 hk2, wg_2 S2.1 hk2, wg_3 S2.1 hk2, wg_4 S2.1 hk2, wg_5 S2.1 hk2, wg_6 S2.1 hk2, wg_7 S2.1 hk2, wg_8 S2.1 hk2, wg_9 S2.1 hk2, wg_10 S2.1 hk2, wg_11 S2.1 hk2, wg_12 S2.1 hk2, wg_18 S2.1 hk2, wg_19 S2.1 hk2, wg_20 S2.1 hk2, wg_21 S2.1 hk2, wg_22 S2.1 hk2, wg_23 S2.1 hk2, wg_24 S2.1 hk2, wg_25 S2.1 hk2, wg_26 S2.1 hk2, wg_27 S2.1 hk2, wg_29 S2.1 hk2, wg_1 S2.1 hk2, wg_30 S2.1 hk2, wg_31 S2.1 hk2, wg_13 S2.1 hk2, wg_14 S2.1 hk2, wg_15 S2.1 hk2, wg_16 S2.1 hk2, wg_17 S2.1 hk2, wg_28 S2.1 hk2, wt_47 S2.1 hk2, wl_47 S2.1 hk2, wt_48 S2.1 hk2, wl_48 S2.1 hk2, wt_49 S2.1 hk2, wl_49 S2.1 hk2, wt_50 S2.1 hk2, wl_50 S2.1 hk2, wt_51 S2.1 hk2, wl_51 S2.1 hk2, wt_52 S2.1 hk2, wl_52 S2.1 hk2, wgAe S2.1, wgBe S2.1, wwt S2.1, ww_0 S2.1, ww_1 S2.1, ww_2 S2.1, ww_3 S2.1, ww_4 S2.1, ww_5 S2.1, ww_6 S2.1, ww_7 S2.1, ww_8 S2.1, ww_9 S2.1, wgAe S2.1, wgBe S2.1, e4.2.1, now3, e1, b1, b2, b3]
      exact this
    · have e1 : st = 0 := hst2.resolve_right (fun e => s1 (hst.1 e))
      have n4 : z1.1 4 k p = 0 := by
        rw [c1 4 (by decide)]
        exact (hP p hp).2.2 s1
      rw [eF, if_pos n4] at hQ
      have := hQ _ (SW_mono (SW_z S3 V0) (by omega) (by omega))
      simp (config := {decide := true}) only [vRf_r, vRf_n, vI_i, vL_l, vD_d, pI_i, pR_r, pR_n, vZ_0, vZ_1, ct_i, ct_r, ct_n, ct_l, ct_d, csum_n, csum_c, kt_v, kt_n, kt_e, oc_n, oc_i, oc_r, oc_l, oc_u, oc_d, true_and, and_true, Bool.and_true, Bool.true_and, ne_eq, not_false_eq_true, not_true_eq_false, implies_true, false_imp, true_imp_iff, hsz_put, hsl_put, hln_put, hty_put, hsz_new, hsl_new, hln_new, hty_new, Nat.zero_add, Nat.add_zero, eq_self, decide_true, t32_0, t32_1, t32_2, t32_3, t32_4, t32_5, t32_6, hv_same, hv_kne, hv_tne, hv_ntne, hv_nsame, hv_ctne, hty_cpy, hln_cpy, hsz_cpy, hsl_cpy, vrn, vnr, vrr, A187_80, A187_81, A187_82, A187_85, A187_86, A187_87, A187_88, A187_89, A187_92, A187_93, A187_95, A187_96, A187_97, A187_100, A187_101, A187_102, A187_105, A187_106, A187_108, A187_111, A187_112, A187_113, A187_114, A187_117, A187_118, A187_119, A187_122, A187_123, A187_124, A187_127, wgt S2.1 hk2, wg_0 S2.1 hk2, wg_2 S2.1 hk2, wg_3 S2.1 hk2, wg_4 S2.1 hk2, wg_5 S2.1 hk2, wg_6 S2.1 hk2, wg_7 S2.1 hk2, wg_8 S2.1 hk2, wg_9 S2.1 hk2, wg_10 S2.1 hk2, wg_11 S2.1 hk2, wg_12 S2.1 hk2, wg_18 S2.1 hk2, wg_19 S2.1 hk2, wg_20 S2.1 hk2, wg_21 S2.1 hk2, wg_22 S2.1 hk2, wg_23 S2.1 hk2, wg_24 S2.1 hk2, wg_25 S2.1 hk2, wg_26 S2.1 hk2, wg_27 S2.1 hk2, wg_29 S2.1 hk2, wg_1 S2.1 hk2, wg_30 S2.1 hk2, wg_31 S2.1 hk2, wg_13 S2.1 hk2, wg_14 S2.1 hk2, wg_15 S2.1 hk2, wg_16 S2.1 hk2, wg_17 S2.1 hk2, wg_28 S2.1 hk2, wt_47 S2.1 hk2, wl_47 S2.1 hk2, wt_48 S2.1 hk2, wl_48 S2.1 hk2, wt_49 S2.1 hk2, wl_49 S2.1 hk2, wt_50 S2.1 hk2, wl_50 S2.1 hk2, wt_51 S2.1 hk2, wl_51 S2.1 hk2, wt_52 S2.1 hk2, wl_52 S2.1 hk2, wgAe S2.1, wgBe S2.1, wwt S2.1, ww_0 S2.1, ww_1 S2.1, ww_2 S2.1, ww_3 S2.1, ww_4 S2.1, ww_5 S2.1, ww_6 S2.1, ww_7 S2.1, ww_8 S2.1, ww_9 S2.1, wgAe S2.1, wgBe S2.1, e4.2.1, e1, b1, b2, b3]
      exact this
  by_cases s1 : z.1 14 k p = 1
  · have := fin 1 ⟨fun _ => s1, fun _ => rfl⟩ (Or.inr rfl) none
    rw [s1] at v1 v2
    simp (config := {decide := true}) only [vRf_r, vRf_n, vI_i, vL_l, vD_d, pI_i, pR_r, pR_n, vZ_0, vZ_1, ct_i, ct_r, ct_n, ct_l, ct_d, csum_n, csum_c, kt_v, kt_n, kt_e, oc_n, oc_i, oc_r, oc_l, oc_u, oc_d, true_and, and_true, Bool.and_true, Bool.true_and, ne_eq, not_false_eq_true, not_true_eq_false, implies_true, false_imp, true_imp_iff, hsz_put, hsl_put, hln_put, hty_put, hsz_new, hsl_new, hln_new, hty_new, Nat.zero_add, Nat.add_zero, eq_self, decide_true, t32_0, t32_1, t32_2, t32_3, t32_4, t32_5, t32_6, hv_same, hv_kne, hv_tne, hv_ntne, hv_nsame, hv_ctne, hty_cpy, hln_cpy, hsz_cpy, hsl_cpy, vrn, vnr, vrr, A187_0, A187_1, A187_2, A187_3, A187_4, A187_5, A187_8, A187_9, A187_10, A187_11, A187_14, A187_15, A187_18, A187_19, A187_20, A187_21, A187_22, A187_23, A187_24, A187_25, A187_28, A187_29, A187_30, A187_31, A187_32, A187_33, A187_36, A187_37, A187_38, A187_41, A187_42, A187_45, A187_46, A187_47, A187_48, A187_49, A187_50, A187_51, A187_52, A187_55, A187_56, A187_57, A187_58, A187_61, A187_62, A187_65, A187_66, wgt h hk, wg_0 h hk, wg_2 h hk, wg_3 h hk, wg_4 h hk, wg_5 h hk, wg_6 h hk, wg_7 h hk, wg_8 h hk, wg_9 h hk, wg_10 h hk, wg_11 h hk, wg_12 h hk, wg_18 h hk, wg_19 h hk, wg_20 h hk, wg_21 h hk, wg_22 h hk, wg_23 h hk, wg_24 h hk, wg_25 h hk, wg_26 h hk, wg_27 h hk, wg_29 h hk, wg_1 h hk, wg_30 h hk, wg_31 h hk, wg_13 h hk, wg_14 h hk, wg_15 h hk, wg_16 h hk, wg_17 h hk, wg_28 h hk, wt_47 h hk, wl_47 h hk, wt_48 h hk, wl_48 h hk, wt_49 h hk, wl_49 h hk, wt_50 h hk, wl_50 h hk, wt_51 h hk, wl_51 h hk, wt_52 h hk, wl_52 h hk, wgAe h, wgBe h, o1, o2, o4, b1, b2, b3, v1, v2, x0]
    exact this
  · have := fin 0 ⟨fun e => absurd e (by decide), fun e => absurd e s1⟩ (Or.inl rfl) none
    simp (config := {decide := true}) only [vRf_r, vRf_n, vI_i, vL_l, vD_d, pI_i, pR_r, pR_n, vZ_0, vZ_1, ct_i, ct_r, ct_n, ct_l, ct_d, csum_n, csum_c, kt_v, kt_n, kt_e, oc_n, oc_i, oc_r, oc_l, oc_u, oc_d, true_and, and_true, Bool.and_true, Bool.true_and, ne_eq, not_false_eq_true, not_true_eq_false, implies_true, false_imp, true_imp_iff, hsz_put, hsl_put, hln_put, hty_put, hsz_new, hsl_new, hln_new, hty_new, Nat.zero_add, Nat.add_zero, eq_self, decide_true, t32_0, t32_1, t32_2, t32_3, t32_4, t32_5, t32_6, hv_same, hv_kne, hv_tne, hv_ntne, hv_nsame, hv_ctne, hty_cpy, hln_cpy, hsz_cpy, hsl_cpy, vrn, vnr, vrr, A187_0, A187_1, A187_2, A187_3, A187_4, A187_5, A187_8, A187_9, A187_10, A187_11, A187_14, A187_15, A187_18, A187_19, A187_20, A187_21, A187_22, A187_23, A187_24, A187_25, A187_28, A187_29, A187_30, A187_31, A187_32, A187_33, A187_36, A187_37, A187_38, A187_41, A187_42, A187_45, A187_46, A187_47, A187_48, A187_49, A187_50, A187_51, A187_52, A187_55, A187_56, A187_57, A187_58, A187_61, A187_62, A187_65, A187_66, wgt h hk, wg_0 h hk, wg_2 h hk, wg_3 h hk, wg_4 h hk, wg_5 h hk, wg_6 h hk, wg_7 h hk, wg_8 h hk, wg_9 h hk, wg_10 h hk, wg_11 h hk, wg_12 h hk, wg_18 h hk, wg_19 h hk, wg_20 h hk, wg_21 h hk, wg_22 h hk, wg_23 h hk, wg_24 h hk, wg_25 h hk, wg_26 h hk, wg_27 h hk, wg_29 h hk, wg_1 h hk, wg_30 h hk, wg_31 h hk, wg_13 h hk, wg_14 h hk, wg_15 h hk, wg_16 h hk, wg_17 h hk, wg_28 h hk, wt_47 h hk, wl_47 h hk, wt_48 h hk, wl_48 h hk, wt_49 h hk, wl_49 h hk, wt_50 h hk, wl_50 h hk, wt_51 h hk, wl_51 h hk, wt_52 h hk, wl_52 h hk, wgAe h, wgBe h, o1, o2, o4, b1, b2, b3, v1, v2, x0, s1, h0, h2]
    exact this
end MTOUCH2
