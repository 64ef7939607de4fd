/-! the model's move, whole -/
/-- what is left to move, as both hold it -/
def ZL (z : ZT) (k : Nat) : Prop := z.1 1 k 30 = 1 → ∃ l, l < 64 ∧ z.1 1 k 34 = Int32.ofNat l ∧ ∀ p, p < 6 → z.1 6 k p = Int32.ofNat (l / 2 ^ p % 2)
section MMOVE2
variable {g : GC} {n : Nat} {M M' : Nat → Nat → Nat} {σ σ' : AH} {z z' : ZT} {k p i q : Nat} {Q : AQ}
theorem pop_key : ∀ l : Fin 64, (((((((0 : Int32) + if Int32.ofNat (l.1 / 2 ^ 0 % 2) = 0 then 0 else 1) + if Int32.ofNat (l.1 / 2 ^ 1 % 2) = 0 then 0 else 1) + if Int32.ofNat (l.1 / 2 ^ 2 % 2) = 0 then 0 else 1) + if Int32.ofNat (l.1 / 2 ^ 3 % 2) = 0 then 0 else 1) + if Int32.ofNat (l.1 / 2 ^ 4 % 2) = 0 then 0 else 1) + if Int32.ofNat (l.1 / 2 ^ 5 % 2) = 0 then 0 else 1) = Int32.ofNat (pop l.1) := by decide +kernel
theorem many_pop (hm : z.1 1 k 30 = 1) {l : Nat} (hl : l < 64) (hb : ∀ p, p < 6 → z.1 6 k p = Int32.ofNat (l / 2 ^ p % 2)) : manyLeftZ z k = Int32.ofNat (pop l) := by
  unfold manyLeftZ
  rw [if_pos hm]
  show (((((((0 : Int32) + if z.1 6 k 0 = 0 then 0 else 1) + if z.1 6 k 1 = 0 then 0 else 1) + if z.1 6 k 2 = 0 then 0 else 1) + if z.1 6 k 3 = 0 then 0 else 1) + if z.1 6 k 4 = 0 then 0 else 1) + if z.1 6 k 5 = 0 then 0 else 1) = _
  rw [hb 0 (by decide), hb 1 (by decide), hb 2 (by decide), hb 3 (by decide), hb 4 (by decide), hb 5 (by decide)]
  exact pop_key ⟨l, hl⟩
theorem mvF_VE (k : Nat) : ∀ m (z z' : ZT) c s, VE z z' → VE z (mvF k z' c m s) := by
  intro m
  induction m with
  | zero => intro z z' c s h; exact h
  | succ m ih =>
    intro z z' c s h
    unfold mvF
    split
    · split
      · exact ih _ _ _ _ h
      · exact ih _ _ _ _ (VE_hr h rfl)
    · exact h
theorem w_move (h : RepW g M σ z) (hk : k < zn z) (hn : zn z ≤ 3) (hR : okR z (z.1 0 0 4)) (h19 : b01 (z.1 1 k 19)) (h30 : z.1 1 k 30 = 1) (hL : ZL z k) (hsp : ∃ s, s ≤ 3 ∧ z.1 1 k 17 = Int32.ofNat s) (hQ : ∀ σ', SW g 60 M M σ σ' (moveZ z k) 0 0 → Q (.inl none) σ') : aw g 191 0 [some (.ref (M 41 0)), some (.int (Int32.ofNat k)), none, none, none] [] σ Q := by
  rcases h19 with h19 | h19
  · obtain ⟨s, s3, es⟩ := hsp
    obtain ⟨l, l64, el, hb⟩ := hL h30
    have ml := many_pop h30 l64 hb
    have bs : (Int32.ofNat s).toNatClampNeg = s := n32_nat (by omega)
    have eM : moveZ z k = mvF k (zs (mv1Z z k) 1 k 34 (bitsN s (Int32.ofNat l))) 0 6 (Int32.ofNat s) := by unfold moveZ; rw [if_pos h19, es, el, bs]
    rw [eM] at hQ
    have e5 := fun Q' => l_get (Q := Q') (wL h) hk
    have t3 := (wL h).1
    have e75 : (∃ t, t ∈ [7] ∧ some 7 = some t) = True := eq_true ⟨7, by decide, rfl⟩
    have e6 := fun Q' => l_bitCount (g := g) (σ := σ) (Q := Q') l64
    -- the bits go
    have loop : ∀ m c y x σ2 (l3 : Int32), c + m = s → y.2 = z.2 → y.1 1 k 17 = Int32.ofNat s → SW g 60 M M σ σ2 (zs y 1 k 34 x) 0 0 → VE (zs y 1 k 34 (bitsN m x)) (zs (mv1Z z k) 1 k 34 (bitsN s (Int32.ofNat l))) → aw g 191 145 [some (.ref (M 41 0)), some (.int (Int32.ofNat k)), some (.ref (M 44 k)), some (.int l3), some (.int (Int32.ofNat c))] [] σ2 Q := by
      intro m
      induction m with
      | zero =>
        intro c y x σ2 l3 hc h2 h17 S2 V
        have hk2 : k < zn (zs y 1 k 34 x) := by unfold zn; rw [zs_2, h2]; exact hk
        have e1 : (Int32.ofNat s ≤ Int32.ofNat c) = True := by rw [n32_le (by omega) (by omega)]; exact eq_true (by omega)
        have v := wg_21 S2.1 hk2
        rw [zs_j _ (by decide), h17] at v
        have := hQ _ (SW_z S2 (mvF_VE k _ _ _ 0 _ V))
        simp (config := {decide := true}) only [vRf_r, vRf_n, vI_i, vL_l, vD_d, pI_i, pR_r, pR_n, vZ_0, vZ_1, ct_i, ct_r, ct_n, ct_l, ct_d, csum_n, csum_c, kt_v, kt_n, kt_e, oc_n, oc_i, oc_r, oc_l, oc_u, oc_d, true_and, and_true, Bool.and_true, Bool.true_and, ne_eq, not_false_eq_true, not_true_eq_false, implies_true, false_imp, true_imp_iff, hsz_put, hsl_put, hln_put, hty_put, hsz_new, hsl_new, hln_new, hty_new, Nat.zero_add, Nat.add_zero, eq_self, decide_true, t32_0, t32_1, t32_2, t32_3, t32_4, t32_5, t32_6, hv_same, hv_kne, hv_tne, hv_ntne, hv_nsame, hv_ctne, hty_cpy, hln_cpy, hsz_cpy, hsl_cpy, vrn, vnr, vrr, A191_145, A191_147, A191_148, A191_151, A191_175, wgt S2.1 hk2, v, e1]
        exact this
      | succ m ih =>
        intro c y x σ2 l3 hc h2 h17 S2 V
        have hk2 : k < zn (zs y 1 k 34 x) := by unfold zn; rw [zs_2, h2]; exact hk
        have e1 : (Int32.ofNat s ≤ Int32.ofNat c) = False := by rw [n32_le (by omega) (by omega)]; exact eq_false (by omega)
        have b4 := n32_inc c
        have v := wg_21 S2.1 hk2
        rw [zs_j _ (by decide), h17] at v
        have v2 := wg_22 S2.1 hk2
        rw [zs_at] at v2
        have S3 := SW_s S2 hk2 22 34 (v := x &&& (x - 1)) rfl (by decide)
        rw [zs_zs] at S3
        have nx := ih (c + 1) y (x &&& (x - 1)) _ l3 (by omega) h2 h17 S3 V
        rw [A191_145]
        simp (config := {decide := true}) only [vRf_r, vRf_n, vI_i, vL_l, vD_d, pI_i, pR_r, pR_n, vZ_0, vZ_1, ct_i, ct_r, ct_n, ct_l, ct_d, csum_n, csum_c, kt_v, kt_n, kt_e, oc_n, oc_i, oc_r, oc_l, oc_u, oc_d, true_and, and_true, Bool.and_true, Bool.true_and, ne_eq, not_false_eq_true, not_true_eq_false, implies_true, false_imp, true_imp_iff, hsz_put, hsl_put, hln_put, hty_put, hsz_new, hsl_new, hln_new, hty_new, Nat.zero_add, Nat.add_zero, eq_self, decide_true, t32_0, t32_1, t32_2, t32_3, t32_4, t32_5, t32_6, hv_same, hv_kne, hv_tne, hv_ntne, hv_nsame, hv_ctne, hty_cpy, hln_cpy, hsz_cpy, hsl_cpy, vrn, vnr, vrr, A191_147, A191_148, A191_151, A191_154, A191_155, A191_156, A191_159, A191_160, A191_163, A191_164, A191_165, A191_166, A191_169, A191_172, wgt S2.1 hk2, wgAe S2.1, v, v2, e1, b4]
        exact nx
    have bits : ∀ y σ2 (l3 : Int32), y.2 = z.2 → y.1 1 k 17 = z.1 1 k 17 → y.1 1 k 34 = z.1 1 k 34 → SW g 60 M M σ σ2 y 0 0 → VE y (mv1Z z k) → aw g 191 142 [some (.ref (M 41 0)), some (.int (Int32.ofNat k)), some (.ref (M 44 k)), some (.int l3), none] [] σ2 Q := by
      intro y σ2 l3 h2 h17 h34 S2 V
      have nx := loop s 0 y (Int32.ofNat l) σ2 l3 (by omega) h2 (h17.trans es) (by rw [zs_id (h34.trans el)]; exact S2) (VE_zs V)
      rw [z32_0] at nx
      simp (config := {decide := true}) only [vRf_r, vRf_n, vI_i, vL_l, vD_d, pI_i, pR_r, pR_n, vZ_0, vZ_1, ct_i, ct_r, ct_n, ct_l, ct_d, csum_n, csum_c, kt_v, kt_n, kt_e, oc_n, oc_i, oc_r, oc_l, oc_u, oc_d, true_and, and_true, Bool.and_true, Bool.true_and, ne_eq, not_false_eq_true, not_true_eq_false, implies_true, false_imp, true_imp_iff, hsz_put, hsl_put, hln_put, hty_put, hsz_new, hsl_new, hln_new, hty_new, Nat.zero_add, Nat.add_zero, eq_self, decide_true, t32_0, t32_1, t32_2, t32_3, t32_4, t32_5, t32_6, hv_same, hv_kne, hv_tne, hv_ntne, hv_nsame, hv_ctne, hty_cpy, hln_cpy, hsz_cpy, hsl_cpy, vrn, vnr, vrr, A191_142, A191_143]
      exact nx
    -- it pauses
    have held : ∀ w, b01 w → VE (zs (zs (zs (mvP z k) 1 k 5 1) 1 k 20 (z.1 1 k 20 + 1)) 1 k 19 w) (mv1Z z k) → aw g 191 117 [some (.ref (M 41 0)), some (.int (Int32.ofNat k)), some (.ref (M 44 k)), some (.int w), none] [] σ Q := by
      intro w hw V
      have vw : vZ (.int w) = True := by
        rcases hw with e | e
        · rw [e]; exact vZ_0
        · rw [e]; exact vZ_1
      simp (config := {decide := true}) only [vRf_r, vRf_n, vI_i, vL_l, vD_d, pI_i, pR_r, pR_n, vZ_0, vZ_1, ct_i, ct_r, ct_n, ct_l, ct_d, csum_n, csum_c, kt_v, kt_n, kt_e, oc_n, oc_i, oc_r, oc_l, oc_u, oc_d, true_and, and_true, Bool.and_true, Bool.true_and, ne_eq, not_false_eq_true, not_true_eq_false, implies_true, false_imp, true_imp_iff, hsz_put, hsl_put, hln_put, hty_put, hsz_new, hsl_new, hln_new, hty_new, Nat.zero_add, Nat.add_zero, eq_self, decide_true, t32_0, t32_1, t32_2, t32_3, t32_4, t32_5, t32_6, hv_same, hv_kne, hv_tne, hv_ntne, hv_nsame, hv_ctne, hty_cpy, hln_cpy, hsz_cpy, hsl_cpy, vrn, vnr, vrr, A191_117, A191_118, A191_119, wwt h, wgt h hk]
      refine w_pause (n := 60) h hk (fun σ1 S1 => ?_) rfl
      have eP : VE (if z.1 1 k 3 = 3 then z else zs (zs z 1 k 36 (z.1 1 k 3)) 1 k 3 3) (mvP z k) := by
        unfold mvP
        split
        · exact VE_refl z
        · exact VE_zs (VE_hr (VE_refl _) rfl)
      have S2 := SW_z S1 eP
      have p2 := mvP_2 z k
      have hk2 : k < zn (mvP z k) := by unfold zn; rw [p2]; exact hk
      have v20 := wg_24 S2.1 hk2
      rw [mvP_j z k (by decide) (by decide) (by decide)] at v20
      have S3 := SW_s (SW_s (SW_s S2 hk2 20 5 (v := 1) rfl (by decide)) hk2 24 20 (v := z.1 1 k 20 + 1) rfl (by decide)) hk2 19 19 (v := w) rfl (by decide)
      have nx := bits _ _ w (by rw [zs_2, zs_2, zs_2]; exact p2) (by rw [zs_j _ (by decide), zs_j _ (by decide), zs_j _ (by decide), mvP_j z k (by decide) (by decide) (by decide)]) (by rw [zs_j _ (by decide), zs_j _ (by decide), zs_j _ (by decide), mvP_j z k (by decide) (by decide) (by decide)]) S3 V
      simp (config := {decide := true}) only [vRf_r, vRf_n, vI_i, vL_l, vD_d, pI_i, pR_r, pR_n, vZ_0, vZ_1, ct_i, ct_r, ct_n, ct_l, ct_d, csum_n, csum_c, kt_v, kt_n, kt_e, oc_n, oc_i, oc_r, oc_l, oc_u, oc_d, true_and, and_true, Bool.and_true, Bool.true_and, ne_eq, not_false_eq_true, not_true_eq_false, implies_true, false_imp, true_imp_iff, hsz_put, hsl_put, hln_put, hty_put, hsz_new, hsl_new, hln_new, hty_new, Nat.zero_add, Nat.add_zero, eq_self, decide_true, t32_0, t32_1, t32_2, t32_3, t32_4, t32_5, t32_6, hv_same, hv_kne, hv_tne, hv_ntne, hv_nsame, hv_ctne, hty_cpy, hln_cpy, hsz_cpy, hsl_cpy, vrn, vnr, vrr, A191_122, A191_123, A191_124, A191_127, A191_128, A191_129, A191_132, A191_133, A191_134, A191_137, A191_138, A191_139, wgt S2.1 hk2, wgAe S2.1, v20, vw]
      exact nx
    by_cases g1 : Int32.ofNat s < Int32.ofNat (pop l)
    · by_cases g2 : z.1 0 0 2 - z.1 1 k 18 < 12
      · have e1 : mv1Z z k = z := by
          unfold mv1Z
          rw [es, ml, if_neg (fun e => e g1), if_pos g2]
        have nx := bits z σ 0 rfl rfl rfl (SW_refl 60 h) (by rw [e1]; exact VE_refl z)
        simp (config := {decide := true}) only [vRf_r, vRf_n, vI_i, vL_l, vD_d, pI_i, pR_r, pR_n, vZ_0, vZ_1, ct_i, ct_r, ct_n, ct_l, ct_d, csum_n, csum_c, kt_v, kt_n, kt_e, oc_n, oc_i, oc_r, oc_l, oc_u, oc_d, true_and, and_true, Bool.and_true, Bool.true_and, ne_eq, not_false_eq_true, not_true_eq_false, implies_true, false_imp, true_imp_iff, hsz_put, hsl_put, hln_put, hty_put, hsz_new, hsl_new, hln_new, hty_new, Nat.zero_add, Nat.add_zero, eq_self, decide_true, t32_0, t32_1, t32_2, t32_3, t32_4, t32_5, t32_6, hv_same, hv_kne, hv_tne, hv_ntne, hv_nsame, hv_ctne, hty_cpy, hln_cpy, hsz_cpy, hsl_cpy, vrn, vnr, vrr, A191_0, A191_1, A191_4, A191_5, A191_8, A191_8r, A191_11, A191_12, A191_13, A191_16, A191_19, A191_20, A191_21, A191_24, A191_25, A191_26, A191_29, A191_30, A191_31, A191_34, A191_35, A191_36, A191_37, A191_39, A191_42, A191_43, A191_46, A191_47, A191_48, A191_49, A191_52, A191_53, A191_56, A191_57, A191_58, A191_59, A191_62, A191_65, A191_66, A191_69, A191_70, A191_73, A191_74, A191_75, A191_78, A191_79, A191_80, A191_83, A191_86, A191_87, A191_90, A191_93, A191_94, A191_97, A191_98, A191_99, A191_100, A191_103, A191_104, A191_107, A191_108, A191_111, A191_112, A191_114, wwt h, ww_0 h, ww_1 h, ww_2 h, ww_3 h, ww_4 h, ww_5 h, ww_6 h, ww_7 h, ww_8 h, ww_9 h, wgAe h, wgBe h, wgt h hk, wg_0 h hk, wg_2 h hk, wg_3 h hk, wg_4 h hk, wg_5 h hk, wg_6 h hk, wg_7 h hk, wg_8 h hk, wg_9 h hk, wg_10 h hk, wg_11 h hk, wg_12 h hk, wg_18 h hk, wg_19 h hk, wg_20 h hk, wg_21 h hk, wg_22 h hk, wg_23 h hk, wg_24 h hk, wg_25 h hk, wg_26 h hk, wg_27 h hk, wg_29 h hk, wg_1 h hk, wg_30 h hk, wg_31 h hk, wg_13 h hk, wg_14 h hk, wg_15 h hk, wg_16 h hk, wg_17 h hk, wg_28 h hk, wt_47 h hk, wl_47 h hk, wt_48 h hk, wl_48 h hk, wt_49 h hk, wl_49 h hk, wt_50 h hk, wl_50 h hk, wt_51 h hk, wl_51 h hk, wt_52 h hk, wl_52 h hk, wgAe h, wgBe h, e5, t3, e75, h19, el, es, e6, g1, g2]
        exact nx
      · have e1 : mv1Z z k = zs (zs (zs (mvP z k) 1 k 5 1) 1 k 20 (z.1 1 k 20 + 1)) 1 k 19 0 := by
          unfold mv1Z
          rw [es, ml, if_neg (fun e => e g1), if_neg g2]
        have nx := held 0 (Or.inl rfl) (by rw [e1]; exact VE_refl _)
        simp (config := {decide := true}) only [vRf_r, vRf_n, vI_i, vL_l, vD_d, pI_i, pR_r, pR_n, vZ_0, vZ_1, ct_i, ct_r, ct_n, ct_l, ct_d, csum_n, csum_c, kt_v, kt_n, kt_e, oc_n, oc_i, oc_r, oc_l, oc_u, oc_d, true_and, and_true, Bool.and_true, Bool.true_and, ne_eq, not_false_eq_true, not_true_eq_false, implies_true, false_imp, true_imp_iff, hsz_put, hsl_put, hln_put, hty_put, hsz_new, hsl_new, hln_new, hty_new, Nat.zero_add, Nat.add_zero, eq_self, decide_true, t32_0, t32_1, t32_2, t32_3, t32_4, t32_5, t32_6, hv_same, hv_kne, hv_tne, hv_ntne, hv_nsame, hv_ctne, hty_cpy, hln_cpy, hsz_cpy, hsl_cpy, vrn, vnr, vrr, A191_0, A191_1, A191_4, A191_5, A191_8, A191_8r, A191_11, A191_12, A191_13, A191_16, A191_19, A191_20, A191_21, A191_24, A191_25, A191_26, A191_29, A191_30, A191_31, A191_34, A191_35, A191_36, A191_37, A191_39, A191_42, A191_43, A191_46, A191_47, A191_48, A191_49, A191_52, A191_53, A191_56, A191_57, A191_58, A191_59, A191_62, A191_65, A191_66, A191_69, A191_70, A191_73, A191_74, A191_75, A191_78, A191_79, A191_80, A191_83, A191_86, A191_87, A191_90, A191_93, A191_94, A191_97, A191_98, A191_99, A191_100, A191_103, A191_104, A191_107, A191_108, A191_111, A191_112, A191_114, wwt h, ww_0 h, ww_1 h, ww_2 h, ww_3 h, ww_4 h, ww_5 h, ww_6 h, ww_7 h, ww_8 h, ww_9 h, wgAe h, wgBe h, wgt h hk, wg_0 h hk, wg_2 h hk, wg_3 h hk, wg_4 h hk, wg_5 h hk, wg_6 h hk, wg_7 h hk, wg_8 h hk, wg_9 h hk, wg_10 h hk, wg_11 h hk, wg_12 h hk, wg_18 h hk, wg_19 h hk, wg_20 h hk, wg_21 h hk, wg_22 h hk, wg_23 h hk, wg_24 h hk, wg_25 h hk, wg_26 h hk, wg_27 h hk, wg_29 h hk, wg_1 h hk, wg_30 h hk, wg_31 h hk, wg_13 h hk, wg_14 h hk, wg_15 h hk, wg_16 h hk, wg_17 h hk, wg_28 h hk, wt_47 h hk, wl_47 h hk, wt_48 h hk, wl_48 h hk, wt_49 h hk, wl_49 h hk, wt_50 h hk, wl_50 h hk, wt_51 h hk, wl_51 h hk, wt_52 h hk, wl_52 h hk, wgAe h, wgBe h, e5, t3, e75, h19, el, es, e6, g1, g2]
        exact nx
    · have e1 : mv1Z z k = zs (zs (zs (mvP z k) 1 k 5 1) 1 k 20 (z.1 1 k 20 + 1)) 1 k 19 1 := by
        unfold mv1Z
        rw [es, ml, if_pos g1]
      have nx := held 1 (Or.inr rfl) (by rw [e1]; exact VE_refl _)
      simp (config := {decide := true}) only [vRf_r, vRf_n, vI_i, vL_l, vD_d, pI_i, pR_r, pR_n, vZ_0, vZ_1, ct_i, ct_r, ct_n, ct_l, ct_d, csum_n, csum_c, kt_v, kt_n, kt_e, oc_n, oc_i, oc_r, oc_l, oc_u, oc_d, true_and, and_true, Bool.and_true, Bool.true_and, ne_eq, not_false_eq_true, not_true_eq_false, implies_true, false_imp, true_imp_iff, hsz_put, hsl_put, hln_put, hty_put, hsz_new, hsl_new, hln_new, hty_new, Nat.zero_add, Nat.add_zero, eq_self, decide_true, t32_0, t32_1, t32_2, t32_3, t32_4, t32_5, t32_6, hv_same, hv_kne, hv_tne, hv_ntne, hv_nsame, hv_ctne, hty_cpy, hln_cpy, hsz_cpy, hsl_cpy, vrn, vnr, vrr, A191_0, A191_1, A191_4, A191_5, A191_8, A191_8r, A191_11, A191_12, A191_13, A191_16, A191_19, A191_20, A191_21, A191_24, A191_25, A191_26, A191_29, A191_30, A191_31, A191_34, A191_35, A191_36, A191_37, A191_39, A191_42, A191_43, A191_46, A191_47, A191_48, A191_49, A191_52, A191_53, A191_56, A191_57, A191_58, A191_59, A191_62, A191_65, A191_66, A191_69, A191_70, A191_73, A191_74, A191_75, A191_78, A191_79, A191_80, A191_83, A191_86, A191_87, A191_90, A191_93, A191_94, A191_97, A191_98, A191_99, A191_100, A191_103, A191_104, A191_107, A191_108, A191_111, A191_112, A191_114, wwt h, ww_0 h, ww_1 h, ww_2 h, ww_3 h, ww_4 h, ww_5 h, ww_6 h, ww_7 h, ww_8 h, ww_9 h, wgAe h, wgBe h, wgt h hk, wg_0 h hk, wg_2 h hk, wg_3 h hk, wg_4 h hk, wg_5 h hk, wg_6 h hk, wg_7 h hk, wg_8 h hk, wg_9 h hk, wg_10 h hk, wg_11 h hk, wg_12 h hk, wg_18 h hk, wg_19 h hk, wg_20 h hk, wg_21 h hk, wg_22 h hk, wg_23 h hk, wg_24 h hk, wg_25 h hk, wg_26 h hk, wg_27 h hk, wg_29 h hk, wg_1 h hk, wg_30 h hk, wg_31 h hk, wg_13 h hk, wg_14 h hk, wg_15 h hk, wg_16 h hk, wg_17 h hk, wg_28 h hk, wt_47 h hk, wl_47 h hk, wt_48 h hk, wl_48 h hk, wt_49 h hk, wl_49 h hk, wt_50 h hk, wl_50 h hk, wt_51 h hk, wl_51 h hk, wt_52 h hk, wl_52 h hk, wgAe h, wgBe h, e5, t3, e75, h19, el, es, e6, g1]
      exact nx
  · have eM : moveZ z k = leaveZ z k := if_neg (fun e => by rw [h19] at e; exact absurd e (by decide))
    rw [eM] at hQ
    exact w_leave h hk hn hR h19 hQ
end MMOVE2
