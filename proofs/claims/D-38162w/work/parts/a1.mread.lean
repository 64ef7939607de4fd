/-! what the model reads: what lies in a frame, the frame that is taken -/
/-- frames and pages agree -/
def ZF (z : ZT) : Prop := (∀ k p, k < zn z → p < 6 → z.1 14 k p = 0 → ∃ i, i < zf z ∧ z.1 15 k p = Int32.ofNat i ∧ z.1 8 i 0 = Int32.ofNat k ∧ z.1 8 i 1 = Int32.ofNat p) ∧ ∀ i, i < zf z → z.1 8 i 0 ≠ -1 → ∃ k p, k < zn z ∧ p < 6 ∧ z.1 8 i 0 = Int32.ofNat k ∧ z.1 8 i 1 = Int32.ofNat p ∧ z.1 14 k p = 0 ∧ z.1 15 k p = Int32.ofNat i ∧ z.1 16 k p = z.1 8 i 2
def inZ (z : ZT) (i : Nat) : Int32 := if z.1 8 i 0 = -1 then -1 else 8 * z.1 8 i 0 + z.1 8 i 1
section MREAD
variable {g : GC} {M M' : Nat → Nat → Nat} {σ σ' : AH} {z z' : ZT} {k p i : Nat} {Q : AQ}
theorem n32_mul (a b : Nat) : Int32.ofNat a * Int32.ofNat b = Int32.ofNat (a * b) := (Int32.ofNat_mul a b).symm
theorem n32_8 (k p : Nat) : (8 : Int32) * Int32.ofNat k + Int32.ofNat p = Int32.ofNat (8 * k + p) := by
  rw [show (8 : Int32) = Int32.ofNat 8 from rfl, n32_mul, n32_add]
theorem w_in (h : RepW g M σ z) (hn : zn z ≤ 3 ∧ zf z ≤ 10) (hF : ZF z) (hi : i < zf z) : aw g 180 0 [some (.ref (M 41 0)), some (.int (Int32.ofNat i)), none, none] [] σ Q = Q (.inl (some (.int (inZ z i)))) σ := by
  have e1 := fun Q' => l_size (Q := Q') (wL h)
  have t3 := (wL h).1
  have e75 : (∃ t, t ∈ [7] ∧ some 7 = some t) = True := eq_true ⟨7, by decide, rfl⟩
  have outer : ∀ m c, c + m = zn z → (∀ k' p', k' < c → p' < 6 → ¬ (z.1 14 k' p' = 0 ∧ z.1 15 k' p' = Int32.ofNat i)) → ∀ l3, aw g 180 2 [some (.ref (M 41 0)), some (.int (Int32.ofNat i)), some (.int (Int32.ofNat c)), l3] [] σ Q = Q (.inl (some (.int (inZ z i)))) σ := by
    intro m
    induction m with
    | zero =>
      intro c hc hno l3
      have e2 : (Int32.ofNat (zn z) ≤ Int32.ofNat c) = True := by rw [n32_le (by omega) (by omega)]; exact eq_true (by omega)
      have e3 : inZ z i = -1 := by
        unfold inZ
        by_cases g0 : z.1 8 i 0 = -1
        · rw [if_pos g0]
        · obtain ⟨k, p, k1, p1, x1, x2, x3, x4, _⟩ := hF.2 i hi g0
          exact absurd ⟨x3, x4⟩ (hno k p (by omega) p1)
      rw [e3]
      simp (config := {decide := true}) only [vRf_r, vRf_n, vI_i, vL_l, vD_d, pI_i, pR_r, pR_n, vZ_0, vZ_1, ct_i, ct_r, ct_n, ct_l, ct_d, csum_n, csum_c, kt_v, kt_n, kt_e, oc_n, oc_i, oc_r, oc_l, oc_u, oc_d, true_and, and_true, Bool.and_true, Bool.true_and, ne_eq, not_false_eq_true, not_true_eq_false, implies_true, false_imp, true_imp_iff, hsz_put, hsl_put, hln_put, hty_put, hsz_new, hsl_new, hln_new, hty_new, Nat.zero_add, Nat.add_zero, eq_self, decide_true, t32_0, t32_1, t32_2, t32_3, t32_4, t32_5, t32_6, hv_same, hv_kne, hv_tne, hv_ntne, hv_nsame, hv_ctne, hty_cpy, hln_cpy, hsz_cpy, hsl_cpy, vrn, vnr, vrr, A180_2, A180_3, A180_4, A180_7, A180_10, A180_79, A180_80, wwt h, ww_0 h, ww_1 h, ww_2 h, ww_3 h, ww_4 h, ww_5 h, ww_6 h, ww_7 h, ww_8 h, ww_9 h, wgAe h, wgBe h, e1, e2, t3]
    | succ m ih =>
      intro c hc hno l3
      have hcn : c < zn z := by omega
      have e2 : (Int32.ofNat (zn z) ≤ Int32.ofNat c) = False := by rw [n32_le (by omega) (by omega)]; exact eq_false (by omega)
      have b0 := n32_inc c
      have e4 := fun Q' => l_get (Q := Q') (wL h) hcn
      have inner : ∀ n p, p + n = 6 → (∀ p', p' < p → ¬ (z.1 14 c p' = 0 ∧ z.1 15 c p' = Int32.ofNat i)) → aw g 180 15 [some (.ref (M 41 0)), some (.int (Int32.ofNat i)), some (.int (Int32.ofNat c)), some (.int (Int32.ofNat p))] [] σ Q = Q (.inl (some (.int (inZ z i)))) σ := by
        intro n
        induction n with
        | zero =>
          intro p hp hno2
          have hp6 : p = 6 := by omega
          subst hp6
          have e3 : ((6 : Int32) ≤ Int32.ofNat 6) = True := eq_true (by decide)
          have := ih (c + 1) (by omega) (fun k' p' h1 h2 => by
            by_cases e : k' = c
            · rw [e]; exact hno2 p' h2
            · exact hno k' p' (by omega) h2) (some (.int (Int32.ofNat 6)))
          simp (config := {decide := true}) only [vRf_r, vRf_n, vI_i, vL_l, vD_d, pI_i, pR_r, pR_n, vZ_0, vZ_1, ct_i, ct_r, ct_n, ct_l, ct_d, csum_n, csum_c, kt_v, kt_n, kt_e, oc_n, oc_i, oc_r, oc_l, oc_u, oc_d, true_and, and_true, Bool.and_true, Bool.true_and, ne_eq, not_false_eq_true, not_true_eq_false, implies_true, false_imp, true_imp_iff, hsz_put, hsl_put, hln_put, hty_put, hsz_new, hsl_new, hln_new, hty_new, Nat.zero_add, Nat.add_zero, eq_self, decide_true, t32_0, t32_1, t32_2, t32_3, t32_4, t32_5, t32_6, hv_same, hv_kne, hv_tne, hv_ntne, hv_nsame, hv_ctne, hty_cpy, hln_cpy, hsz_cpy, hsl_cpy, vrn, vnr, vrr, A180_15, A180_16, A180_18, A180_73, A180_76, e3, b0]
          exact this
        | succ n ih2 =>
          intro p hp hno2
          have hp6 : p < 6 := by omega
          have e3 : ((6 : Int32) ≤ Int32.ofNat p) = False := by rw [show (6 : Int32) = Int32.ofNat 6 from rfl, n32_le (by omega) (by omega)]; exact eq_false (by omega)
          have b1 : (Int32.ofNat p < 0) = False := n32_neg (by omega)
          have b2 : (Int32.ofNat p).toNatClampNeg = p := n32_nat (by omega)
          have b3 : (p < 6) = True := eq_true hp6
          have b4 := n32_inc p
          have v1 := wa_48 h hcn hp6
          have v2 := wa_49 h hcn hp6
          rw [A180_15]
          by_cases g0 : z.1 14 c p = 0
          · obtain ⟨i', x1, x2, x3, x4⟩ := hF.1 c p hcn hp6 g0
            by_cases g1 : z.1 15 c p = Int32.ofNat i
            · have : i' = i := by
                rw [g1, n32_eq (by omega) (by omega)] at x2
                exact x2.symm
              subst this
              have e5 : inZ z i' = 8 * Int32.ofNat c + Int32.ofNat p := by
                unfold inZ
                rw [x3, x4, if_neg (fun e => by rw [n32_m1 (by omega)] at e; exact e)]
              rw [e5]
              simp (config := {decide := true}) only [vRf_r, vRf_n, vI_i, vL_l, vD_d, pI_i, pR_r, pR_n, vZ_0, vZ_1, ct_i, ct_r, ct_n, ct_l, ct_d, csum_n, csum_c, kt_v, kt_n, kt_e, oc_n, oc_i, oc_r, oc_l, oc_u, oc_d, true_and, and_true, Bool.and_true, Bool.true_and, ne_eq, not_false_eq_true, not_true_eq_false, implies_true, false_imp, true_imp_iff, hsz_put, hsl_put, hln_put, hty_put, hsz_new, hsl_new, hln_new, hty_new, Nat.zero_add, Nat.add_zero, eq_self, decide_true, t32_0, t32_1, t32_2, t32_3, t32_4, t32_5, t32_6, hv_same, hv_kne, hv_tne, hv_ntne, hv_nsame, hv_ctne, hty_cpy, hln_cpy, hsz_cpy, hsl_cpy, vrn, vnr, vrr, A180_16, A180_18, A180_21, A180_22, A180_25, A180_26, A180_29, A180_29r, A180_32, A180_35, A180_36, A180_37, A180_40, A180_41, A180_44, A180_45, A180_48, A180_48r, A180_51, A180_54, A180_55, A180_56, A180_57, A180_60, A180_62, A180_63, A180_64, A180_65, A180_66, wwt h, ww_0 h, ww_1 h, ww_2 h, ww_3 h, ww_4 h, ww_5 h, ww_6 h, ww_7 h, ww_8 h, ww_9 h, wgAe h, wgBe h, wgt h hcn, wg_0 h hcn, wg_2 h hcn, wg_3 h hcn, wg_4 h hcn, wg_5 h hcn, wg_6 h hcn, wg_7 h hcn, wg_8 h hcn, wg_9 h hcn, wg_10 h hcn, wg_11 h hcn, wg_12 h hcn, wg_18 h hcn, wg_19 h hcn, wg_20 h hcn, wg_21 h hcn, wg_22 h hcn, wg_23 h hcn, wg_24 h hcn, wg_25 h hcn, wg_26 h hcn, wg_27 h hcn, wg_29 h hcn, wg_1 h hcn, wg_30 h hcn, wg_31 h hcn, wg_13 h hcn, wg_14 h hcn, wg_15 h hcn, wg_16 h hcn, wg_17 h hcn, wg_28 h hcn, wt_47 h hcn, wl_47 h hcn, wt_48 h hcn, wl_48 h hcn, wt_49 h hcn, wl_49 h hcn, wt_50 h hcn, wl_50 h hcn, wt_51 h hcn, wl_51 h hcn, wt_52 h hcn, wl_52 h hcn, wgAe h, wgBe h, e1, e2, e3, e4, e75, t3, b1, b2, b3, v1, v2, g0, g1]
            · have nx := ih2 (p + 1) (by omega) (fun p' hp' => by
                by_cases e : p' = p
                · rw [e]; exact fun q => g1 q.2
                · exact hno2 p' (by omega))
              simp (config := {decide := true}) only [vRf_r, vRf_n, vI_i, vL_l, vD_d, pI_i, pR_r, pR_n, vZ_0, vZ_1, ct_i, ct_r, ct_n, ct_l, ct_d, csum_n, csum_c, kt_v, kt_n, kt_e, oc_n, oc_i, oc_r, oc_l, oc_u, oc_d, true_and, and_true, Bool.and_true, Bool.true_and, ne_eq, not_false_eq_true, not_true_eq_false, implies_true, false_imp, true_imp_iff, hsz_put, hsl_put, hln_put, hty_put, hsz_new, hsl_new, hln_new, hty_new, Nat.zero_add, Nat.add_zero, eq_self, decide_true, t32_0, t32_1, t32_2, t32_3, t32_4, t32_5, t32_6, hv_same, hv_kne, hv_tne, hv_ntne, hv_nsame, hv_ctne, hty_cpy, hln_cpy, hsz_cpy, hsl_cpy, vrn, vnr, vrr, A180_16, A180_18, A180_21, A180_22, A180_25, A180_26, A180_29, A180_29r, A180_32, A180_35, A180_36, A180_37, A180_40, A180_41, A180_44, A180_45, A180_48, A180_48r, A180_51, A180_54, A180_55, A180_56, A180_57, A180_67, A180_70, wwt h, ww_0 h, ww_1 h, ww_2 h, ww_3 h, ww_4 h, ww_5 h, ww_6 h, ww_7 h, ww_8 h, ww_9 h, wgAe h, wgBe h, wgt h hcn, wg_0 h hcn, wg_2 h hcn, wg_3 h hcn, wg_4 h hcn, wg_5 h hcn, wg_6 h hcn, wg_7 h hcn, wg_8 h hcn, wg_9 h hcn, wg_10 h hcn, wg_11 h hcn, wg_12 h hcn, wg_18 h hcn, wg_19 h hcn, wg_20 h hcn, wg_21 h hcn, wg_22 h hcn, wg_23 h hcn, wg_24 h hcn, wg_25 h hcn, wg_26 h hcn, wg_27 h hcn, wg_29 h hcn, wg_1 h hcn, wg_30 h hcn, wg_31 h hcn, wg_13 h hcn, wg_14 h hcn, wg_15 h hcn, wg_16 h hcn, wg_17 h hcn, wg_28 h hcn, wt_47 h hcn, wl_47 h hcn, wt_48 h hcn, wl_48 h hcn, wt_49 h hcn, wl_49 h hcn, wt_50 h hcn, wl_50 h hcn, wt_51 h hcn, wl_51 h hcn, wt_52 h hcn, wl_52 h hcn, wgAe h, wgBe h, e1, e2, e3, e4, e75, t3, b1, b2, b3, b4, v1, v2, g0, g1]
              exact nx
          · have nx := ih2 (p + 1) (by omega) (fun p' hp' => by
              by_cases e : p' = p
              · rw [e]; exact fun q => g0 q.1
              · exact hno2 p' (by omega))
            simp (config := {decide := true}) only [vRf_r, vRf_n, vI_i, vL_l, vD_d, pI_i, pR_r, pR_n, vZ_0, vZ_1, ct_i, ct_r, ct_n, ct_l, ct_d, csum_n, csum_c, kt_v, kt_n, kt_e, oc_n, oc_i, oc_r, oc_l, oc_u, oc_d, true_and, and_true, Bool.and_true, Bool.true_and, ne_eq, not_false_eq_true, not_true_eq_false, implies_true, false_imp, true_imp_iff, hsz_put, hsl_put, hln_put, hty_put, hsz_new, hsl_new, hln_new, hty_new, Nat.zero_add, Nat.add_zero, eq_self, decide_true, t32_0, t32_1, t32_2, t32_3, t32_4, t32_5, t32_6, hv_same, hv_kne, hv_tne, hv_ntne, hv_nsame, hv_ctne, hty_cpy, hln_cpy, hsz_cpy, hsl_cpy, vrn, vnr, vrr, A180_16, A180_18, A180_21, A180_22, A180_25, A180_26, A180_29, A180_29r, A180_32, A180_35, A180_36, A180_37, A180_67, A180_70, wwt h, ww_0 h, ww_1 h, ww_2 h, ww_3 h, ww_4 h, ww_5 h, ww_6 h, ww_7 h, ww_8 h, ww_9 h, wgAe h, wgBe h, wgt h hcn, wg_0 h hcn, wg_2 h hcn, wg_3 h hcn, wg_4 h hcn, wg_5 h hcn, wg_6 h hcn, wg_7 h hcn, wg_8 h hcn, wg_9 h hcn, wg_10 h hcn, wg_11 h hcn, wg_12 h hcn, wg_18 h hcn, wg_19 h hcn, wg_20 h hcn, wg_21 h hcn, wg_22 h hcn, wg_23 h hcn, wg_24 h hcn, wg_25 h hcn, wg_26 h hcn, wg_27 h hcn, wg_29 h hcn, wg_1 h hcn, wg_30 h hcn, wg_31 h hcn, wg_13 h hcn, wg_14 h hcn, wg_15 h hcn, wg_16 h hcn, wg_17 h hcn, wg_28 h hcn, wt_47 h hcn, wl_47 h hcn, wt_48 h hcn, wl_48 h hcn, wt_49 h hcn, wl_49 h hcn, wt_50 h hcn, wl_50 h hcn, wt_51 h hcn, wl_51 h hcn, wt_52 h hcn, wl_52 h hcn, wgAe h, wgBe h, e1, e2, e3, e4, e75, t3, b1, b2, b3, b4, v1, v2, g0]
            exact nx
      have nx := inner 6 0 (by omega) (fun _ h => absurd h (by omega))
      rw [z32_0] at nx
      rw [A180_2]
      simp (config := {decide := true}) only [vRf_r, vRf_n, vI_i, vL_l, vD_d, pI_i, pR_r, pR_n, vZ_0, vZ_1, ct_i, ct_r, ct_n, ct_l, ct_d, csum_n, csum_c, kt_v, kt_n, kt_e, oc_n, oc_i, oc_r, oc_l, oc_u, oc_d, true_and, and_true, Bool.and_true, Bool.true_and, ne_eq, not_false_eq_true, not_true_eq_false, implies_true, false_imp, true_imp_iff, hsz_put, hsl_put, hln_put, hty_put, hsz_new, hsl_new, hln_new, hty_new, Nat.zero_add, Nat.add_zero, eq_self, decide_true, t32_0, t32_1, t32_2, t32_3, t32_4, t32_5, t32_6, hv_same, hv_kne, hv_tne, hv_ntne, hv_nsame, hv_ctne, hty_cpy, hln_cpy, hsz_cpy, hsl_cpy, vrn, vnr, vrr, A180_3, A180_4, A180_7, A180_10, A180_13, A180_14, wwt h, ww_0 h, ww_1 h, ww_2 h, ww_3 h, ww_4 h, ww_5 h, ww_6 h, ww_7 h, ww_8 h, ww_9 h, wgAe h, wgBe h, e1, e2, t3]
      exact nx
  have nx := outer (zn z) 0 (by omega) (fun _ _ h => absurd h (by omega)) none
  rw [z32_0] at nx
  simp (config := {decide := true}) only [vRf_r, vRf_n, vI_i, vL_l, vD_d, pI_i, pR_r, pR_n, vZ_0, vZ_1, ct_i, ct_r, ct_n, ct_l, ct_d, csum_n, csum_c, kt_v, kt_n, kt_e, oc_n, oc_i, oc_r, oc_l, oc_u, oc_d, true_and, and_true, Bool.and_true, Bool.true_and, ne_eq, not_false_eq_true, not_true_eq_false, implies_true, false_imp, true_imp_iff, hsz_put, hsl_put, hln_put, hty_put, hsz_new, hsl_new, hln_new, hty_new, Nat.zero_add, Nat.add_zero, eq_self, decide_true, t32_0, t32_1, t32_2, t32_3, t32_4, t32_5, t32_6, hv_same, hv_kne, hv_tne, hv_ntne, hv_nsame, hv_ctne, hty_cpy, hln_cpy, hsz_cpy, hsl_cpy, vrn, vnr, vrr, A180_0, A180_1]
  exact nx
end MREAD
