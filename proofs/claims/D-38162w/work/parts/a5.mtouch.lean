/-! the model's frame, touch -/
/-- where a page is, and what the component notes of it -/
def ZP (z : ZT) (k : Nat) : Prop := ∀ p, p < 6 → (z.1 5 k p = 0 ↔ z.1 14 k p ≠ 2) ∧ (z.1 4 k p = 0 ↔ z.1 14 k p ≠ 1)
section MTOUCH
variable {g : GC} {n : Nat} {M M' : Nat → Nat → Nat} {σ σ' : AH} {z z' : ZT} {k p i : Nat} {Q : AQ}
theorem frF_none {x y : Int32} : ∀ m c, frF z x y c m = none → ∀ i, c ≤ i → i < c + m → ¬ (z.1 8 i 0 = x ∧ z.1 8 i 1 = y) := by
  intro m
  induction m with
  | zero => intro c _ i h1 h2; omega
  | succ m ih =>
    intro c h i h1 h2
    unfold frF at h
    by_cases e : z.1 8 c 0 = x ∧ z.1 8 c 1 = y
    · rw [if_pos e] at h; cases h
    · rw [if_neg e] at h
      by_cases ei : i = c
      · rw [ei]; exact e
      · exact ih (c + 1) h i (by omega) (by omega)
theorem frOf_in (hF : ZF z) (hn : zn z ≤ 3 ∧ zf z ≤ 10) (hk : k < zn z) (hp : p < 6) (h0 : z.1 14 k p = 0) : ∃ i, i < zf z ∧ frOf z k (Int32.ofNat p) = some i ∧ z.1 15 k p = Int32.ofNat i ∧ z.1 8 i 0 = Int32.ofNat k ∧ z.1 8 i 1 = Int32.ofNat p := by
  obtain ⟨i, i1, x1, x2, x3⟩ := hF.1 k p hk hp h0
  cases hfr : frOf z k (Int32.ofNat p) with
  | none => exact absurd ⟨x2, x3⟩ (frF_none _ _ hfr i (by omega) (by omega))
  | some c =>
    obtain ⟨c1, c2, c3⟩ := frF_lt _ _ _ (by omega) hfr
    obtain ⟨k', p', k1, p1, y1, y2, y3, y4, _⟩ := hF.2 c c1 (fun e => by rw [e] at c2; have := c2.symm; rw [n32_m1 (by omega)] at this; exact this)
    have ek : k' = k := by
      rw [y1, n32_eq (by omega) (by omega)] at c2; exact c2
    have ep : p' = p := by
      rw [y2, n32_eq (by omega) (by omega)] at c3; exact c3
    subst ek; subst ep
    have : c = i := by
      rw [y4, n32_eq (by omega) (by omega)] at x1; exact x1
    subst this
    exact ⟨c, i1, rfl, x1, x2, x3⟩
theorem frOf_out (hF : ZF z) (hn : zn z ≤ 3 ∧ zf z ≤ 10) (hk : k < zn z) (hp : p < 6) (h0 : z.1 14 k p ≠ 0) : frOf z k (Int32.ofNat p) = none := by
  cases hfr : frOf z k (Int32.ofNat p) with
  | none => rfl
  | some c =>
    obtain ⟨c1, c2, c3⟩ := frF_lt _ _ _ (by omega) hfr
    obtain ⟨k', p', k1, p1, y1, y2, y3, y4, _⟩ := hF.2 c c1 (fun e => by rw [e] at c2; have := c2.symm; rw [n32_m1 (by omega)] at this; exact this)
    have ek : k' = k := by
      rw [y1, n32_eq (by omega) (by omega)] at c2; exact c2
    have ep : p' = p := by
      rw [y2, n32_eq (by omega) (by omega)] at c3; exact c3
    rw [ek, ep] at y3
    exact absurd y3 h0
theorem takF_f : ∀ m c b i, takF z c m b = some (i, false) → z.1 8 i 0 = -1 := by
  intro m
  induction m with
  | zero =>
    intro c b i h
    cases b with
    | none => cases h
    | some x =>
      have e := Prod.mk.inj (Option.some.inj (show some (x, true) = some (i, false) from h))
      cases e.2
  | succ m ih =>
    intro c b i h
    unfold takF at h
    by_cases e : z.1 8 c 0 = -1
    · rw [if_pos e] at h
      have e2 := Prod.mk.inj (Option.some.inj h)
      rw [← e2.1]; exact e
    · rw [if_neg e] at h
      exact ih _ _ _ h
theorem takenI_lt (hf : 0 < zf z) : takenI z < zf z := by
  obtain ⟨i, v, e⟩ := takF_some (z := z) (zf z) 0 none (Or.inl (by omega))
  have : takenI z = i := by unfold takenI; rw [e]
  rw [this]
  exact (takF_lt _ _ _ _ _ (by omega) (fun _ h => by cases h) e).1
theorem takenZ_if (hf : 0 < zf z) : takenZ z = if z.1 8 (takenI z) 0 = -1 then z else toDiskZ z (takenI z) := by
  obtain ⟨i, v, e⟩ := takF_some (z := z) (zf z) 0 none (Or.inl (by omega))
  have : takenI z = i := by unfold takenI; rw [e]
  rw [this]
  unfold takenZ
  rw [e]
  cases v with
  | false => rw [if_pos (takF_f _ _ _ _ e)]
  | true => rw [if_neg ((takF_lt _ _ _ _ _ (by omega) (fun _ h => by cases h) e).2 rfl)]
theorem ZF_zs {κ a b : Nat} {v : Int32} (hF : ZF z) (h : κ ≠ 8 ∧ κ ≠ 14 ∧ κ ≠ 15 ∧ κ ≠ 16) : ZF (zs z κ a b v) := by
  unfold ZF
  rw [zs_k _ (Ne.symm h.1), zs_k _ (Ne.symm h.2.1), zs_k _ (Ne.symm h.2.2.1), zs_k _ (Ne.symm h.2.2.2)]
  exact hF
def fvb : Option Nat → Int32
  | none => -1
  | some y => Int32.ofNat y
def fvw (z : ZT) : Option Nat → Int32
  | none => 0
  | some y => z.1 8 y 2
theorem w_frame (h : RepW g M σ z) (hn : zn z ≤ 3 ∧ zf z ≤ 10) (hf : 0 < zf z) (hF : ZF z) : aw g 188 0 [some (.ref (M 41 0)), none, none, none, none, none] [] σ Q = Q (.inl (some (.int (Int32.ofNat (takenI z))))) σ := by
  have t3 := (wL h).1
  have e75 : (∃ t, t ∈ [7] ∧ some 7 = some t) = True := eq_true ⟨7, by decide, rfl⟩
  have loop : ∀ m c b, c + m = zf z → (∀ x, b = some x → x < zf z) → (c = 0 ↔ b = none) → takF z c m b = takF z 0 (zf z) none → ∀ l4 l5, aw g 188 6 [some (.ref (M 41 0)), some (.int (fvb b)), some (.int (fvw z b)), some (.int (Int32.ofNat c)), l4, l5] [] σ Q = Q (.inl (some (.int (Int32.ofNat (takenI z))))) σ := by
    intro m
    induction m with
    | zero =>
      intro c b hc hb hcb he l4 l5
      have e2 : (Int32.ofNat (zf z) ≤ Int32.ofNat c) = True := by rw [n32_le (by omega) (by omega)]; exact eq_true (by omega)
      cases b with
      | none => have := hcb.2 rfl; omega
      | some y =>
        have e3 : takenI z = y := by unfold takenI; rw [← he]; rfl
        have e4 : fvb (some y) = Int32.ofNat y := rfl
        rw [e3, e4]
        simp (config := {decide := true}) only [vRf_r, vRf_n, vI_i, vL_l, vD_d, pI_i, pR_r, pR_n, vZ_0, vZ_1, ct_i, ct_r, ct_n, ct_l, ct_d, csum_n, csum_c, kt_v, kt_n, kt_e, oc_n, oc_i, oc_r, oc_l, oc_u, oc_d, true_and, and_true, Bool.and_true, Bool.true_and, ne_eq, not_false_eq_true, not_true_eq_false, implies_true, false_imp, true_imp_iff, hsz_put, hsl_put, hln_put, hty_put, hsz_new, hsl_new, hln_new, hty_new, Nat.zero_add, Nat.add_zero, eq_self, decide_true, t32_0, t32_1, t32_2, t32_3, t32_4, t32_5, t32_6, hv_same, hv_kne, hv_tne, hv_ntne, hv_nsame, hv_ctne, hty_cpy, hln_cpy, hsz_cpy, hsl_cpy, vrn, vnr, vrr, A188_6, A188_7, A188_8, A188_11, A188_80, A188_81, wwt h, ww_0 h, ww_1 h, ww_2 h, ww_3 h, ww_4 h, ww_5 h, ww_6 h, ww_7 h, ww_8 h, ww_9 h, wgAe h, wgBe h, e2]
    | succ m ih =>
      intro c b hc hb hcb he l4 l5
      have hcf : c < zf z := by omega
      have e2 : (Int32.ofNat (zf z) ≤ Int32.ofNat c) = False := by rw [n32_le (by omega) (by omega)]; exact eq_false (by omega)
      have e3 := fun Q' => w_in (Q := Q') h hn hF hcf
      have b0 := n32_inc c
      rw [A188_6]
      by_cases g0 : z.1 8 c 0 = -1
      · have e4 : inZ z c = -1 := if_pos g0
        have e5 : takF z c (m + 1) b = some (c, false) := by unfold takF; rw [if_pos g0]
        have e6 : takenI z = c := by unfold takenI; rw [← he, e5]
        rw [e6]
        simp (config := {decide := true}) only [vRf_r, vRf_n, vI_i, vL_l, vD_d, pI_i, pR_r, pR_n, vZ_0, vZ_1, ct_i, ct_r, ct_n, ct_l, ct_d, csum_n, csum_c, kt_v, kt_n, kt_e, oc_n, oc_i, oc_r, oc_l, oc_u, oc_d, true_and, and_true, Bool.and_true, Bool.true_and, ne_eq, not_false_eq_true, not_true_eq_false, implies_true, false_imp, true_imp_iff, hsz_put, hsl_put, hln_put, hty_put, hsz_new, hsl_new, hln_new, hty_new, Nat.zero_add, Nat.add_zero, eq_self, decide_true, t32_0, t32_1, t32_2, t32_3, t32_4, t32_5, t32_6, hv_same, hv_kne, hv_tne, hv_ntne, hv_nsame, hv_ctne, hty_cpy, hln_cpy, hsz_cpy, hsl_cpy, vrn, vnr, vrr, A188_7, A188_8, A188_11, A188_14, A188_15, A188_16, A188_19, A188_21, A188_23, A188_24, A188_27, A188_28, wwt h, ww_0 h, ww_1 h, ww_2 h, ww_3 h, ww_4 h, ww_5 h, ww_6 h, ww_7 h, ww_8 h, ww_9 h, wgAe h, wgBe h, e2, e3, e4]
      · obtain ⟨k, p, k1, p1, x1, x2, x3, x4, x5, x6, x7, x8⟩ := inZ_of hF hn.1 hcf g0
        rw [x7] at x8
        have g1 : (Int32.ofNat (8 * k + p) = -1) = False := n32_m1 (by omega)
        have e5 := fun Q' => l_get (Q := Q') (wL h) k1
        have b1 : (Int32.ofNat p < 0) = False := n32_neg (by omega)
        have b2 : (Int32.ofNat p).toNatClampNeg = p := n32_nat (by omega)
        have b3 : (p < 6) = True := eq_true p1
        have v := wa_50 h k1 p1
        rw [x5] at v
        have e7 : takF z c (m + 1) b = takF z (c + 1) m (some (takN z c b)) := by rw [takF]; exact if_neg g0
        rw [e7] at he
        cases b with
        | none =>
          have nx := ih (c + 1) (some c) (by omega) (fun x hx => by rw [← Option.some.inj hx]; exact hcf) ⟨fun e => by omega, fun e => by cases e⟩ he (some (.int (Int32.ofNat (8 * k + p)))) (some (.int (z.1 8 c 2)))
          have f1 : fvb none = -1 := rfl
          have f2 : fvw z none = 0 := rfl
          have f3 : fvb (some c) = Int32.ofNat c := rfl
          have f4 : fvw z (some c) = z.1 8 c 2 := rfl
          rw [f3, f4] at nx
          rw [f1, f2]
          simp (config := {decide := true}) only [vRf_r, vRf_n, vI_i, vL_l, vD_d, pI_i, pR_r, pR_n, vZ_0, vZ_1, ct_i, ct_r, ct_n, ct_l, ct_d, csum_n, csum_c, kt_v, kt_n, kt_e, oc_n, oc_i, oc_r, oc_l, oc_u, oc_d, true_and, and_true, Bool.and_true, Bool.true_and, ne_eq, not_false_eq_true, not_true_eq_false, implies_true, false_imp, true_imp_iff, hsz_put, hsl_put, hln_put, hty_put, hsz_new, hsl_new, hln_new, hty_new, Nat.zero_add, Nat.add_zero, eq_self, decide_true, t32_0, t32_1, t32_2, t32_3, t32_4, t32_5, t32_6, hv_same, hv_kne, hv_tne, hv_ntne, hv_nsame, hv_ctne, hty_cpy, hln_cpy, hsz_cpy, hsl_cpy, vrn, vnr, vrr, A188_7, A188_8, A188_11, A188_14, A188_15, A188_16, A188_19, A188_21, A188_23, A188_24, A188_27, A188_28, A188_29, A188_30, A188_33, A188_35, A188_37, A188_38, A188_41, A188_41r, A188_44, A188_47, A188_49, A188_51, A188_52, A188_53, A188_55, A188_56, A188_57, A188_60, A188_62, A188_63, A188_66, A188_69, A188_70, A188_71, A188_73, A188_74, A188_77, wwt h, ww_0 h, ww_1 h, ww_2 h, ww_3 h, ww_4 h, ww_5 h, ww_6 h, ww_7 h, ww_8 h, ww_9 h, wgAe h, wgBe h, wgt h k1, wg_0 h k1, wg_2 h k1, wg_3 h k1, wg_4 h k1, wg_5 h k1, wg_6 h k1, wg_7 h k1, wg_8 h k1, wg_9 h k1, wg_10 h k1, wg_11 h k1, wg_12 h k1, wg_18 h k1, wg_19 h k1, wg_20 h k1, wg_21 h k1, wg_22 h k1, wg_23 h k1, wg_24 h k1, wg_25 h k1, wg_26 h k1, wg_27 h k1, wg_29 h k1, wg_1 h k1, wg_30 h k1, wg_31 h k1, wg_13 h k1, wg_14 h k1, wg_15 h k1, wg_16 h k1, wg_17 h k1, wg_28 h k1, wt_47 h k1, wl_47 h k1, wt_48 h k1, wl_48 h k1, wt_49 h k1, wl_49 h k1, wt_50 h k1, wl_50 h k1, wt_51 h k1, wl_51 h k1, wt_52 h k1, wl_52 h k1, wgAe h, wgBe h, e2, e3, x6, x7, x8, g1, e5, e75, t3, b0, b1, b2, b3, v]
          exact nx
        | some y =>
          have hy := hb y rfl
          have f1 : fvb (some y) = Int32.ofNat y := rfl
          have f2 : fvw z (some y) = z.1 8 y 2 := rfl
          have g2 : (Int32.ofNat y = -1) = False := n32_m1 (by omega)
          rw [f1, f2]
          rw [takN_s] at he
          by_cases w : z.1 8 c 2 < z.1 8 y 2
          · rw [if_pos w] at he
            have nx := ih (c + 1) (some c) (by omega) (fun x hx => by rw [← Option.some.inj hx]; exact hcf) ⟨fun e => by omega, fun e => by cases e⟩ he (some (.int (Int32.ofNat (8 * k + p)))) (some (.int (z.1 8 c 2)))
            have f3 : fvb (some c) = Int32.ofNat c := rfl
            have f4 : fvw z (some c) = z.1 8 c 2 := rfl
            rw [f3, f4] at nx
            simp (config := {decide := true}) only [vRf_r, vRf_n, vI_i, vL_l, vD_d, pI_i, pR_r, pR_n, vZ_0, vZ_1, ct_i, ct_r, ct_n, ct_l, ct_d, csum_n, csum_c, kt_v, kt_n, kt_e, oc_n, oc_i, oc_r, oc_l, oc_u, oc_d, true_and, and_true, Bool.and_true, Bool.true_and, ne_eq, not_false_eq_true, not_true_eq_false, implies_true, false_imp, true_imp_iff, hsz_put, hsl_put, hln_put, hty_put, hsz_new, hsl_new, hln_new, hty_new, Nat.zero_add, Nat.add_zero, eq_self, decide_true, t32_0, t32_1, t32_2, t32_3, t32_4, t32_5, t32_6, hv_same, hv_kne, hv_tne, hv_ntne, hv_nsame, hv_ctne, hty_cpy, hln_cpy, hsz_cpy, hsl_cpy, vrn, vnr, vrr, A188_7, A188_8, A188_11, A188_14, A188_15, A188_16, A188_19, A188_21, A188_23, A188_24, A188_27, A188_28, A188_29, A188_30, A188_33, A188_35, A188_37, A188_38, A188_41, A188_41r, A188_44, A188_47, A188_49, A188_51, A188_52, A188_53, A188_55, A188_56, A188_57, A188_60, A188_62, A188_63, A188_66, A188_69, A188_70, A188_71, A188_73, A188_74, A188_77, wwt h, ww_0 h, ww_1 h, ww_2 h, ww_3 h, ww_4 h, ww_5 h, ww_6 h, ww_7 h, ww_8 h, ww_9 h, wgAe h, wgBe h, wgt h k1, wg_0 h k1, wg_2 h k1, wg_3 h k1, wg_4 h k1, wg_5 h k1, wg_6 h k1, wg_7 h k1, wg_8 h k1, wg_9 h k1, wg_10 h k1, wg_11 h k1, wg_12 h k1, wg_18 h k1, wg_19 h k1, wg_20 h k1, wg_21 h k1, wg_22 h k1, wg_23 h k1, wg_24 h k1, wg_25 h k1, wg_26 h k1, wg_27 h k1, wg_29 h k1, wg_1 h k1, wg_30 h k1, wg_31 h k1, wg_13 h k1, wg_14 h k1, wg_15 h k1, wg_16 h k1, wg_17 h k1, wg_28 h k1, wt_47 h k1, wl_47 h k1, wt_48 h k1, wl_48 h k1, wt_49 h k1, wl_49 h k1, wt_50 h k1, wl_50 h k1, wt_51 h k1, wl_51 h k1, wt_52 h k1, wl_52 h k1, wgAe h, wgBe h, e2, e3, x6, x7, x8, g1, g2, e5, e75, t3, b0, b1, b2, b3, v, w]
            exact nx
          · rw [if_neg w] at he
            have nx := ih (c + 1) (some y) (by omega) hb ⟨fun e => by omega, fun e => by cases e⟩ he (some (.int (Int32.ofNat (8 * k + p)))) (some (.int (z.1 8 c 2)))
            rw [f1, f2] at nx
            simp (config := {decide := true}) only [vRf_r, vRf_n, vI_i, vL_l, vD_d, pI_i, pR_r, pR_n, vZ_0, vZ_1, ct_i, ct_r, ct_n, ct_l, ct_d, csum_n, csum_c, kt_v, kt_n, kt_e, oc_n, oc_i, oc_r, oc_l, oc_u, oc_d, true_and, and_true, Bool.and_true, Bool.true_and, ne_eq, not_false_eq_true, not_true_eq_false, implies_true, false_imp, true_imp_iff, hsz_put, hsl_put, hln_put, hty_put, hsz_new, hsl_new, hln_new, hty_new, Nat.zero_add, Nat.add_zero, eq_self, decide_true, t32_0, t32_1, t32_2, t32_3, t32_4, t32_5, t32_6, hv_same, hv_kne, hv_tne, hv_ntne, hv_nsame, hv_ctne, hty_cpy, hln_cpy, hsz_cpy, hsl_cpy, vrn, vnr, vrr, A188_7, A188_8, A188_11, A188_14, A188_15, A188_16, A188_19, A188_21, A188_23, A188_24, A188_27, A188_28, A188_29, A188_30, A188_33, A188_35, A188_37, A188_38, A188_41, A188_41r, A188_44, A188_47, A188_49, A188_51, A188_52, A188_53, A188_55, A188_56, A188_57, A188_60, A188_62, A188_63, A188_66, A188_69, A188_70, A188_71, A188_73, A188_74, A188_77, wwt h, ww_0 h, ww_1 h, ww_2 h, ww_3 h, ww_4 h, ww_5 h, ww_6 h, ww_7 h, ww_8 h, ww_9 h, wgAe h, wgBe h, wgt h k1, wg_0 h k1, wg_2 h k1, wg_3 h k1, wg_4 h k1, wg_5 h k1, wg_6 h k1, wg_7 h k1, wg_8 h k1, wg_9 h k1, wg_10 h k1, wg_11 h k1, wg_12 h k1, wg_18 h k1, wg_19 h k1, wg_20 h k1, wg_21 h k1, wg_22 h k1, wg_23 h k1, wg_24 h k1, wg_25 h k1, wg_26 h k1, wg_27 h k1, wg_29 h k1, wg_1 h k1, wg_30 h k1, wg_31 h k1, wg_13 h k1, wg_14 h k1, wg_15 h k1, wg_16 h k1, wg_17 h k1, wg_28 h k1, wt_47 h k1, wl_47 h k1, wt_48 h k1, wl_48 h k1, wt_49 h k1, wl_49 h k1, wt_50 h k1, wl_50 h k1, wt_51 h k1, wl_51 h k1, wt_52 h k1, wl_52 h k1, wgAe h, wgBe h, e2, e3, x6, x7, x8, g1, g2, e5, e75, t3, b0, b1, b2, b3, v, w]
            exact nx
  have nx := loop (zf z) 0 none (by omega) (fun _ h => by cases h) ⟨fun _ => rfl, fun _ => rfl⟩ rfl none none
  have f1 : fvb none = -1 := rfl
  have f2 : fvw z none = 0 := rfl
  rw [f1, f2, z32_0] at nx
  simp (config := {decide := true}) only [vRf_r, vRf_n, vI_i, vL_l, vD_d, pI_i, pR_r, pR_n, vZ_0, vZ_1, ct_i, ct_r, ct_n, ct_l, ct_d, csum_n, csum_c, kt_v, kt_n, kt_e, oc_n, oc_i, oc_r, oc_l, oc_u, oc_d, true_and, and_true, Bool.and_true, Bool.true_and, ne_eq, not_false_eq_true, not_true_eq_false, implies_true, false_imp, true_imp_iff, hsz_put, hsl_put, hln_put, hty_put, hsz_new, hsl_new, hln_new, hty_new, Nat.zero_add, Nat.add_zero, eq_self, decide_true, t32_0, t32_1, t32_2, t32_3, t32_4, t32_5, t32_6, hv_same, hv_kne, hv_tne, hv_ntne, hv_nsame, hv_ctne, hty_cpy, hln_cpy, hsz_cpy, hsl_cpy, vrn, vnr, vrr, A188_0, A188_1, A188_2, A188_3, A188_4, A188_5]
  exact nx
end MTOUCH
