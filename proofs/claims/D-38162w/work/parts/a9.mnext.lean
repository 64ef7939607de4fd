/-! who goes next, by the model -/
def moV (z : ZT) : Option Nat → Int32
  | none => -1
  | some y => z.1 1 y 9
def nxV : Option Nat → Int32
  | none => -1
  | some y => Int32.ofNat y
def crI (z : ZT) : Prop := ∀ k, k < zn z → 0 ≤ (z.1 1 k 9).toInt
def mcInv (z : ZT) (c : Nat) : Option Nat → Prop
  | none => ∀ x, x < c → z.1 1 x 3 ≠ 0
  | some y => y < c ∧ z.1 1 y 3 = 0 ∧ ∀ x, x < c → z.1 1 x 3 = 0 → (z.1 1 x 9).toInt ≤ (z.1 1 y 9).toInt ∧ (x < y → (z.1 1 x 9).toInt < (z.1 1 y 9).toInt)
section MNEXT
variable {g : GC} {n : Nat} {M M' : Nat → Nat → Nat} {σ σ' : AH} {z z' : ZT} {k p i q : Nat} {Q : AQ}
theorem mcN_inv {c : Nat} {b : Option Nat} (h : mcInv z c b) : mcInv z (c + 1) (mcN z c b) := by
  cases b with
  | none =>
    by_cases g0 : z.1 1 c 3 = 0
    · have e4 : mcN z c none = some c := if_pos g0
      rw [e4]
      refine ⟨by omega, g0, fun x hx h0 => ?_⟩
      by_cases e : x = c
      · subst e; exact ⟨Int.le_refl _, fun h => by omega⟩
      · exact absurd h0 (h x (by omega))
    · have e4 : mcN z c none = none := if_neg g0
      rw [e4]
      intro x hx
      by_cases e : x = c
      · subst e; exact g0
      · exact h x (by omega)
  | some y =>
    obtain ⟨h1, h2, h3⟩ := h
    by_cases g0 : z.1 1 c 3 = 0 ∧ z.1 1 y 9 < z.1 1 c 9
    · have e4 : mcN z c (some y) = some c := if_pos g0
      rw [e4]
      have g1 := Int32.lt_iff_toInt_lt.1 g0.2
      refine ⟨by omega, g0.1, fun x hx h0 => ?_⟩
      by_cases e : x = c
      · subst e; exact ⟨Int.le_refl _, fun h => by omega⟩
      · have := (h3 x (by omega) h0).1
        exact ⟨by omega, fun _ => by omega⟩
    · have e4 : mcN z c (some y) = some y := if_neg g0
      rw [e4]
      refine ⟨by omega, h2, fun x hx h0 => ?_⟩
      by_cases e : x = c
      · subst e
        have : ¬ z.1 1 y 9 < z.1 1 x 9 := fun w => g0 ⟨h0, w⟩
        rw [Int32.lt_iff_toInt_lt] at this
        exact ⟨by omega, fun h => by omega⟩
      · exact h3 x (by omega) h0
theorem mcZ_inv (z : ZT) : mcInv z (zn z) (mcZ z) := by
  have : ∀ m c b, c + m = zn z → mcInv z c b → mcInv z (zn z) (mcF z c m b) := by
    intro m
    induction m with
    | zero =>
      intro c b hc h
      have : c = zn z := by omega
      rw [← this]; exact h
    | succ m ih => intro c b hc h; exact ih (c + 1) _ (by omega) (mcN_inv h)
  exact this (zn z) 0 none (by omega) (fun x h => by omega)
theorem w_mostOf (h : RepW g M σ z) (hcr : crI z) (hc : hsz σ + 1 ≤ gC g) (hs : hsl σ + 4 ≤ gS g) (hQ : ∀ σ', kp (fun _ => False) 1 4 σ σ' → Q (.inl (some (.int (moV z (mcZ z))))) σ') : aw g 184 0 [some (.ref (M 41 0)), none, none, none] [] σ Q := by
  have hgB := wgB h
  have e75 : (∃ t, t ∈ [7] ∧ some 7 = some t) = True := eq_true ⟨7, by decide, rfl⟩
  have loop : ∀ m c, c + m = zn z → ∀ σ1 b l3, (∀ x, b = some x → x < zn z) → kp (fun _ => False) 1 4 σ σ1 → isI g σ1 (hsz σ) (M 42 0) c → (∀ σ', kp (fun _ => False) 1 4 σ σ' → Q (.inl (some (.int (moV z (mcF z c m b))))) σ') → aw g 184 10 [some (.ref (M 41 0)), some (.int (moV z b)), some (.ref (hsz σ)), l3] [] σ1 Q := by
    intro m
    induction m with
    | zero =>
      intro c hc0 σ1 b l3 hb q hi hQ1
      have h1 : RepW g M σ1 z := RepW_kp0 h q
      have e1 := fun Q' => l_hasNext (Q := Q') (wL h1) hi (by omega)
      have e2 : (c < zn z) = False := eq_false (by omega)
      have := hQ1 _ q
      rw [show mcF z c 0 b = b from rfl] at this
      simp (config := {decide := true}) only [vRf_r, vRf_n, vI_i, vL_l, vD_d, pI_i, pR_r, pR_n, vZ_0, vZ_1, ct_i, ct_r, ct_n, ct_l, ct_d, csum_n, csum_c, kt_v, kt_n, kt_e, oc_n, oc_i, oc_r, oc_l, oc_u, oc_d, true_and, and_true, Bool.and_true, Bool.true_and, ne_eq, not_false_eq_true, not_true_eq_false, implies_true, false_imp, true_imp_iff, hsz_put, hsl_put, hln_put, hty_put, hsz_new, hsl_new, hln_new, hty_new, Nat.zero_add, Nat.add_zero, eq_self, decide_true, t32_0, t32_1, t32_2, t32_3, t32_4, t32_5, t32_6, hv_same, hv_kne, hv_tne, hv_ntne, hv_nsame, hv_ctne, hty_cpy, hln_cpy, hsz_cpy, hsl_cpy, vrn, vnr, vrr, A184_10, A184_11, A184_16, A184_48, A184_49, hi.1, e1, e2, if_false]
      exact this
    | succ m ih =>
      intro c hc0 σ1 b l3 hb q hi hQ1
      have h1 : RepW g M σ1 z := RepW_kp0 h q
      have hcn : c < zn z := by omega
      have e1 := fun Q' => l_hasNext (Q := Q') (wL h1) hi (by omega)
      have e2 : (c < zn z) = True := eq_true hcn
      have e3 := fun Q' => l_next (Q := Q') (wL h1) hi (by omega)
      have q2 : kp (fun _ => False) 1 4 σ (nxH σ1 (hsz σ) c) := kpF_nx q (Nat.le_refl _)
      have h2 : RepW g M (nxH σ1 (hsz σ) c) z := RepW_kp0 h q2
      have hi2 := nxH_isI hi
      rw [A184_10]
      generalize nxH σ1 (hsz σ) c = σ2 at *
      have nx := ih (c + 1) (by omega) σ2 (mcN z c b) (some (.ref (M 44 c))) (mcN_lt hcn hb) q2 hi2 hQ1
      by_cases g0 : z.1 1 c 3 = 0
      · have e4 : (if moV z b < z.1 1 c 9 then z.1 1 c 9 else moV z b) = moV z (mcN z c b) := by
          cases b with
          | none =>
            have e5 : mcN z c none = some c := if_pos g0
            rw [e5]
            have := hcr c hcn
            have h2 : (-1 : Int32).toInt = -1 := rfl
            exact if_pos (Int32.lt_iff_toInt_lt.2 (show (-1 : Int32).toInt < _ by omega))
          | some y =>
            by_cases g1 : z.1 1 y 9 < z.1 1 c 9
            · have e5 : mcN z c (some y) = some c := if_pos ⟨g0, g1⟩
              rw [e5]; exact if_pos g1
            · have e5 : mcN z c (some y) = some y := if_neg (fun e => g1 e.2)
              rw [e5]; exact if_neg g1
        have e6 := fun Q' (σ : AH) => l_max (g := g) (σ := σ) (Q := Q') (moV z b) (z.1 1 c 9)
        simp (config := {decide := true}) only [vRf_r, vRf_n, vI_i, vL_l, vD_d, pI_i, pR_r, pR_n, vZ_0, vZ_1, ct_i, ct_r, ct_n, ct_l, ct_d, csum_n, csum_c, kt_v, kt_n, kt_e, oc_n, oc_i, oc_r, oc_l, oc_u, oc_d, true_and, and_true, Bool.and_true, Bool.true_and, ne_eq, not_false_eq_true, not_true_eq_false, implies_true, false_imp, true_imp_iff, hsz_put, hsl_put, hln_put, hty_put, hsz_new, hsl_new, hln_new, hty_new, Nat.zero_add, Nat.add_zero, eq_self, decide_true, t32_0, t32_1, t32_2, t32_3, t32_4, t32_5, t32_6, hv_same, hv_kne, hv_tne, hv_ntne, hv_nsame, hv_ctne, hty_cpy, hln_cpy, hsz_cpy, hsl_cpy, vrn, vnr, vrr, A184_11, A184_16, A184_19, A184_20, A184_25, A184_25r, A184_28, A184_29, A184_30, A184_33, A184_36, A184_37, A184_38, A184_41, A184_44, A184_45, hi.1, e1, e2, e3, e6, e75, wgt h2 hcn, wg_0 h2 hcn, wg_2 h2 hcn, wg_3 h2 hcn, wg_4 h2 hcn, wg_5 h2 hcn, wg_6 h2 hcn, wg_7 h2 hcn, wg_8 h2 hcn, wg_9 h2 hcn, wg_10 h2 hcn, wg_11 h2 hcn, wg_12 h2 hcn, wg_18 h2 hcn, wg_19 h2 hcn, wg_20 h2 hcn, wg_21 h2 hcn, wg_22 h2 hcn, wg_23 h2 hcn, wg_24 h2 hcn, wg_25 h2 hcn, wg_26 h2 hcn, wg_27 h2 hcn, wg_29 h2 hcn, wg_1 h2 hcn, wg_30 h2 hcn, wg_31 h2 hcn, wg_13 h2 hcn, wg_14 h2 hcn, wg_15 h2 hcn, wg_16 h2 hcn, wg_17 h2 hcn, wg_28 h2 hcn, wt_47 h2 hcn, wl_47 h2 hcn, wt_48 h2 hcn, wl_48 h2 hcn, wt_49 h2 hcn, wl_49 h2 hcn, wt_50 h2 hcn, wl_50 h2 hcn, wt_51 h2 hcn, wl_51 h2 hcn, wt_52 h2 hcn, wl_52 h2 hcn, wgAe h2, wgBe h2, g0, if_true]
        rw [e4]
        exact nx
      · have e4 : mcN z c b = b := by
          cases b with
          | none => exact if_neg g0
          | some y => exact if_neg (fun e => g0 e.1)
        rw [e4] at nx
        simp (config := {decide := true}) only [vRf_r, vRf_n, vI_i, vL_l, vD_d, pI_i, pR_r, pR_n, vZ_0, vZ_1, ct_i, ct_r, ct_n, ct_l, ct_d, csum_n, csum_c, kt_v, kt_n, kt_e, oc_n, oc_i, oc_r, oc_l, oc_u, oc_d, true_and, and_true, Bool.and_true, Bool.true_and, ne_eq, not_false_eq_true, not_true_eq_false, implies_true, false_imp, true_imp_iff, hsz_put, hsl_put, hln_put, hty_put, hsz_new, hsl_new, hln_new, hty_new, Nat.zero_add, Nat.add_zero, eq_self, decide_true, t32_0, t32_1, t32_2, t32_3, t32_4, t32_5, t32_6, hv_same, hv_kne, hv_tne, hv_ntne, hv_nsame, hv_ctne, hty_cpy, hln_cpy, hsz_cpy, hsl_cpy, vrn, vnr, vrr, A184_11, A184_16, A184_19, A184_20, A184_25, A184_25r, A184_28, A184_29, A184_30, A184_33, A184_36, A184_37, A184_38, A184_41, A184_44, A184_45, hi.1, e1, e2, e3, e75, wgt h2 hcn, wg_0 h2 hcn, wg_2 h2 hcn, wg_3 h2 hcn, wg_4 h2 hcn, wg_5 h2 hcn, wg_6 h2 hcn, wg_7 h2 hcn, wg_8 h2 hcn, wg_9 h2 hcn, wg_10 h2 hcn, wg_11 h2 hcn, wg_12 h2 hcn, wg_18 h2 hcn, wg_19 h2 hcn, wg_20 h2 hcn, wg_21 h2 hcn, wg_22 h2 hcn, wg_23 h2 hcn, wg_24 h2 hcn, wg_25 h2 hcn, wg_26 h2 hcn, wg_27 h2 hcn, wg_29 h2 hcn, wg_1 h2 hcn, wg_30 h2 hcn, wg_31 h2 hcn, wg_13 h2 hcn, wg_14 h2 hcn, wg_15 h2 hcn, wg_16 h2 hcn, wg_17 h2 hcn, wg_28 h2 hcn, wt_47 h2 hcn, wl_47 h2 hcn, wt_48 h2 hcn, wl_48 h2 hcn, wt_49 h2 hcn, wl_49 h2 hcn, wt_50 h2 hcn, wl_50 h2 hcn, wt_51 h2 hcn, wl_51 h2 hcn, wt_52 h2 hcn, wl_52 h2 hcn, wgAe h2, wgBe h2, g0, if_true]
        exact nx
  have e1 := fun Q' => l_iter (Q := Q') (wL h) hgB
  have t3 := (wL h).1
  have kI := itH_kp (σ := σ) (fun _ => False) (M 42 0)
  have hI := itH_isI hgB (hty_lt t3)
  have nx := loop (zn z) 0 (by omega) _ none none (fun _ h => by cases h) kI hI hQ
  have f1 : moV z none = -1 := rfl
  rw [f1] at nx
  simp (config := {decide := true}) only [vRf_r, vRf_n, vI_i, vL_l, vD_d, pI_i, pR_r, pR_n, vZ_0, vZ_1, ct_i, ct_r, ct_n, ct_l, ct_d, csum_n, csum_c, kt_v, kt_n, kt_e, oc_n, oc_i, oc_r, oc_l, oc_u, oc_d, true_and, and_true, Bool.and_true, Bool.true_and, ne_eq, not_false_eq_true, not_true_eq_false, implies_true, false_imp, true_imp_iff, hsz_put, hsl_put, hln_put, hty_put, hsz_new, hsl_new, hln_new, hty_new, Nat.zero_add, Nat.add_zero, eq_self, decide_true, t32_0, t32_1, t32_2, t32_3, t32_4, t32_5, t32_6, hv_same, hv_kne, hv_tne, hv_ntne, hv_nsame, hv_ctne, hty_cpy, hln_cpy, hsz_cpy, hsl_cpy, vrn, vnr, vrr, A184_0, A184_1, A184_2, A184_3, A184_6, A184_9, wwt h, ww_0 h, ww_1 h, ww_2 h, ww_3 h, ww_4 h, ww_5 h, ww_6 h, ww_7 h, ww_8 h, ww_9 h, wgAe h, wgBe h, e1, t3, hc, hs]
  exact nx
theorem w_next (h : RepW g M σ z) (hn : zn z ≤ 3) (hcr : crI z) (hc : hsz σ + 1 ≤ gC g) (hs : hsl σ + 4 ≤ gS g) (hQ : ∀ σ', kp (fun _ => False) 1 4 σ σ' → Q (.inl (some (.int (nxV (mcZ z))))) σ') : aw g 185 0 [some (.ref (M 41 0)), none, none] [] σ Q := by
  have e75 : (∃ t, t ∈ [7] ∧ some 7 = some t) = True := eq_true ⟨7, by decide, rfl⟩
  have inv := mcZ_inv z
  have t41 := wwt h
  simp (config := {decide := true}) only [vRf_r, vRf_n, vI_i, vL_l, vD_d, pI_i, pR_r, pR_n, vZ_0, vZ_1, ct_i, ct_r, ct_n, ct_l, ct_d, csum_n, csum_c, kt_v, kt_n, kt_e, oc_n, oc_i, oc_r, oc_l, oc_u, oc_d, true_and, and_true, Bool.and_true, Bool.true_and, ne_eq, not_false_eq_true, not_true_eq_false, implies_true, false_imp, true_imp_iff, hsz_put, hsl_put, hln_put, hty_put, hsz_new, hsl_new, hln_new, hty_new, Nat.zero_add, Nat.add_zero, eq_self, decide_true, t32_0, t32_1, t32_2, t32_3, t32_4, t32_5, t32_6, hv_same, hv_kne, hv_tne, hv_ntne, hv_nsame, hv_ctne, hty_cpy, hln_cpy, hsz_cpy, hsl_cpy, vrn, vnr, vrr, A185_0, A185_1, t41]
  refine w_mostOf h hcr hc hs (fun σ1 q => ?_)
  have h1 : RepW g M σ1 z := RepW_kp0 h q
  have fin := hQ σ1 q
  have e1 := fun Q' => l_size (Q := Q') (wL h1)
  have t3 := (wL h1).1
  have loop : ∀ m c, c + m = zn z → (∀ x, x < c → ¬ (z.1 1 x 3 = 0 ∧ z.1 1 x 9 = moV z (mcZ z))) → aw g 185 7 [some (.ref (M 41 0)), some (.int (moV z (mcZ z))), some (.int (Int32.ofNat c))] [] σ1 Q := by
    intro m
    induction m with
    | zero =>
      intro c hc0 hno
      have e2 : (Int32.ofNat (zn z) ≤ Int32.ofNat c) = True := by rw [n32_le (by omega) (by omega)]; exact eq_true (by omega)
      have e3 : nxV (mcZ z) = -1 := by
        cases hm : mcZ z with
        | none => rfl
        | some y =>
          rw [hm] at inv hno
          exact absurd ⟨inv.2.1, rfl⟩ (hno y (by have := inv.1; omega))
      rw [e3] at fin
      simp (config := {decide := true}) only [vRf_r, vRf_n, vI_i, vL_l, vD_d, pI_i, pR_r, pR_n, vZ_0, vZ_1, ct_i, ct_r, ct_n, ct_l, ct_d, csum_n, csum_c, kt_v, kt_n, kt_e, oc_n, oc_i, oc_r, oc_l, oc_u, oc_d, true_and, and_true, Bool.and_true, Bool.true_and, ne_eq, not_false_eq_true, not_true_eq_false, implies_true, false_imp, true_imp_iff, hsz_put, hsl_put, hln_put, hty_put, hsz_new, hsl_new, hln_new, hty_new, Nat.zero_add, Nat.add_zero, eq_self, decide_true, t32_0, t32_1, t32_2, t32_3, t32_4, t32_5, t32_6, hv_same, hv_kne, hv_tne, hv_ntne, hv_nsame, hv_ctne, hty_cpy, hln_cpy, hsz_cpy, hsl_cpy, vrn, vnr, vrr, A185_7, A185_8, A185_9, A185_12, A185_15, A185_61, A185_62, wwt h1, ww_0 h1, ww_1 h1, ww_2 h1, ww_3 h1, ww_4 h1, ww_5 h1, ww_6 h1, ww_7 h1, ww_8 h1, ww_9 h1, wgAe h1, wgBe h1, e1, e2, t3]
      exact fin
    | succ m ih =>
      intro c hc0 hno
      have hcn : c < zn z := by omega
      have e2 : (Int32.ofNat (zn z) ≤ Int32.ofNat c) = False := by rw [n32_le (by omega) (by omega)]; exact eq_false (by omega)
      have e5 := fun Q' => l_get (Q := Q') (wL h1) hcn
      have b0 := n32_inc c
      rw [A185_7]
      by_cases g0 : z.1 1 c 3 = 0
      · by_cases g1 : z.1 1 c 9 = moV z (mcZ z)
        · have e3 : nxV (mcZ z) = Int32.ofNat c := by
            cases hm : mcZ z with
            | none => rw [hm] at inv; exact absurd g0 (inv c hcn)
            | some y =>
              rw [hm] at inv hno g1
              obtain ⟨y1, y2, y3⟩ := inv
              have a1 := y3 c hcn g0
              have g2 : (z.1 1 c 9).toInt = (z.1 1 y 9).toInt := congrArg Int32.toInt g1
              have a2 : ¬ c < y := fun w => by have := a1.2 w; omega
              have a3 : ¬ y < c := fun w => hno y w ⟨y2, rfl⟩
              have : y = c := by omega
              rw [this]; rfl
          rw [e3] at fin
          simp (config := {decide := true}) only [vRf_r, vRf_n, vI_i, vL_l, vD_d, pI_i, pR_r, pR_n, vZ_0, vZ_1, ct_i, ct_r, ct_n, ct_l, ct_d, csum_n, csum_c, kt_v, kt_n, kt_e, oc_n, oc_i, oc_r, oc_l, oc_u, oc_d, true_and, and_true, Bool.and_true, Bool.true_and, ne_eq, not_false_eq_true, not_true_eq_false, implies_true, false_imp, true_imp_iff, hsz_put, hsl_put, hln_put, hty_put, hsz_new, hsl_new, hln_new, hty_new, Nat.zero_add, Nat.add_zero, eq_self, decide_true, t32_0, t32_1, t32_2, t32_3, t32_4, t32_5, t32_6, hv_same, hv_kne, hv_tne, hv_ntne, hv_nsame, hv_ctne, hty_cpy, hln_cpy, hsz_cpy, hsl_cpy, vrn, vnr, vrr, A185_8, A185_9, A185_12, A185_15, A185_18, A185_19, A185_22, A185_23, A185_26, A185_26r, A185_29, A185_32, A185_35, A185_36, A185_39, A185_40, A185_43, A185_43r, A185_46, A185_49, A185_50, A185_53, A185_54, wwt h1, ww_0 h1, ww_1 h1, ww_2 h1, ww_3 h1, ww_4 h1, ww_5 h1, ww_6 h1, ww_7 h1, ww_8 h1, ww_9 h1, wgAe h1, wgBe h1, wgt h1 hcn, wg_0 h1 hcn, wg_2 h1 hcn, wg_3 h1 hcn, wg_4 h1 hcn, wg_5 h1 hcn, wg_6 h1 hcn, wg_7 h1 hcn, wg_8 h1 hcn, wg_9 h1 hcn, wg_10 h1 hcn, wg_11 h1 hcn, wg_12 h1 hcn, wg_18 h1 hcn, wg_19 h1 hcn, wg_20 h1 hcn, wg_21 h1 hcn, wg_22 h1 hcn, wg_23 h1 hcn, wg_24 h1 hcn, wg_25 h1 hcn, wg_26 h1 hcn, wg_27 h1 hcn, wg_29 h1 hcn, wg_1 h1 hcn, wg_30 h1 hcn, wg_31 h1 hcn, wg_13 h1 hcn, wg_14 h1 hcn, wg_15 h1 hcn, wg_16 h1 hcn, wg_17 h1 hcn, wg_28 h1 hcn, wt_47 h1 hcn, wl_47 h1 hcn, wt_48 h1 hcn, wl_48 h1 hcn, wt_49 h1 hcn, wl_49 h1 hcn, wt_50 h1 hcn, wl_50 h1 hcn, wt_51 h1 hcn, wl_51 h1 hcn, wt_52 h1 hcn, wl_52 h1 hcn, wgAe h1, wgBe h1, e1, e2, e5, e75, t3, g0, g1]
          exact fin
        · have nx := ih (c + 1) (by omega) (fun x hx => by
            by_cases e : x = c
            · rw [e]; exact fun w => g1 w.2
            · exact hno x (by omega))
          simp (config := {decide := true}) only [vRf_r, vRf_n, vI_i, vL_l, vD_d, pI_i, pR_r, pR_n, vZ_0, vZ_1, ct_i, ct_r, ct_n, ct_l, ct_d, csum_n, csum_c, kt_v, kt_n, kt_e, oc_n, oc_i, oc_r, oc_l, oc_u, oc_d, true_and, and_true, Bool.and_true, Bool.true_and, ne_eq, not_false_eq_true, not_true_eq_false, implies_true, false_imp, true_imp_iff, hsz_put, hsl_put, hln_put, hty_put, hsz_new, hsl_new, hln_new, hty_new, Nat.zero_add, Nat.add_zero, eq_self, decide_true, t32_0, t32_1, t32_2, t32_3, t32_4, t32_5, t32_6, hv_same, hv_kne, hv_tne, hv_ntne, hv_nsame, hv_ctne, hty_cpy, hln_cpy, hsz_cpy, hsl_cpy, vrn, vnr, vrr, A185_8, A185_9, A185_12, A185_15, A185_18, A185_19, A185_22, A185_23, A185_26, A185_26r, A185_29, A185_32, A185_35, A185_36, A185_39, A185_40, A185_43, A185_43r, A185_46, A185_49, A185_50, A185_55, A185_58, wwt h1, ww_0 h1, ww_1 h1, ww_2 h1, ww_3 h1, ww_4 h1, ww_5 h1, ww_6 h1, ww_7 h1, ww_8 h1, ww_9 h1, wgAe h1, wgBe h1, wgt h1 hcn, wg_0 h1 hcn, wg_2 h1 hcn, wg_3 h1 hcn, wg_4 h1 hcn, wg_5 h1 hcn, wg_6 h1 hcn, wg_7 h1 hcn, wg_8 h1 hcn, wg_9 h1 hcn, wg_10 h1 hcn, wg_11 h1 hcn, wg_12 h1 hcn, wg_18 h1 hcn, wg_19 h1 hcn, wg_20 h1 hcn, wg_21 h1 hcn, wg_22 h1 hcn, wg_23 h1 hcn, wg_24 h1 hcn, wg_25 h1 hcn, wg_26 h1 hcn, wg_27 h1 hcn, wg_29 h1 hcn, wg_1 h1 hcn, wg_30 h1 hcn, wg_31 h1 hcn, wg_13 h1 hcn, wg_14 h1 hcn, wg_15 h1 hcn, wg_16 h1 hcn, wg_17 h1 hcn, wg_28 h1 hcn, wt_47 h1 hcn, wl_47 h1 hcn, wt_48 h1 hcn, wl_48 h1 hcn, wt_49 h1 hcn, wl_49 h1 hcn, wt_50 h1 hcn, wl_50 h1 hcn, wt_51 h1 hcn, wl_51 h1 hcn, wt_52 h1 hcn, wl_52 h1 hcn, wgAe h1, wgBe h1, e1, e2, e5, e75, t3, g0, g1, b0]
          exact nx
      · have nx := ih (c + 1) (by omega) (fun x hx => by
          by_cases e : x = c
          · rw [e]; exact fun w => g0 w.1
          · exact hno x (by omega))
        simp (config := {decide := true}) only [vRf_r, vRf_n, vI_i, vL_l, vD_d, pI_i, pR_r, pR_n, vZ_0, vZ_1, ct_i, ct_r, ct_n, ct_l, ct_d, csum_n, csum_c, kt_v, kt_n, kt_e, oc_n, oc_i, oc_r, oc_l, oc_u, oc_d, true_and, and_true, Bool.and_true, Bool.true_and, ne_eq, not_false_eq_true, not_true_eq_false, implies_true, false_imp, true_imp_iff, hsz_put, hsl_put, hln_put, hty_put, hsz_new, hsl_new, hln_new, hty_new, Nat.zero_add, Nat.add_zero, eq_self, decide_true, t32_0, t32_1, t32_2, t32_3, t32_4, t32_5, t32_6, hv_same, hv_kne, hv_tne, hv_ntne, hv_nsame, hv_ctne, hty_cpy, hln_cpy, hsz_cpy, hsl_cpy, vrn, vnr, vrr, A185_8, A185_9, A185_12, A185_15, A185_18, A185_19, A185_22, A185_23, A185_26, A185_26r, A185_29, A185_32, A185_55, A185_58, wwt h1, ww_0 h1, ww_1 h1, ww_2 h1, ww_3 h1, ww_4 h1, ww_5 h1, ww_6 h1, ww_7 h1, ww_8 h1, ww_9 h1, wgAe h1, wgBe h1, wgt h1 hcn, wg_0 h1 hcn, wg_2 h1 hcn, wg_3 h1 hcn, wg_4 h1 hcn, wg_5 h1 hcn, wg_6 h1 hcn, wg_7 h1 hcn, wg_8 h1 hcn, wg_9 h1 hcn, wg_10 h1 hcn, wg_11 h1 hcn, wg_12 h1 hcn, wg_18 h1 hcn, wg_19 h1 hcn, wg_20 h1 hcn, wg_21 h1 hcn, wg_22 h1 hcn, wg_23 h1 hcn, wg_24 h1 hcn, wg_25 h1 hcn, wg_26 h1 hcn, wg_27 h1 hcn, wg_29 h1 hcn, wg_1 h1 hcn, wg_30 h1 hcn, wg_31 h1 hcn, wg_13 h1 hcn, wg_14 h1 hcn, wg_15 h1 hcn, wg_16 h1 hcn, wg_17 h1 hcn, wg_28 h1 hcn, wt_47 h1 hcn, wl_47 h1 hcn, wt_48 h1 hcn, wl_48 h1 hcn, wt_49 h1 hcn, wl_49 h1 hcn, wt_50 h1 hcn, wl_50 h1 hcn, wt_51 h1 hcn, wl_51 h1 hcn, wt_52 h1 hcn, wl_52 h1 hcn, wgAe h1, wgBe h1, e1, e2, e5, e75, t3, g0, b0]
        exact nx
  have nx := loop (zn z) 0 (by omega) (fun x h => by omega)
  rw [z32_0] at nx
  simp (config := {decide := true}) only [vRf_r, vRf_n, vI_i, vL_l, vD_d, pI_i, pR_r, pR_n, vZ_0, vZ_1, ct_i, ct_r, ct_n, ct_l, ct_d, csum_n, csum_c, kt_v, kt_n, kt_e, oc_n, oc_i, oc_r, oc_l, oc_u, oc_d, true_and, and_true, Bool.and_true, Bool.true_and, ne_eq, not_false_eq_true, not_true_eq_false, implies_true, false_imp, true_imp_iff, hsz_put, hsl_put, hln_put, hty_put, hsz_new, hsl_new, hln_new, hty_new, Nat.zero_add, Nat.add_zero, eq_self, decide_true, t32_0, t32_1, t32_2, t32_3, t32_4, t32_5, t32_6, hv_same, hv_kne, hv_tne, hv_ntne, hv_nsame, hv_ctne, hty_cpy, hln_cpy, hsz_cpy, hsl_cpy, vrn, vnr, vrr, A185_4, A185_5, A185_6]
  exact nx
end MNEXT
