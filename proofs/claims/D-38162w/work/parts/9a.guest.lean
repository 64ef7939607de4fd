/-! a guest comes -/
def ivZ (κ j : Nat) (w : Int32) : Int32 := if κ = 1 then (if j = 1 then w else if j = 3 ∨ j = 4 then 5 else if j = 6 then -1 else 0) else if κ = 14 then 3 else 0
def newGZ (z : ZT) (w : Int32) : ZT := (fun κ i j => if i = zn z ∧ κ ≠ 0 ∧ κ ≠ 8 then ivZ κ j w else z.1 κ i j, fun κ i => if κ = 0 ∧ i = 0 then zn z + 1 else if i = zn z ∧ (κ = 2 ∨ κ = 3 ∨ κ = 4) then 0 else z.2 κ i)
section GUEST
variable {g : GC} {A A' B B' M M' : Nat → Nat → Nat} {σ σ' σ2 : AH} {z z' : ZT} {k p : Nat} {Q : AQ}
theorem newGZ_n (z : ZT) (w : Int32) : zn (newGZ z w) = zn z + 1 ∧ zf (newGZ z w) = zf z := by
  refine ⟨?_, ?_⟩
  · show (if ((0 : Nat) = 0 ∧ (0 : Nat) = 0) then zn z + 1 else if (0 : Nat) = zn z ∧ ((0 : Nat) = 2 ∨ (0 : Nat) = 3 ∨ (0 : Nat) = 4) then 0 else z.2 0 0) = zn z + 1
    rw [if_pos ⟨rfl, rfl⟩]
  · show (if (1 : Nat) = 0 ∧ (0 : Nat) = 0 then zn z + 1 else if (0 : Nat) = zn z ∧ ((1 : Nat) = 2 ∨ (1 : Nat) = 3 ∨ (1 : Nat) = 4) then 0 else z.2 1 0) = _
    rw [if_neg (by omega), if_neg (by omega)]
theorem newGZ_o (z : ZT) (w : Int32) {κ i : Nat} (h : κ = 0 ∨ κ = 8 ∨ i ≠ zn z) : (newGZ z w).1 κ i = z.1 κ i := by
  funext j
  exact if_neg (by omega)
theorem newGZ_v (z : ZT) (w : Int32) {κ j : Nat} (h : κ ≠ 0 ∧ κ ≠ 8) : (newGZ z w).1 κ (zn z) j = ivZ κ j w := if_pos ⟨rfl, h⟩
theorem newGZ_l (z : ZT) (w : Int32) {κ : Nat} (h : κ = 2 ∨ κ = 3 ∨ κ = 4) : (newGZ z w).2 κ (zn z) = 0 := by
  show (if κ = 0 ∧ zn z = 0 then zn z + 1 else if zn z = zn z ∧ (κ = 2 ∨ κ = 3 ∨ κ = 4) then 0 else z.2 κ (zn z)) = 0
  rw [if_neg (by omega), if_pos ⟨rfl, h⟩]
theorem newGZ_lo (z : ZT) (w : Int32) {κ i : Nat} (h : κ = 2 ∨ κ = 3 ∨ κ = 4) (hi : i ≠ zn z) : (newGZ z w).2 κ i = z.2 κ i := by
  show (if κ = 0 ∧ i = 0 then zn z + 1 else if i = zn z ∧ (κ = 2 ∨ κ = 3 ∨ κ = 4) then 0 else z.2 κ i) = z.2 κ i
  rw [if_neg (by omega), if_neg (by omega)]
theorem RepC_guest {W : Nat → Prop} {c s : Nat} (h : RepC g M σ z) (hR3 : okR z (z.1 0 0 3)) (hR4 : okR z (z.1 0 0 4)) (hF : okFr z) (h3 : zn z ≤ 1000) (q : kp W c s σ σ') (hW : ∀ y, W y → y = M 2 0 ∨ y = M 22 0) (hAN : AN M M' σ) (hcA : cA g M' σ') (hM : ∀ r i, ¬ (i = zn z ∧ gwr r = true) → ¬ (r = 22 ∧ i = 0) → M' r i = M r i) (hl : isL g σ' (M 2 0) (M' 22 0) (zn z + 1) (fun k => .ref (M' 4 k))) (hg : gc g M' (fun r => M' r (zn z)) σ' z' (zn z)) (hz : ∀ i, i < zn z → zsame z z' i) (h0 : z'.1 0 = z.1 0) (h8 : z'.1 8 = z.1 8) (hn : zn z' = zn z + 1) (hf : zf z' = zf z) : RepC g M' σ' z' := by
  obtain ⟨q1, q2, ⟨m1, ⟨x0, x1, x2, x3, x4⟩, m3⟩, ⟨f1, f2, f3⟩, q5⟩ := RepC_out h
  have nW : ∀ r i, ¬ (r = 2 ∧ i = 0) → ¬ (r = 22 ∧ i = 0) → ¬ W (M r i) := by
    intro r i h1 h2 w
    rcases hW _ w with e | e
    · exact h1 (q2.1 _ _ _ _ e)
    · exact h2 (q2.1 _ _ _ _ e)
  have e4 : ∀ j, j < zn z → M' 4 j = M 4 j := fun j hj => hM 4 j (by omega) (by omega)
  have e1 : M' 1 0 = M 1 0 := hM 1 0 (fun e => absurd e.2 (by decide)) (by decide)
  have e2 : M' 2 0 = M 2 0 := hM 2 0 (fun e => absurd e.2 (by decide)) (by decide)
  have e3 : M' 3 0 = M 3 0 := hM 3 0 (fun e => absurd e.2 (by decide)) (by decide)
  have e23 : M' 23 0 = M 23 0 := hM 23 0 (fun e => absurd e.2 (by decide)) (by decide)
  have e18 : ∀ i, M' 18 i = M 18 i := fun i => hM 18 i (fun e => absurd e.2 (by decide)) (by omega)
  have S1 := (q.2.2.2.2 _ (hty_lt m1)).2.2 (nW 1 0 (by decide) (by decide)) 1
  refine RepC_in (Bas_kp q1 q (fun y w => ?_)) hcA ⟨by rw [e1]; exact kp_ty q m1, ⟨?_, ?_, ?_, ?_, fun j hj => ?_⟩, ?_⟩ ⟨fun i hi => ?_, fun i hi => ?_, ?_⟩ (fun i hi => ?_)
  · rcases hW y w with e | e
    · rw [e]; exact (q2.2 2 0).1
    · rw [e]; exact (q2.2 22 0).1
  · rw [e1, e2, S1]; exact x0
  · rw [e1, e3, S1]; exact x1
  · rw [e1, S1, h0, gref_X hR3 h3 e4]; exact x2
  · rw [e1, S1, h0, gref_X hR4 h3 e4]; exact x3
  · rw [e1, S1, h0]; exact x4 j hj
  · rw [e2, hn]; exact hl
  · rw [e18]; exact kp_ty q (f1 i (by omega))
  · have hi' : i < zf z := by omega
    have S := (q.2.2.2.2 _ (hty_lt (f1 i hi'))).2.2 (nW 18 i (by omega) (by omega)) 2
    rw [e18, S, S, S, h8, gref_X (okFr_R hF hi') h3 e4]
    exact f2 i hi'
  · rw [e3, e23, hf]
    exact isL_f (isL_kq f3 q (nW 3 0 (by decide) (by decide)) (fun _ => nW 23 0 (by decide) (by decide))) (fun j hj => by show Value.ref _ = Value.ref _; rw [e18])
  · by_cases e : i = zn z
    · rw [e]; exact hg
    · have hi' : i < zn z := by omega
      refine gc_z (gc_a (gc_kp (q5 i hi') q (fun r hr _ => nW r i (fun e => ?_) (fun e => ?_)) (fun y w _ => Or.inr ?_) hAN) (fun r hr => hM r i (by omega) (fun e => ?_))) (hz i hi')
      · rw [e.1] at hr; revert hr; decide
      · rw [e.1] at hr; revert hr; decide
      · rcases hW y w with e | e
        · exact ⟨2, 0, e⟩
        · exact ⟨22, 0, e⟩
      · rw [e.1] at hr; revert hr; decide
theorem isL_b0 {a b b' : Nat} {f : Nat → Value} (h : isL g σ a b 0 f) (hb : gC g ≤ b) (hb' : gC g ≤ b') (hC : hsz σ ≤ gC g) : isL g σ a b' 0 f := by
  obtain ⟨h1, h2, h3, h4, h5, d, h6, h7, h8, h9, h10, h11⟩ := h
  refine ⟨h1, h2, h3, h4, h5, d, h6, h7, h8, h9, h10, ?_⟩
  rcases h11 with ⟨e, _, _⟩ | ⟨e1, e2, _⟩
  · have := hty_lt h7; omega
  · exact Or.inr ⟨e1, e2, Or.inl hb'⟩
theorem c_guestP {w : Int32} (h : RepH g A B σ z) (hI : CI z) (hm : rm g σ) (h0 : ¬ inR 1 4 w → ∀ σ', kp (fun _ => False) 1 6 σ σ' → Q (.inr 0) σ') (h1 : inR 1 4 w → ¬ zn z < 3 → ∀ σ', kp (fun _ => False) 1 6 σ σ' → Q (.inr 1) σ') (hok : inR 1 4 w → zn z < 3 → ∀ A' B' σ', SA g (FA A B) A A' B B' σ σ' (newGZ z w) 4600 56000 → Q (.inl (some (.int (Int32.ofNat (zn z))))) σ') : aw g 75 0 [some (.ref (A 0 0)), some (.int w)] [] σ Q := by
  obtain ⟨m1, m2⟩ := hm
  have h3 := hI.1.1.1
  have t0 := h.2.1
  have t1 := h.2.2
  simp (config := {decide := true}) only [vRf_r, vRf_n, vI_i, vL_l, vD_d, pI_i, pR_r, pR_n, vZ_0, vZ_1, ct_i, ct_r, ct_n, ct_l, ct_d, csum_n, csum_c, kt_v, kt_n, kt_e, oc_n, oc_i, oc_r, oc_l, oc_u, oc_d, true_and, and_true, Bool.and_true, Bool.true_and, ne_eq, not_false_eq_true, not_true_eq_false, implies_true, false_imp, true_imp_iff, hsz_put, hsl_put, hln_put, hty_put, hsz_new, hsl_new, hln_new, hty_new, Nat.zero_add, Nat.add_zero, eq_self, decide_true, t32_0, t32_1, t32_2, t32_3, t32_4, t32_5, t32_6, hv_same, hv_kne, hv_tne, hv_ntne, hv_nsame, hv_ctne, hty_cpy, hln_cpy, hsz_cpy, hsl_cpy, vrn, vnr, vrr, A75_0, A75_1]
  refine c_requireWeight (by omega) (by omega) (fun hr => ?_) (fun hr σ' q => by rw [kt_e]; exact h0 hr σ' q)
  have e1 := fun Q' => l_size (Q := Q') (rLgb h.1)
  have tL := (rLgb h.1).1
  have el : ((3 : Int32) ≤ Int32.ofNat (zn z)) = (3 ≤ zn z) := by rw [show (3 : Int32) = Int32.ofNat 3 from rfl, n32_le (by omega) (by omega)]
  by_cases gn : 3 ≤ zn z
  · have h1 := h1 hr (by omega)
    have el2 := el.trans (eq_true gn)
    simp (config := {decide := true}) only [vRf_r, vRf_n, vI_i, vL_l, vD_d, pI_i, pR_r, pR_n, vZ_0, vZ_1, ct_i, ct_r, ct_n, ct_l, ct_d, csum_n, csum_c, kt_v, kt_n, kt_e, oc_n, oc_i, oc_r, oc_l, oc_u, oc_d, true_and, and_true, Bool.and_true, Bool.true_and, ne_eq, not_false_eq_true, not_true_eq_false, implies_true, false_imp, true_imp_iff, hsz_put, hsl_put, hln_put, hty_put, hsz_new, hsl_new, hln_new, hty_new, Nat.zero_add, Nat.add_zero, eq_self, decide_true, t32_0, t32_1, t32_2, t32_3, t32_4, t32_5, t32_6, hv_same, hv_kne, hv_tne, hv_ntne, hv_nsame, hv_ctne, hty_cpy, hln_cpy, hsz_cpy, hsl_cpy, vrn, vnr, vrr, A75_4, A75_5, A75_8, A75_11, A75_14, A75_15, A75_18, A75_19, A75_22, A75_23, r1tb h.1, r10_b h.1, r11_b h.1, r13_b h.1, r14_b h.1, r1sb h.1, rgBA h.1, t0, t1, e1, tL, el2]
    refine c_requireState (by omega) (by omega) (fun e => absurd rfl e) (fun _ σ' q => by rw [kt_e]; exact h1 σ' q)
  · have hok := hok hr (by omega)
    have el2 := el.trans (eq_false gn)
    simp (config := {decide := true}) only [vRf_r, vRf_n, vI_i, vL_l, vD_d, pI_i, pR_r, pR_n, vZ_0, vZ_1, ct_i, ct_r, ct_n, ct_l, ct_d, csum_n, csum_c, kt_v, kt_n, kt_e, oc_n, oc_i, oc_r, oc_l, oc_u, oc_d, true_and, and_true, Bool.and_true, Bool.true_and, ne_eq, not_false_eq_true, not_true_eq_false, implies_true, false_imp, true_imp_iff, hsz_put, hsl_put, hln_put, hty_put, hsz_new, hsl_new, hln_new, hty_new, Nat.zero_add, Nat.add_zero, eq_self, decide_true, t32_0, t32_1, t32_2, t32_3, t32_4, t32_5, t32_6, hv_same, hv_kne, hv_tne, hv_ntne, hv_nsame, hv_ctne, hty_cpy, hln_cpy, hsz_cpy, hsl_cpy, vrn, vnr, vrr, A75_4, A75_5, A75_8, A75_11, A75_14, A75_15, A75_18, A75_19, A75_22, A75_23, r1tb h.1, r10_b h.1, r11_b h.1, r13_b h.1, r14_b h.1, r1sb h.1, rgBA h.1, t0, t1, e1, tL, el2]
    refine c_requireState (by omega) (by omega) (fun _ => ?_) (fun e => absurd e (by decide))
    have hgB := rgsb h.1
    have hcA : cA g (mix A B) σ := h.1.2.1
    have c1 : hsz σ + 1 ≤ gC g := by omega
    have s1 : hsl σ + 22 ≤ gS g := by omega
    have kA : kp (fun _ => False) 1 22 σ (hnew σ 5 0 (fun k => defaultValue (tyX6 k)) 22) := kp_new
    have tA : hty (hnew σ 5 0 (fun k => defaultValue (tyX6 k)) 22) (hsz σ) = some 5 := by rw [hty_new, if_pos rfl]
    have vA : ∀ j, hv (hnew σ 5 0 (fun k => defaultValue (tyX6 k)) 22) 5 (hsz σ) j = defaultValue (tyX6 j) := fun j => hv_nsame _ _ _ _ _ _
    have zA : hsz (hnew σ 5 0 (fun k => defaultValue (tyX6 k)) 22) = hsz σ + 1 := rfl
    have yA : hsl (hnew σ 5 0 (fun k => defaultValue (tyX6 k)) 22) = hsl σ + 22 := rfl
    have hA := RH_0 h kA
    simp (config := {decide := true}) only [vRf_r, vRf_n, vI_i, vL_l, vD_d, pI_i, pR_r, pR_n, vZ_0, vZ_1, ct_i, ct_r, ct_n, ct_l, ct_d, csum_n, csum_c, kt_v, kt_n, kt_e, oc_n, oc_i, oc_r, oc_l, oc_u, oc_d, true_and, and_true, Bool.and_true, Bool.true_and, ne_eq, not_false_eq_true, not_true_eq_false, implies_true, false_imp, true_imp_iff, hsz_put, hsl_put, hln_put, hty_put, hsz_new, hsl_new, hln_new, hty_new, Nat.zero_add, Nat.add_zero, eq_self, decide_true, t32_0, t32_1, t32_2, t32_3, t32_4, t32_5, t32_6, hv_same, hv_kne, hv_tne, hv_ntne, hv_nsame, hv_ctne, hty_cpy, hln_cpy, hsz_cpy, hsl_cpy, vrn, vnr, vrr, A75_26, A75_27, A75_30, r1tb h.1, r10_b h.1, r11_b h.1, r13_b h.1, r14_b h.1, r1sb h.1, rgBA h.1, t0, t1]
    rw [A75_33]
    refine ⟨c1, s1, ?_⟩
    generalize hnew σ 5 0 (fun k => defaultValue (tyX6 k)) 22 = σA at *
    have tA0 := hA.2.1
    have tA1 := hA.2.2
    have eA := fun Q' => l_size (Q := Q') (rLgb hA.1)
    have tLA := (rLgb hA.1).1
    simp (config := {decide := true}) only [vRf_r, vRf_n, vI_i, vL_l, vD_d, pI_i, pR_r, pR_n, vZ_0, vZ_1, ct_i, ct_r, ct_n, ct_l, ct_d, csum_n, csum_c, kt_v, kt_n, kt_e, oc_n, oc_i, oc_r, oc_l, oc_u, oc_d, true_and, and_true, Bool.and_true, Bool.true_and, ne_eq, not_false_eq_true, not_true_eq_false, implies_true, false_imp, true_imp_iff, hsz_put, hsl_put, hln_put, hty_put, hsz_new, hsl_new, hln_new, hty_new, Nat.zero_add, Nat.add_zero, eq_self, decide_true, t32_0, t32_1, t32_2, t32_3, t32_4, t32_5, t32_6, hv_same, hv_kne, hv_tne, hv_ntne, hv_nsame, hv_ctne, hty_cpy, hln_cpy, hsz_cpy, hsl_cpy, vrn, vnr, vrr, A75_36, A75_37, A75_38, A75_41, A75_44, A75_47, A75_48, r1tb hA.1, r10_b hA.1, r11_b hA.1, r13_b hA.1, r14_b hA.1, r1sb hA.1, rgBA hA.1, tA0, tA1, eA, tLA]
    refine c_guestInit (f := fun _ => .null) hA.1.1 tA hgB (by omega) (by omega) ?_
    intro σB kB zB yB mB _ vB x8 x9 x10
    have kAB : kp (fun _ => False) 7 52 σ σB := kp_mono (kp_then kA kB (fun a ha e => by omega)) (by omega) (by omega) (fun _ _ e => e)
    have hB := RH_0 h kAB
    have tB := kp_ty kB tA
    rw [zA] at zB mB vB x8 x9 x10
    have tLB := (rLgb hB.1).1
    have hgw : gw (zn z) ≤ 14 := by unfold gw; omega
    simp (config := {decide := true}) only [vRf_r, vRf_n, vI_i, vL_l, vD_d, pI_i, pR_r, pR_n, vZ_0, vZ_1, ct_i, ct_r, ct_n, ct_l, ct_d, csum_n, csum_c, kt_v, kt_n, kt_e, oc_n, oc_i, oc_r, oc_l, oc_u, oc_d, true_and, and_true, Bool.and_true, Bool.true_and, ne_eq, not_false_eq_true, not_true_eq_false, implies_true, false_imp, true_imp_iff, hsz_put, hsl_put, hln_put, hty_put, hsz_new, hsl_new, hln_new, hty_new, Nat.zero_add, Nat.add_zero, eq_self, decide_true, t32_0, t32_1, t32_2, t32_3, t32_4, t32_5, t32_6, hv_same, hv_kne, hv_tne, hv_ntne, hv_nsame, hv_ctne, hty_cpy, hln_cpy, hsz_cpy, hsl_cpy, vrn, vnr, vrr, A75_51, tLB]
    refine l_add (v := .ref (hsz σ)) (rLgb hB.1) (by omega) (by omega) (by omega) (by omega) ⟨5, tB, Or.inl (by decide)⟩ ?_
    intro σC b' lC kC hb
    have kC1 := kC.1
    have q : kp (fun y => y = mix A B 2 0 ∨ y = mix A B 22 0) 8 66 σ σC := kp_mono (kp_trans (kp_mono kAB (Nat.le_refl _) (Nat.le_refl _) (fun _ _ e => e.elim)) kC) (by omega) (by omega) (fun _ _ e => e)
    have hC : hsz σC ≤ gC g := by have := q.2.1; omega
    -- the names
    have C4 := cAs_nm (r0 := 4) (k0 := zn z) (x := hsz σ) (cAs_of hcA) (Nat.le_refl _) (by omega) hgB
    have C5 := cAs_nm (r0 := 5) (k0 := zn z) (x := hsz σ + 1) C4 (by omega) (by omega) (by omega)
    have C6 := cAs_nm (r0 := 6) (k0 := zn z) (x := hsz σ + 1 + 1) C5 (by omega) (by omega) (by omega)
    have C7 := cAs_nm (r0 := 7) (k0 := zn z) (x := hsz σ + 1 + 2) C6 (by omega) (by omega) (by omega)
    have C8 := cAs_nm (r0 := 8) (k0 := zn z) (x := hsz σ + 1 + 3) C7 (by omega) (by omega) (by omega)
    have C9 := cAs_nm (r0 := 9) (k0 := zn z) (x := hsz σ + 1 + 4) C8 (by omega) (by omega) (by omega)
    have C10 := cAs_nm (r0 := 10) (k0 := zn z) (x := hsz σ + 1 + 5) C9 (by omega) (by omega) (by omega)
    have C26 := cAs_nmD (r0 := 26) (k0 := zn z) C10 (by omega) (by omega)
    have C22 : cA g (nm (nm (nm (nm (nm (nm (nm (nm (nm (mix A B) 4 (zn z) (hsz σ)) 5 (zn z) (hsz σ + 1)) 6 (zn z) (hsz σ + 1 + 1)) 7 (zn z) (hsz σ + 1 + 2)) 8 (zn z) (hsz σ + 1 + 3)) 9 (zn z) (hsz σ + 1 + 4)) 10 (zn z) (hsz σ + 1 + 5)) 26 (zn z) (gC g + enc 26 (zn z))) 22 0 b') σC := by
      have CB : cA g (nm (nm (nm (nm (nm (nm (nm (nm (mix A B) 4 (zn z) (hsz σ)) 5 (zn z) (hsz σ + 1)) 6 (zn z) (hsz σ + 1 + 1)) 7 (zn z) (hsz σ + 1 + 2)) 8 (zn z) (hsz σ + 1 + 3)) 9 (zn z) (hsz σ + 1 + 4)) 10 (zn z) (hsz σ + 1 + 5)) 26 (zn z) (gC g + enc 26 (zn z))) σB := cAs_to C26 (by omega)
      refine cA_nm' CB kC.1 hC (by omega) ?_
      rcases hb with e | e
      · left
        rw [nm_ne (by omega), nm_ne (by omega), nm_ne (by omega), nm_ne (by omega), nm_ne (by omega), nm_ne (by omega), nm_ne (by omega), nm_ne (by omega)]
        exact e
      · exact Or.inr (by omega)
    have eM : mix (nm (nm (nm (nm (nm (nm (nm A 4 (zn z) (hsz σ)) 5 (zn z) (hsz σ + 1)) 6 (zn z) (hsz σ + 1 + 1)) 7 (zn z) (hsz σ + 1 + 2)) 8 (zn z) (hsz σ + 1 + 3)) 9 (zn z) (hsz σ + 1 + 4)) 10 (zn z) (hsz σ + 1 + 5)) (Bup (Bup B 26 (zn z) (gC g + enc 26 (zn z))) 22 0 b') = nm (nm (nm (nm (nm (nm (nm (nm (nm (mix A B) 4 (zn z) (hsz σ)) 5 (zn z) (hsz σ + 1)) 6 (zn z) (hsz σ + 1 + 1)) 7 (zn z) (hsz σ + 1 + 2)) 8 (zn z) (hsz σ + 1 + 3)) 9 (zn z) (hsz σ + 1 + 4)) 10 (zn z) (hsz σ + 1 + 5)) 26 (zn z) (gC g + enc 26 (zn z))) 22 0 b' := by
      rw [mix_Bup (by decide), mix_Bup (by decide), mix_nm (by decide), mix_nm (by decide), mix_nm (by decide), mix_nm (by decide), mix_nm (by decide), mix_nm (by decide), mix_nm (by decide)]
    have nM : ∀ r i, ¬ (i = zn z ∧ gwr r = true) → ¬ (r = 22 ∧ i = 0) → nm (nm (nm (nm (nm (nm (nm (nm (nm (mix A B) 4 (zn z) (hsz σ)) 5 (zn z) (hsz σ + 1)) 6 (zn z) (hsz σ + 1 + 1)) 7 (zn z) (hsz σ + 1 + 2)) 8 (zn z) (hsz σ + 1 + 3)) 9 (zn z) (hsz σ + 1 + 4)) 10 (zn z) (hsz σ + 1 + 5)) 26 (zn z) (gC g + enc 26 (zn z))) 22 0 b' r i = mix A B r i := by
      intro r i n1 n2
      have no : ∀ r0, gwr r0 = true → ¬ (r = r0 ∧ i = zn z) := fun r0 e1 e2 => n1 ⟨e2.2, by rw [e2.1]; exact e1⟩
      rw [nm_ne n2, nm_ne (no 26 rfl), nm_ne (no 10 rfl), nm_ne (no 9 rfl), nm_ne (no 8 rfl), nm_ne (no 7 rfl), nm_ne (no 6 rfl), nm_ne (no 5 rfl), nm_ne (no 4 rfl)]
    have hAN : AN (mix A B) (nm (nm (nm (nm (nm (nm (nm (nm (nm (mix A B) 4 (zn z) (hsz σ)) 5 (zn z) (hsz σ + 1)) 6 (zn z) (hsz σ + 1 + 1)) 7 (zn z) (hsz σ + 1 + 2)) 8 (zn z) (hsz σ + 1 + 3)) 9 (zn z) (hsz σ + 1 + 4)) 10 (zn z) (hsz σ + 1 + 5)) 26 (zn z) (gC g + enc 26 (zn z))) 22 0 b') σ := by
      intro r i
      have st : ∀ (X : Nat → Nat → Nat) r0 k0 x, hsz σ ≤ x → (X r i = mix A B r i ∨ hsz σ ≤ X r i) → (nm X r0 k0 x r i = mix A B r i ∨ hsz σ ≤ nm X r0 k0 x r i) := by
        intro X r0 k0 x hx hX
        by_cases e : r = r0 ∧ i = k0
        · rw [e.1, e.2, nm_at]; exact Or.inr hx
        · rw [nm_ne e]; exact hX
      by_cases e : r = 22 ∧ i = 0
      · rw [e.1, e.2, nm_at]
        rcases hb with e2 | e2
        · exact Or.inl e2
        · exact Or.inr (by omega)
      · rw [nm_ne e]
        exact st _ 26 _ _ (by omega) (st _ 10 _ _ (by omega) (st _ 9 _ _ (by omega) (st _ 8 _ _ (by omega) (st _ 7 _ _ (by omega) (st _ 6 _ _ (by omega) (st _ 5 _ _ (by omega) (st _ 4 _ _ (by omega) (Or.inl rfl))))))))
    have names : (nm (nm (nm (nm (nm (nm (nm (nm (nm (mix A B) 4 (zn z) (hsz σ)) 5 (zn z) (hsz σ + 1)) 6 (zn z) (hsz σ + 1 + 1)) 7 (zn z) (hsz σ + 1 + 2)) 8 (zn z) (hsz σ + 1 + 3)) 9 (zn z) (hsz σ + 1 + 4)) 10 (zn z) (hsz σ + 1 + 5)) 26 (zn z) (gC g + enc 26 (zn z))) 22 0 b' 4 (zn z) = hsz σ ∧ nm (nm (nm (nm (nm (nm (nm (nm (nm (mix A B) 4 (zn z) (hsz σ)) 5 (zn z) (hsz σ + 1)) 6 (zn z) (hsz σ + 1 + 1)) 7 (zn z) (hsz σ + 1 + 2)) 8 (zn z) (hsz σ + 1 + 3)) 9 (zn z) (hsz σ + 1 + 4)) 10 (zn z) (hsz σ + 1 + 5)) 26 (zn z) (gC g + enc 26 (zn z))) 22 0 b' 5 (zn z) = hsz σ + 1 ∧ nm (nm (nm (nm (nm (nm (nm (nm (nm (mix A B) 4 (zn z) (hsz σ)) 5 (zn z) (hsz σ + 1)) 6 (zn z) (hsz σ + 1 + 1)) 7 (zn z) (hsz σ + 1 + 2)) 8 (zn z) (hsz σ + 1 + 3)) 9 (zn z) (hsz σ + 1 + 4)) 10 (zn z) (hsz σ + 1 + 5)) 26 (zn z) (gC g + enc 26 (zn z))) 22 0 b' 6 (zn z) = hsz σ + 1 + 1 ∧ nm (nm (nm (nm (nm (nm (nm (nm (nm (mix A B) 4 (zn z) (hsz σ)) 5 (zn z) (hsz σ + 1)) 6 (zn z) (hsz σ + 1 + 1)) 7 (zn z) (hsz σ + 1 + 2)) 8 (zn z) (hsz σ + 1 + 3)) 9 (zn z) (hsz σ + 1 + 4)) 10 (zn z) (hsz σ + 1 + 5)) 26 (zn z) (gC g + enc 26 (zn z))) 22 0 b' 7 (zn z) = hsz σ + 1 + 2 ∧ nm (nm (nm (nm (nm (nm (nm (nm (nm (mix A B) 4 (zn z) (hsz σ)) 5 (zn z) (hsz σ + 1)) 6 (zn z) (hsz σ + 1 + 1)) 7 (zn z) (hsz σ + 1 + 2)) 8 (zn z) (hsz σ + 1 + 3)) 9 (zn z) (hsz σ + 1 + 4)) 10 (zn z) (hsz σ + 1 + 5)) 26 (zn z) (gC g + enc 26 (zn z))) 22 0 b' 8 (zn z) = hsz σ + 1 + 3 ∧ nm (nm (nm (nm (nm (nm (nm (nm (nm (mix A B) 4 (zn z) (hsz σ)) 5 (zn z) (hsz σ + 1)) 6 (zn z) (hsz σ + 1 + 1)) 7 (zn z) (hsz σ + 1 + 2)) 8 (zn z) (hsz σ + 1 + 3)) 9 (zn z) (hsz σ + 1 + 4)) 10 (zn z) (hsz σ + 1 + 5)) 26 (zn z) (gC g + enc 26 (zn z))) 22 0 b' 9 (zn z) = hsz σ + 1 + 4 ∧ nm (nm (nm (nm (nm (nm (nm (nm (nm (mix A B) 4 (zn z) (hsz σ)) 5 (zn z) (hsz σ + 1)) 6 (zn z) (hsz σ + 1 + 1)) 7 (zn z) (hsz σ + 1 + 2)) 8 (zn z) (hsz σ + 1 + 3)) 9 (zn z) (hsz σ + 1 + 4)) 10 (zn z) (hsz σ + 1 + 5)) 26 (zn z) (gC g + enc 26 (zn z))) 22 0 b' 10 (zn z) = hsz σ + 1 + 5 ∧ nm (nm (nm (nm (nm (nm (nm (nm (nm (mix A B) 4 (zn z) (hsz σ)) 5 (zn z) (hsz σ + 1)) 6 (zn z) (hsz σ + 1 + 1)) 7 (zn z) (hsz σ + 1 + 2)) 8 (zn z) (hsz σ + 1 + 3)) 9 (zn z) (hsz σ + 1 + 4)) 10 (zn z) (hsz σ + 1 + 5)) 26 (zn z) (gC g + enc 26 (zn z))) 22 0 b' 26 (zn z) = gC g + enc 26 (zn z) ∧ nm (nm (nm (nm (nm (nm (nm (nm (nm (mix A B) 4 (zn z) (hsz σ)) 5 (zn z) (hsz σ + 1)) 6 (zn z) (hsz σ + 1 + 1)) 7 (zn z) (hsz σ + 1 + 2)) 8 (zn z) (hsz σ + 1 + 3)) 9 (zn z) (hsz σ + 1 + 4)) 10 (zn z) (hsz σ + 1 + 5)) 26 (zn z) (gC g + enc 26 (zn z))) 22 0 b' 22 0 = b') := by
      refine ⟨?_, ?_, ?_, ?_, ?_, ?_, ?_, ?_, ?_⟩ <;> simp [nm]
    have hR4 : ∀ r, r < 4 → nm (nm (nm (nm (nm (nm (nm A 4 (zn z) (hsz σ)) 5 (zn z) (hsz σ + 1)) 6 (zn z) (hsz σ + 1 + 1)) 7 (zn z) (hsz σ + 1 + 2)) 8 (zn z) (hsz σ + 1 + 3)) 9 (zn z) (hsz σ + 1 + 4)) 10 (zn z) (hsz σ + 1 + 5) r = A r := by
      intro r hr
      funext i
      rw [nm_ne (by omega), nm_ne (by omega), nm_ne (by omega), nm_ne (by omega), nm_ne (by omega), nm_ne (by omega), nm_ne (by omega)]
    have hBA : BK A (nm (nm (nm (nm (nm (nm (nm A 4 (zn z) (hsz σ)) 5 (zn z) (hsz σ + 1)) 6 (zn z) (hsz σ + 1 + 1)) 7 (zn z) (hsz σ + 1 + 2)) 8 (zn z) (hsz σ + 1 + 3)) 9 (zn z) (hsz σ + 1 + 4)) 10 (zn z) (hsz σ + 1 + 5)) σ := BK_trans (BK_trans (BK_trans (BK_trans (BK_trans (BK_trans (BK_nm (r0 := 4) (by decide) (Or.inr (Nat.le_refl _))) (BK_nm (σ := σ) (r0 := 5) (by decide) (Or.inr (by omega))) (Nat.le_refl _)) (BK_nm (σ := σ) (r0 := 6) (by decide) (Or.inr (by omega))) (Nat.le_refl _)) (BK_nm (σ := σ) (r0 := 7) (by decide) (Or.inr (by omega))) (Nat.le_refl _)) (BK_nm (σ := σ) (r0 := 8) (by decide) (Or.inr (by omega))) (Nat.le_refl _)) (BK_nm (σ := σ) (r0 := 9) (by decide) (Or.inr (by omega))) (Nat.le_refl _)) (BK_nm (σ := σ) (r0 := 10) (by decide) (Or.inr (by omega))) (Nat.le_refl _)
    have hBB : BK B (Bup (Bup B 26 (zn z) (gC g + enc 26 (zn z))) 22 0 b') σ := BK_trans (BK_up (σ := σ) (by decide) (Or.inr (by omega))) (BK_up (σ := σ) (by decide) (by
      rcases hb with e | e
      · left; rw [Bup_ne (by omega)]; exact e
      · exact Or.inr (by omega))) (Nat.le_refl _)
    rw [← eM] at C22 nM hAN names
    generalize nm (nm (nm (nm (nm (nm (nm A 4 (zn z) (hsz σ)) 5 (zn z) (hsz σ + 1)) 6 (zn z) (hsz σ + 1 + 1)) 7 (zn z) (hsz σ + 1 + 2)) 8 (zn z) (hsz σ + 1 + 3)) 9 (zn z) (hsz σ + 1 + 4)) 10 (zn z) (hsz σ + 1 + 5) = A2 at *
    generalize Bup (Bup B 26 (zn z) (gC g + enc 26 (zn z))) 22 0 b' = B2 at *
    obtain ⟨n4, n5, n6, n7, n8, n9, n10, n26, n22⟩ := names
    -- what the new guest holds
    have hd0 : ∀ y, hsz σ ≤ y → y < hsz σB → ¬ (y = mix A B 2 0 ∨ y = mix A B 22 0) := by
      intro y hy hy2 e
      rcases e with e | e
      · rcases (hcA.2 2 0).2 with w | w <;> omega
      · rcases (hcA.2 22 0).2 with w | w <;> omega
    have kC' : kp (fun y => y = mix A B 2 0 ∨ y = mix A B 22 0) 1 (gw (zn z)) σB σC := kC
    obtain ⟨⟨b1, b2, b3, b4, b5⟩, b6, b7, b8, b9⟩ := mB
    have SC : ∀ y t, hty σB y = some t → hsz σ ≤ y → ∀ t' i, hv σC t' y i = hv σB t' y i := fun y t e hy => (kC'.2.2.2.2 y (hty_lt e)).2.2 (hd0 y hy (hty_lt e))
    have NC : ∀ y t, hty σB y = some t → hln σC y = hln σB y := fun y t e => (kC'.2.2.2.2 y (hty_lt e)).2.1
    have vC : ∀ j, hv σC 5 (hsz σ) j = giF (fun j => defaultValue (tyX6 j)) (Int32.ofNat (zn z)) w (hsz σ + 1) (hsz σ + 1 + 3) (hsz σ + 1 + 4) (hsz σ + 1 + 5) j := fun j => by
      rw [SC _ 5 tB (Nat.le_refl _), vB, show hv σA 5 (hsz σ) = fun j => defaultValue (tyX6 j) from funext vA]
    have v1 := fun j => newGZ_v z w (κ := 1) (j := j) (by decide)
    have i31 : ivZ 1 31 w = 0 := rfl
    have i30 : ivZ 1 30 w = 0 := rfl
    have hg : gc g (mix A2 B2) (fun r => mix A2 B2 r (zn z)) σC (newGZ z w) (zn z) := by
      refine ⟨?_, ⟨fun _ => .null, ?_, fun i hi => ?_⟩, fun hs => ?_⟩
      · unfold gcH
        dsimp only
        rw [n4, n5, n6, n7, n8, n9, n10, v1 30, v1 31, v1 22, v1 23, i30, i31]
        have n1 : ¬ ((0 : Int32) = 1) := by decide
        refine ⟨⟨kp_ty kC' tB, kp_ty kC' b1, ⟨kp_ty kC' b7, by rw [NC _ _ b7]; exact b8⟩, ⟨kp_ty kC' x8.1, by rw [NC _ _ x8.1]; exact x8.2.1⟩, ⟨kp_ty kC' x9.1, by rw [NC _ _ x9.1]; exact x9.2.1⟩, ⟨kp_ty kC' x10.1, by rw [NC _ _ x10.1]; exact x10.2.1⟩, fun e => absurd e n1, fun e => absurd e n1⟩, ⟨?_, ?_, ?_, ?_, ?_, ?_, ?_, fun j hj => ?_⟩, ⟨⟨?_, ?_, ?_, ?_⟩, fun e => absurd e n1⟩, fun e => absurd e n1, ⟨fun p hp => ?_, fun p hp => ?_, fun e => absurd e n1⟩, ⟨fun p hp => ?_, fun p hp => ?_, fun e => absurd e n1⟩⟩
        · rw [vC]; rfl
        · rw [vC]; rfl
        · rw [vC]; rfl
        · rw [vC]; rfl
        · rw [vC]; rfl
        · rw [vC]; rfl
        · rw [vC]; rfl
        · rw [vC, v1]
          have : j = 1 ∨ j = 3 ∨ j = 4 ∨ j = 5 ∨ j = 6 ∨ j = 7 ∨ j = 8 ∨ j = 9 ∨ j = 10 ∨ j = 11 ∨ j = 12 ∨ j = 17 ∨ j = 18 ∨ j = 19 ∨ j = 20 := by
            simp [gsc] at hj
            omega
          rcases this with e | e | e | e | e | e | e | e | e | e | e | e | e | e | e <;> subst e <;> rfl
        · rw [SC _ 6 b1 (by omega)]; exact b2
        · rw [SC _ 6 b1 (by omega)]; exact b3
        · rw [SC _ 6 b1 (by omega)]; exact b4
        · rw [SC _ 6 b1 (by omega)]; exact b5
        · rw [SC _ 20 b7 (by omega), newGZ_v z w (by decide)]; exact b9 p hp
        · rw [SC _ 20 x8.1 (by omega), newGZ_v z w (by decide)]; exact x8.2.2 p
        · rw [SC _ 21 x9.1 (by omega), newGZ_v z w (by decide)]; exact x9.2.2 p
        · rw [SC _ 21 x10.1 (by omega), newGZ_v z w (by decide)]; exact x10.2.2 p
      · show isL g σC (mix A2 B2 6 (zn z)) (mix A2 B2 26 (zn z)) _ _
        rw [n6, n26, newGZ_l z w (by decide)]
        exact isL_b0 (isL_kq b6 kC' (hd0 _ (by omega) (hty_lt b6.1)) (fun e => by omega)) (Nat.le_refl _) (by omega) hC
      · rw [newGZ_l z w (by decide)] at hi; omega
      · rw [v1, i31] at hs; exact absurd hs (by decide)
    obtain ⟨nn, nf⟩ := newGZ_n z w
    have R : RepB g A2 B2 σC (newGZ z w) := by
      refine RepC_guest (M := mix A B) (M' := mix A2 B2) h.1 hI.1.1.2.2.2 hI.1.2.2.1 hI.1.2.1 (by omega) q (fun _ e => e) hAN C22 nM ?_ hg (fun i hi => ⟨fun κ hκ => newGZ_o z w (Or.inr (Or.inr (by omega))), newGZ_lo z w (by decide) (by omega), newGZ_lo z w (by decide) (by omega), newGZ_lo z w (by decide) (by omega)⟩) ?_ ?_ nn nf
      · rw [n22]
        refine isL_f lC (fun j hj => ?_)
        show Value.ref _ = if j = zn z then Value.ref _ else Value.ref _
        by_cases e : j = zn z
        · rw [if_pos e, e, n4]
        · rw [if_neg e, nM 4 j (by omega) (by omega)]; rfl
      · funext i; exact newGZ_o z w (Or.inl rfl)
      · funext i; exact newGZ_o z w (Or.inr (Or.inl rfl))
    have S : SA g (FA A B) A A2 B B2 σ σC (newGZ z w) 4600 56000 := ⟨R, hBA, hBB, kp_mono q (by omega) (by omega) (fun y _ e => by
      rcases e with e | e
      · rw [e]; exact FA_i 2 (by decide)
      · rw [e]; exact FA_b 22 (by decide)), hR4⟩
    have hS := RH_SA h S
    have eS := fun Q' => l_size (Q := Q') (rLgb hS.1)
    have tLS := (rLgb hS.1).1
    rw [nn] at eS
    have q0 : A2 0 = A 0 := hR4 0 (by decide)
    have q1 : A2 1 = A 1 := hR4 1 (by decide)
    have q2 : A2 2 = A 2 := hR4 2 (by decide)
    have hS0 := hS.2.1
    have hS1 := hS.2.2
    have hM1 := r1tb hS.1
    have hM0 := r10_b hS.1
    rw [q0] at hS0 hS1
    rw [q1] at hS1 hM1 hM0
    have es : Int32.ofNat (zn z + 1) - 1 = Int32.ofNat (zn z) := n32_sub (i := zn z + 1) (j := 1) (by omega)
    have := hok A2 B2 σC S
    simp (config := {decide := true}) only [vRf_r, vRf_n, vI_i, vL_l, vD_d, pI_i, pR_r, pR_n, vZ_0, vZ_1, ct_i, ct_r, ct_n, ct_l, ct_d, csum_n, csum_c, kt_v, kt_n, kt_e, oc_n, oc_i, oc_r, oc_l, oc_u, oc_d, true_and, and_true, Bool.and_true, Bool.true_and, ne_eq, not_false_eq_true, not_true_eq_false, implies_true, false_imp, true_imp_iff, hsz_put, hsl_put, hln_put, hty_put, hsz_new, hsl_new, hln_new, hty_new, Nat.zero_add, Nat.add_zero, eq_self, decide_true, t32_0, t32_1, t32_2, t32_3, t32_4, t32_5, t32_6, hv_same, hv_kne, hv_tne, hv_ntne, hv_nsame, hv_ctne, hty_cpy, hln_cpy, hsz_cpy, hsl_cpy, vrn, vnr, vrr, A75_54, A75_55, A75_56, A75_59, A75_62, A75_65, A75_66, A75_67, hS0, hS1, hM1, hM0, eS, tLS, es]
    exact this
end GUEST
