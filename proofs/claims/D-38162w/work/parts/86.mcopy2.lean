/-! the walk of a machine's copy -/
/-- a machine at x that is made -/
def maH (g : GC) (σ : AH) (x : Nat) : AH := hput (hput (hput (nlH g (nAL (hput (nlH g (nAL σ) (hsz σ)) 1 x 0 (.ref (hsz σ)))) (hsz σ + 1)) 1 x 1 (.ref (hsz σ + 1))) 1 x 5 (.int (-1))) 1 x 6 (.int (-1))
section MCOPY2
variable {g : GC} {A B X : Nat → Nat → Nat} {σ σ' : AH} {z : ZT} {k p x : Nat} {Q : AQ}
theorem c_machInit (h1 : hty σ x = some 1) (h2 : gB g ≤ x) (hB : gB g ≤ hsz σ) (hc : hsz σ + 2 ≤ gC g) (hs : hsl σ + 6 ≤ gS g) : aw g 108 0 [some (.ref x)] [] σ Q = Q (.inl none) (maH g σ x) := by
  have e1 := fun Q' => l_init (Q := Q') (σ := nAL σ) (nAL_t σ) hB
  have hB2 : gB g ≤ hsz σ + 1 := by omega
  have e2 := fun Q' => l_init (g := g) (Q := Q') (σ := nAL (hput (nlH g (nAL σ) (hsz σ)) 1 x 0 (.ref (hsz σ)))) (a := hsz σ + 1) (nAL_t _) hB2
  have eN : ∀ σ : AH, hnew σ 10 0 (fun k => defaultValue (tyJ2 k)) 3 = nAL σ := fun _ => rfl
  have c1 : hsz σ + 1 ≤ gC g := by omega
  have c2 : hsz σ + 1 + 1 ≤ gC g := by omega
  have s1 : hsl σ + 3 ≤ gS g := by omega
  have s2 : hsl σ + 3 + 3 ≤ gS g := by omega
  have z1 : ∀ σ : AH, hsz (nAL σ) = hsz σ + 1 := fun _ => rfl
  have z2 : ∀ σ : AH, hsl (nAL σ) = hsl σ + 3 := fun _ => rfl
  have t0 : hty (nAL σ) x = some 1 := kp_ty (nAL_kp (fun _ => False) σ) h1
  have t1 : hty (nAL (hput (nlH g (nAL σ) (hsz σ)) 1 x 0 (.ref (hsz σ)))) x = some 1 := kp_ty (nAL_kp (fun _ => False) _) (show hty (hput (nlH g (nAL σ) (hsz σ)) 1 x 0 (.ref (hsz σ))) x = some 1 from t0)
  simp (config := {decide := true}) only [vRf_r, vRf_n, vI_i, vL_l, vD_d, pI_i, pR_r, pR_n, vZ_0, vZ_1, ct_i, ct_r, ct_n, ct_l, ct_d, csum_n, csum_c, kt_v, kt_n, kt_e, oc_n, oc_i, oc_r, oc_l, oc_u, oc_d, true_and, and_true, Bool.and_true, Bool.true_and, ne_eq, not_false_eq_true, not_true_eq_false, implies_true, false_imp, true_imp_iff, hsz_put, hsl_put, hln_put, hty_put, hsz_new, hsl_new, hln_new, hty_new, Nat.zero_add, Nat.add_zero, eq_self, decide_true, t32_0, t32_1, t32_2, t32_3, t32_4, t32_5, t32_6, hv_same, hv_kne, hv_tne, hv_ntne, hv_nsame, hv_ctne, hty_cpy, hln_cpy, hsz_cpy, hsl_cpy, vrn, vnr, vrr, A108_0, A108_1, A108_4, A108_5, A108_8, A108_9, A108_12, A108_15, A108_16, A108_19, A108_20, A108_23, A108_26, A108_27, A108_28, A108_31, A108_32, A108_33, A108_36, h1, h2, eN, e1, e2, c1, c2, s1, s2, z1, z2, t0, t1, hsz_nl, hsl_nl, hty_nl, hln_nl, maH]
theorem maH_kp : kp (fun a => a = x) 2 6 σ (maH g σ x) := by
  unfold maH
  have k2 : ∀ σ : AH, kp (fun a => a = x) 1 3 σ (nlH g (nAL σ) (hsz σ)) := fun σ => kp_then (nAL_kp _ σ) (nlH_kp (W := fun a => a = hsz σ) rfl) (fun a ha e => by omega)
  exact kp_trans (kp_trans (kp_trans (kp_trans (kp_trans (k2 σ) (kp_put (fun _ => rfl))) (k2 (hput (nlH g (nAL σ) (hsz σ)) 1 x 0 (.ref (hsz σ))))) (kp_put (fun _ => rfl))) (kp_put (fun _ => rfl))) (kp_put (fun _ => rfl))
theorem maH_A (hB : Bas g σ) (h0 : gB g ≤ x) (h1 : hty σ x = some 1) {b b2 : Nat} (hb : gC g ≤ b) (hb2 : gC g ≤ b2) (hC : hsz σ + 2 ≤ gC g) (f f2 : Nat → Value) : (hty (maH g σ x) x = some 1 ∧ ∀ j, hv (maH g σ x) 1 x j = if j = 6 then .int (-1) else if j = 5 then .int (-1) else if j = 1 then .ref (hsz σ + 1) else if j = 0 then .ref (hsz σ) else hv σ 1 x j) ∧ isL g (maH g σ x) (hsz σ) b 0 f ∧ isL g (maH g σ x) (hsz σ + 1) b2 0 f2 := by
  have hx := hty_lt h1
  obtain ⟨l1, l2⟩ := nAL_L hB hb f
  have k0 : kp (fun a => a = x) 1 3 σ (nlH g (nAL σ) (hsz σ)) := kp_then (nAL_kp _ σ) (nlH_kp (W := fun a => a = hsz σ) rfl) (fun a ha e => by omega)
  have k1 : kp (fun a => a = x) 1 3 σ (hput (nlH g (nAL σ) (hsz σ)) 1 x 0 (.ref (hsz σ))) := kp_trans k0 (kp_put (W := fun a => a = x) (fun _ => rfl))
  have hB1 : Bas g (hput (nlH g (nAL σ) (hsz σ)) 1 x 0 (.ref (hsz σ))) := Bas_kp hB k1 (fun a e => by rw [e]; exact h0)
  have l1' : isL g (hput (nlH g (nAL σ) (hsz σ)) 1 x 0 (.ref (hsz σ))) (hsz σ) b 0 f := isL_tag l1 (by decide) (by decide)
  have t1 : hty (hput (nlH g (nAL σ) (hsz σ)) 1 x 0 (.ref (hsz σ))) x = some 1 := kp_ty k1 h1
  have v1 : ∀ j, hv (hput (nlH g (nAL σ) (hsz σ)) 1 x 0 (.ref (hsz σ))) 1 x j = if j = 0 then .ref (hsz σ) else hv σ 1 x j := by
    intro j
    rw [hv_put, hv_nl _ _ _ (by decide)]
    unfold nAL
    rw [hv_ntne _ (by decide)]
    simp only [true_and]
  have z1 : hsz (hput (nlH g (nAL σ) (hsz σ)) 1 x 0 (.ref (hsz σ))) = hsz σ + 1 := rfl
  unfold maH
  generalize hput (nlH g (nAL σ) (hsz σ)) 1 x 0 (.ref (hsz σ)) = σ2 at *
  obtain ⟨m1, m2⟩ := nAL_L hB1 hb2 f2
  rw [z1] at m1 m2
  have k3 : kp (fun a => a = hsz σ + 1) 1 3 σ2 (nlH g (nAL σ2) (hsz σ + 1)) := kp_trans (nAL_kp _ σ2) (nlH_kp (W := fun a => a = hsz σ + 1) rfl)
  have w1 : ∀ i, hv (nlH g (nAL σ2) (hsz σ + 1)) 1 x i = hv σ2 1 x i := fun i => (k3.2.2.2.2 x (by omega)).2.2 (by omega) 1 i
  refine ⟨⟨kp_ty k3 t1, fun j => ?_⟩, isL_tag (isL_tag (isL_tag (isL_kq l1' k3 (by omega) (by omega)) (by decide) (by decide)) (by decide) (by decide)) (by decide) (by decide), isL_tag (isL_tag (isL_tag m1 (by decide) (by decide)) (by decide) (by decide)) (by decide) (by decide)⟩
  rw [hv_put, hv_put, hv_put, w1, v1]
  simp only [true_and]
theorem X_it {it : Nat} (hn : ∀ r i, X r i ≠ it) {X' : Nat → Nat → Nat} (hA : AG X X' σ k) (hi : it < hsz σ) : ∀ r i, X' r i ≠ it := by
  intro r i e
  rcases hA r i with q | ⟨_, _, q⟩
  · exact hn r i (q.symm.trans e)
  · omega
theorem Lf_it {it : Nat} (h : hty σ it = some 11) : Lf X σ (fun a => a = it) := fun x w _ => Or.inl (by rw [w, h]; decide)
/-- the guests' loop -/
theorem mg_loop {it x1 x2 x3 : Nat} (h : RepB g A B σ z) (hW : WI z) (hWB : ∀ k, k < zn z → WB z k) (hg4 : ∀ k, k < zn z → z.2 4 k ≤ 400) (hc : hsz σ + 88 ≤ gC g) (hs : hsl σ + 3514 ≤ gS g) (hit : hsz σ ≤ it)
    (hQ : ∀ X σ' l3, kp (fun _ => False) 67 3230 σ σ' → XI (mix A B) X (hsz σ) → PC g X σ' z (zn z) 0 → X 1 0 = x1 → aw g 112 50 [some (.ref (A 1 0)), some (.ref x1), some (.ref it), l3, none] [] σ' Q) : ∀ m c X σ1 l3, c + m = zn z → kp (fun _ => False) (4 + 21 * c) (20 + 1070 * c) σ σ1 → XI (mix A B) X (hsz σ) → PC g X σ1 z c 0 → X 1 0 = x1 → X 2 0 = x2 → isI g σ1 it (A 2 0) c → (∀ r i, X r i ≠ it) → aw g 112 16 [some (.ref (A 1 0)), some (.ref x1), some (.ref it), l3, none] [] σ1 Q := by
  have hn3 := hW.1.1
  have hgB : gB g ≤ hsz σ := rgsb h
  intro m
  induction m with
  | zero =>
    intro c X σ1 l3 hcm q hX hP e1x e2x hi hnI
    have h1 : RepB g A B σ1 z := (St_0 h q).1
    have e1 := fun Q' => l_hasNext (Q := Q') (rLgb h1) hi (by omega)
    have e2 : (c < zn z) = False := eq_false (by omega)
    have ec : c = zn z := by omega
    subst ec
    have := hQ X σ1 l3 (kp_mono q (by omega) (by omega) (fun _ _ e => e)) hX hP e1x
    simp (config := {decide := true}) only [vRf_r, vRf_n, vI_i, vL_l, vD_d, pI_i, pR_r, pR_n, vZ_0, vZ_1, ct_i, ct_r, ct_n, ct_l, ct_d, csum_n, csum_c, kt_v, kt_n, kt_e, oc_n, oc_i, oc_r, oc_l, oc_u, oc_d, true_and, and_true, Bool.and_true, Bool.true_and, ne_eq, not_false_eq_true, not_true_eq_false, implies_true, false_imp, true_imp_iff, hsz_put, hsl_put, hln_put, hty_put, hsz_new, hsl_new, hln_new, hty_new, Nat.zero_add, Nat.add_zero, eq_self, decide_true, t32_0, t32_1, t32_2, t32_3, t32_4, t32_5, t32_6, hv_same, hv_kne, hv_tne, hv_ntne, hv_nsame, hv_ctne, hty_cpy, hln_cpy, hsz_cpy, hsl_cpy, vrn, vnr, vrr, A112_16, A112_17, A112_22, hi.1, e1, e2, if_false]
    exact this
  | succ m ih =>
    intro c X σ1 l3 hcm q hX hP e1x e2x hi hnI
    have hcn : c < zn z := by omega
    have h1 : RepB g A B σ1 z := (St_0 h q).1
    have e1 := fun Q' => l_hasNext (Q := Q') (rLgb h1) hi (by omega)
    have e2 : (c < zn z) = True := eq_true hcn
    have e3 := fun Q' => l_next (Q := Q') (rLgb h1) hi (by omega)
    have e7 : (∃ t, t ∈ [5] ∧ some 5 = some t) = True := eq_true ⟨5, by decide, rfl⟩
    have hi1 := hi.1
    have li := hty_lt hi1
    have kN := nxH_kp (σ := σ1) (it := it) (c := c)
    have q2 : kp (fun _ => False) (4 + 21 * c) (20 + 1070 * c) σ (nxH σ1 it c) := kp_mono (kp_then q kN (fun a ha e => by omega)) (by omega) (by omega) (fun _ _ e => e)
    have hi2 := nxH_isI hi
    have hP2 := PC_kp (k := zn z) hP kN (fun a e => by rw [e]; omega) (fun r i _ e => hnI r i e) (Lf_it hi1) (AG_refl X σ1 (zn z)) (by omega) (cA_le hP.2.1 kN.1) (fun i hi => by omega) (by omega)
    have h2 : RepB g A B (nxH σ1 it c) z := (St_0 h q2).1
    rw [A112_16]
    generalize nxH σ1 it c = σ2 at *
    have m1 := hP2.2.2.1
    rw [e1x, e2x] at m1
    have t4 := r5tb h2 hcn
    simp (config := {decide := true}) only [vRf_r, vRf_n, vI_i, vL_l, vD_d, pI_i, pR_r, pR_n, vZ_0, vZ_1, ct_i, ct_r, ct_n, ct_l, ct_d, csum_n, csum_c, kt_v, kt_n, kt_e, oc_n, oc_i, oc_r, oc_l, oc_u, oc_d, true_and, and_true, Bool.and_true, Bool.true_and, ne_eq, not_false_eq_true, not_true_eq_false, implies_true, false_imp, true_imp_iff, hsz_put, hsl_put, hln_put, hty_put, hsz_new, hsl_new, hln_new, hty_new, Nat.zero_add, Nat.add_zero, eq_self, decide_true, t32_0, t32_1, t32_2, t32_3, t32_4, t32_5, t32_6, hv_same, hv_kne, hv_tne, hv_ntne, hv_nsame, hv_ctne, hty_cpy, hln_cpy, hsz_cpy, hsl_cpy, vrn, vnr, vrr, A112_17, A112_22, A112_25, A112_26, A112_31, A112_31r, A112_34, A112_35, A112_36, A112_39, A112_40, hi1, e1, e2, e3, e7, m1.1, m1.2.1, t4, if_true]
    have hG : gc g X (fun r => mix A B r c) σ2 z c := gc_kp ((RepC_out (A := mix A B) h).2.2.2.2 c hcn) q2 (fun _ _ _ e => e) (fun _ e => e.elim) (XI_AN hX)
    have hok := hW.2.2.2.2 c hcn
    have d1 := q2.2.1
    have d2 := q2.2.2.2.1
    refine c_guestCopy (X := X) h2 hcn (hWB c hcn) hok.1.1 (hg4 c hcn) hok.2.1.1 hP2.2.1 hG ⟨(hX 15 c).1 (Or.inl rfl), (hX 16 c).1 (Or.inr (Or.inl rfl)), (hX 17 c).1 (Or.inr (Or.inr (Or.inl rfl))), (hX 36 c).1 (Or.inr (Or.inr (Or.inr (Or.inl rfl))))⟩ (by omega) (by omega) ?_
    intro X' σ3 k3 hcA3 hAG h15 hG3
    have hX3 := XI_AG hX hAG h15 (show hsz σ ≤ hsz σ2 from q2.1)
    have hP3 := PC_kp hP2 k3 (fun _ e => e.elim) (fun _ _ _ e => e) (fun _ e => e.elim) hAG (Nat.le_refl c) hcA3 (fun i hi => by omega) (by omega)
    have q3 := kp_trans q2 k3
    have d3 := q3.2.1
    have d4 := q3.2.2.2.1
    have n1 : X' 1 0 = X 1 0 := by
      rcases hAG 1 0 with e | ⟨_, e, _⟩
      · exact e
      · exact absurd e (by decide)
    have n2 : X' 2 0 = X 2 0 := by
      rcases hAG 2 0 with e | ⟨_, e, _⟩
      · exact e
      · exact absurd e (by decide)
    have L3 := hP3.2.2.2.1
    have t3 := L3.1
    have gx := hG3.1.1.1
    have gx : hty σ3 (X' 4 c) = some 5 := gx
    rw [n2, e2x] at t3
    simp (config := {decide := true}) only [vRf_r, vRf_n, vI_i, vL_l, vD_d, pI_i, pR_r, pR_n, vZ_0, vZ_1, ct_i, ct_r, ct_n, ct_l, ct_d, csum_n, csum_c, kt_v, kt_n, kt_e, oc_n, oc_i, oc_r, oc_l, oc_u, oc_d, true_and, and_true, Bool.and_true, Bool.true_and, ne_eq, not_false_eq_true, not_true_eq_false, implies_true, false_imp, true_imp_iff, hsz_put, hsl_put, hln_put, hty_put, hsz_new, hsl_new, hln_new, hty_new, Nat.zero_add, Nat.add_zero, eq_self, decide_true, t32_0, t32_1, t32_2, t32_3, t32_4, t32_5, t32_6, hv_same, hv_kne, hv_tne, hv_ntne, hv_nsame, hv_ctne, hty_cpy, hln_cpy, hsz_cpy, hsl_cpy, vrn, vnr, vrr, A112_43, t3]
    have hgw : gw c ≤ 14 := by unfold gw; omega
    rw [n2, e2x] at L3
    refine l_add (v := .ref (X' 4 c)) L3 (by omega) (by have := q3.1; omega) (by omega) (by omega) ⟨5, gx, Or.inl (by decide)⟩ ?_
    intro σ4 b' l4 k4 hb4
    have n22 : hsz σ ≤ X' 22 0 := (hX3 22 0).2 (by unfold shr; omega)
    have x2g : hsz σ ≤ x2 := by have := (hX 2 0).2 (by unfold shr; omega); omega
    have q4 : kp (fun _ => False) (4 + 21 * (c + 1)) (20 + 1070 * (c + 1)) σ σ4 := kp_mono (kp_then q3 k4 (fun a ha e => by omega)) (by omega) (by omega) (fun _ _ e => e)
    have k41 := k4.1
    have hP4 := PC_guest (b' := b') hP3 hG3 (by rw [n2, e2x]; exact k4) (by have := q4.2.1; omega) (by rw [n2, e2x]; exact l4) (hb4.imp_right (fun e => by omega))
    have hX4 := XI_nm (r0 := 22) (k0 := 0) (x := b') hX3 (by unfold shr; omega) (by have := q3.1; rcases hb4 with e | e <;> omega)
    have hnI3 := X_it hnI hAG (by have := kN.1; omega)
    have hi3 : isI g σ3 it (A 2 0) (c + 1) := isI_kp hi2 k3 (hty_lt (rLgb h2).1) (fun e => e) ((k3.2.2.2.2 _ (hty_lt (rLgb h2).1)).2.2 (fun e => e) 10 0)
    have la2 : A 2 0 < hsz σ := hty_lt (rLgb h).1
    have hi4 : isI g σ4 it (A 2 0) (c + 1) := isI_kp hi3 k4 (by have := q3.1; omega) (by
      rintro (e | e)
      · exact hnI 2 0 (by omega)
      · exact hnI3 22 0 e.symm) ((k4.2.2.2.2 _ (by have := q3.1; omega)).2.2 (by omega) 10 0)
    simp (config := {decide := true}) only [vRf_r, vRf_n, vI_i, vL_l, vD_d, pI_i, pR_r, pR_n, vZ_0, vZ_1, ct_i, ct_r, ct_n, ct_l, ct_d, csum_n, csum_c, kt_v, kt_n, kt_e, oc_n, oc_i, oc_r, oc_l, oc_u, oc_d, true_and, and_true, Bool.and_true, Bool.true_and, ne_eq, not_false_eq_true, not_true_eq_false, implies_true, false_imp, true_imp_iff, hsz_put, hsl_put, hln_put, hty_put, hsz_new, hsl_new, hln_new, hty_new, Nat.zero_add, Nat.add_zero, eq_self, decide_true, t32_0, t32_1, t32_2, t32_3, t32_4, t32_5, t32_6, hv_same, hv_kne, hv_tne, hv_ntne, hv_nsame, hv_ctne, hty_cpy, hln_cpy, hsz_cpy, hsl_cpy, vrn, vnr, vrr, A112_46, A112_47]
    refine ih (c + 1) (nm X' 22 0 b') σ4 _ (by omega) q4 hX4 hP4 (by rw [nm_ne (by omega)]; omega) (by rw [nm_ne (by omega)]; omega) hi4 (fun r i e => ?_)
    by_cases e9 : r = 22 ∧ i = 0
    · rw [e9.1, e9.2, nm_at] at e
      rcases hb4 with e5 | e5
      · exact hnI3 22 0 (by omega)
      · have := kN.1
        have := k3.1
        omega
    · rw [nm_ne e9] at e; exact hnI3 r i e
/-- a frame's three fields -/
def frH (σ : AH) (x : Nat) (v : Value) (p u : Int32) : AH := hput (hput (hput σ 2 x 0 v) 2 x 1 (.int p)) 2 x 2 (.int u)
theorem frH_kp {x : Nat} {v : Value} {p u : Int32} : kp (fun a => a = x) 0 0 σ (frH σ x v p u) := kp_trans (kp_trans (kp_put (W := fun a => a = x) (fun _ => rfl)) (kp_put (W := fun a => a = x) (fun _ => rfl))) (kp_put (W := fun a => a = x) (fun _ => rfl))
/-- the frames' loop -/
theorem mf_loop {it x1 x2 x3 c0 s0 : Nat} (h : RepB g A B σ z) (hW : WI z) (hc0 : c0 ≤ 68) (hs0 : s0 ≤ 3234) (hc : hsz σ + 88 ≤ gC g) (hs : hsl σ + 3514 ≤ gS g) (hit : hsz σ ≤ it)
    (hQ : ∀ X σ' l3 l4, kp (fun _ => False) 88 3514 σ σ' → XI (mix A B) X (hsz σ) → PC g X σ' z (zn z) (zf z) → X 1 0 = x1 → X 2 0 = x2 → aw g 112 140 [some (.ref (A 1 0)), some (.ref x1), some (.ref it), l3, l4] [] σ' Q) : ∀ m c X σ1 l3 l4, c + m = zf z → kp (fun _ => False) (c0 + 2 * c) (s0 + 28 * c) σ σ1 → XI (mix A B) X (hsz σ) → PC g X σ1 z (zn z) c → X 1 0 = x1 → X 2 0 = x2 → X 3 0 = x3 → isI g σ1 it (A 3 0) c → (∀ r i, X r i ≠ it) → aw g 112 58 [some (.ref (A 1 0)), some (.ref x1), some (.ref it), l3, l4] [] σ1 Q := by
  have hn3 := hW.1.1
  have hf10 := hW.1.2.2.1
  have hgB : gB g ≤ hsz σ := rgsb h
  intro m
  induction m with
  | zero =>
    intro c X σ1 l3 l4 hcm q hX hP e1x e2x e3x hi hnI
    have h1 : RepB g A B σ1 z := (St_0 h q).1
    have e1 := fun Q' => l_hasNext (Q := Q') (rLfb h1) hi (by omega)
    have e2 : (c < zf z) = False := eq_false (by omega)
    have ec : c = zf z := by omega
    subst ec
    have := hQ X σ1 l3 l4 (kp_mono q (by omega) (by omega) (fun _ _ e => e)) hX hP e1x e2x
    simp (config := {decide := true}) only [vRf_r, vRf_n, vI_i, vL_l, vD_d, pI_i, pR_r, pR_n, vZ_0, vZ_1, ct_i, ct_r, ct_n, ct_l, ct_d, csum_n, csum_c, kt_v, kt_n, kt_e, oc_n, oc_i, oc_r, oc_l, oc_u, oc_d, true_and, and_true, Bool.and_true, Bool.true_and, ne_eq, not_false_eq_true, not_true_eq_false, implies_true, false_imp, true_imp_iff, hsz_put, hsl_put, hln_put, hty_put, hsz_new, hsl_new, hln_new, hty_new, Nat.zero_add, Nat.add_zero, eq_self, decide_true, t32_0, t32_1, t32_2, t32_3, t32_4, t32_5, t32_6, hv_same, hv_kne, hv_tne, hv_ntne, hv_nsame, hv_ctne, hty_cpy, hln_cpy, hsz_cpy, hsl_cpy, vrn, vnr, vrr, A112_58, A112_59, A112_64, hi.1, e1, e2, if_false]
    exact this
  | succ m ih =>
    intro c X σ1 l3 l4 hcm q hX hP e1x e2x e3x hi hnI
    have hcn : c < zf z := by omega
    have h1 : RepB g A B σ1 z := (St_0 h q).1
    have e1 := fun Q' => l_hasNext (Q := Q') (rLfb h1) hi (by omega)
    have e2 : (c < zf z) = True := eq_true hcn
    have e3 := fun Q' => l_next (Q := Q') (rLfb h1) hi (by omega)
    have e7 : (∃ t, t ∈ [2] ∧ some 2 = some t) = True := eq_true ⟨2, by decide, rfl⟩
    have e75 : (∃ t, t ∈ [5] ∧ some 5 = some t) = True := eq_true ⟨5, by decide, rfl⟩
    have hi1 := hi.1
    have li := hty_lt hi1
    have kN := nxH_kp (σ := σ1) (it := it) (c := c)
    have q2 : kp (fun _ => False) (c0 + 2 * c) (s0 + 28 * c) σ (nxH σ1 it c) := kp_mono (kp_then q kN (fun a ha e => by omega)) (by omega) (by omega) (fun _ _ e => e)
    have hi2 := nxH_isI hi
    have hfz : ∀ i, i < c → z.1 8 i 0 = -1 ∨ ∃ j, j < zn z ∧ z.1 8 i 0 = Int32.ofNat j := fun i hi => okFr_R hW.2.1 (by omega)
    have hP2 := PC_kp (k := zn z) hP kN (fun a e => by rw [e]; omega) (fun r i _ e => hnI r i e) (Lf_it hi1) (AG_refl X σ1 (zn z)) (Nat.le_refl _) (cA_le hP.2.1 kN.1) hfz (by omega)
    have h2 : RepB g A B (nxH σ1 it c) z := (St_0 h q2).1
    rw [A112_58]
    generalize nxH σ1 it c = σ2 at *
    have tf := r18tb h2 hcn
    have d1 := q2.2.1
    have d2 := q2.2.2.2.1
    have c1 : hsz σ2 + 1 ≤ gC g := by omega
    have s1 : hsl σ2 + 3 ≤ gS g := by omega
    have eN : hput (hput (hnew σ2 2 0 (fun k => defaultValue (tyX3 k)) 3) 2 (hsz σ2) 1 (.int (-1))) 2 (hsz σ2) 2 (.int (-1)) = nfH σ2 := rfl
    have hgB2 : gB g ≤ hsz σ2 := by have := q2.1; omega
    simp (config := {decide := true}) only [vRf_r, vRf_n, vI_i, vL_l, vD_d, pI_i, pR_r, pR_n, vZ_0, vZ_1, ct_i, ct_r, ct_n, ct_l, ct_d, csum_n, csum_c, kt_v, kt_n, kt_e, oc_n, oc_i, oc_r, oc_l, oc_u, oc_d, true_and, and_true, Bool.and_true, Bool.true_and, ne_eq, not_false_eq_true, not_true_eq_false, implies_true, false_imp, true_imp_iff, hsz_put, hsl_put, hln_put, hty_put, hsz_new, hsl_new, hln_new, hty_new, Nat.zero_add, Nat.add_zero, eq_self, decide_true, t32_0, t32_1, t32_2, t32_3, t32_4, t32_5, t32_6, hv_same, hv_kne, hv_tne, hv_ntne, hv_nsame, hv_ctne, hty_cpy, hln_cpy, hsz_cpy, hsl_cpy, vrn, vnr, vrr, A112_59, A112_64, A112_67, A112_68, A112_73, A112_73r, A112_76, A112_77, A112_80, A112_81, A112_84, A136_0, A136_1, A136_4, A136_5, A136_6, A136_9, A136_10, A136_11, A136_14, hi1, e1, e2, e3, e7, tf, c1, s1, eN, hgB2, if_true]
    have k3 := nfH_kp (σ := σ2) (fun _ => False)
    have q3 : kp (fun _ => False) (c0 + 2 * c + 1) (s0 + 28 * c + 3) σ (nfH σ2) := kp_trans q2 k3
    have h3 : RepB g A B (nfH σ2) z := (St_0 h q3).1
    have hP3 := PC_kp (k := zn z) hP2 k3 (fun _ e => e.elim) (fun _ _ _ e => e) (fun _ e => e.elim) (AG_refl X σ2 (zn z)) (Nat.le_refl _) (cA_le hP2.2.1 k3.1) hfz (by omega)
    have nt := nfH_t (σ := σ2)
    have n0 := nfH_0 (σ := σ2)
    have z3 : hsz (nfH σ2) = hsz σ2 + 1 := rfl
    have y3 : hsl (nfH σ2) = hsl σ2 + 3 := rfl
    have hi3 : isI g (nfH σ2) it (A 3 0) (c + 1) := isI_kp hi2 k3 (hty_lt (rLfb h2).1) (fun e => e) ((k3.2.2.2.2 _ (hty_lt (rLfb h2).1)).2.2 (fun e => e) 10 0)
    have li2 : it < hsz σ2 := by have := kN.1; omega
    generalize nfH σ2 = σ3 at *
    have f0 := r20_b h3 hcn
    have f1 := r21_b h3 hcn
    have f2 := r22_b h3 hcn
    have ft := r18tb h3 hcn
    have m1 := hP3.2.2.1
    rw [e1x, e2x, e3x] at m1
    -- the fields, then the list
    have fin : ∀ v, v = gref X (z.1 8 c 0) → aw g 112 127 [some (.ref (A 1 0)), some (.ref x1), some (.ref it), some (.ref (A 18 c)), some (.ref (hsz σ2))] [] (frH σ3 (hsz σ2) v (z.1 8 c 1) (z.1 8 c 2)) Q := by
      intro v hv'
      have k4 := frH_kp (σ := σ3) (x := hsz σ2) (v := v) (p := z.1 8 c 1) (u := z.1 8 c 2)
      have q4 : kp (fun _ => False) (c0 + 2 * c + 1) (s0 + 28 * c + 3) σ (frH σ3 (hsz σ2) v (z.1 8 c 1) (z.1 8 c 2)) := kp_mono (kp_then q3 k4 (fun a ha e => by have := q2.1; omega)) (by omega) (by omega) (fun _ _ e => e)
      have nXx : ∀ r i, X r i ≠ hsz σ2 := fun r i e => by
        rcases (hP2.2.1.2 r i).2 with w | w <;> omega
      have hP4 := PC_kp (k := zn z) hP3 k4 (fun a e => by rw [e]; omega) (fun r i _ e => nXx r i e) (fun x w _ => Or.inl (by rw [w, nt]; decide)) (AG_refl X σ3 (zn z)) (Nat.le_refl _) (cA_le hP3.2.1 k4.1) hfz (by omega)
      have hi4 : isI g (frH σ3 (hsz σ2) v (z.1 8 c 1) (z.1 8 c 2)) it (A 3 0) (c + 1) := isI_put (isI_put (isI_put hi3 (by decide) (by decide)) (by decide) (by decide)) (by decide) (by decide)
      have v0 : hv (frH σ3 (hsz σ2) v (z.1 8 c 1) (z.1 8 c 2)) 2 (hsz σ2) 0 = v := by unfold frH; rw [hv_kne _ (by decide), hv_kne _ (by decide), hv_same]
      have v1 : hv (frH σ3 (hsz σ2) v (z.1 8 c 1) (z.1 8 c 2)) 2 (hsz σ2) 1 = .int (z.1 8 c 1) := by unfold frH; rw [hv_kne _ (by decide), hv_same]
      have v2 : hv (frH σ3 (hsz σ2) v (z.1 8 c 1) (z.1 8 c 2)) 2 (hsz σ2) 2 = .int (z.1 8 c 2) := by unfold frH; rw [hv_same]
      have vt : hty (frH σ3 (hsz σ2) v (z.1 8 c 1) (z.1 8 c 2)) (hsz σ2) = some 2 := kp_ty k4 nt
      have z4 : hsz (frH σ3 (hsz σ2) v (z.1 8 c 1) (z.1 8 c 2)) = hsz σ3 := rfl
      have y4 : hsl (frH σ3 (hsz σ2) v (z.1 8 c 1) (z.1 8 c 2)) = hsl σ3 := rfl
      generalize frH σ3 (hsz σ2) v (z.1 8 c 1) (z.1 8 c 2) = σ4 at *
      have L4 := hP4.2.2.2.2.1
      have t3 := L4.1
      have m4 := hP4.2.2.1
      rw [e1x, e2x, e3x] at m4
      rw [e3x] at t3 L4
      have hgw : gw c ≤ 25 := by unfold gw; omega
      simp (config := {decide := true}) only [vRf_r, vRf_n, vI_i, vL_l, vD_d, pI_i, pR_r, pR_n, vZ_0, vZ_1, ct_i, ct_r, ct_n, ct_l, ct_d, csum_n, csum_c, kt_v, kt_n, kt_e, oc_n, oc_i, oc_r, oc_l, oc_u, oc_d, true_and, and_true, Bool.and_true, Bool.true_and, ne_eq, not_false_eq_true, not_true_eq_false, implies_true, false_imp, true_imp_iff, hsz_put, hsl_put, hln_put, hty_put, hsz_new, hsl_new, hln_new, hty_new, Nat.zero_add, Nat.add_zero, eq_self, decide_true, t32_0, t32_1, t32_2, t32_3, t32_4, t32_5, t32_6, hv_same, hv_kne, hv_tne, hv_ntne, hv_nsame, hv_ctne, hty_cpy, hln_cpy, hsz_cpy, hsl_cpy, vrn, vnr, vrr, A112_127, A112_128, A112_131, A112_133, m4.1, m4.2.2, t3]
      refine l_add (v := .ref (hsz σ2)) L4 (by omega) (by omega) (by omega) (by omega) ⟨2, vt, Or.inl (by decide)⟩ ?_
      intro σ5 b' l5 k5 hb5
      have x3g : hsz σ ≤ x3 := by have := (hX 3 0).2 (by unfold shr; omega); omega
      have n23 : hsz σ ≤ X 23 0 := (hX 23 0).2 (by unfold shr; omega)
      have k51 := k5.1
      have q5 : kp (fun _ => False) (c0 + 2 * (c + 1)) (s0 + 28 * (c + 1)) σ σ5 := kp_mono (kp_then q4 k5 (fun a ha e => by omega)) (by omega) (by omega) (fun _ _ e => e)
      have nx5 : ¬ (hsz σ2 = x3 ∨ hsz σ2 = X 23 0) := by
        rintro (e | e)
        · exact nXx 3 0 (by omega)
        · exact nXx 23 0 e.symm
      have S5 := (k5.2.2.2.2 (hsz σ2) (by omega)).2.2 nx5 2
      have hb5' : b' = X 23 0 ∨ hsz σ2 < b' ∧ b' < hsz σ5 := hb5.imp_right (fun e => by omega)
      -- the new cell as of the heap ahead of it
      have hP5 : PC g (nm (nm X 18 c (hsz σ2)) 23 0 b') σ5 z (zn z) (c + 1) := by
        refine PC_frame (σ := σ2) hP2 (kp_mono (kp_then (kp_then (kp_mono k3 (Nat.le_refl _) (Nat.le_refl _) (fun a _ e => e.elim)) k4 (fun a ha e => by omega)) (show kp (fun a => a = X 3 0 ∨ a = X 23 0) 1 (gw c) σ4 σ5 by rw [e3x]; exact k5) (fun a _ e => e)) (Nat.le_refl _) (Nat.le_refl _) (fun _ _ e => e)) (by have := q5.2.1; omega) (Nat.le_refl _) (by omega) hb5' (by rw [e3x]; exact l5) ⟨kp_ty k5 vt, ?_, ?_, ?_⟩
        · rw [S5, v0]; exact hv'
        · rw [S5]; exact v1
        · rw [S5]; exact v2
      have hX5 := XI_nm (r0 := 23) (k0 := 0) (x := b') (XI_nm (r0 := 18) (k0 := c) (x := hsz σ2) hX (by unfold shr; omega) (by have := q2.1; omega)) (by unfold shr; omega) (by have := q2.1; rcases hb5' with e | e <;> omega)
      have la3 : A 3 0 < hsz σ := hty_lt (rLfb h).1
      have hi5 : isI g σ5 it (A 3 0) (c + 1) := isI_kp hi4 k5 (by have := q4.1; omega) (by
        rintro (e | e)
        · exact hnI 3 0 (by omega)
        · exact hnI 23 0 e.symm) ((k5.2.2.2.2 _ (by have := q4.1; omega)).2.2 (by omega) 10 0)
      simp (config := {decide := true}) only [vRf_r, vRf_n, vI_i, vL_l, vD_d, pI_i, pR_r, pR_n, vZ_0, vZ_1, ct_i, ct_r, ct_n, ct_l, ct_d, csum_n, csum_c, kt_v, kt_n, kt_e, oc_n, oc_i, oc_r, oc_l, oc_u, oc_d, true_and, and_true, Bool.and_true, Bool.true_and, ne_eq, not_false_eq_true, not_true_eq_false, implies_true, false_imp, true_imp_iff, hsz_put, hsl_put, hln_put, hty_put, hsz_new, hsl_new, hln_new, hty_new, Nat.zero_add, Nat.add_zero, eq_self, decide_true, t32_0, t32_1, t32_2, t32_3, t32_4, t32_5, t32_6, hv_same, hv_kne, hv_tne, hv_ntne, hv_nsame, hv_ctne, hty_cpy, hln_cpy, hsz_cpy, hsl_cpy, vrn, vnr, vrr, A112_136, A112_137]
      refine ih (c + 1) (nm (nm X 18 c (hsz σ2)) 23 0 b') σ5 _ _ (by omega) q5 hX5 hP5 (by rw [nm_ne (by omega), nm_ne (by omega)]; exact e1x) (by rw [nm_ne (by omega), nm_ne (by omega)]; exact e2x) (by rw [nm_ne (by omega), nm_ne (by omega)]; exact e3x) hi5 (fun r i e => ?_)
      by_cases e9 : r = 23 ∧ i = 0
      · rw [e9.1, e9.2, nm_at] at e
        rcases hb5' with e5 | e5
        · exact hnI 23 0 (by omega)
        · omega
      · rw [nm_ne e9] at e
        by_cases e8 : r = 18 ∧ i = c
        · rw [e8.1, e8.2, nm_at] at e; omega
        · rw [nm_ne e8] at e; exact hnI r i e
    have eF : ∀ v p u, hput (hput (hput σ3 2 (hsz σ2) 0 v) 2 (hsz σ2) 1 (.int p)) 2 (hsz σ2) 2 (.int u) = frH σ3 (hsz σ2) v p u := fun _ _ _ => rfl
    by_cases g0 : z.1 8 c 0 = -1
    · have := fin .null (by rw [g0, gref_m])
      rw [g0, gref_m] at f0
      simp (config := {decide := true}) only [vRf_r, vRf_n, vI_i, vL_l, vD_d, pI_i, pR_r, pR_n, vZ_0, vZ_1, ct_i, ct_r, ct_n, ct_l, ct_d, csum_n, csum_c, kt_v, kt_n, kt_e, oc_n, oc_i, oc_r, oc_l, oc_u, oc_d, true_and, and_true, Bool.and_true, Bool.true_and, ne_eq, not_false_eq_true, not_true_eq_false, implies_true, false_imp, true_imp_iff, hsz_put, hsl_put, hln_put, hty_put, hsz_new, hsl_new, hln_new, hty_new, Nat.zero_add, Nat.add_zero, eq_self, decide_true, t32_0, t32_1, t32_2, t32_3, t32_4, t32_5, t32_6, hv_same, hv_kne, hv_tne, hv_ntne, hv_nsame, hv_ctne, hty_cpy, hln_cpy, hsz_cpy, hsl_cpy, vrn, vnr, vrr, A112_86, A112_88, A112_89, A112_92, A112_95, A112_96, A112_116, A112_117, A112_120, A112_121, A112_124, A135_0, A135_1, A135_2, A135_5, A135_6, A135_7, A135_10, A135_11, A135_12, A135_15, f0, f1, f2, ft, nt, hgB2, eF]
      exact this
    · obtain ⟨j, j1, ej⟩ := (okFr_R hW.2.1 hcn).resolve_left g0
      have fg := f0
      rw [ej, gref_of (by omega)] at fg
      have := fin (.ref (X 4 j)) (by rw [ej, gref_of (by omega)])
      have g4 := r5tb h3 j1
      have g5 := r5nb h3 j1
      have L3 := hP3.2.2.2.1
      rw [e2x] at L3
      have e8 := fun Q' => l_get (Q := Q') L3 j1
      have t3 := L3.1
      have gj := (hP3.2.2.2.2.2.2 j j1).1.1.1
      have gj : hty σ3 (X 4 j) = some 5 := gj
      simp (config := {decide := true}) only [vRf_r, vRf_n, vI_i, vL_l, vD_d, pI_i, pR_r, pR_n, vZ_0, vZ_1, ct_i, ct_r, ct_n, ct_l, ct_d, csum_n, csum_c, kt_v, kt_n, kt_e, oc_n, oc_i, oc_r, oc_l, oc_u, oc_d, true_and, and_true, Bool.and_true, Bool.true_and, ne_eq, not_false_eq_true, not_true_eq_false, implies_true, false_imp, true_imp_iff, hsz_put, hsl_put, hln_put, hty_put, hsz_new, hsl_new, hln_new, hty_new, Nat.zero_add, Nat.add_zero, eq_self, decide_true, t32_0, t32_1, t32_2, t32_3, t32_4, t32_5, t32_6, hv_same, hv_kne, hv_tne, hv_ntne, hv_nsame, hv_ctne, hty_cpy, hln_cpy, hsz_cpy, hsl_cpy, vrn, vnr, vrr, A112_86, A112_88, A112_89, A112_92, A112_99, A112_100, A112_103, A112_104, A112_107, A112_110, A112_113, A112_113r, A112_116, A112_117, A112_120, A112_121, A112_124, A135_0, A135_1, A135_2, A135_5, A135_6, A135_7, A135_10, A135_11, A135_12, A135_15, fg, f1, f2, ft, nt, hgB2, g4, g5, m1.1, m1.2.1, e8, t3, gj, e75, eF]
      exact this
end MCOPY2
