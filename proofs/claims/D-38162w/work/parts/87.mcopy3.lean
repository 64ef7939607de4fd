/-! a machine's copy, whole -/
def fsH (σ : AH) (x : Nat) (v : Nat → Value) : AH := hput (hput (hput (hput (hput (hput (hput (hput σ 1 x 2 (v 2)) 1 x 3 (v 3)) 1 x 4 (v 4)) 1 x 5 (v 5)) 1 x 6 (v 6)) 1 x 7 (v 7)) 1 x 8 (v 8)) 1 x 9 (v 9)
section MCOPY3
variable {g : GC} {A B X : Nat → Nat → Nat} {σ σ' : AH} {z : ZT} {k p x : Nat} {Q : AQ}
theorem fsH_kp {v : Nat → Value} : kp (fun a => a = x) 0 0 σ (fsH σ x v) := by
  have p : ∀ (s : AH) j v, kp (fun a => a = x) 0 0 s (hput s 1 x j v) := fun s j v => kp_put (fun _ => rfl)
  exact kp_trans (kp_trans (kp_trans (kp_trans (kp_trans (kp_trans (kp_trans (p σ 2 _) (p _ 3 _)) (p _ 4 _)) (p _ 5 _)) (p _ 6 _)) (p _ 7 _)) (p _ 8 _)) (p _ 9 _)
theorem fsH_v {v : Nat → Value} (j : Nat) : hv (fsH σ x v) 1 x j = if 2 ≤ j ∧ j ≤ 9 then v j else hv σ 1 x j := by
  by_cases h : 2 ≤ j ∧ j ≤ 9
  · rw [if_pos h]
    have : j = 2 ∨ j = 3 ∨ j = 4 ∨ j = 5 ∨ j = 6 ∨ j = 7 ∨ j = 8 ∨ j = 9 := by omega
    unfold fsH
    rcases this with e | e | e | e | e | e | e | e <;> subst e <;> simp [hv_put]
  · rw [if_neg h]
    unfold fsH
    rw [hv_kne _ (by omega), hv_kne _ (by omega), hv_kne _ (by omega), hv_kne _ (by omega), hv_kne _ (by omega), hv_kne _ (by omega), hv_kne _ (by omega), hv_kne _ (by omega)]
/-- what is copied last: the machine's own fields -/
theorem c_mcopy_end {x1 x2 : Nat} {σ4 : AH} {l2 l3 l4 : Option Value} (h : RepB g A B σ z) (hW : WI z) (q : kp (fun _ => False) 88 3514 σ σ4) (hX : XI (mix A B) X (hsz σ)) (hP : PC g X σ4 z (zn z) (zf z)) (e1x : X 1 0 = x1) (e2x : X 2 0 = x2)
    (hQ : ∀ X σ', RepC g X σ' z → kp (fun _ => False) 88 3514 σ σ' → XI (mix A B) X (hsz σ) → Q (.inl (some (.ref (X 1 0)))) σ') : aw g 112 140 [some (.ref (A 1 0)), some (.ref x1), l2, l3, l4] [] σ4 Q := by
  have h4 : RepB g A B σ4 z := (St_0 h q).1
  have hn3 := hW.1.1
  have hgB : gB g ≤ hsz σ := rgsb h
  have x1g : hsz σ ≤ x1 := by have := (hX 1 0).2 (by unfold shr; omega); omega
  have gx : gB g ≤ x1 := by omega
  obtain ⟨q1, q2, ⟨m1, m2, m3⟩, l1, l2', hf, hg⟩ := hP
  have fin : aw g 112 253 [some (.ref (A 1 0)), some (.ref x1), l2, l3, l4] [.ref x1] (fsH σ4 x1 (fun j => if j = 3 then gref X (z.1 0 0 3) else if j = 4 then gref X (z.1 0 0 4) else .int (z.1 0 0 j))) Q := by
    have kF := fsH_kp (σ := σ4) (x := x1) (v := fun j => if j = 3 then gref X (z.1 0 0 3) else if j = 4 then gref X (z.1 0 0 4) else .int (z.1 0 0 j))
    have vF := fun j => fsH_v (σ := σ4) (x := x1) (v := fun j => if j = 3 then gref X (z.1 0 0 3) else if j = 4 then gref X (z.1 0 0 4) else .int (z.1 0 0 j)) j
    have tF : ∀ t, t ≠ 1 → hv (fsH σ4 x1 (fun j => if j = 3 then gref X (z.1 0 0 3) else if j = 4 then gref X (z.1 0 0 4) else .int (z.1 0 0 j))) t = hv σ4 t := fun t ht => by
      unfold fsH
      rw [hv_tne _ ht, hv_tne _ ht, hv_tne _ ht, hv_tne _ ht, hv_tne _ ht, hv_tne _ ht, hv_tne _ ht, hv_tne _ ht]
    generalize fsH σ4 x1 (fun j => if j = 3 then gref X (z.1 0 0 3) else if j = 4 then gref X (z.1 0 0 4) else .int (z.1 0 0 j)) = σ5 at *
    have nX : ∀ r i, ¬ (r = 1 ∧ i = 0) → X r i ≠ x1 := fun r i hn e => hn (q2.1 r i 1 0 (e.trans e1x.symm))
    have R : RepC g X σ5 z := by
      refine RepC_in (Bas_kp q1 kF (fun a e => by rw [e]; exact gx)) (cA_le q2 kF.1) ⟨kp_ty kF m1, ⟨?_, ?_, ?_, ?_, fun j hj => ?_⟩, isL_kq l1 kF (nX 2 0 (by decide)) (fun _ => nX 22 0 (by decide))⟩ ⟨fun i hi => kp_ty kF (hf i hi).1, fun i hi => ?_, isL_kq l2' kF (nX 3 0 (by decide)) (fun _ => nX 23 0 (by decide))⟩ (fun k hk => gc_kp (hg k hk) kF (fun r hr _ => nX r k (fun e => by rw [e.1] at hr; revert hr; decide)) (fun a e _ => Or.inr ⟨1, 0, e.trans e1x.symm⟩) (AN_refl _ _))
      · rw [e1x, vF, if_neg (by decide), ← e1x]; exact m2
      · rw [e1x, vF, if_neg (by decide), ← e1x]; exact m3
      · rw [e1x, vF]; rfl
      · rw [e1x, vF]; rfl
      · have hn := msc_no hj
        have : j ≤ 9 := by
          simp [msc] at hj
          omega
        rw [e1x, vF, if_pos (by omega), if_neg (by omega), if_neg (by omega)]
      · rw [tF 2 (by decide)]; exact (hf i hi).2
    have := hQ X σ5 R (kp_mono (kp_then q kF (fun a ha e => by omega)) (by omega) (by omega) (fun _ _ e => e)) hX
    rw [e1x] at this
    simp (config := {decide := true}) only [vRf_r, vRf_n, vI_i, vL_l, vD_d, pI_i, pR_r, pR_n, vZ_0, vZ_1, ct_i, ct_r, ct_n, ct_l, ct_d, csum_n, csum_c, kt_v, kt_n, kt_e, oc_n, oc_i, oc_r, oc_l, oc_u, oc_d, true_and, and_true, Bool.and_true, Bool.true_and, ne_eq, not_false_eq_true, not_true_eq_false, implies_true, false_imp, true_imp_iff, hsz_put, hsl_put, hln_put, hty_put, hsz_new, hsl_new, hln_new, hty_new, Nat.zero_add, Nat.add_zero, eq_self, decide_true, t32_0, t32_1, t32_2, t32_3, t32_4, t32_5, t32_6, hv_same, hv_kne, hv_tne, hv_ntne, hv_nsame, hv_ctne, hty_cpy, hln_cpy, hsz_cpy, hsl_cpy, vrn, vnr, vrr, A112_253]
    exact this
  rw [e1x] at m1 m2
  rw [e2x] at m2 l1
  have eF : ∀ v3 v4, hput (hput (hput (hput (hput (hput (hput (hput σ4 1 x1 2 (.int (z.1 0 0 2))) 1 x1 3 v3) 1 x1 4 v4) 1 x1 5 (.int (z.1 0 0 5))) 1 x1 6 (.int (z.1 0 0 6))) 1 x1 7 (.int (z.1 0 0 7))) 1 x1 8 (.int (z.1 0 0 8))) 1 x1 9 (.int (z.1 0 0 9)) = fsH σ4 x1 (fun j => if j = 3 then v3 else if j = 4 then v4 else .int (z.1 0 0 j)) := fun _ _ => rfl
  have e75 : (∃ t, t ∈ [5] ∧ some 5 = some t) = True := eq_true ⟨5, by decide, rfl⟩
  have LA : ∀ v2 j, j < zn z → ∀ Q', aw g 25 0 [some (.ref x2), some (.int (Int32.ofNat j))] [] (hput σ4 1 x1 2 v2) Q' = Q' (.inl (some (.ref (X 4 j)))) (hput σ4 1 x1 2 v2) := fun v2 j hj Q' => l_get (isL_tag l1 (by decide) (by decide)) hj
  have LB : ∀ v2 v3 j, j < zn z → ∀ Q', aw g 25 0 [some (.ref x2), some (.int (Int32.ofNat j))] [] (hput (hput σ4 1 x1 2 v2) 1 x1 3 v3) Q' = Q' (.inl (some (.ref (X 4 j)))) (hput (hput σ4 1 x1 2 v2) 1 x1 3 v3) := fun v2 v3 j hj Q' => l_get (isL_tag (isL_tag l1 (by decide) (by decide)) (by decide) (by decide)) hj
  have tX : ∀ j, j < zn z → hty σ4 (X 4 j) = some 5 := fun j hj => (hg j hj).1.1.1
  have t2 := l1.1
  rcases hW.1.2.2.2 with e3 | ⟨j3, j31, e3⟩
  · have M3 : gref A (z.1 0 0 3) = .null := by rw [e3, gref_m]
    rcases hW.2.2.1 with e4 | ⟨j4, j41, e4⟩
    · have M4 : gref A (z.1 0 0 4) = .null := by rw [e4, gref_m]
      rw [e3, e4, gref_m] at fin
      simp (config := {decide := true}) only [vRf_r, vRf_n, vI_i, vL_l, vD_d, pI_i, pR_r, pR_n, vZ_0, vZ_1, ct_i, ct_r, ct_n, ct_l, ct_d, csum_n, csum_c, kt_v, kt_n, kt_e, oc_n, oc_i, oc_r, oc_l, oc_u, oc_d, true_and, and_true, Bool.and_true, Bool.true_and, ne_eq, not_false_eq_true, not_true_eq_false, implies_true, false_imp, true_imp_iff, hsz_put, hsl_put, hln_put, hty_put, hsz_new, hsl_new, hln_new, hty_new, Nat.zero_add, Nat.add_zero, eq_self, decide_true, t32_0, t32_1, t32_2, t32_3, t32_4, t32_5, t32_6, hv_same, hv_kne, hv_tne, hv_ntne, hv_nsame, hv_ctne, hty_cpy, hln_cpy, hsz_cpy, hsl_cpy, vrn, vnr, vrr, A112_140, A112_141, A112_142, A112_145, A112_148, A112_149, A112_150, A112_153, A112_156, A112_157, A112_160, A112_161, A112_164, A112_165, A112_168, A112_171, A112_174, A112_174r, A112_177, A112_180, A112_181, A112_182, A112_185, A112_188, A112_189, A112_192, A112_193, A112_196, A112_197, A112_200, A112_203, A112_206, A112_206r, A112_209, A112_212, A112_213, A112_214, A112_217, A112_220, A112_221, A112_222, A112_225, A112_228, A112_229, A112_230, A112_233, A112_236, A112_237, A112_238, A112_241, A112_244, A112_245, A112_246, A112_249, A112_252, r1tb h4, r10_b h4, r11_b h4, r13_b h4, r14_b h4, r1sb h4, rgBA h4, M3, M4, m1, m2, gx, eF]
      exact fin
    · have M4 : gref A (z.1 0 0 4) = .ref (A 4 j4) := by rw [e4, gref_of (by omega)]
      rw [e3, e4, gref_m, gref_of (by omega)] at fin
      have g4 := r5tb h4 j41
      have g5 := r5nb h4 j41
      have lb := LB (.int (z.1 0 0 2)) .null j4 j41
      have t4 := tX j4 j41
      simp (config := {decide := true}) only [vRf_r, vRf_n, vI_i, vL_l, vD_d, pI_i, pR_r, pR_n, vZ_0, vZ_1, ct_i, ct_r, ct_n, ct_l, ct_d, csum_n, csum_c, kt_v, kt_n, kt_e, oc_n, oc_i, oc_r, oc_l, oc_u, oc_d, true_and, and_true, Bool.and_true, Bool.true_and, ne_eq, not_false_eq_true, not_true_eq_false, implies_true, false_imp, true_imp_iff, hsz_put, hsl_put, hln_put, hty_put, hsz_new, hsl_new, hln_new, hty_new, Nat.zero_add, Nat.add_zero, eq_self, decide_true, t32_0, t32_1, t32_2, t32_3, t32_4, t32_5, t32_6, hv_same, hv_kne, hv_tne, hv_ntne, hv_nsame, hv_ctne, hty_cpy, hln_cpy, hsz_cpy, hsl_cpy, vrn, vnr, vrr, A112_140, A112_141, A112_142, A112_145, A112_148, A112_149, A112_150, A112_153, A112_156, A112_157, A112_160, A112_161, A112_164, A112_165, A112_168, A112_171, A112_174, A112_174r, A112_177, A112_180, A112_181, A112_182, A112_185, A112_188, A112_189, A112_192, A112_193, A112_196, A112_197, A112_200, A112_203, A112_206, A112_206r, A112_209, A112_212, A112_213, A112_214, A112_217, A112_220, A112_221, A112_222, A112_225, A112_228, A112_229, A112_230, A112_233, A112_236, A112_237, A112_238, A112_241, A112_244, A112_245, A112_246, A112_249, A112_252, r1tb h4, r10_b h4, r11_b h4, r13_b h4, r14_b h4, r1sb h4, rgBA h4, M3, M4, m1, m2, gx, g4, g5, lb, t4, t2, e75, eF]
      exact fin
  · have M3 : gref A (z.1 0 0 3) = .ref (A 4 j3) := by rw [e3, gref_of (by omega)]
    have g43 := r5tb h4 j31
    have g53 := r5nb h4 j31
    have la := LA (.int (z.1 0 0 2)) j3 j31
    have t43 := tX j3 j31
    rcases hW.2.2.1 with e4 | ⟨j4, j41, e4⟩
    · have M4 : gref A (z.1 0 0 4) = .null := by rw [e4, gref_m]
      rw [e3, e4, gref_m, gref_of (by omega)] at fin
      simp (config := {decide := true}) only [vRf_r, vRf_n, vI_i, vL_l, vD_d, pI_i, pR_r, pR_n, vZ_0, vZ_1, ct_i, ct_r, ct_n, ct_l, ct_d, csum_n, csum_c, kt_v, kt_n, kt_e, oc_n, oc_i, oc_r, oc_l, oc_u, oc_d, true_and, and_true, Bool.and_true, Bool.true_and, ne_eq, not_false_eq_true, not_true_eq_false, implies_true, false_imp, true_imp_iff, hsz_put, hsl_put, hln_put, hty_put, hsz_new, hsl_new, hln_new, hty_new, Nat.zero_add, Nat.add_zero, eq_self, decide_true, t32_0, t32_1, t32_2, t32_3, t32_4, t32_5, t32_6, hv_same, hv_kne, hv_tne, hv_ntne, hv_nsame, hv_ctne, hty_cpy, hln_cpy, hsz_cpy, hsl_cpy, vrn, vnr, vrr, A112_140, A112_141, A112_142, A112_145, A112_148, A112_149, A112_150, A112_153, A112_156, A112_157, A112_160, A112_161, A112_164, A112_165, A112_168, A112_171, A112_174, A112_174r, A112_177, A112_180, A112_181, A112_182, A112_185, A112_188, A112_189, A112_192, A112_193, A112_196, A112_197, A112_200, A112_203, A112_206, A112_206r, A112_209, A112_212, A112_213, A112_214, A112_217, A112_220, A112_221, A112_222, A112_225, A112_228, A112_229, A112_230, A112_233, A112_236, A112_237, A112_238, A112_241, A112_244, A112_245, A112_246, A112_249, A112_252, r1tb h4, r10_b h4, r11_b h4, r13_b h4, r14_b h4, r1sb h4, rgBA h4, M3, M4, m1, m2, gx, g43, g53, la, t43, t2, e75, eF]
      exact fin
    · have M4 : gref A (z.1 0 0 4) = .ref (A 4 j4) := by rw [e4, gref_of (by omega)]
      rw [e3, e4, gref_of (by omega), gref_of (by omega)] at fin
      have g4 := r5tb h4 j41
      have g5 := r5nb h4 j41
      have lb := LB (.int (z.1 0 0 2)) (.ref (X 4 j3)) j4 j41
      have t4 := tX j4 j41
      simp (config := {decide := true}) only [vRf_r, vRf_n, vI_i, vL_l, vD_d, pI_i, pR_r, pR_n, vZ_0, vZ_1, ct_i, ct_r, ct_n, ct_l, ct_d, csum_n, csum_c, kt_v, kt_n, kt_e, oc_n, oc_i, oc_r, oc_l, oc_u, oc_d, true_and, and_true, Bool.and_true, Bool.true_and, ne_eq, not_false_eq_true, not_true_eq_false, implies_true, false_imp, true_imp_iff, hsz_put, hsl_put, hln_put, hty_put, hsz_new, hsl_new, hln_new, hty_new, Nat.zero_add, Nat.add_zero, eq_self, decide_true, t32_0, t32_1, t32_2, t32_3, t32_4, t32_5, t32_6, hv_same, hv_kne, hv_tne, hv_ntne, hv_nsame, hv_ctne, hty_cpy, hln_cpy, hsz_cpy, hsl_cpy, vrn, vnr, vrr, A112_140, A112_141, A112_142, A112_145, A112_148, A112_149, A112_150, A112_153, A112_156, A112_157, A112_160, A112_161, A112_164, A112_165, A112_168, A112_171, A112_174, A112_174r, A112_177, A112_180, A112_181, A112_182, A112_185, A112_188, A112_189, A112_192, A112_193, A112_196, A112_197, A112_200, A112_203, A112_206, A112_206r, A112_209, A112_212, A112_213, A112_214, A112_217, A112_220, A112_221, A112_222, A112_225, A112_228, A112_229, A112_230, A112_233, A112_236, A112_237, A112_238, A112_241, A112_244, A112_245, A112_246, A112_249, A112_252, r1tb h4, r10_b h4, r11_b h4, r13_b h4, r14_b h4, r1sb h4, rgBA h4, M3, M4, m1, m2, gx, g43, g53, la, t43, g4, g5, lb, t4, t2, e75, eF]
      exact fin
theorem c_machCopy (h : RepB g A B σ z) (hW : WI z) (hWB : ∀ k, k < zn z → WB z k) (hg4 : ∀ k, k < zn z → z.2 4 k ≤ 400) (hc : hsz σ + 88 ≤ gC g) (hs : hsl σ + 3514 ≤ gS g)
    (hQ : ∀ X σ', RepC g X σ' z → kp (fun _ => False) 88 3514 σ σ' → XI (mix A B) X (hsz σ) → Q (.inl (some (.ref (X 1 0)))) σ') : aw g 112 0 [some (.ref (A 1 0)), none, none, none, none] [] σ Q := by
  have hgB : gB g ≤ hsz σ := rgsb h
  have c1 : hsz σ + 1 ≤ gC g := by omega
  have s1 : hsl σ + 10 ≤ gS g := by omega
  have kA : kp (fun _ => False) 1 10 σ (hnew σ 1 0 (fun k => defaultValue (tyX2 k)) 10) := kp_new
  have tA : hty (hnew σ 1 0 (fun k => defaultValue (tyX2 k)) 10) (hsz σ) = some 1 := by rw [hty_new, if_pos rfl]
  have zA : hsz (hnew σ 1 0 (fun k => defaultValue (tyX2 k)) 10) = hsz σ + 1 := rfl
  have yA : hsl (hnew σ 1 0 (fun k => defaultValue (tyX2 k)) 10) = hsl σ + 10 := rfl
  simp (config := {decide := true}) only [vRf_r, vRf_n, vI_i, vL_l, vD_d, pI_i, pR_r, pR_n, vZ_0, vZ_1, ct_i, ct_r, ct_n, ct_l, ct_d, csum_n, csum_c, kt_v, kt_n, kt_e, oc_n, oc_i, oc_r, oc_l, oc_u, oc_d, true_and, and_true, Bool.and_true, Bool.true_and, ne_eq, not_false_eq_true, not_true_eq_false, implies_true, false_imp, true_imp_iff, hsz_put, hsl_put, hln_put, hty_put, hsz_new, hsl_new, hln_new, hty_new, Nat.zero_add, Nat.add_zero, eq_self, decide_true, t32_0, t32_1, t32_2, t32_3, t32_4, t32_5, t32_6, hv_same, hv_kne, hv_tne, hv_ntne, hv_nsame, hv_ctne, hty_cpy, hln_cpy, hsz_cpy, hsl_cpy, vrn, vnr, vrr, A112_0, A112_3, A112_4, c1, s1]
  generalize hnew σ 1 0 (fun k => defaultValue (tyX2 k)) 10 = σA at *
  have BA := Bas_kp h.1 kA (fun _ e => e.elim)
  rw [c_machInit tA hgB BA.1 (by omega) (by omega)]
  obtain ⟨cX0, XI0⟩ := selX_cA (σ := σ) h.2.1 (by omega) (by omega)
  obtain ⟨⟨b1, b2⟩, b3, b4⟩ := maH_A (x := hsz σ) BA hgB tA (b := selX g (mix A B) 22 0) (b2 := selX g (mix A B) 23 0) (by show gC g ≤ gC g + enc 22 0; omega) (by show gC g ≤ gC g + enc 23 0; omega) (by omega) (fun k => .ref (selX g (mix A B) 4 k)) (fun i => .ref (selX g (mix A B) 18 i))
  have kB := maH_kp (g := g) (σ := σA) (x := hsz σ)
  have zB : hsz (maH g σA (hsz σ)) = hsz σ + 3 := by show hsz σA + 1 + 1 = _; omega
  have yB : hsl (maH g σA (hsz σ)) = hsl σ + 16 := by show hsl σA + 3 + 3 = _; omega
  rw [zA] at b2 b3 b4
  generalize maH g σA (hsz σ) = σB at *
  have kAB : kp (fun _ => False) 3 16 σ σB := kp_then kA kB (fun a ha e => by omega)
  have BB := Bas_kp h.1 kAB (fun _ e => e.elim)
  have hB := (St_0 h kAB).1
  -- the names
  have C1 := cAs_nm (r0 := 1) (k0 := 0) (x := hsz σ) (cAs_of cX0) (Nat.le_refl _) (by omega) hgB
  have C2 := cAs_nm (r0 := 2) (k0 := 0) (x := hsz σ + 1) C1 (by omega) (by omega) (by omega)
  have C3 := cAs_nm (r0 := 3) (k0 := 0) (x := hsz σ + 1 + 1) C2 (by omega) (by omega) (by omega)
  have X3 := XI_nm (r0 := 3) (k0 := 0) (x := hsz σ + 1 + 1) (XI_nm (r0 := 2) (k0 := 0) (x := hsz σ + 1) (XI_nm (r0 := 1) (k0 := 0) (x := hsz σ) XI0 (by unfold shr; omega) (Nat.le_refl _)) (by unfold shr; omega) (by omega)) (by unfold shr; omega) (by omega)
  have nX : ∀ r i, r ≠ 1 → r ≠ 2 → r ≠ 3 → nm (nm (nm (selX g (mix A B)) 1 0 (hsz σ)) 2 0 (hsz σ + 1)) 3 0 (hsz σ + 1 + 1) r i = selX g (mix A B) r i := fun r i n1 n2 n3 => by rw [nm_ne (by omega), nm_ne (by omega), nm_ne (by omega)]
  have n1 : nm (nm (nm (selX g (mix A B)) 1 0 (hsz σ)) 2 0 (hsz σ + 1)) 3 0 (hsz σ + 1 + 1) 1 0 = hsz σ := by rw [nm_ne (by omega), nm_ne (by omega), nm_at]
  have n2 : nm (nm (nm (selX g (mix A B)) 1 0 (hsz σ)) 2 0 (hsz σ + 1)) 3 0 (hsz σ + 1 + 1) 2 0 = hsz σ + 1 := by rw [nm_ne (by omega), nm_at]
  have n3 : nm (nm (nm (selX g (mix A B)) 1 0 (hsz σ)) 2 0 (hsz σ + 1)) 3 0 (hsz σ + 1 + 1) 3 0 = hsz σ + 1 + 1 := nm_at _ _ _ _
  generalize nm (nm (nm (selX g (mix A B)) 1 0 (hsz σ)) 2 0 (hsz σ + 1)) 3 0 (hsz σ + 1 + 1) = X at *
  have P0 : PC g X σB z 0 0 := by
    refine ⟨BB, cAs_to C3 (by omega), ⟨by rw [n1]; exact b1, by rw [n1, n2, b2]; rfl, by rw [n1, n3, b2]; rfl⟩, ?_, ?_, fun i hi => by omega, fun k hk => by omega⟩
    · rw [n2, nX 22 0 (by decide) (by decide) (by decide)]
      exact isL_f b3 (fun j hj => by omega)
    · rw [n3, nX 23 0 (by decide) (by decide) (by decide)]
      exact isL_f b4 (fun j hj => by omega)
  have t3 := (rLgb hB).1
  have e1 := fun Q' => l_iter (Q := Q') (rLgb hB) BB.1
  have c2 : hsz σ + 3 + 1 ≤ gC g := by omega
  have s2 : hsl σ + 16 + 4 ≤ gS g := by omega
  simp (config := {decide := true}) only [vRf_r, vRf_n, vI_i, vL_l, vD_d, pI_i, pR_r, pR_n, vZ_0, vZ_1, ct_i, ct_r, ct_n, ct_l, ct_d, csum_n, csum_c, kt_v, kt_n, kt_e, oc_n, oc_i, oc_r, oc_l, oc_u, oc_d, true_and, and_true, Bool.and_true, Bool.true_and, ne_eq, not_false_eq_true, not_true_eq_false, implies_true, false_imp, true_imp_iff, hsz_put, hsl_put, hln_put, hty_put, hsz_new, hsl_new, hln_new, hty_new, Nat.zero_add, Nat.add_zero, eq_self, decide_true, t32_0, t32_1, t32_2, t32_3, t32_4, t32_5, t32_6, hv_same, hv_kne, hv_tne, hv_ntne, hv_nsame, hv_ctne, hty_cpy, hln_cpy, hsz_cpy, hsl_cpy, vrn, vnr, vrr, A112_7, A112_8, A112_9, A112_12, A112_15, r1tb hB, r10_b hB, r11_b hB, r13_b hB, r14_b hB, r1sb hB, rgBA hB, e1, t3, zB, yB, c2, s2]
  have kI := itH_kp (σ := σB) (fun _ => False) (A 2 0)
  have zI : hsz (itH σB (A 2 0)) = hsz σ + 4 := by show hsz σB + 1 = _; omega
  have yI : hsl (itH σB (A 2 0)) = hsl σ + 20 := by show hsl σB + 4 = _; omega
  have hI := itH_isI BB.1 (hty_lt t3)
  rw [zB] at hI
  generalize itH σB (A 2 0) = σI at *
  have q3 : kp (fun _ => False) (4 + 21 * 0) (20 + 1070 * 0) σ σI := kp_mono (kp_trans kAB kI) (by omega) (by omega) (fun _ _ e => e)
  have P1 := PC_kp (k := 0) P0 kI (fun _ e => e.elim) (fun _ _ _ e => e) (fun _ e => e.elim) (AG_refl X σB 0) (Nat.le_refl _) (cAs_to C3 (by omega)) (fun i hi => by omega) (by omega)
  have nIt : ∀ r i, X r i ≠ hsz σ + 3 := fun r i e => by
    rcases (C3.2 r i).2 with w | w <;> omega
  refine mg_loop (it := hsz σ + 3) (x1 := hsz σ) (x2 := hsz σ + 1) (x3 := hsz σ + 1 + 1) h hW hWB hg4 hc hs (by omega) ?_ (zn z) 0 X σI _ (by omega) q3 X3 P1 n1 n2 hI nIt
  intro X4 σ4 l3 q4 hX4 hP4 f1
  have h5 := (St_0 h q4).1
  have hg5 := rgsb h5
  have t5 := (rLfb h5).1
  have e5 := fun Q' => l_iter (Q := Q') (rLfb h5) hg5
  have d1 := q4.2.1
  have d2 := q4.2.2.2.1
  have c5 : hsz σ4 + 1 ≤ gC g := by omega
  have s5 : hsl σ4 + 4 ≤ gS g := by omega
  simp (config := {decide := true}) only [vRf_r, vRf_n, vI_i, vL_l, vD_d, pI_i, pR_r, pR_n, vZ_0, vZ_1, ct_i, ct_r, ct_n, ct_l, ct_d, csum_n, csum_c, kt_v, kt_n, kt_e, oc_n, oc_i, oc_r, oc_l, oc_u, oc_d, true_and, and_true, Bool.and_true, Bool.true_and, ne_eq, not_false_eq_true, not_true_eq_false, implies_true, false_imp, true_imp_iff, hsz_put, hsl_put, hln_put, hty_put, hsz_new, hsl_new, hln_new, hty_new, Nat.zero_add, Nat.add_zero, eq_self, decide_true, t32_0, t32_1, t32_2, t32_3, t32_4, t32_5, t32_6, hv_same, hv_kne, hv_tne, hv_ntne, hv_nsame, hv_ctne, hty_cpy, hln_cpy, hsz_cpy, hsl_cpy, vrn, vnr, vrr, A112_50, A112_51, A112_54, A112_57, r1tb h5, r10_b h5, r11_b h5, r13_b h5, r14_b h5, r1sb h5, rgBA h5, e5, t5, c5, s5]
  have kJ := itH_kp (σ := σ4) (fun _ => False) (A 3 0)
  have hJ := itH_isI hg5 (hty_lt t5)
  have zJ : hsz (itH σ4 (A 3 0)) = hsz σ4 + 1 := rfl
  generalize itH σ4 (A 3 0) = σJ at *
  have q5 : kp (fun _ => False) (68 + 2 * 0) (3234 + 28 * 0) σ σJ := kp_mono (kp_trans q4 kJ) (by omega) (by omega) (fun _ _ e => e)
  have P5 := PC_kp (k := zn z) hP4 kJ (fun _ e => e.elim) (fun _ _ _ e => e) (fun _ e => e.elim) (AG_refl X4 σ4 (zn z)) (Nat.le_refl _) (cA_le hP4.2.1 kJ.1) (fun i hi => by omega) (by have := hW.1.1; omega)
  have nJ : ∀ r i, X4 r i ≠ hsz σ4 := fun r i e => by
    rcases (hP4.2.1.2 r i).2 with w | w <;> omega
  refine mf_loop (it := hsz σ4) (x1 := hsz σ) (x2 := X4 2 0) (x3 := X4 3 0) (c0 := 68) (s0 := 3234) h hW (Nat.le_refl _) (Nat.le_refl _) hc hs q4.1 ?_ (zf z) 0 X4 σJ _ _ (by omega) q5 hX4 P5 f1 rfl rfl hJ nJ
  intro X6 σ6 l3' l4' q6 hX6 hP6 f6 f62
  exact c_mcopy_end h hW q6 hX6 hP6 f6 f62 hQ
end MCOPY3
