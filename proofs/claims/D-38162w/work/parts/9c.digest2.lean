/-! the checksum, whole -/
section DIGEST2
variable {g : GC} {A A' B B' : Nat → Nat → Nat} {σ σ' σ2 : AH} {z z' : ZT} {k p : Nat} {Q : AQ}
theorem c_addGuest {d : Int64} (h : RepH g A B σ z) (hI : CI z) (hk : k < zn z) (hc : hsz σ + 1400 ≤ gC g) (hs : hsl σ + 17500 ≤ gS g) (hQ : ∀ σ', kp (fun _ => False) 1306 16634 σ σ' → Q (.inl (some (.long (dgG z k d)))) σ') : aw g 64 0 [some (.ref (A 0 0)), some (.long d), none, some (.ref (A 4 k)), none, none, none, none, none, none, none] [] σ Q := by
  have hg := hI.1.2.2.2.2 k hk
  have hF := hI.1.2.1
  -- the last part
  have tail : ∀ σ1 d1 l6 l7 l8 l9 l10, kp (fun _ => False) 491 2398 σ σ1 → dgW z k d1 = dgG z k d → aw g 64 246 [some (.ref (A 0 0)), some (.long d), none, some (.ref (A 4 k)), some (.long d1), none, l6, l7, l8, l9, l10] [] σ1 Q := by
    intro σ1 d1 l6 l7 l8 l9 l10 q ez
    have h1 := RH_0 h q
    have t0 := h1.2.1
    have x1 := q.2.1
    have x2 := q.2.2.2.1
    have e10 : (10 : Int32) = Int32.ofNat 10 := rfl
    simp (config := {decide := true}) only [vRf_r, vRf_n, vI_i, vL_l, vD_d, pI_i, pR_r, pR_n, vZ_0, vZ_1, ct_i, ct_r, ct_n, ct_l, ct_d, csum_n, csum_c, kt_v, kt_n, kt_e, oc_n, oc_i, oc_r, oc_l, oc_u, oc_d, true_and, and_true, Bool.and_true, Bool.true_and, ne_eq, not_false_eq_true, not_true_eq_false, implies_true, false_imp, true_imp_iff, hsz_put, hsl_put, hln_put, hty_put, hsz_new, hsl_new, hln_new, hty_new, Nat.zero_add, Nat.add_zero, eq_self, decide_true, t32_0, t32_1, t32_2, t32_3, t32_4, t32_5, t32_6, hv_same, hv_kne, hv_tne, hv_ntne, hv_nsame, hv_ctne, hty_cpy, hln_cpy, hsz_cpy, hsl_cpy, vrn, vnr, vrr, A64_246, A64_248, A64_249, A64_250, A64_253, A64_255, r5tb h1.1 hk, r5gb h1.1 hk, r5nb h1.1 hk, r5mb h1.1 hk, r5eb h1.1 hk, r5db h1.1 hk, r5vb h1.1 hk, r5lb h1.1 hk, r5pb h1.1 hk, r6tb h1.1 hk, r60b h1.1 hk, r61b h1.1 hk, r62b h1.1 hk, r63b h1.1 hk, r7tb h1.1 hk, r7lb h1.1 hk, r8tb h1.1 hk, r8lb h1.1 hk, r9tb h1.1 hk, r9lb h1.1 hk, r10tb h1.1 hk, r10lb h1.1 hk, rgBA h1.1, t0]
    rw [e10]
    refine c_doneBy h1 hk hI.1 hI.2.1 (fun k hk => by have := hI.2.2.1 k hk; omega) (by omega) (by omega) (by omega) ?_
    intro σ2 k2
    have q2 := kp_mono (c' := 691) (s' := 7290) (kp_trans q k2) (by omega) (by omega) (fun _ _ e => e)
    have h2 := RH_0 h q2
    have x3 := q2.2.1
    have x4 := q2.2.2.2.1
    have ec := fun Q' => c_canMove (Q := Q') h2.1 hk
    have t2 := h2.2.1
    simp (config := {decide := true}) only [vRf_r, vRf_n, vI_i, vL_l, vD_d, pI_i, pR_r, pR_n, vZ_0, vZ_1, ct_i, ct_r, ct_n, ct_l, ct_d, csum_n, csum_c, kt_v, kt_n, kt_e, oc_n, oc_i, oc_r, oc_l, oc_u, oc_d, true_and, and_true, Bool.and_true, Bool.true_and, ne_eq, not_false_eq_true, not_true_eq_false, implies_true, false_imp, true_imp_iff, hsz_put, hsl_put, hln_put, hty_put, hsz_new, hsl_new, hln_new, hty_new, Nat.zero_add, Nat.add_zero, eq_self, decide_true, t32_0, t32_1, t32_2, t32_3, t32_4, t32_5, t32_6, hv_same, hv_kne, hv_tne, hv_ntne, hv_nsame, hv_ctne, hty_cpy, hln_cpy, hsz_cpy, hsl_cpy, vrn, vnr, vrr, A64_258, A64_259, A64_262, A64_264, A64_265, r5tb h2.1 hk, r5gb h2.1 hk, r5nb h2.1 hk, r5mb h2.1 hk, r5eb h2.1 hk, r5db h2.1 hk, r5vb h2.1 hk, r5lb h2.1 hk, r5pb h2.1 hk, r6tb h2.1 hk, r60b h2.1 hk, r61b h2.1 hk, r62b h2.1 hk, r63b h2.1 hk, r7tb h2.1 hk, r7lb h2.1 hk, r8tb h2.1 hk, r8lb h2.1 hk, r9tb h2.1 hk, r9lb h2.1 hk, r10tb h2.1 hk, r10lb h2.1 hk, rgBA h2.1, c_dadd, ec]
    refine ⟨fun hcm => ?_, fun hcm => ?_⟩
    · have ez2 : dgW z k d1 = dA (dA d1 (dbZ z k 10)) (abZ z k 2) := if_pos hcm
      simp (config := {decide := true}) only [vRf_r, vRf_n, vI_i, vL_l, vD_d, pI_i, pR_r, pR_n, vZ_0, vZ_1, ct_i, ct_r, ct_n, ct_l, ct_d, csum_n, csum_c, kt_v, kt_n, kt_e, oc_n, oc_i, oc_r, oc_l, oc_u, oc_d, true_and, and_true, Bool.and_true, Bool.true_and, ne_eq, not_false_eq_true, not_true_eq_false, implies_true, false_imp, true_imp_iff, hsz_put, hsl_put, hln_put, hty_put, hsz_new, hsl_new, hln_new, hty_new, Nat.zero_add, Nat.add_zero, eq_self, decide_true, t32_0, t32_1, t32_2, t32_3, t32_4, t32_5, t32_6, hv_same, hv_kne, hv_tne, hv_ntne, hv_nsame, hv_ctne, hty_cpy, hln_cpy, hsz_cpy, hsl_cpy, vrn, vnr, vrr, A64_268, A64_271, A64_273, A64_274, A64_275, A64_278, A64_279, r5tb h2.1 hk, r5gb h2.1 hk, r5nb h2.1 hk, r5mb h2.1 hk, r5eb h2.1 hk, r5db h2.1 hk, r5vb h2.1 hk, r5lb h2.1 hk, r5pb h2.1 hk, r6tb h2.1 hk, r60b h2.1 hk, r61b h2.1 hk, r62b h2.1 hk, r63b h2.1 hk, r7tb h2.1 hk, r7lb h2.1 hk, r8tb h2.1 hk, r8lb h2.1 hk, r9tb h2.1 hk, r9lb h2.1 hk, r10tb h2.1 hk, r10lb h2.1 hk, rgBA h2.1, t2]
      refine c_awayBy h2 hk hI.1 hI.2.1 (fun k hk => by have := hI.2.2.1 k hk; omega) (by omega) (by omega) ?_
      intro σ3 k3
      have q3 := kp_mono (c' := 1306) (s' := 16634) (kp_trans q2 k3) (by omega) (by omega) (fun _ _ e => e)
      have := hQ σ3 q3
      rw [← ez, ez2] at this
      simp (config := {decide := true}) only [vRf_r, vRf_n, vI_i, vL_l, vD_d, pI_i, pR_r, pR_n, vZ_0, vZ_1, ct_i, ct_r, ct_n, ct_l, ct_d, csum_n, csum_c, kt_v, kt_n, kt_e, oc_n, oc_i, oc_r, oc_l, oc_u, oc_d, true_and, and_true, Bool.and_true, Bool.true_and, ne_eq, not_false_eq_true, not_true_eq_false, implies_true, false_imp, true_imp_iff, hsz_put, hsl_put, hln_put, hty_put, hsz_new, hsl_new, hln_new, hty_new, Nat.zero_add, Nat.add_zero, eq_self, decide_true, t32_0, t32_1, t32_2, t32_3, t32_4, t32_5, t32_6, hv_same, hv_kne, hv_tne, hv_ntne, hv_nsame, hv_ctne, hty_cpy, hln_cpy, hsz_cpy, hsl_cpy, vrn, vnr, vrr, A64_282, A64_283, A64_286, A64_291, c_dadd, pJ_l]
      exact this
    · have ez2 : dgW z k d1 = dA d1 (dbZ z k 10) := if_neg hcm
      have q3 := kp_mono (c' := 1306) (s' := 16634) q2 (by omega) (by omega) (fun _ _ e => e)
      have := hQ σ2 q3
      rw [← ez, ez2] at this
      simp (config := {decide := true}) only [vRf_r, vRf_n, vI_i, vL_l, vD_d, pI_i, pR_r, pR_n, vZ_0, vZ_1, ct_i, ct_r, ct_n, ct_l, ct_d, csum_n, csum_c, kt_v, kt_n, kt_e, oc_n, oc_i, oc_r, oc_l, oc_u, oc_d, true_and, and_true, Bool.and_true, Bool.true_and, ne_eq, not_false_eq_true, not_true_eq_false, implies_true, false_imp, true_imp_iff, hsz_put, hsl_put, hln_put, hty_put, hsz_new, hsl_new, hln_new, hty_new, Nat.zero_add, Nat.add_zero, eq_self, decide_true, t32_0, t32_1, t32_2, t32_3, t32_4, t32_5, t32_6, hv_same, hv_kne, hv_tne, hv_ntne, hv_nsame, hv_ctne, hty_cpy, hln_cpy, hsz_cpy, hsl_cpy, vrn, vnr, vrr, A64_268, A64_289, A64_291, pJ_l]
      exact this
  -- the replays
  have reps : ∀ σ1 d1 l6 l7 l8 l9 l10, kp (fun _ => False) 328 1504 σ σ1 → dgW z k (dgR z k 12 (dgR z k 5 (dgR z k 0 d1))) = dgG z k d → aw g 64 159 [some (.ref (A 0 0)), some (.long d), none, some (.ref (A 4 k)), some (.long d1), none, l6, l7, l8, l9, l10] [] σ1 Q := by
    intro σ1 d1 l6 l7 l8 l9 l10 q ez
    have x1 := q.2.1
    have x2 := q.2.2.2.1
    have c1 : hsz σ1 + 1 ≤ gC g := by omega
    have s1 : hsl σ1 + 3 ≤ gS g := by omega
    have hgB := rgsb (RH_0 h q).1
    have k0 : kp (fun _ => False) 1 3 σ1 (hnew σ1 20 3 (fun _ => .int 0) 3) := kp_new
    have D0 := arrD_new (σ := σ1) (n := 3)
    have zz : hsz (hnew σ1 20 3 (fun _ => .int 0) 3) = hsz σ1 + 1 := rfl
    rw [A64_159, A64_160]
    refine ⟨by decide, by decide, c1, s1, ?_⟩
    rw [t32_3]
    generalize hnew σ1 20 3 (fun _ => .int 0) 3 = σ2 at *
    have DA := arrD_put (i := 2) (arrD_put (i := 1) (arrD_put (i := 0) D0 0) 5) 12
    have kA : kp (fun a => a = hsz σ1) 0 0 σ2 (hput (hput (hput σ2 20 (hsz σ1) 0 (.int 0)) 20 (hsz σ1) 1 (.int 5)) 20 (hsz σ1) 2 (.int 12)) := kp_trans (kp_trans (kp_put (W := fun a => a = hsz σ1) (fun _ => rfl)) (kp_put (W := fun a => a = hsz σ1) (fun _ => rfl))) (kp_put (W := fun a => a = hsz σ1) (fun _ => rfl))
    have q3 : kp (fun _ => False) 329 1507 σ (hput (hput (hput σ2 20 (hsz σ1) 0 (.int 0)) 20 (hsz σ1) 1 (.int 5)) 20 (hsz σ1) 2 (.int 12)) := kp_mono (kp_then (kp_trans q k0) kA (fun a ha e => by have := q.1; omega)) (by omega) (by omega) (fun _ _ e => e)
    have t1 := D0.1
    have l1 := D0.2.1
    have e3 : Int32.ofNat 3 = 3 := rfl
    simp (config := {decide := true}) only [vRf_r, vRf_n, vI_i, vL_l, vD_d, pI_i, pR_r, pR_n, vZ_0, vZ_1, ct_i, ct_r, ct_n, ct_l, ct_d, csum_n, csum_c, kt_v, kt_n, kt_e, oc_n, oc_i, oc_r, oc_l, oc_u, oc_d, true_and, and_true, Bool.and_true, Bool.true_and, ne_eq, not_false_eq_true, not_true_eq_false, implies_true, false_imp, true_imp_iff, hsz_put, hsl_put, hln_put, hty_put, hsz_new, hsl_new, hln_new, hty_new, Nat.zero_add, Nat.add_zero, eq_self, decide_true, t32_0, t32_1, t32_2, t32_3, t32_4, t32_5, t32_6, hv_same, hv_kne, hv_tne, hv_ntne, hv_nsame, hv_ctne, hty_cpy, hln_cpy, hsz_cpy, hsl_cpy, vrn, vnr, vrr, A64_162, A64_163, A64_164, A64_165, A64_166, A64_167, A64_168, A64_169, A64_170, A64_171, A64_172, A64_174, A64_175, A64_177, A64_179, A64_181, A64_183, A64_184, A64_186, A64_187, t1, l1, hgB, e3]
    generalize hput (hput (hput σ2 20 (hsz σ1) 0 (.int 0)) 20 (hsz σ1) 1 (.int 5)) 20 (hsz σ1) 2 (.int 12) = σ3 at *
    generalize hsz σ1 = dd at *
    have v0 : hv σ3 20 dd 0 = .int 0 := DA.2.2 0 (by decide)
    have v1 : hv σ3 20 dd 1 = .int 5 := DA.2.2 1 (by decide)
    have v2 : hv σ3 20 dd 2 = .int 12 := DA.2.2 2 (by decide)
    have t3 := DA.1
    have l3 := DA.2.1
    have y1 := q3.2.1
    have y2 := q3.2.2.2.1
    simp (config := {decide := true}) only [vRf_r, vRf_n, vI_i, vL_l, vD_d, pI_i, pR_r, pR_n, vZ_0, vZ_1, ct_i, ct_r, ct_n, ct_l, ct_d, csum_n, csum_c, kt_v, kt_n, kt_e, oc_n, oc_i, oc_r, oc_l, oc_u, oc_d, true_and, and_true, Bool.and_true, Bool.true_and, ne_eq, not_false_eq_true, not_true_eq_false, implies_true, false_imp, true_imp_iff, hsz_put, hsl_put, hln_put, hty_put, hsz_new, hsl_new, hln_new, hty_new, Nat.zero_add, Nat.add_zero, eq_self, decide_true, t32_0, t32_1, t32_2, t32_3, t32_4, t32_5, t32_6, hv_same, hv_kne, hv_tne, hv_ntne, hv_nsame, hv_ctne, hty_cpy, hln_cpy, hsz_cpy, hsl_cpy, vrn, vnr, vrr, A64_189, A64_191, A64_193, A64_196, A64_198, A64_200, A64_201, v0, t3, l3]
    have st2 := fun σ5 d5 (q5 : kp (fun _ => False) 437 2101 σ σ5) (ez5 : dgW z k (dgR z k 12 d5) = dgG z k d) => dgR_step (Q := Q) (l1 := d) (l6 := some (.ref dd)) (l7 := some (.ref dd)) (ops := 12) (i := 2) (c0 := 437) (s0 := 2101) h hI hk (by omega) (by omega) (by omega) d5 σ5 q5 (fun σ6 q6 _ => by
      have := tail σ6 (dgR z k 12 d5) (some (.ref dd)) (some (.ref dd)) (some (.int 3)) (some (.int (2 + 1))) (some (.int (Int32.ofNat 12))) (kp_mono q6 (by omega) (by omega) (fun _ _ e => e)) ez5
      simp (config := {decide := true}) only [vRf_r, vRf_n, vI_i, vL_l, vD_d, pI_i, pR_r, pR_n, vZ_0, vZ_1, ct_i, ct_r, ct_n, ct_l, ct_d, csum_n, csum_c, kt_v, kt_n, kt_e, oc_n, oc_i, oc_r, oc_l, oc_u, oc_d, true_and, and_true, Bool.and_true, Bool.true_and, ne_eq, not_false_eq_true, not_true_eq_false, implies_true, false_imp, true_imp_iff, hsz_put, hsl_put, hln_put, hty_put, hsz_new, hsl_new, hln_new, hty_new, Nat.zero_add, Nat.add_zero, eq_self, decide_true, t32_0, t32_1, t32_2, t32_3, t32_4, t32_5, t32_6, hv_same, hv_kne, hv_tne, hv_ntne, hv_nsame, hv_ctne, hty_cpy, hln_cpy, hsz_cpy, hsl_cpy, vrn, vnr, vrr, A64_189, A64_191, A64_193]
      exact this)
    have st1 := fun σ5 d5 (q5 : kp (fun _ => False) 383 1804 σ σ5) (D5 : arrD σ5 dd 3 (wU (wU (wU (fun _ => 0) 0 0) 1 5) 2 12)) (ez5 : dgW z k (dgR z k 12 (dgR z k 5 d5)) = dgG z k d) => dgR_step (Q := Q) (l1 := d) (l6 := some (.ref dd)) (l7 := some (.ref dd)) (ops := 5) (i := 1) (c0 := 383) (s0 := 1804) h hI hk (by omega) (by omega) (by omega) d5 σ5 q5 (fun σ6 q6 k6 => by
      have D6 := arrD_kp D5 k6 (fun e => e)
      have u2 : hv σ6 20 dd 2 = .int 12 := D6.2.2 2 (by decide)
      have u3 := D6.1
      have u4 := D6.2.1
      have e11 : (1 : Int32) + 1 = 2 := rfl
      have t32_2 : (2 : Int32).toNatClampNeg = 2 := rfl
      have := st2 σ6 (dgR z k 5 d5) (kp_mono q6 (by omega) (by omega) (fun _ _ e => e)) ez5
      simp (config := {decide := true}) only [vRf_r, vRf_n, vI_i, vL_l, vD_d, pI_i, pR_r, pR_n, vZ_0, vZ_1, ct_i, ct_r, ct_n, ct_l, ct_d, csum_n, csum_c, kt_v, kt_n, kt_e, oc_n, oc_i, oc_r, oc_l, oc_u, oc_d, true_and, and_true, Bool.and_true, Bool.true_and, ne_eq, not_false_eq_true, not_true_eq_false, implies_true, false_imp, true_imp_iff, hsz_put, hsl_put, hln_put, hty_put, hsz_new, hsl_new, hln_new, hty_new, Nat.zero_add, Nat.add_zero, eq_self, decide_true, t32_0, t32_1, t32_2, t32_3, t32_4, t32_5, t32_6, hv_same, hv_kne, hv_tne, hv_ntne, hv_nsame, hv_ctne, hty_cpy, hln_cpy, hsz_cpy, hsl_cpy, vrn, vnr, vrr, A64_189, A64_191, A64_193, A64_196, A64_198, A64_200, A64_201, u2, u3, u4, e11, t32_2]
      exact this)
    have st0 := dgR_step (Q := Q) (l1 := d) (l6 := some (.ref dd)) (l7 := some (.ref dd)) (ops := 0) (i := 0) (c0 := 329) (s0 := 1507) h hI hk (by omega) (by omega) (by omega) d1 σ3 q3 (fun σ6 q6 k6 => by
      have D6 := arrD_kp DA k6 (fun e => e)
      have u2 : hv σ6 20 dd 1 = .int 5 := D6.2.2 1 (by decide)
      have u3 := D6.1
      have u4 := D6.2.1
      have e01 : (0 : Int32) + 1 = 1 := rfl
      have t32_1 : (1 : Int32).toNatClampNeg = 1 := rfl
      have := st1 σ6 (dgR z k 0 d1) (kp_mono q6 (by omega) (by omega) (fun _ _ e => e)) D6 ez
      simp (config := {decide := true}) only [vRf_r, vRf_n, vI_i, vL_l, vD_d, pI_i, pR_r, pR_n, vZ_0, vZ_1, ct_i, ct_r, ct_n, ct_l, ct_d, csum_n, csum_c, kt_v, kt_n, kt_e, oc_n, oc_i, oc_r, oc_l, oc_u, oc_d, true_and, and_true, Bool.and_true, Bool.true_and, ne_eq, not_false_eq_true, not_true_eq_false, implies_true, false_imp, true_imp_iff, hsz_put, hsl_put, hln_put, hty_put, hsz_new, hsl_new, hln_new, hty_new, Nat.zero_add, Nat.add_zero, eq_self, decide_true, t32_0, t32_1, t32_2, t32_3, t32_4, t32_5, t32_6, hv_same, hv_kne, hv_tne, hv_ntne, hv_nsame, hv_ctne, hty_cpy, hln_cpy, hsz_cpy, hsl_cpy, vrn, vnr, vrr, A64_189, A64_191, A64_193, A64_196, A64_198, A64_200, A64_201, u2, u3, u4, e01, t32_1]
      exact this)
    exact st0
  -- told, exits, pages, log
  have t1 := fun σ1 d1 (q : kp (fun _ => False) 328 1504 σ σ1) (ez : dgW z k (dgR z k 12 (dgR z k 5 (dgR z k 0 (dgL z k 0 61 d1)))) = dgG z k d) l7 l8 l9 l10 => dgL_loop (Q := Q) (l1 := d) (l7 := l7) (l8 := l8) (l9 := l9) (l10 := l10) (RH_0 h q).1 hk hg.2.1.1 61 0 d1 rfl (fun l6 => reps σ1 _ l6 l7 l8 l9 l10 q ez)
  have t2 := fun σ1 d1 (q : kp (fun _ => False) 304 1408 σ σ1) (ez : dgW z k (dgR z k 12 (dgR z k 5 (dgR z k 0 (dgL z k 0 61 (dgP z k 0 6 d1))))) = dgG z k d) l7 l8 l9 l10 => dgP_loop (Q := Q) (l1 := d) (l8 := l8) (l9 := l9) (l10 := l10) (RH_0 h q) hk hF (by have := q.2.1; omega) (by have := q.2.2.2.1; omega) 6 0 d1 σ1 l7 rfl (kp_refl _ _) (fun σ2 l6 l7 k2 => by
    have := t1 σ2 (dgP z k 0 6 d1) (kp_mono (kp_trans q k2) (by omega) (by omega) (fun _ _ e => e)) ez l7 l8 l9 l10
    rw [z32_0] at this
    simp (config := {decide := true}) only [vRf_r, vRf_n, vI_i, vL_l, vD_d, pI_i, pR_r, pR_n, vZ_0, vZ_1, ct_i, ct_r, ct_n, ct_l, ct_d, csum_n, csum_c, kt_v, kt_n, kt_e, oc_n, oc_i, oc_r, oc_l, oc_u, oc_d, true_and, and_true, Bool.and_true, Bool.true_and, ne_eq, not_false_eq_true, not_true_eq_false, implies_true, false_imp, true_imp_iff, hsz_put, hsl_put, hln_put, hty_put, hsz_new, hsl_new, hln_new, hty_new, Nat.zero_add, Nat.add_zero, eq_self, decide_true, t32_0, t32_1, t32_2, t32_3, t32_4, t32_5, t32_6, hv_same, hv_kne, hv_tne, hv_ntne, hv_nsame, hv_ctne, hty_cpy, hln_cpy, hsz_cpy, hsl_cpy, vrn, vnr, vrr, A64_126, A64_127]
    exact this)
  have t3 := fun σ1 d1 (q : kp (fun _ => False) 304 1408 σ σ1) (ez : dgW z k (dgR z k 12 (dgR z k 5 (dgR z k 0 (dgL z k 0 61 (dgP z k 0 6 (dgE z k 0 5 d1)))))) = dgG z k d) l10 l9 => dgE_loop (Q := Q) (l1 := d) (l10 := l10) (RH_0 h q).1 hk 5 0 d1 l9 rfl (fun l6 l7 l8 l9 => by
    have := t2 σ1 (dgE z k 0 5 d1) q ez l7 l8 l9 l10
    rw [z32_0] at this
    simp (config := {decide := true}) only [vRf_r, vRf_n, vI_i, vL_l, vD_d, pI_i, pR_r, pR_n, vZ_0, vZ_1, ct_i, ct_r, ct_n, ct_l, ct_d, csum_n, csum_c, kt_v, kt_n, kt_e, oc_n, oc_i, oc_r, oc_l, oc_u, oc_d, true_and, and_true, Bool.and_true, Bool.true_and, ne_eq, not_false_eq_true, not_true_eq_false, implies_true, false_imp, true_imp_iff, hsz_put, hsl_put, hln_put, hty_put, hsz_new, hsl_new, hln_new, hty_new, Nat.zero_add, Nat.add_zero, eq_self, decide_true, t32_0, t32_1, t32_2, t32_3, t32_4, t32_5, t32_6, hv_same, hv_kne, hv_tne, hv_ntne, hv_nsame, hv_ctne, hty_cpy, hln_cpy, hsz_cpy, hsl_cpy, vrn, vnr, vrr, A64_78, A64_79]
    exact this)
  have t4 := dgT_loop (Q := Q) (l1 := d) (l7 := none) (l8 := none) (l9 := none) (l10 := none) h hk hF (by omega) (by omega) 16 0 d σ rfl (kp_mono (kp_refl _ _) (by omega) (by omega) (fun _ _ e => e)) (fun σ1 l6 q => by
    have h1 := RH_0 h q
    have := t3 σ1 (dgT z k 0 16 d) q rfl none none
    rw [z32_0] at this
    have e5 : Int32.ofNat 5 = 5 := rfl
    simp (config := {decide := true}) only [vRf_r, vRf_n, vI_i, vL_l, vD_d, pI_i, pR_r, pR_n, vZ_0, vZ_1, ct_i, ct_r, ct_n, ct_l, ct_d, csum_n, csum_c, kt_v, kt_n, kt_e, oc_n, oc_i, oc_r, oc_l, oc_u, oc_d, true_and, and_true, Bool.and_true, Bool.true_and, ne_eq, not_false_eq_true, not_true_eq_false, implies_true, false_imp, true_imp_iff, hsz_put, hsl_put, hln_put, hty_put, hsz_new, hsl_new, hln_new, hty_new, Nat.zero_add, Nat.add_zero, eq_self, decide_true, t32_0, t32_1, t32_2, t32_3, t32_4, t32_5, t32_6, hv_same, hv_kne, hv_tne, hv_ntne, hv_nsame, hv_ctne, hty_cpy, hln_cpy, hsz_cpy, hsl_cpy, vrn, vnr, vrr, A64_34, A64_35, A64_38, A64_40, A64_42, A64_43, A64_45, A64_46, r5tb h1.1 hk, r5gb h1.1 hk, r5nb h1.1 hk, r5mb h1.1 hk, r5eb h1.1 hk, r5db h1.1 hk, r5vb h1.1 hk, r5lb h1.1 hk, r5pb h1.1 hk, r6tb h1.1 hk, r60b h1.1 hk, r61b h1.1 hk, r62b h1.1 hk, r63b h1.1 hk, r7tb h1.1 hk, r7lb h1.1 hk, r8tb h1.1 hk, r8lb h1.1 hk, r9tb h1.1 hk, r9lb h1.1 hk, r10tb h1.1 hk, r10lb h1.1 hk, rgBA h1.1, e5]
    exact this)
  rw [z32_0] at t4
  simp (config := {decide := true}) only [vRf_r, vRf_n, vI_i, vL_l, vD_d, pI_i, pR_r, pR_n, vZ_0, vZ_1, ct_i, ct_r, ct_n, ct_l, ct_d, csum_n, csum_c, kt_v, kt_n, kt_e, oc_n, oc_i, oc_r, oc_l, oc_u, oc_d, true_and, and_true, Bool.and_true, Bool.true_and, ne_eq, not_false_eq_true, not_true_eq_false, implies_true, false_imp, true_imp_iff, hsz_put, hsl_put, hln_put, hty_put, hsz_new, hsl_new, hln_new, hty_new, Nat.zero_add, Nat.add_zero, eq_self, decide_true, t32_0, t32_1, t32_2, t32_3, t32_4, t32_5, t32_6, hv_same, hv_kne, hv_tne, hv_ntne, hv_nsame, hv_ctne, hty_cpy, hln_cpy, hsz_cpy, hsl_cpy, vrn, vnr, vrr, A64_0, A64_1, A64_3, A64_4]
  exact t4
theorem dgC_loop {l4 l5 : Option Value} (h : RepH g A B σ z) (hI : CI z) (hc : hsz σ + 40 ≤ gC g) (hs : hsl σ + 240 ≤ gS g) : ∀ m w d σ1, w + m = 11 → kp (fun _ => False) (3 * w) (19 * w) σ σ1 → (∀ σ' l3, kp (fun _ => False) 33 209 σ σ' → aw g 59 29 [some (.ref (A 0 0)), some (.long (dgC z w m d)), none, l3, l4, l5] [] σ' Q) → aw g 59 6 [some (.ref (A 0 0)), some (.long d), none, some (.int (Int32.ofNat w)), l4, l5] [] σ1 Q := by
  intro m
  induction m with
  | zero =>
    intro w d σ1 hw q hQ
    have e : w = 11 := by omega
    subst e
    have e1 : ((11 : Int32) ≤ Int32.ofNat 11) = True := eq_true (by decide)
    have := hQ σ1 (some (.int (Int32.ofNat 11))) q
    simp (config := {decide := true}) only [vRf_r, vRf_n, vI_i, vL_l, vD_d, pI_i, pR_r, pR_n, vZ_0, vZ_1, ct_i, ct_r, ct_n, ct_l, ct_d, csum_n, csum_c, kt_v, kt_n, kt_e, oc_n, oc_i, oc_r, oc_l, oc_u, oc_d, true_and, and_true, Bool.and_true, Bool.true_and, ne_eq, not_false_eq_true, not_true_eq_false, implies_true, false_imp, true_imp_iff, hsz_put, hsl_put, hln_put, hty_put, hsz_new, hsl_new, hln_new, hty_new, Nat.zero_add, Nat.add_zero, eq_self, decide_true, t32_0, t32_1, t32_2, t32_3, t32_4, t32_5, t32_6, hv_same, hv_kne, hv_tne, hv_ntne, hv_nsame, hv_ctne, hty_cpy, hln_cpy, hsz_cpy, hsl_cpy, vrn, vnr, vrr, A59_6, A59_7, A59_9, e1]
    exact this
  | succ m ih =>
    intro w d σ1 hw q hQ
    have e1 : ((11 : Int32) ≤ Int32.ofNat w) = False := by rw [show (11 : Int32) = Int32.ofNat 11 from rfl, n32_le (by omega) (by omega)]; exact eq_false (by omega)
    have h1 := RH_0 h q
    have t0 := h1.2.1
    have d1 := q.2.1
    have d2 := q.2.2.2.1
    have b4 := n32_inc w
    have hn := hI.1.1.1
    rw [A59_6]
    simp (config := {decide := true}) only [vRf_r, vRf_n, vI_i, vL_l, vD_d, pI_i, pR_r, pR_n, vZ_0, vZ_1, ct_i, ct_r, ct_n, ct_l, ct_d, csum_n, csum_c, kt_v, kt_n, kt_e, oc_n, oc_i, oc_r, oc_l, oc_u, oc_d, true_and, and_true, Bool.and_true, Bool.true_and, ne_eq, not_false_eq_true, not_true_eq_false, implies_true, false_imp, true_imp_iff, hsz_put, hsl_put, hln_put, hty_put, hsz_new, hsl_new, hln_new, hty_new, Nat.zero_add, Nat.add_zero, eq_self, decide_true, t32_0, t32_1, t32_2, t32_3, t32_4, t32_5, t32_6, hv_same, hv_kne, hv_tne, hv_ntne, hv_nsame, hv_ctne, hty_cpy, hln_cpy, hsz_cpy, hsl_cpy, vrn, vnr, vrr, A59_7, A59_9, A59_12, A59_13, A59_14, A59_15, e1, t0]
    refine c_count h1 (by omega) hI.1.2.1 hI.1.1.2.2.2 hI.1.2.2.1 (by omega) (by omega) (by omega) ?_
    intro σ2 k2
    have q2 : kp (fun _ => False) (3 * (w + 1)) (19 * (w + 1)) σ σ2 := kp_mono (kp_trans q k2) (by omega) (by omega) (fun _ _ e => e)
    have := ih (w + 1) (dA d (ctZ z w)) σ2 (by omega) q2 hQ
    simp (config := {decide := true}) only [vRf_r, vRf_n, vI_i, vL_l, vD_d, pI_i, pR_r, pR_n, vZ_0, vZ_1, ct_i, ct_r, ct_n, ct_l, ct_d, csum_n, csum_c, kt_v, kt_n, kt_e, oc_n, oc_i, oc_r, oc_l, oc_u, oc_d, true_and, and_true, Bool.and_true, Bool.true_and, ne_eq, not_false_eq_true, not_true_eq_false, implies_true, false_imp, true_imp_iff, hsz_put, hsl_put, hln_put, hty_put, hsz_new, hsl_new, hln_new, hty_new, Nat.zero_add, Nat.add_zero, eq_self, decide_true, t32_0, t32_1, t32_2, t32_3, t32_4, t32_5, t32_6, hv_same, hv_kne, hv_tne, hv_ntne, hv_nsame, hv_ctne, hty_cpy, hln_cpy, hsz_cpy, hsl_cpy, vrn, vnr, vrr, A59_18, A59_19, A59_22, A59_23, A59_26, c_dadd, b4]
    exact this
theorem dgX_loop {l3 : Option Value} {i : Nat} (h : RepB g A B σ z) (hF : okFr z) (hi : i < zf z) : ∀ m w d, w + m = 3 → (∀ l5, aw g 59 82 [some (.ref (A 0 0)), some (.long (dgX z i w m d)), none, l3, some (.ref (A 18 i)), l5] [] σ Q) → aw g 59 105 [some (.ref (A 0 0)), some (.long d), none, l3, some (.ref (A 18 i)), some (.int (Int32.ofNat w))] [] σ Q := by
  intro m
  induction m with
  | zero =>
    intro w d hw hQ
    have e : w = 3 := by omega
    subst e
    have e1 : ((3 : Int32) ≤ Int32.ofNat 3) = True := eq_true (by decide)
    have := hQ (some (.int (Int32.ofNat 3)))
    simp (config := {decide := true}) only [vRf_r, vRf_n, vI_i, vL_l, vD_d, pI_i, pR_r, pR_n, vZ_0, vZ_1, ct_i, ct_r, ct_n, ct_l, ct_d, csum_n, csum_c, kt_v, kt_n, kt_e, oc_n, oc_i, oc_r, oc_l, oc_u, oc_d, true_and, and_true, Bool.and_true, Bool.true_and, ne_eq, not_false_eq_true, not_true_eq_false, implies_true, false_imp, true_imp_iff, hsz_put, hsl_put, hln_put, hty_put, hsz_new, hsl_new, hln_new, hty_new, Nat.zero_add, Nat.add_zero, eq_self, decide_true, t32_0, t32_1, t32_2, t32_3, t32_4, t32_5, t32_6, hv_same, hv_kne, hv_tne, hv_ntne, hv_nsame, hv_ctne, hty_cpy, hln_cpy, hsz_cpy, hsl_cpy, vrn, vnr, vrr, A59_105, A59_107, A59_108, A59_130, e1]
    exact this
  | succ m ih =>
    intro w d hw hQ
    have e1 : ((3 : Int32) ≤ Int32.ofNat w) = False := by rw [show (3 : Int32) = Int32.ofNat 3 from rfl, n32_le (by omega) (by omega)]; exact eq_false (by omega)
    have b4 := n32_inc w
    have et := fun Q' => c_toldF (Q := Q') h hF hi (show w < 3 by omega)
    have := ih (w + 1) (dA d (tfZ z i w)) (by omega) hQ
    rw [A59_105]
    simp (config := {decide := true}) only [vRf_r, vRf_n, vI_i, vL_l, vD_d, pI_i, pR_r, pR_n, vZ_0, vZ_1, ct_i, ct_r, ct_n, ct_l, ct_d, csum_n, csum_c, kt_v, kt_n, kt_e, oc_n, oc_i, oc_r, oc_l, oc_u, oc_d, true_and, and_true, Bool.and_true, Bool.true_and, ne_eq, not_false_eq_true, not_true_eq_false, implies_true, false_imp, true_imp_iff, hsz_put, hsl_put, hln_put, hty_put, hsz_new, hsl_new, hln_new, hty_new, Nat.zero_add, Nat.add_zero, eq_self, decide_true, t32_0, t32_1, t32_2, t32_3, t32_4, t32_5, t32_6, hv_same, hv_kne, hv_tne, hv_ntne, hv_nsame, hv_ctne, hty_cpy, hln_cpy, hsz_cpy, hsl_cpy, vrn, vnr, vrr, A59_107, A59_108, A59_111, A59_112, A59_114, A59_116, A59_119, A59_120, A59_123, A59_124, A59_127, e1, et, c_dadd, b4]
    exact this
theorem c_digest (h : RepH g A B σ z) (hI : CI z) (hm : rm g σ) (hQ : ∀ σ', kp (fun _ => False) 4600 56000 σ σ' → Q (.inl (some (.long (digZ z)))) σ') : aw g 59 0 [some (.ref (A 0 0)), none, none, none, none, none] [] σ Q := by
  obtain ⟨m1, m2⟩ := hm
  have hn := hI.1.1.1
  have hgB := rgsb h.1
  -- frames
  have loopF : ∀ m c d σ1 l4 l5 it, c + m = zf z → hsz σ ≤ it → kp (fun _ => False) 3953 50119 σ σ1 → isI g σ1 it (A 3 0) c → dgF z c m d = digZ z → aw g 59 82 [some (.ref (A 0 0)), some (.long d), none, some (.ref it), l4, l5] [] σ1 Q := by
    intro m
    induction m with
    | zero =>
      intro c d σ1 l4 l5 it hcm hit q hi he
      have h1 := (RH_0 h q).1
      have e1 := fun Q' => l_hasNext (Q := Q') (rLfb h1) hi (by omega)
      have e2 : (c < zf z) = False := eq_false (by omega)
      have := hQ σ1 (kp_mono q (by omega) (by omega) (fun _ _ e => e))
      rw [← he] at this
      have this : Q (.inl (some (.long d))) σ1 := this
      simp (config := {decide := true}) only [vRf_r, vRf_n, vI_i, vL_l, vD_d, pI_i, pR_r, pR_n, vZ_0, vZ_1, ct_i, ct_r, ct_n, ct_l, ct_d, csum_n, csum_c, kt_v, kt_n, kt_e, oc_n, oc_i, oc_r, oc_l, oc_u, oc_d, true_and, and_true, Bool.and_true, Bool.true_and, ne_eq, not_false_eq_true, not_true_eq_false, implies_true, false_imp, true_imp_iff, hsz_put, hsl_put, hln_put, hty_put, hsz_new, hsl_new, hln_new, hty_new, Nat.zero_add, Nat.add_zero, eq_self, decide_true, t32_0, t32_1, t32_2, t32_3, t32_4, t32_5, t32_6, hv_same, hv_kne, hv_tne, hv_ntne, hv_nsame, hv_ctne, hty_cpy, hln_cpy, hsz_cpy, hsl_cpy, vrn, vnr, vrr, A59_82, A59_83, A59_88, A59_133, A59_134, hi.1, e1, e2, pJ_l, if_false]
      exact this
    | succ m ih =>
      intro c d σ1 l4 l5 it hcm hit q hi he
      have h1 := (RH_0 h q).1
      have hcn : c < zf z := by omega
      have e1 := fun Q' => l_hasNext (Q := Q') (rLfb h1) hi (by omega)
      have e2 : (c < zf z) = True := eq_true hcn
      have e3 := fun Q' => l_next (Q := Q') (rLfb h1) hi hcn
      have e7 : (∃ t, t ∈ [2] ∧ some 2 = some t) = True := eq_true ⟨2, by decide, rfl⟩
      have hi1 := hi.1
      have q2 : kp (fun _ => False) 3953 50119 σ (nxH σ1 it c) := kpF_nx q hit
      have hi2 := nxH_isI hi
      rw [A59_82]
      generalize nxH σ1 it c = σ2 at *
      have h2 := (RH_0 h q2).1
      have tf := r18tb h2 hcn
      have := dgX_loop (Q := Q) (l3 := some (.ref it)) h2 hI.1.2.1 hcn 3 0 d rfl (fun l5 => ih (c + 1) (dgX z c 0 3 d) σ2 _ l5 it (by omega) hit q2 hi2 he)
      rw [z32_0] at this
      simp (config := {decide := true}) only [vRf_r, vRf_n, vI_i, vL_l, vD_d, pI_i, pR_r, pR_n, vZ_0, vZ_1, ct_i, ct_r, ct_n, ct_l, ct_d, csum_n, csum_c, kt_v, kt_n, kt_e, oc_n, oc_i, oc_r, oc_l, oc_u, oc_d, true_and, and_true, Bool.and_true, Bool.true_and, ne_eq, not_false_eq_true, not_true_eq_false, implies_true, false_imp, true_imp_iff, hsz_put, hsl_put, hln_put, hty_put, hsz_new, hsl_new, hln_new, hty_new, Nat.zero_add, Nat.add_zero, eq_self, decide_true, t32_0, t32_1, t32_2, t32_3, t32_4, t32_5, t32_6, hv_same, hv_kne, hv_tne, hv_ntne, hv_nsame, hv_ctne, hty_cpy, hln_cpy, hsz_cpy, hsl_cpy, vrn, vnr, vrr, A59_83, A59_88, A59_91, A59_92, A59_97, A59_97r, A59_100, A59_102, A59_103, hi1, e1, e2, e3, e7, tf, if_true]
      exact this
  -- guests
  have loopG : ∀ m c d σ1 l4 l5 it, c + m = zn z → hsz σ ≤ it → kp (fun _ => False) (34 + 1306 * c) (213 + 16634 * c) σ σ1 → isI g σ1 it (A 2 0) c → dgF z 0 (zf z) (dgGs z c m d) = digZ z → aw g 59 40 [some (.ref (A 0 0)), some (.long d), none, some (.ref it), l4, l5] [] σ1 Q := by
    intro m
    induction m with
    | zero =>
      intro c d σ1 l4 l5 it hcm hit q hi he
      have h1 := RH_0 h q
      have h10 := h1.2.1
      have h11 := h1.2.2
      have e1 := fun Q' => l_hasNext (Q := Q') (rLgb h1.1) hi (by omega)
      have e2 : (c < zn z) = False := eq_false (by omega)
      have hg1 := rgsb h1.1
      have tg := (rLfb h1.1).1
      have d1 := q.2.1
      have d2 := q.2.2.2.1
      have c1 : hsz σ1 + 1 ≤ gC g := by omega
      have s1 : hsl σ1 + 4 ≤ gS g := by omega
      have ei := fun Q' => l_iter (Q := Q') (rLfb h1.1) hg1
      have := loopF (zf z) 0 d (itH σ1 (A 3 0)) l4 l5 (hsz σ1) (by omega) q.1 (kp_mono (kp_trans q (itH_kp _ _)) (by omega) (by omega) (fun _ _ e => e)) (itH_isI hg1 (hty_lt tg)) he
      simp (config := {decide := true}) only [vRf_r, vRf_n, vI_i, vL_l, vD_d, pI_i, pR_r, pR_n, vZ_0, vZ_1, ct_i, ct_r, ct_n, ct_l, ct_d, csum_n, csum_c, kt_v, kt_n, kt_e, oc_n, oc_i, oc_r, oc_l, oc_u, oc_d, true_and, and_true, Bool.and_true, Bool.true_and, ne_eq, not_false_eq_true, not_true_eq_false, implies_true, false_imp, true_imp_iff, hsz_put, hsl_put, hln_put, hty_put, hsz_new, hsl_new, hln_new, hty_new, Nat.zero_add, Nat.add_zero, eq_self, decide_true, t32_0, t32_1, t32_2, t32_3, t32_4, t32_5, t32_6, hv_same, hv_kne, hv_tne, hv_ntne, hv_nsame, hv_ctne, hty_cpy, hln_cpy, hsz_cpy, hsl_cpy, vrn, vnr, vrr, A59_40, A59_41, A59_46, A59_71, A59_72, A59_75, A59_78, A59_81, r1tb h1.1, r10_b h1.1, r11_b h1.1, r13_b h1.1, r14_b h1.1, r1sb h1.1, rgBA h1.1, hi.1, e1, e2, h10, h11, ei, tg, c1, s1, if_false]
      exact this
    | succ m ih =>
      intro c d σ1 l4 l5 it hcm hit q hi he
      have h1 := RH_0 h q
      have hcn : c < zn z := by omega
      have e1 := fun Q' => l_hasNext (Q := Q') (rLgb h1.1) hi (by omega)
      have e2 : (c < zn z) = True := eq_true hcn
      have e3 := fun Q' => l_next (Q := Q') (rLgb h1.1) hi hcn
      have e7 : (∃ t, t ∈ [5] ∧ some 5 = some t) = True := eq_true ⟨5, by decide, rfl⟩
      have hi1 := hi.1
      have q2 : kp (fun _ => False) (34 + 1306 * c) (213 + 16634 * c) σ (nxH σ1 it c) := kpF_nx q hit
      have hi2 := nxH_isI hi
      have liN : it < hsz (nxH σ1 it c) := hty_lt hi2.1
      rw [A59_40]
      generalize nxH σ1 it c = σ2 at *
      have h2 := RH_0 h q2
      have tf := r5tb h2.1 hcn
      have h20 := h2.2.1
      have d1 := q2.2.1
      have d2 := q2.2.2.2.1
      simp (config := {decide := true}) only [vRf_r, vRf_n, vI_i, vL_l, vD_d, pI_i, pR_r, pR_n, vZ_0, vZ_1, ct_i, ct_r, ct_n, ct_l, ct_d, csum_n, csum_c, kt_v, kt_n, kt_e, oc_n, oc_i, oc_r, oc_l, oc_u, oc_d, true_and, and_true, Bool.and_true, Bool.true_and, ne_eq, not_false_eq_true, not_true_eq_false, implies_true, false_imp, true_imp_iff, hsz_put, hsl_put, hln_put, hty_put, hsz_new, hsl_new, hln_new, hty_new, Nat.zero_add, Nat.add_zero, eq_self, decide_true, t32_0, t32_1, t32_2, t32_3, t32_4, t32_5, t32_6, hv_same, hv_kne, hv_tne, hv_ntne, hv_nsame, hv_ctne, hty_cpy, hln_cpy, hsz_cpy, hsl_cpy, vrn, vnr, vrr, A59_41, A59_46, A59_49, A59_50, A59_55, A59_55r, A59_58, A59_60, A59_61, A59_62, A59_64, hi1, e1, e2, e3, e7, tf, h20, if_true]
      refine c_addGuest h2 hI hcn (by omega) (by omega) ?_
      intro σ3 k3
      have q3 : kp (fun _ => False) (34 + 1306 * (c + 1)) (213 + 16634 * (c + 1)) σ σ3 := kp_mono (kp_trans q2 k3) (by omega) (by omega) (fun _ _ e => e)
      have tg2 := (rLgb h2.1).1
      have hi3 : isI g σ3 it (A 2 0) (c + 1) := isI_kp hi2 k3 (hty_lt tg2) (fun e => e) ((k3.2.2.2.2 _ (hty_lt tg2)).2.2 (fun e => e) 10 0)
      have := ih (c + 1) (dgG z c d) σ3 (some (.ref (A 4 c))) l5 it (by omega) hit q3 hi3 he
      simp (config := {decide := true}) only [vRf_r, vRf_n, vI_i, vL_l, vD_d, pI_i, pR_r, pR_n, vZ_0, vZ_1, ct_i, ct_r, ct_n, ct_l, ct_d, csum_n, csum_c, kt_v, kt_n, kt_e, oc_n, oc_i, oc_r, oc_l, oc_u, oc_d, true_and, and_true, Bool.and_true, Bool.true_and, ne_eq, not_false_eq_true, not_true_eq_false, implies_true, false_imp, true_imp_iff, hsz_put, hsl_put, hln_put, hty_put, hsz_new, hsl_new, hln_new, hty_new, Nat.zero_add, Nat.add_zero, eq_self, decide_true, t32_0, t32_1, t32_2, t32_3, t32_4, t32_5, t32_6, hv_same, hv_kne, hv_tne, hv_ntne, hv_nsame, hv_ctne, hty_cpy, hln_cpy, hsz_cpy, hsl_cpy, vrn, vnr, vrr, A59_67, A59_68]
      exact this
  have := dgC_loop (Q := Q) (l4 := none) (l5 := none) h hI (by omega) (by omega) 11 0 9609 σ rfl (kp_mono (kp_refl _ _) (by omega) (by omega) (fun _ _ e => e)) (fun σ1 l3 q => by
    have h1 := RH_0 h q
    have h10 := h1.2.1
    have h11 := h1.2.2
    have hg1 := rgsb h1.1
    have tg := (rLgb h1.1).1
    have d1 := q.2.1
    have d2 := q.2.2.2.1
    have c1 : hsz σ1 + 1 ≤ gC g := by omega
    have s1 : hsl σ1 + 4 ≤ gS g := by omega
    have ei := fun Q' => l_iter (Q := Q') (rLgb h1.1) hg1
    have := loopG (zn z) 0 (dgC z 0 11 9609) (itH σ1 (A 2 0)) none none (hsz σ1) (by omega) q.1 (kp_mono (kp_trans q (itH_kp _ _)) (by omega) (by omega) (fun _ _ e => e)) (itH_isI hg1 (hty_lt tg)) rfl
    simp (config := {decide := true}) only [vRf_r, vRf_n, vI_i, vL_l, vD_d, pI_i, pR_r, pR_n, vZ_0, vZ_1, ct_i, ct_r, ct_n, ct_l, ct_d, csum_n, csum_c, kt_v, kt_n, kt_e, oc_n, oc_i, oc_r, oc_l, oc_u, oc_d, true_and, and_true, Bool.and_true, Bool.true_and, ne_eq, not_false_eq_true, not_true_eq_false, implies_true, false_imp, true_imp_iff, hsz_put, hsl_put, hln_put, hty_put, hsz_new, hsl_new, hln_new, hty_new, Nat.zero_add, Nat.add_zero, eq_self, decide_true, t32_0, t32_1, t32_2, t32_3, t32_4, t32_5, t32_6, hv_same, hv_kne, hv_tne, hv_ntne, hv_nsame, hv_ctne, hty_cpy, hln_cpy, hsz_cpy, hsl_cpy, vrn, vnr, vrr, A59_29, A59_30, A59_33, A59_36, A59_39, r1tb h1.1, r10_b h1.1, r11_b h1.1, r13_b h1.1, r14_b h1.1, r1sb h1.1, rgBA h1.1, h10, h11, ei, tg, c1, s1]
    exact this)
  rw [z32_0] at this
  simp (config := {decide := true}) only [vRf_r, vRf_n, vI_i, vL_l, vD_d, pI_i, pR_r, pR_n, vZ_0, vZ_1, ct_i, ct_r, ct_n, ct_l, ct_d, csum_n, csum_c, kt_v, kt_n, kt_e, oc_n, oc_i, oc_r, oc_l, oc_u, oc_d, true_and, and_true, Bool.and_true, Bool.true_and, ne_eq, not_false_eq_true, not_true_eq_false, implies_true, false_imp, true_imp_iff, hsz_put, hsl_put, hln_put, hty_put, hsz_new, hsl_new, hln_new, hty_new, Nat.zero_add, Nat.add_zero, eq_self, decide_true, t32_0, t32_1, t32_2, t32_3, t32_4, t32_5, t32_6, hv_same, hv_kne, hv_tne, hv_ntne, hv_nsame, hv_ctne, hty_cpy, hln_cpy, hsz_cpy, hsl_cpy, vrn, vnr, vrr, A59_0, A59_3, A59_4, A59_5]
  exact this
end DIGEST2
