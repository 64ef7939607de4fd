/-! what would be -/
noncomputable def dbZ (z : ZT) (k n : Nat) : Int32 := (tkF z n).1 1 k 10 - z.1 1 k 10
noncomputable def abF (k : Nat) : ZT → Nat → Nat → Int32
  | _, 0, _ => -1
  | z, m + 1, t => if (tickZ z).1 1 k 3 = 4 then Int32.ofNat t else abF k (tickZ z) m (t + 1)
noncomputable def abZ (z : ZT) (k : Nat) (s : Int32) : Int32 := abF k (smZ z k s) 40 1
section WOULD
variable {g : GC} {A A' B B' X : Nat → Nat → Nat} {σ σ' σ1 : AH} {z : ZT} {k p : Nat} {Q : AQ}
theorem mix_self (X : Nat → Nat → Nat) : mix X X = X := by
  funext r k
  unfold mix
  split <;> rfl
theorem RepB_X (h : RepC g X σ z) : RepB g X X σ z := by
  unfold RepB
  rw [mix_self]
  exact h
theorem FB_X {M : Nat → Nat → Nat} {n a : Nat} (h : XI M X n) (q : FB X X a) : n ≤ a := by
  obtain ⟨r, k, e, hm⟩ := q
  rw [mix_self] at e
  rw [e]
  refine (h r k).2 ?_
  unfold mutR at hm
  rw [Bool.and_eq_true] at hm
  have h1 := Nat.le_of_ble_eq_true hm.1
  have h2 := hm.2
  simp at h2
  unfold shr
  omega
theorem c_doneBy {n : Nat} (h : RepH g A B σ z) (hk : k < zn z) (hW : WI z) (hWB : ∀ k, k < zn z → WB z k) (hg4 : ∀ k, k < zn z → z.2 4 k ≤ 400) (hn : n ≤ 60) (hc : hsz σ + 750 ≤ gC g) (hs : hsl σ + 11742 ≤ gS g) (hQ : ∀ σ', kp (fun _ => False) (90 + 11 * n) (3522 + 137 * n) σ σ' → Q (.inl (some (.int (dbZ z k n)))) σ') : aw g 71 0 [some (.ref (A 0 0)), some (.int (Int32.ofNat k)), some (.int (Int32.ofNat n)), none] [] σ Q := by
  have h0 := h.2.1
  have h1 := h.2.2
  have m1 := r1tb h.1
  have hn3 := hW.1.1
  simp (config := {decide := true}) only [vRf_r, vRf_n, vI_i, vL_l, vD_d, pI_i, pR_r, pR_n, vZ_0, vZ_1, ct_i, ct_r, ct_n, ct_l, ct_d, csum_n, csum_c, kt_v, kt_n, kt_e, oc_n, oc_i, oc_r, oc_l, oc_u, oc_d, true_and, and_true, Bool.and_true, Bool.true_and, ne_eq, not_false_eq_true, not_true_eq_false, implies_true, false_imp, true_imp_iff, hsz_put, hsl_put, hln_put, hty_put, hsz_new, hsl_new, hln_new, hty_new, Nat.zero_add, Nat.add_zero, eq_self, decide_true, t32_0, t32_1, t32_2, t32_3, t32_4, t32_5, t32_6, hv_same, hv_kne, hv_tne, hv_ntne, hv_nsame, hv_ctne, hty_cpy, hln_cpy, hsz_cpy, hsl_cpy, vrn, vnr, vrr, A71_0, A71_1, A71_4, h0, h1, m1]
  refine c_machCopy h.1 hW hWB hg4 (by omega) (by omega) ?_
  intro X σ1 hX k1 hXI
  have hXB := RepB_X hX
  have d1 := k1.2.1
  have d2 := k1.2.2.2.1
  have mX := r1tb hXB
  simp (config := {decide := true}) only [vRf_r, vRf_n, vI_i, vL_l, vD_d, pI_i, pR_r, pR_n, vZ_0, vZ_1, ct_i, ct_r, ct_n, ct_l, ct_d, csum_n, csum_c, kt_v, kt_n, kt_e, oc_n, oc_i, oc_r, oc_l, oc_u, oc_d, true_and, and_true, Bool.and_true, Bool.true_and, ne_eq, not_false_eq_true, not_true_eq_false, implies_true, false_imp, true_imp_iff, hsz_put, hsl_put, hln_put, hty_put, hsz_new, hsl_new, hln_new, hty_new, Nat.zero_add, Nat.add_zero, eq_self, decide_true, t32_0, t32_1, t32_2, t32_3, t32_4, t32_5, t32_6, hv_same, hv_kne, hv_tne, hv_ntne, hv_nsame, hv_ctne, hty_cpy, hln_cpy, hsz_cpy, hsl_cpy, vrn, vnr, vrr, A71_7, A71_8, A71_9, A71_10, mX]
  refine c_run hXB hW (by omega) (by omega) (by omega) ?_
  intro B2 σ2 S2
  have q2 : kp (fun _ => False) (90 + 11 * n) (3522 + 137 * n) σ σ2 := kp_mono (kp_then k1 S2.2.2 (fun a ha e => by have := FB_X hXI e; omega)) (by omega) (by omega) (fun _ _ e => e)
  have h2 := RH_0 h q2
  have kn : k < zn (tkF z n) := by rw [(tkF_n n z).1]; exact hk
  have L1 := rLgb S2.1
  have e1 := fun Q' => l_get (Q := Q') L1 kn
  have L2 := rLgb h2.1
  have e2 := fun Q' => l_get (Q := Q') L2 hk
  have tL1 := L1.1
  have tL2 := L2.1
  have M1 := r1tb S2.1
  have M2 := r10_b S2.1
  have G1 := r5tb S2.1 kn
  have G2 := r5gb S2.1 kn (j := 10) (by decide)
  have h20 := h2.2.1
  have h21 := h2.2.2
  have N1 := r1tb h2.1
  have N2 := r10_b h2.1
  have K1 := r5tb h2.1 hk
  have K2 := r5gb h2.1 hk (j := 10) (by decide)
  have e7 : (∃ t, t ∈ [5] ∧ some 5 = some t) = True := eq_true ⟨5, by decide, rfl⟩
  have : Q (.inl (some (.int ((tkF z n).1 1 k 10 - z.1 1 k 10)))) σ2 := hQ σ2 q2
  simp (config := {decide := true}) only [vRf_r, vRf_n, vI_i, vL_l, vD_d, pI_i, pR_r, pR_n, vZ_0, vZ_1, ct_i, ct_r, ct_n, ct_l, ct_d, csum_n, csum_c, kt_v, kt_n, kt_e, oc_n, oc_i, oc_r, oc_l, oc_u, oc_d, true_and, and_true, Bool.and_true, Bool.true_and, ne_eq, not_false_eq_true, not_true_eq_false, implies_true, false_imp, true_imp_iff, hsz_put, hsl_put, hln_put, hty_put, hsz_new, hsl_new, hln_new, hty_new, Nat.zero_add, Nat.add_zero, eq_self, decide_true, t32_0, t32_1, t32_2, t32_3, t32_4, t32_5, t32_6, hv_same, hv_kne, hv_tne, hv_ntne, hv_nsame, hv_ctne, hty_cpy, hln_cpy, hsz_cpy, hsl_cpy, vrn, vnr, vrr, A71_13, A71_14, A71_15, A71_18, A71_19, A71_22, A71_22r, A71_25, A71_28, A71_29, A71_32, A71_35, A71_36, A71_39, A71_39r, A71_42, A71_45, A71_46, M1, M2, e1, tL1, G1, G2, h20, h21, N1, N2, e2, tL2, K1, K2, e7]
  exact this
theorem ab_loop {gi : Nat} {sp : Int32} (hXI : XI (mix A B) X (hsz σ)) (k1 : kp (fun _ => False) 88 3514 σ σ1) (hk : k < zn z) (hc : hsz σ + 615 ≤ gC g) (hs : hsl σ + 9344 ≤ gS g) : ∀ m t z2 A2 B2 σ2, t + m = 41 → zn z2 = zn z → WI z2 → A2 1 = X 1 → A2 4 = X 4 → SA g (FB X X) X A2 X B2 σ1 σ2 z2 (7 + 13 * (t - 1)) (30 + 145 * (t - 1)) → 0 < t → (∀ σ', kp (fun _ => False) 615 9344 σ σ' → Q (.inl (some (.int (abF k z2 m t)))) σ') →
    aw g 73 32 [some (.ref (A 0 0)), some (.int (Int32.ofNat gi)), some (.int sp), some (.ref (X 1 0)), some (.ref (X 4 k)), some (.int (Int32.ofNat t))] [] σ2 Q := by
  intro m
  induction m with
  | zero =>
    intro t z2 A2 B2 σ2 htm hz W2 e1 e4 S t0 hQ
    have et : t = 41 := by omega
    subst et
    have el : ((40 : Int32) < Int32.ofNat 41) = True := eq_true (by decide)
    have := hQ σ2 (kp_mono (kp_then k1 S.2.2.2.1 (fun a ha e => by have := FB_X hXI e; omega)) (by omega) (by omega) (fun _ _ e => e))
    have this : Q (.inl (some (.int (-1)))) σ2 := this
    simp (config := {decide := true}) only [vRf_r, vRf_n, vI_i, vL_l, vD_d, pI_i, pR_r, pR_n, vZ_0, vZ_1, ct_i, ct_r, ct_n, ct_l, ct_d, csum_n, csum_c, kt_v, kt_n, kt_e, oc_n, oc_i, oc_r, oc_l, oc_u, oc_d, true_and, and_true, Bool.and_true, Bool.true_and, ne_eq, not_false_eq_true, not_true_eq_false, implies_true, false_imp, true_imp_iff, hsz_put, hsl_put, hln_put, hty_put, hsz_new, hsl_new, hln_new, hty_new, Nat.zero_add, Nat.add_zero, eq_self, decide_true, t32_0, t32_1, t32_2, t32_3, t32_4, t32_5, t32_6, hv_same, hv_kne, hv_tne, hv_ntne, hv_nsame, hv_ctne, hty_cpy, hln_cpy, hsz_cpy, hsl_cpy, vrn, vnr, vrr, A73_32, A73_34, A73_36, A73_62, A73_63, el]
    exact this
  | succ m ih =>
    intro t z2 A2 B2 σ2 htm hz W2 e1 e4 S t0 hQ
    have el : ((40 : Int32) < Int32.ofNat t) = False := by rw [show (40 : Int32) = Int32.ofNat 40 from rfl, n32_lt (by omega) (by omega)]; exact eq_false (by omega)
    have d1 := S.2.2.2.1.2.1
    have d2 := S.2.2.2.1.2.2.2.1
    have d3 := k1.2.1
    have d4 := k1.2.2.2.1
    have M1 := r1tb S.1
    rw [e1] at M1
    rw [A73_32]
    simp (config := {decide := true}) only [vRf_r, vRf_n, vI_i, vL_l, vD_d, pI_i, pR_r, pR_n, vZ_0, vZ_1, ct_i, ct_r, ct_n, ct_l, ct_d, csum_n, csum_c, kt_v, kt_n, kt_e, oc_n, oc_i, oc_r, oc_l, oc_u, oc_d, true_and, and_true, Bool.and_true, Bool.true_and, ne_eq, not_false_eq_true, not_true_eq_false, implies_true, false_imp, true_imp_iff, hsz_put, hsl_put, hln_put, hty_put, hsz_new, hsl_new, hln_new, hty_new, Nat.zero_add, Nat.add_zero, eq_self, decide_true, t32_0, t32_1, t32_2, t32_3, t32_4, t32_5, t32_6, hv_same, hv_kne, hv_tne, hv_ntne, hv_nsame, hv_ctne, hty_cpy, hln_cpy, hsz_cpy, hsl_cpy, vrn, vnr, vrr, A73_34, A73_36, A73_39, A73_40, A73_41, el, M1]
    have rn := c_run (Q := kt (aw g) 73 44 [some (.ref (A 0 0)), some (.int (Int32.ofNat gi)), some (.int sp), some (.ref (X 1 0)), some (.ref (X 4 k)), some (.int (Int32.ofNat t))] [] Q) (n := 1) S.1 W2 (by omega) (by omega) (by omega)
    rw [e1] at rn
    refine rn ?_
    intro B3 σ3 S3
    have S4 := SA_mono (c' := 7 + 13 * (t + 1 - 1)) (s' := 30 + 145 * (t + 1 - 1)) (SA_FB S (SA_St S3)) (by omega) (by omega) (fun _ e => e)
    have S4 : SA g (FB X X) X A2 X B3 σ1 σ3 (tickZ z2) (7 + 13 * (t + 1 - 1)) (30 + 145 * (t + 1 - 1)) := S4
    have kn : k < zn (tickZ z2) := by rw [(tickZ_n z2).1]; omega
    have G1 := r5tb S4.1 kn
    have G2 := r5gb S4.1 kn (j := 3) (by decide)
    rw [e4] at G1 G2
    have b4 := n32_inc t
    by_cases g4 : (tickZ z2).1 1 k 3 = 4
    · have ez : abF k z2 (m + 1) t = Int32.ofNat t := if_pos g4
      have := hQ σ3 (kp_mono (kp_then k1 S4.2.2.2.1 (fun a ha e => by have := FB_X hXI e; omega)) (by omega) (by omega) (fun _ _ e => e))
      rw [ez] at this
      simp (config := {decide := true}) only [vRf_r, vRf_n, vI_i, vL_l, vD_d, pI_i, pR_r, pR_n, vZ_0, vZ_1, ct_i, ct_r, ct_n, ct_l, ct_d, csum_n, csum_c, kt_v, kt_n, kt_e, oc_n, oc_i, oc_r, oc_l, oc_u, oc_d, true_and, and_true, Bool.and_true, Bool.true_and, ne_eq, not_false_eq_true, not_true_eq_false, implies_true, false_imp, true_imp_iff, hsz_put, hsl_put, hln_put, hty_put, hsz_new, hsl_new, hln_new, hty_new, Nat.zero_add, Nat.add_zero, eq_self, decide_true, t32_0, t32_1, t32_2, t32_3, t32_4, t32_5, t32_6, hv_same, hv_kne, hv_tne, hv_ntne, hv_nsame, hv_ctne, hty_cpy, hln_cpy, hsz_cpy, hsl_cpy, vrn, vnr, vrr, A73_44, A73_45, A73_47, A73_50, A73_53, A73_55, A197_0, A197_1, A197_4, A197_5, A197_8, A197_9, A197_12, A197_13, G1, G2, g4]
      exact this
    · have ez : abF k z2 (m + 1) t = abF k (tickZ z2) m (t + 1) := if_neg g4
      rw [ez] at hQ
      have := ih (t + 1) (tickZ z2) A2 B3 σ3 (by omega) ((tickZ_n z2).1.trans hz) (WI_tick W2) e1 e4 S4 (by omega) hQ
      simp (config := {decide := true}) only [vRf_r, vRf_n, vI_i, vL_l, vD_d, pI_i, pR_r, pR_n, vZ_0, vZ_1, ct_i, ct_r, ct_n, ct_l, ct_d, csum_n, csum_c, kt_v, kt_n, kt_e, oc_n, oc_i, oc_r, oc_l, oc_u, oc_d, true_and, and_true, Bool.and_true, Bool.true_and, ne_eq, not_false_eq_true, not_true_eq_false, implies_true, false_imp, true_imp_iff, hsz_put, hsl_put, hln_put, hty_put, hsz_new, hsl_new, hln_new, hty_new, Nat.zero_add, Nat.add_zero, eq_self, decide_true, t32_0, t32_1, t32_2, t32_3, t32_4, t32_5, t32_6, hv_same, hv_kne, hv_tne, hv_ntne, hv_nsame, hv_ctne, hty_cpy, hln_cpy, hsz_cpy, hsl_cpy, vrn, vnr, vrr, A73_44, A73_45, A73_47, A73_50, A73_53, A73_55, A73_56, A73_59, A197_0, A197_1, A197_4, A197_5, A197_8, A197_9, A197_12, A197_13, G1, G2, g4, b4]
      exact this
theorem c_awayBy {s : Int32} (h : RepH g A B σ z) (hk : k < zn z) (hW : WI z) (hWB : ∀ k, k < zn z → WB z k) (hg4 : ∀ k, k < zn z → z.2 4 k ≤ 400) (hc : hsz σ + 615 ≤ gC g) (hs : hsl σ + 9344 ≤ gS g) (hQ : ∀ σ', kp (fun _ => False) 615 9344 σ σ' → Q (.inl (some (.int (abZ z k s)))) σ') : aw g 73 0 [some (.ref (A 0 0)), some (.int (Int32.ofNat k)), some (.int s), none, none, none] [] σ Q := by
  have h0 := h.2.1
  have h1 := h.2.2
  have m1 := r1tb h.1
  have hn3 := hW.1.1
  simp (config := {decide := true}) only [vRf_r, vRf_n, vI_i, vL_l, vD_d, pI_i, pR_r, pR_n, vZ_0, vZ_1, ct_i, ct_r, ct_n, ct_l, ct_d, csum_n, csum_c, kt_v, kt_n, kt_e, oc_n, oc_i, oc_r, oc_l, oc_u, oc_d, true_and, and_true, Bool.and_true, Bool.true_and, ne_eq, not_false_eq_true, not_true_eq_false, implies_true, false_imp, true_imp_iff, hsz_put, hsl_put, hln_put, hty_put, hsz_new, hsl_new, hln_new, hty_new, Nat.zero_add, Nat.add_zero, eq_self, decide_true, t32_0, t32_1, t32_2, t32_3, t32_4, t32_5, t32_6, hv_same, hv_kne, hv_tne, hv_ntne, hv_nsame, hv_ctne, hty_cpy, hln_cpy, hsz_cpy, hsl_cpy, vrn, vnr, vrr, A73_0, A73_1, A73_4, h0, h1, m1]
  refine c_machCopy h.1 hW hWB hg4 (by omega) (by omega) ?_
  intro X σ1 hX k1 hXI
  have hXB := RepB_X hX
  have d1 := k1.2.1
  have d2 := k1.2.2.2.1
  have mX := r1tb hXB
  have mX0 := r10_b hXB
  have L1 := rLgb hXB
  have e1 := fun Q' => l_get (Q := Q') L1 hk
  have tL1 := L1.1
  have G1 := r5tb hXB hk
  have e7 : (∃ t, t ∈ [5] ∧ some 5 = some t) = True := eq_true ⟨5, by decide, rfl⟩
  simp (config := {decide := true}) only [vRf_r, vRf_n, vI_i, vL_l, vD_d, pI_i, pR_r, pR_n, vZ_0, vZ_1, ct_i, ct_r, ct_n, ct_l, ct_d, csum_n, csum_c, kt_v, kt_n, kt_e, oc_n, oc_i, oc_r, oc_l, oc_u, oc_d, true_and, and_true, Bool.and_true, Bool.true_and, ne_eq, not_false_eq_true, not_true_eq_false, implies_true, false_imp, true_imp_iff, hsz_put, hsl_put, hln_put, hty_put, hsz_new, hsl_new, hln_new, hty_new, Nat.zero_add, Nat.add_zero, eq_self, decide_true, t32_0, t32_1, t32_2, t32_3, t32_4, t32_5, t32_6, hv_same, hv_kne, hv_tne, hv_ntne, hv_nsame, hv_ctne, hty_cpy, hln_cpy, hsz_cpy, hsl_cpy, vrn, vnr, vrr, A73_7, A73_8, A73_9, A73_12, A73_13, A73_16, A73_16r, A73_19, A73_21, A73_22, A73_24, A73_25, mX, mX0, e1, tL1, G1, e7]
  refine c_startMove hXB hk hW (by omega) (by omega) ?_
  intro A2 σ2 e4 S2
  have e11 : A2 1 = X 1 := S2.2.2.2.2 1 (by decide)
  have n2 : zn (smZ z k s) = zn z := by unfold zn; rw [smZ_2]
  have := ab_loop (Q := Q) (A := A) (gi := k) (sp := s) hXI k1 hk hc hs 40 1 (smZ z k s) A2 X σ2 rfl n2 (WI_sm hW k s) e11 e4 S2 (by omega) hQ
  rw [show Int32.ofNat 1 = 1 from rfl] at this
  simp (config := {decide := true}) only [vRf_r, vRf_n, vI_i, vL_l, vD_d, pI_i, pR_r, pR_n, vZ_0, vZ_1, ct_i, ct_r, ct_n, ct_l, ct_d, csum_n, csum_c, kt_v, kt_n, kt_e, oc_n, oc_i, oc_r, oc_l, oc_u, oc_d, true_and, and_true, Bool.and_true, Bool.true_and, ne_eq, not_false_eq_true, not_true_eq_false, implies_true, false_imp, true_imp_iff, hsz_put, hsl_put, hln_put, hty_put, hsz_new, hsl_new, hln_new, hty_new, Nat.zero_add, Nat.add_zero, eq_self, decide_true, t32_0, t32_1, t32_2, t32_3, t32_4, t32_5, t32_6, hv_same, hv_kne, hv_tne, hv_ntne, hv_nsame, hv_ctne, hty_cpy, hln_cpy, hsz_cpy, hsl_cpy, vrn, vnr, vrr, A73_28, A73_29, A73_30]
  exact this
end WOULD
