/-! more of the library: what the statics hold; new lists, copies, Integers -/
/-- the statics' cells -/
def Bas (g : GC) (σ : AH) : Prop := gB g ≤ hsz σ ∧ (∀ k, k < 5 → gV g k < gB g) ∧ (hty σ (gV g 0) = some 24 ∧ hln σ (gV g 0) = 0) ∧ (hty σ (gV g 1) = some 24 ∧ hln σ (gV g 1) = 0) ∧ (hty σ (gV g 2) = some 26 ∧ hln σ (gV g 2) = 256) ∧ ∀ i, i < 256 → ∃ c, hv σ 26 (gV g 2) i = .ref c ∧ c < gB g ∧ hty σ c = some 12 ∧ hv σ 12 c 0 = .int (Int32.ofInt (i - 128))
section LIST2
variable {g : GC} {σ : AH} {Q : AQ} {a b n : Nat} {f : Nat → Value}
theorem Bas_kp {W : Nat → Prop} {c s : Nat} {σ' : AH} (h : Bas g σ) (k : kp W c s σ σ') (hW : ∀ a, W a → gB g ≤ a) : Bas g σ' := by
  obtain ⟨h1, h2, ⟨h3, h4⟩, ⟨h5, h6⟩, ⟨h7, h8⟩, h9⟩ := h
  have hk := k.2.2.2.2
  refine ⟨Nat.le_trans h1 k.1, h2, ⟨kp_ty k h3, ?_⟩, ⟨kp_ty k h5, ?_⟩, ⟨kp_ty k h7, ?_⟩, fun i hi => ?_⟩
  · rw [(hk _ (hty_lt h3)).2.1]; exact h4
  · rw [(hk _ (hty_lt h5)).2.1]; exact h6
  · rw [(hk _ (hty_lt h7)).2.1]; exact h8
  · obtain ⟨c, c1, c2, c3, c4⟩ := h9 i hi
    have h20 := h2 2 (by decide)
    refine ⟨c, ?_, c2, kp_ty k c3, ?_⟩
    · rw [(hk _ (hty_lt h7)).2.2 (fun q => Nat.not_le_of_lt h20 (hW _ q))]; exact c1
    · rw [(hk _ (hty_lt c3)).2.2 (fun q => Nat.not_le_of_lt c2 (hW _ q))]; exact c4
/-- a list made anew -/
def nlH (g : GC) (σ : AH) (a : Nat) : AH := hput (hput σ 10 a 0 (.int 0)) 10 a 1 (.ref (gV g 0))
theorem l_init (h1 : hty σ a = some 10) (h2 : gB g ≤ a) : aw g 14 0 [some (.ref a)] [] σ Q = Q (.inl none) (nlH g σ a) := by
  simp (config := {decide := true}) only [vRf_r, vRf_n, vI_i, vL_l, vD_d, pI_i, pR_r, pR_n, vZ_0, vZ_1, ct_i, ct_r, ct_n, ct_l, ct_d, csum_n, csum_c, kt_v, kt_n, kt_e, oc_n, oc_i, oc_r, oc_l, oc_u, oc_d, true_and, and_true, Bool.and_true, Bool.true_and, ne_eq, not_false_eq_true, not_true_eq_false, implies_true, false_imp, true_imp_iff, hsz_put, hsl_put, hln_put, hty_put, hsz_new, hsl_new, hln_new, hty_new, Nat.zero_add, Nat.add_zero, eq_self, decide_true, t32_0, t32_1, t32_2, t32_3, t32_4, t32_5, t32_6, hv_same, hv_kne, hv_tne, hv_ntne, hv_nsame, hv_ctne, hty_cpy, hln_cpy, hsz_cpy, hsl_cpy, vrn, vnr, vrr, A14_0, A14_1, A14_4, A14_5, A14_8, A14_11, A1_0, A1_1, A1_4, A1_5, A1_6, A1_9, A0_0, A0_1, A0_4, h1, h2, nlH]
theorem nlH_kp {W : Nat → Prop} (h : W a) : kp W 0 0 σ (nlH g σ a) := kp_trans (kp_put (W := W) (fun _ => h)) (kp_put (W := W) (fun _ => h))
theorem nlH_isL (hB : Bas g σ) (h1 : hty σ a = some 10) (h2 : gB g ≤ a) (h3 : hv σ 10 a 2 = .int 0) {b : Nat} (hb : gC g ≤ b) (f : Nat → Value) : isL g (nlH g σ a) a b 0 f := by
  obtain ⟨_, _, ⟨x3, x4⟩, _⟩ := hB
  exact ⟨h1, h2, by unfold nlH; rw [hv_kne _ (by decide), hv_kne _ (by decide)]; exact h3, ⟨0, by unfold nlH; rw [hv_kne _ (by decide), hv_same]⟩, fun i hi => by omega, gV g 0, by unfold nlH; rw [hv_same], x3, Nat.zero_le _, by show hln σ (gV g 0) ≤ 60000; omega, fun i hi => by omega, Or.inr ⟨x4, Or.inl rfl, Or.inl hb⟩⟩
theorem l_intValue {c : Nat} (h : hty σ c = some 12) {x : Int32} (hx : hv σ 12 c 0 = .int x) : aw g 8 0 [some (.ref c)] [] σ Q = Q (.inl (some (.int x))) σ := by
  simp (config := {decide := true}) only [vRf_r, vRf_n, vI_i, vL_l, vD_d, pI_i, pR_r, pR_n, vZ_0, vZ_1, ct_i, ct_r, ct_n, ct_l, ct_d, csum_n, csum_c, kt_v, kt_n, kt_e, oc_n, oc_i, oc_r, oc_l, oc_u, oc_d, true_and, and_true, Bool.and_true, Bool.true_and, ne_eq, not_false_eq_true, not_true_eq_false, implies_true, false_imp, true_imp_iff, hsz_put, hsl_put, hln_put, hty_put, hsz_new, hsl_new, hln_new, hty_new, Nat.zero_add, Nat.add_zero, eq_self, decide_true, t32_0, t32_1, t32_2, t32_3, t32_4, t32_5, t32_6, hv_same, hv_kne, hv_tne, hv_ntne, hv_nsame, hv_ctne, hty_cpy, hln_cpy, hsz_cpy, hsl_cpy, vrn, vnr, vrr, A8_0, A8_1, A8_4, h, hx]
theorem l_valueOf (hB : Bas g σ) (hc : hsz σ + 1 ≤ gC g) (hs : hsl σ + 1 ≤ gS g) {x : Int32}
    (hQ : ∀ σ' c, hty σ' c = some 12 → hv σ' 12 c 0 = .int x → kp (fun _ => False) 1 1 σ σ' → (c < gB g ∨ hsz σ ≤ c) → Q (.inl (some (.ref c))) σ') : aw g 9 0 [some (.int x)] [] σ Q := by
  obtain ⟨h1, h2, ⟨h3, h4⟩, ⟨h5, h6⟩, ⟨h7, h8⟩, h9⟩ := hB
  have hnew9 : Q (.inl (some (.ref (hsz σ)))) (hput (hnew σ 12 0 (fun k => defaultValue (tyJ18 k)) 1) 12 (hsz σ) 0 (.int x)) := by
    refine hQ _ (hsz σ) (by rw [hty_put, hty_new, if_pos rfl]) (hv_same _ _ _ _ _) (kp_mono (kp_then (kp_new (W := fun _ => False)) (kp_put (W := fun z => z = hsz σ) (fun _ => rfl)) (fun z hz e => by omega)) (by omega) (by omega) (fun _ _ e => e)) (Or.inr (Nat.le_refl _))
  by_cases q : x < -128
  · simp (config := {decide := true}) only [vRf_r, vRf_n, vI_i, vL_l, vD_d, pI_i, pR_r, pR_n, vZ_0, vZ_1, ct_i, ct_r, ct_n, ct_l, ct_d, csum_n, csum_c, kt_v, kt_n, kt_e, oc_n, oc_i, oc_r, oc_l, oc_u, oc_d, true_and, and_true, Bool.and_true, Bool.true_and, ne_eq, not_false_eq_true, not_true_eq_false, implies_true, false_imp, true_imp_iff, hsz_put, hsl_put, hln_put, hty_put, hsz_new, hsl_new, hln_new, hty_new, Nat.zero_add, Nat.add_zero, eq_self, decide_true, t32_0, t32_1, t32_2, t32_3, t32_4, t32_5, t32_6, hv_same, hv_kne, hv_tne, hv_ntne, hv_nsame, hv_ctne, hty_cpy, hln_cpy, hsz_cpy, hsl_cpy, vrn, vnr, vrr, A9_0, A9_1, A9_3, A9_6, A9_7, A9_10, A9_13, A9_16, A9_17, A9_20, A9_21, A9_22, A9_23, A9_26, A9_27, A9_28, A9_31, A10_0, A10_1, A10_4, A10_5, A10_6, A10_9, A6_0, A6_1, A6_4, q, hc, hs, h1, if_true]
    exact hnew9
  · by_cases q2 : 127 < x
    · simp (config := {decide := true}) only [vRf_r, vRf_n, vI_i, vL_l, vD_d, pI_i, pR_r, pR_n, vZ_0, vZ_1, ct_i, ct_r, ct_n, ct_l, ct_d, csum_n, csum_c, kt_v, kt_n, kt_e, oc_n, oc_i, oc_r, oc_l, oc_u, oc_d, true_and, and_true, Bool.and_true, Bool.true_and, ne_eq, not_false_eq_true, not_true_eq_false, implies_true, false_imp, true_imp_iff, hsz_put, hsl_put, hln_put, hty_put, hsz_new, hsl_new, hln_new, hty_new, Nat.zero_add, Nat.add_zero, eq_self, decide_true, t32_0, t32_1, t32_2, t32_3, t32_4, t32_5, t32_6, hv_same, hv_kne, hv_tne, hv_ntne, hv_nsame, hv_ctne, hty_cpy, hln_cpy, hsz_cpy, hsl_cpy, vrn, vnr, vrr, A9_0, A9_1, A9_3, A9_6, A9_7, A9_10, A9_13, A9_16, A9_17, A9_20, A9_21, A9_22, A9_23, A9_26, A9_27, A9_28, A9_31, A10_0, A10_1, A10_4, A10_5, A10_6, A10_9, A6_0, A6_1, A6_4, q, q2, hc, hs, h1, if_true]
      exact hnew9
    · have e0 : ∃ i : Nat, i < 256 ∧ x + 128 = Int32.ofNat i ∧ Int32.ofInt ((i : Int) - 128) = x := by
        rw [Int32.lt_iff_toInt_lt] at q q2
        have q' : -128 ≤ x.toInt := by
          have : (-128 : Int32).toInt = -128 := rfl
          omega
        have q2' : x.toInt ≤ 127 := by
          have : (127 : Int32).toInt = 127 := rfl
          omega
        refine ⟨(x.toInt + 128).toNat, by omega, ?_, ?_⟩
        · apply Int32.toInt_inj.mp
          rw [Int32.toInt_ofNat_of_lt (by omega), Int32.toInt_add, Int.bmod_def]
          have : (128 : Int32).toInt = 128 := rfl
          rw [this]
          split <;> omega
        · have e : (((x.toInt + 128).toNat : Int) - 128) = x.toInt := by omega
          rw [e]
          exact Int32.ofInt_toInt x
      obtain ⟨i, i1, i2, i3⟩ := e0
      obtain ⟨c, c1, c2, c3, c4⟩ := h9 i i1
      rw [i3] at c4
      have e2 : (Int32.ofNat i < 0) = False := n32_neg (by omega)
      have e3 : (Int32.ofNat i).toNatClampNeg = i := n32_nat (by omega)
      have e4 : (i < 256) = True := eq_true i1
      simp (config := {decide := true}) only [vRf_r, vRf_n, vI_i, vL_l, vD_d, pI_i, pR_r, pR_n, vZ_0, vZ_1, ct_i, ct_r, ct_n, ct_l, ct_d, csum_n, csum_c, kt_v, kt_n, kt_e, oc_n, oc_i, oc_r, oc_l, oc_u, oc_d, true_and, and_true, Bool.and_true, Bool.true_and, ne_eq, not_false_eq_true, not_true_eq_false, implies_true, false_imp, true_imp_iff, hsz_put, hsl_put, hln_put, hty_put, hsz_new, hsl_new, hln_new, hty_new, Nat.zero_add, Nat.add_zero, eq_self, decide_true, t32_0, t32_1, t32_2, t32_3, t32_4, t32_5, t32_6, hv_same, hv_kne, hv_tne, hv_ntne, hv_nsame, hv_ctne, hty_cpy, hln_cpy, hsz_cpy, hsl_cpy, vrn, vnr, vrr, A9_0, A9_1, A9_3, A9_6, A9_7, A9_10, A9_13, A9_16, A9_17, A9_20, A9_21, A9_22, A9_23, A9_26, A9_27, A9_28, A9_31, A10_0, A10_1, A10_4, A10_5, A10_6, A10_9, A6_0, A6_1, A6_4, q, q2, i2, e2, e3, e4, h7, h8, c1]
      exact hQ _ c c3 c4 (kp_mono (kp_refl _ σ) (by omega) (by omega) (fun _ _ e => e)) (Or.inl c2)
/-- the last of a list goes -/
theorem l_remove (h : isL g σ a b n f) (hn : 0 < n) (hQ : ∀ σ', isL g σ' a b (n - 1) f → kp (fun x => x = a ∨ x = b) 0 0 σ σ' → Q (.inl (some (f (n - 1)))) σ') : aw g 16 0 [some (.ref a), some (.int (Int32.ofNat (n - 1))), none, none] [] σ Q := by
  obtain ⟨h1, h2, h3, ⟨m, h4⟩, h5, d, h6, h7, h8, h9, h10, h11⟩ := h
  have e1 : (Int32.ofNat (n - 1) < 0) = False := n32_neg (by omega)
  have e2 : (Int32.ofNat (n - 1) < Int32.ofNat n) = True := by rw [n32_lt (by omega) (by omega)]; exact eq_true (by omega)
  have e3 : (Int32.ofNat (n - 1)).toNatClampNeg = n - 1 := n32_nat (by omega)
  have e4 : (n - 1 < hln σ d) = True := eq_true (by omega)
  have e5 : Int32.ofNat n - 1 = Int32.ofNat (n - 1) := n32_sub (j := 1) (by omega)
  have e6 : (Int32.ofNat (n - 1) < Int32.ofNat (n - 1)) = False := by rw [n32_lt (by omega) (by omega)]; exact eq_false (by omega)
  have e7 : (Int32.ofNat (n - 1) ≤ Int32.ofNat (n - 1)) = True := by rw [n32_le (by omega) (by omega)]; exact eq_true (by omega)
  have e8 := h5 (n - 1) (by omega)
  have e9 := h10 (n - 1) (by omega)
  rcases h11 with ⟨q1, q2, q3⟩ | ⟨q1, q2⟩
  · subst q1
    have k1 : vOb (hput (hput σ 10 a 0 (.int (m + 1))) 10 a 2 (.int (Int32.ofNat (n - 1)))) .null = True := eq_true trivial
    simp (config := {decide := true}) only [vRf_r, vRf_n, vI_i, vL_l, vD_d, pI_i, pR_r, pR_n, vZ_0, vZ_1, ct_i, ct_r, ct_n, ct_l, ct_d, csum_n, csum_c, kt_v, kt_n, kt_e, oc_n, oc_i, oc_r, oc_l, oc_u, oc_d, true_and, and_true, Bool.and_true, Bool.true_and, ne_eq, not_false_eq_true, not_true_eq_false, implies_true, false_imp, true_imp_iff, hsz_put, hsl_put, hln_put, hty_put, hsz_new, hsl_new, hln_new, hty_new, Nat.zero_add, Nat.add_zero, eq_self, decide_true, t32_0, t32_1, t32_2, t32_3, t32_4, t32_5, t32_6, hv_same, hv_kne, hv_tne, hv_ntne, hv_nsame, hv_ctne, hty_cpy, hln_cpy, hsz_cpy, hsl_cpy, vrn, vnr, vrr, A16_0, A16_1, A16_2, A16_5, A16_8, A16_9, A16_10, A16_13, A16_14, A16_15, A16_16, A16_17, A16_18, A16_19, A16_20, A16_21, A16_24, A16_25, A17_0, A17_1, A17_2, A17_5, A17_6, A17_7, A17_10, A17_11, A17_14, A17_15, A17_16, A17_17, A17_18, A17_19, A17_22, A17_23, A17_24, A17_25, A17_26, A17_27, A17_28, A17_29, A17_30, A17_31, A17_34, A17_35, A17_36, A17_37, A17_38, A17_41, A17_42, A17_43, A30_0, A30_1, A30_2, A30_3, A30_6, A31_0, A31_1, A31_4, A31_5, A31_6, A31_9, A31_10, A31_11, A31_16, A31_17, h1, h2, h3, h4, h6, h7, q2, e1, e2, e3, e4, e5, e6, e7, vOb_o e8, vOb_r e8, vOb_c e8, vOb_p e8, e9, k1]
    refine hQ (hput (hput (hput σ 10 a 0 (.int (m + 1))) 10 a 2 (.int (Int32.ofNat (n - 1)))) 24 d (n - 1) .null) ⟨h1, h2, by rw [hv_tne _ (by decide), hv_same], ⟨m + 1, by rw [hv_tne _ (by decide), hv_kne _ (by decide), hv_same]⟩, fun i hi => h5 i (by omega), d, by rw [hv_tne _ (by decide), hv_kne _ (by decide), hv_kne _ (by decide)]; exact h6, h7, by show n - 1 ≤ hln σ d; omega, h9, fun i hi => by rw [hv_kne _ (by omega), hv_tne _ (by decide), hv_tne _ (by decide)]; exact h10 i (by omega), Or.inl ⟨rfl, q2, q3⟩⟩ (kp_trans (kp_trans (kp_put (W := fun x => x = a ∨ x = d) (fun _ => Or.inl rfl)) (kp_put (W := fun x => x = a ∨ x = d) (fun _ => Or.inl rfl))) (kp_put (W := fun x => x = a ∨ x = d) (fun _ => Or.inr rfl)))
  · omega
theorem l_toArray (h : isL g σ a b n f) (hB : gB g ≤ hsz σ) : ∃ d, hv σ 10 a 1 = .ref d ∧ d < hsz σ ∧ n ≤ hln σ d ∧ (∀ i, i < n → hv σ 24 d i = f i) ∧ ∀ Q', aw g 28 0 [some (.ref a)] [] σ Q' = ((hsz σ + 1 ≤ gC g ∧ hsl σ + n ≤ gS g) ∧ Q' (.inl (some (.ref (hsz σ)))) (cpH σ d n)) := by
  obtain ⟨h1, h2, h3, ⟨m, h4⟩, h5, d, h6, h7, h8, h9, h10, h11⟩ := h
  refine ⟨d, h6, hty_lt h7, h8, h10, fun Q' => ?_⟩
  have e5 : ∀ Q', aw g 36 0 [some (.ref d), some (.int (Int32.ofNat n))] [] σ Q' = ((hsz σ + 1 ≤ gC g ∧ hsl σ + n ≤ gS g) ∧ Q' (.inl (some (.ref (hsz σ)))) (cpH σ d n)) := fun Q' => l_copyOf h7 (by omega) h9 hB (fun i hi => by rw [h10 i (by omega)]; exact h5 i (by omega))
  simp (config := {decide := true}) only [vRf_r, vRf_n, vI_i, vL_l, vD_d, pI_i, pR_r, pR_n, vZ_0, vZ_1, ct_i, ct_r, ct_n, ct_l, ct_d, csum_n, csum_c, kt_v, kt_n, kt_e, oc_n, oc_i, oc_r, oc_l, oc_u, oc_d, true_and, and_true, Bool.and_true, Bool.true_and, ne_eq, not_false_eq_true, not_true_eq_false, implies_true, false_imp, true_imp_iff, hsz_put, hsl_put, hln_put, hty_put, hsz_new, hsl_new, hln_new, hty_new, Nat.zero_add, Nat.add_zero, eq_self, decide_true, t32_0, t32_1, t32_2, t32_3, t32_4, t32_5, t32_6, hv_same, hv_kne, hv_tne, hv_ntne, hv_nsame, hv_ctne, hty_cpy, hln_cpy, hsz_cpy, hsl_cpy, vrn, vnr, vrr, A28_0, A28_1, A28_4, A28_5, A28_8, A28_11, h1, h3, h6, e5]
/-- a new list with what another one holds -/
theorem l_initC (hB : Bas g σ) (h : isL g σ a b n f) {a2 : Nat} (h1 : hty σ a2 = some 10) (h2 : gB g ≤ a2) (hne : a ≠ a2) (hnb : b ≠ a2) (hc : hsz σ + 1 ≤ gC g) (hs : hsl σ + n ≤ gS g)
    (hQ : ∀ σ' b2, isL g σ' a2 b2 n f → kp (fun x => x = a2) 1 n σ σ' → b2 = hsz σ → hsz σ' = hsz σ + 1 → Q (.inl none) σ') : aw g 29 0 [some (.ref a2), some (.ref a), none] [] σ Q := by
  have hgB := hB.1
  obtain ⟨hS1, hS2⟩ := (hB.2.2.2.1)
  have hty1 := h.1
  have hlt := hty_lt hty1
  have hlt2 := hty_lt h1
  have hob := h.2.2.2.2.1
  have hb60 : n ≤ 60000 := by
    obtain ⟨_, _, _, _, _, d, _, _, h8, h9, _⟩ := h
    omega
  have h' : isL g (hput σ 10 a2 0 (.int 0)) a b n f := isL_kp h (kp_put (W := fun x => x = a2) (fun _ => rfl)) hne hnb
  obtain ⟨d, t1, t2, t3, t4, t5⟩ := l_toArray (σ := hput σ 10 a2 0 (.int 0)) h' hgB
  rw [hsz_put] at t2
  have u1 : hty (cpH (hput σ 10 a2 0 (.int 0)) d n) a2 = some 10 := kp_ty (cpH_kp (fun _ => False) d n) h1
  have u2 : hty (cpH (hput σ 10 a2 0 (.int 0)) d n) a = some 10 := kp_ty (cpH_kp (fun _ => False) d n) hty1
  have u3 : hty (cpH (hput σ 10 a2 0 (.int 0)) d n) (hsz σ) = some 24 := cpH_ty (σ := hput σ 10 a2 0 (.int 0)) d n
  have u4 : hln (cpH (hput σ 10 a2 0 (.int 0)) d n) (hsz σ) = n := cpH_ln (σ := hput σ 10 a2 0 (.int 0)) d n
  have u5 : kp (fun x => x = a2) 1 n σ (cpH (hput σ 10 a2 0 (.int 0)) d n) := kp_mono (kp_trans (kp_put (W := fun x => x = a2) (fun _ => rfl)) (cpH_kp (fun x => x = a2) d n)) (by omega) (by omega) (fun _ _ e => e)
  have u6 : ∀ i, i < n → hv (cpH (hput σ 10 a2 0 (.int 0)) d n) 24 (hsz σ) i = f i := fun i hi => by
    have := cpH_v (σ := hput σ 10 a2 0 (.int 0)) (d := d) (m := n) (i := i) (by show i < min (hln σ d) n; have : n ≤ hln σ d := t3; omega) t2
    rw [hsz_put] at this
    rw [this]
    exact t4 i hi
  have u7 : hv (cpH (hput σ 10 a2 0 (.int 0)) d n) 10 a2 0 = .int 0 := by
    rw [((cpH_kp (σ := hput σ 10 a2 0 (.int 0)) (fun _ => False) d n).2.2.2.2 a2 hlt2).2.2 (fun e => e), hv_same]
  have u8 : ∀ i, i < n → vOb (cpH (hput σ 10 a2 0 (.int 0)) d n) (f i) := fun i hi => kp_vOb u5 (hob i hi)
  have u9 : hsz (cpH (hput σ 10 a2 0 (.int 0)) d n) = hsz σ + 1 := rfl
  have w1 : hty (cpH (hput σ 10 a2 0 (.int 0)) d n) (gV g 1) = some 24 := kp_ty u5 hS1
  have w2 : hln (cpH (hput σ 10 a2 0 (.int 0)) d n) (gV g 1) = 0 := by rw [(u5.2.2.2.2 _ (hty_lt hS1)).2.1]; exact hS2
  have e1 : (Int32.ofNat n = 0) = (n = 0) := by rw [← z32_0]; exact n32_eq (by omega) (by omega)
  by_cases hn : n = 0
  · have e2 : (Int32.ofNat n = 0) = True := e1.trans (eq_true hn)
    simp (config := {decide := true}) only [vRf_r, vRf_n, vI_i, vL_l, vD_d, pI_i, pR_r, pR_n, vZ_0, vZ_1, ct_i, ct_r, ct_n, ct_l, ct_d, csum_n, csum_c, kt_v, kt_n, kt_e, oc_n, oc_i, oc_r, oc_l, oc_u, oc_d, true_and, and_true, Bool.and_true, Bool.true_and, ne_eq, not_false_eq_true, not_true_eq_false, implies_true, false_imp, true_imp_iff, hsz_put, hsl_put, hln_put, hty_put, hsz_new, hsl_new, hln_new, hty_new, Nat.zero_add, Nat.add_zero, eq_self, decide_true, t32_0, t32_1, t32_2, t32_3, t32_4, t32_5, t32_6, hv_same, hv_kne, hv_tne, hv_ntne, hv_nsame, hv_ctne, hty_cpy, hln_cpy, hsz_cpy, hsl_cpy, vrn, vnr, vrr, A29_0, A29_1, A29_4, A29_5, A29_10, A29_11, A29_12, A29_13, A29_14, A29_15, A29_18, A29_21, A29_22, A29_27, A29_29, A29_32, A29_33, A29_34, A29_37, A29_40, A29_41, A29_42, A29_43, A29_46, A29_48, A29_51, A29_54, A29_57, A29_58, A29_61, A29_64, A1_0, A1_1, A1_4, A1_5, A1_6, A1_9, A0_0, A0_1, A0_4, h1, h2, hty1, t5, hc, hs, u1, u2, u3, u4, e2]
    generalize cpH (hput σ 10 a2 0 (.int 0)) d n = σ1 at *
    refine hQ (hput (hput σ1 10 a2 2 (.int (Int32.ofNat n))) 10 a2 1 (.ref (gV g 1))) (hsz σ) ⟨u1, h2, by rw [hv_kne _ (by decide), hv_same], ⟨0, by rw [hv_kne _ (by decide), hv_kne _ (by decide)]; exact u7⟩, u8, gV g 1, hv_same _ _ _ _ _, w1, by omega, by show hln σ1 (gV g 1) ≤ 60000; omega, fun i hi => by omega, Or.inr ⟨w2, Or.inr rfl, Or.inr u3⟩⟩ (kp_mono (kp_trans u5 (kp_trans (kp_put (W := fun x => x = a2) (fun _ => rfl)) (kp_put (W := fun x => x = a2) (fun _ => rfl)))) (by omega) (by omega) (fun _ _ e => e)) rfl u9
  · have e2 : (Int32.ofNat n = 0) = False := e1.trans (eq_false hn)
    simp (config := {decide := true}) only [vRf_r, vRf_n, vI_i, vL_l, vD_d, pI_i, pR_r, pR_n, vZ_0, vZ_1, ct_i, ct_r, ct_n, ct_l, ct_d, csum_n, csum_c, kt_v, kt_n, kt_e, oc_n, oc_i, oc_r, oc_l, oc_u, oc_d, true_and, and_true, Bool.and_true, Bool.true_and, ne_eq, not_false_eq_true, not_true_eq_false, implies_true, false_imp, true_imp_iff, hsz_put, hsl_put, hln_put, hty_put, hsz_new, hsl_new, hln_new, hty_new, Nat.zero_add, Nat.add_zero, eq_self, decide_true, t32_0, t32_1, t32_2, t32_3, t32_4, t32_5, t32_6, hv_same, hv_kne, hv_tne, hv_ntne, hv_nsame, hv_ctne, hty_cpy, hln_cpy, hsz_cpy, hsl_cpy, vrn, vnr, vrr, A29_0, A29_1, A29_4, A29_5, A29_10, A29_11, A29_12, A29_13, A29_14, A29_15, A29_18, A29_21, A29_22, A29_27, A29_29, A29_32, A29_33, A29_34, A29_37, A29_40, A29_41, A29_42, A29_43, A29_46, A29_48, A29_51, A29_54, A29_57, A29_58, A29_61, A29_64, A1_0, A1_1, A1_4, A1_5, A1_6, A1_9, A0_0, A0_1, A0_4, h1, h2, hty1, t5, hc, hs, u1, u2, u3, u4, e2]
    generalize cpH (hput σ 10 a2 0 (.int 0)) d n = σ1 at *
    refine hQ (hput (hput σ1 10 a2 2 (.int (Int32.ofNat n))) 10 a2 1 (.ref (hsz σ))) (hsz σ) ⟨u1, h2, by rw [hv_kne _ (by decide), hv_same], ⟨0, by rw [hv_kne _ (by decide), hv_kne _ (by decide)]; exact u7⟩, u8, hsz σ, hv_same _ _ _ _ _, u3, by show n ≤ hln σ1 (hsz σ); omega, by show hln σ1 (hsz σ) ≤ 60000; omega, fun i hi => by rw [hv_tne _ (by decide), hv_tne _ (by decide)]; exact u6 i hi, Or.inl ⟨rfl, hgB, by show 0 < hln σ1 (hsz σ); omega⟩⟩ (kp_mono (kp_trans u5 (kp_trans (kp_put (W := fun x => x = a2) (fun _ => rfl)) (kp_put (W := fun x => x = a2) (fun _ => rfl)))) (by omega) (by omega) (fun _ _ e => e)) rfl u9
theorem l_grow0 (hB : Bas g σ) (h1 : hty σ a = some 10) (h2 : gB g ≤ a) (h3 : hv σ 10 a 1 = .ref (gV g 0)) {m : Nat} (hm : m ≤ 60000) : aw g 21 0 [some (.ref a), some (.int (Int32.ofNat m)), none, none] [] σ Q = ((hsz σ + 1 ≤ gC g ∧ hsl σ + max 10 m ≤ gS g) ∧ Q (.inl (some (.ref (hsz σ)))) (hput (hnew σ 24 (max 10 m) (fun _ => .null) (max 10 m)) 10 a 1 (.ref (hsz σ)))) := by
  obtain ⟨hS1, hS2⟩ := hB.2.2.1
  have hlt := hty_lt h1
  have e1 : (if (10 : Int32) < Int32.ofNat m then Int32.ofNat m else 10) = Int32.ofNat (max 10 m) := by
    have e0 := n32_lt (i := 10) (n := m) (by omega) (by omega)
    by_cases h : 10 < m
    · rw [if_pos (by rw [show (10 : Int32) = Int32.ofNat 10 from rfl, e0]; exact h), Nat.max_eq_right (by omega)]
    · rw [if_neg (by rw [show (10 : Int32) = Int32.ofNat 10 from rfl, e0]; exact h), Nat.max_eq_left (by omega)]; rfl
  have e2 : (Int32.ofNat (max 10 m) < 0) = False := n32_neg (by omega)
  have e3 : (Int32.ofNat (max 10 m)).toNatClampNeg = max 10 m := n32_nat (by omega)
  have e4 : (max 10 m ≤ 65536) = True := eq_true (by omega)
  have e5 : (a = hsz σ) = False := eq_false (by omega)
  simp (config := {decide := true}) only [vRf_r, vRf_n, vI_i, vL_l, vD_d, pI_i, pR_r, pR_n, vZ_0, vZ_1, ct_i, ct_r, ct_n, ct_l, ct_d, csum_n, csum_c, kt_v, kt_n, kt_e, oc_n, oc_i, oc_r, oc_l, oc_u, oc_d, true_and, and_true, Bool.and_true, Bool.true_and, ne_eq, not_false_eq_true, not_true_eq_false, implies_true, false_imp, true_imp_iff, hsz_put, hsl_put, hln_put, hty_put, hsz_new, hsl_new, hln_new, hty_new, Nat.zero_add, Nat.add_zero, eq_self, decide_true, t32_0, t32_1, t32_2, t32_3, t32_4, t32_5, t32_6, hv_same, hv_kne, hv_tne, hv_ntne, hv_nsame, hv_ctne, hty_cpy, hln_cpy, hsz_cpy, hsl_cpy, vrn, vnr, vrr, A21_0, A21_1, A21_4, A21_5, A21_6, A21_7, A21_10, A21_11, A21_14, A21_17, A21_20, A21_21, A21_22, A21_23, A21_24, A21_25, A21_26, A21_27, A21_30, A21_31, A21_32, A21_33, A21_36, A21_37, A21_40, A21_41, A21_44, A21_45, A21_46, A21_48, A21_49, A21_52, A21_55, A21_56, A21_59, h1, h2, h3, hS1, hS2, l_max, e1, e2, e3, e4, e5, z32_0, if_false, and_assoc]
/-- a list without an array of its own takes what another one holds -/
theorem l_addAll (hB : Bas g σ) (h : isL g σ a b n f) {a2 b2 : Nat} {f2 : Nat → Value} (h2 : isL g σ a2 b2 0 f2) (h3 : hv σ 10 a2 1 = .ref (gV g 0)) (hne : a ≠ a2) (hnb : b ≠ a2) (hc : hsz σ + 2 ≤ gC g) (hs : hsl σ + (2 * n + 10) ≤ gS g)
    (hQ : ∀ σ' b2' v, isL g σ' a2 b2' n f → kp (fun x => x = a2) 2 (2 * n + 10) σ σ' → (hsz σ ≤ b2' ∧ b2' < hsz σ') → (v = 0 ∨ v = 1) → (0 < n → hsz σ' = hsz σ + 2) → Q (.inl (some (.int v))) σ') : aw g 27 0 [some (.ref a2), some (.ref a), none, none, none, none] [] σ Q := by
  have hgB := hB.1
  have hty1 := h.1
  have hlt := hty_lt hty1
  have hob := h.2.2.2.2.1
  have hb60 : n ≤ 60000 := by
    obtain ⟨_, _, _, _, _, d, _, _, h8, h9, _⟩ := h
    omega
  obtain ⟨x1, x2, x3, ⟨m2, x4⟩, _⟩ := h2
  have hlt2 := hty_lt x1
  obtain ⟨d, t1, t2, t3, t4, t5⟩ := l_toArray h hgB
  have hc1 : (hsz σ + 1 ≤ gC g) = True := eq_true (by omega)
  have hs1 : (hsl σ + n ≤ gS g) = True := eq_true (by omega)
  have u1 : hty (cpH σ d n) a2 = some 10 := kp_ty (cpH_kp (fun _ => False) d n) x1
  have u3 : hty (cpH σ d n) (hsz σ) = some 24 := cpH_ty (σ := σ) d n
  have u4 : hln (cpH σ d n) (hsz σ) = n := cpH_ln (σ := σ) d n
  have u5 : kp (fun x => x = a2) 1 n σ (cpH σ d n) := cpH_kp _ d n
  have u6 : ∀ i, i < n → hv (cpH σ d n) 24 (hsz σ) i = f i := fun i hi => by
    rw [cpH_v (by omega) t2]; exact t4 i hi
  have uv := (u5.2.2.2.2 a2 hlt2)
  have uk := ((cpH_kp (σ := σ) (fun _ => False) d n).2.2.2.2 a2 hlt2).2.2 (fun e => e)
  have u7 : hv (cpH σ d n) 10 a2 0 = .int m2 := by rw [uk]; exact x4
  have u8 : hv (cpH σ d n) 10 a2 1 = .ref (gV g 0) := by rw [uk]; exact h3
  have u9 : hv (cpH σ d n) 10 a2 2 = .int (Int32.ofNat 0) := by rw [uk]; exact x3
  have u10 : Bas g (cpH σ d n) := Bas_kp hB (cpH_kp (fun _ => False) d n) (fun _ e => e.elim)
  have u11 : ∀ i, i < n → vOb (cpH σ d n) (f i) := fun i hi => kp_vOb u5 (hob i hi)
  have u12 : hsz (cpH σ d n) = hsz σ + 1 := rfl
  obtain ⟨hS1, hS2⟩ := u10.2.2.1
  have e1 : (Int32.ofNat n = 0) = (n = 0) := by rw [← z32_0]; exact n32_eq (by omega) (by omega)
  have e0 : hsl (cpH σ d n) = hsl σ + n := rfl
  by_cases hn : n = 0
  · have e2 : (Int32.ofNat n = 0) = True := e1.trans (eq_true hn)
    simp (config := {decide := true}) only [vRf_r, vRf_n, vI_i, vL_l, vD_d, pI_i, pR_r, pR_n, vZ_0, vZ_1, ct_i, ct_r, ct_n, ct_l, ct_d, csum_n, csum_c, kt_v, kt_n, kt_e, oc_n, oc_i, oc_r, oc_l, oc_u, oc_d, true_and, and_true, Bool.and_true, Bool.true_and, ne_eq, not_false_eq_true, not_true_eq_false, implies_true, false_imp, true_imp_iff, hsz_put, hsl_put, hln_put, hty_put, hsz_new, hsl_new, hln_new, hty_new, Nat.zero_add, Nat.add_zero, eq_self, decide_true, t32_0, t32_1, t32_2, t32_3, t32_4, t32_5, t32_6, hv_same, hv_kne, hv_tne, hv_ntne, hv_nsame, hv_ctne, hty_cpy, hln_cpy, hsz_cpy, hsl_cpy, vrn, vnr, vrr, A27_0, A27_1, A27_6, A27_7, A27_8, A27_9, A27_12, A27_13, A27_14, A27_17, A27_18, A27_19, A27_20, A27_21, A27_24, A27_25, A27_26, A27_27, A27_28, A27_31, A27_32, A27_34, A27_35, A27_36, A27_39, A27_40, A27_42, A27_43, A27_46, A27_47, A27_49, A27_50, A27_51, A27_54, A27_56, A27_57, A27_58, A27_60, A27_62, A27_63, A27_66, A27_67, A27_69, A27_70, A27_71, A27_74, A27_75, x1, x2, x4, hty1, t5, hc1, hs1, u1, u3, u4, u7, e2]
    generalize cpH σ d n = σ1 at *
    refine hQ (hput σ1 10 a2 0 (.int (m2 + 1))) (hsz σ) 0 ⟨u1, x2, by rw [hv_kne _ (by decide), hn]; exact u9, ⟨m2 + 1, hv_same _ _ _ _ _⟩, u11, gV g 0, by rw [hv_kne _ (by decide)]; exact u8, hS1, by rw [hn]; exact Nat.zero_le _, by show hln σ1 (gV g 0) ≤ 60000; omega, fun i hi => by omega, Or.inr ⟨hS2, Or.inl rfl, Or.inr u3⟩⟩ (kp_mono (kp_trans u5 (kp_put (W := fun x => x = a2) (fun _ => rfl))) (by omega) (by omega) (fun _ _ e => e)) ⟨Nat.le_refl _, by show hsz σ < hsz σ1; omega⟩ (Or.inl rfl) (fun e => by omega)
  · have e2 : (Int32.ofNat n = 0) = False := e1.trans (eq_false hn)
    have e3 : (Int32.ofNat n ≤ Int32.ofNat 0 - Int32.ofNat 0) = False := by
      rw [show Int32.ofNat 0 - Int32.ofNat 0 = Int32.ofNat 0 from rfl, n32_le (by omega) (by omega)]; exact eq_false (by omega)
    have e4 : ∀ Q', aw g 21 0 [some (.ref a2), some (.int (Int32.ofNat 0 + Int32.ofNat n)), none, none] [] (hput (cpH σ d n) 10 a2 0 (.int (m2 + 1))) Q' = ((hsz σ + 1 + 1 ≤ gC g ∧ hsl σ + n + max 10 n ≤ gS g) ∧ Q' (.inl (some (.ref (hsz σ + 1)))) (hput (hnew (hput (cpH σ d n) 10 a2 0 (.int (m2 + 1))) 24 (max 10 n) (fun _ => .null) (max 10 n)) 10 a2 1 (.ref (hsz σ + 1)))) := by
      intro Q'
      rw [n32_add, Nat.zero_add]
      exact l_grow0 (σ := hput (cpH σ d n) 10 a2 0 (.int (m2 + 1))) (Bas_kp u10 (kp_put (W := fun x => x = a2) (fun _ => rfl)) (fun x e => by rw [e]; exact x2)) u1 x2 (by rw [hv_kne _ (by decide)]; exact u8) hb60
    have k0 : kp (fun x => x = a2) 0 0 (cpH σ d n) (hput (cpH σ d n) 10 a2 0 (.int (m2 + 1))) := kp_put (fun _ => rfl)
    have k1 : kp (fun x => x = a2) 1 (max 10 n) (hput (cpH σ d n) 10 a2 0 (.int (m2 + 1))) (hput (hnew (hput (cpH σ d n) 10 a2 0 (.int (m2 + 1))) 24 (max 10 n) (fun _ => .null) (max 10 n)) 10 a2 1 (.ref (hsz σ + 1))) := kp_trans (kp_new (W := fun x => x = a2)) (kp_put (W := fun x => x = a2) (fun _ => rfl))
    have k2 := kp_trans k0 k1
    have k3 : hv (hput (hnew (hput (cpH σ d n) 10 a2 0 (.int (m2 + 1))) 24 (max 10 n) (fun _ => .null) (max 10 n)) 10 a2 1 (.ref (hsz σ + 1))) 10 a2 1 = .ref (hsz σ + 1) := hv_same _ _ _ _ _
    have k4 : hv (hput (hnew (hput (cpH σ d n) 10 a2 0 (.int (m2 + 1))) 24 (max 10 n) (fun _ => .null) (max 10 n)) 10 a2 1 (.ref (hsz σ + 1))) 10 a2 2 = .int (Int32.ofNat 0) := by
      rw [hv_kne _ (by decide), hv_ntne _ (by decide), hv_kne _ (by decide)]; exact u9
    have k5 : hv (hput (hnew (hput (cpH σ d n) 10 a2 0 (.int (m2 + 1))) 24 (max 10 n) (fun _ => .null) (max 10 n)) 10 a2 1 (.ref (hsz σ + 1))) 10 a2 0 = .int (m2 + 1) := by
      rw [hv_kne _ (by decide), hv_ntne _ (by decide), hv_same]
    have k6 : hty (hput (hnew (hput (cpH σ d n) 10 a2 0 (.int (m2 + 1))) 24 (max 10 n) (fun _ => .null) (max 10 n)) 10 a2 1 (.ref (hsz σ + 1))) (hsz σ + 1) = some 24 := by
      rw [hty_put, hty_new]; exact if_pos rfl
    have k7 : hln (hput (hnew (hput (cpH σ d n) 10 a2 0 (.int (m2 + 1))) 24 (max 10 n) (fun _ => .null) (max 10 n)) 10 a2 1 (.ref (hsz σ + 1))) (hsz σ + 1) = max 10 n := by
      rw [hln_put, hln_new]; exact if_pos rfl
    have k8 : hsz (hput (hnew (hput (cpH σ d n) 10 a2 0 (.int (m2 + 1))) 24 (max 10 n) (fun _ => .null) (max 10 n)) 10 a2 1 (.ref (hsz σ + 1))) = hsz σ + 2 := rfl
    have k9 : hv (hput (hnew (hput (cpH σ d n) 10 a2 0 (.int (m2 + 1))) 24 (max 10 n) (fun _ => .null) (max 10 n)) 10 a2 1 (.ref (hsz σ + 1))) 24 (hsz σ) = hv (cpH σ d n) 24 (hsz σ) := by
      funext i
      rw [hv_tne _ (by decide), hv_nane _ (by show hsz σ ≠ hsz σ + 1; omega), hv_tne _ (by decide)]
    generalize hput (hnew (hput (cpH σ d n) 10 a2 0 (.int (m2 + 1))) 24 (max 10 n) (fun _ => .null) (max 10 n)) 10 a2 1 (.ref (hsz σ + 1)) = σ2 at *
    generalize cpH σ d n = σ1 at *
    have v1 : hty σ2 a2 = some 10 := kp_ty k2 u1
    have v3 : hty σ2 (hsz σ) = some 24 := kp_ty k2 u3
    have v4 : hln σ2 (hsz σ) = n := by rw [(k2.2.2.2.2 _ (hty_lt u3)).2.1]; exact u4
    have v5 : (hsz σ + 1 + 1 ≤ gC g) = True := eq_true (by omega)
    have v6 : (hsl σ + n + max 10 n ≤ gS g) = True := eq_true (by omega)
    have v7 : (gB g ≤ hsz σ + 1) = True := eq_true (by omega)
    have v8 : (Int32.ofNat n < 0) = False := n32_neg (by omega)
    have v9 : (Int32.ofNat n).toNatClampNeg = n := n32_nat (by omega)
    have v10 : (Int32.ofNat 0).toNatClampNeg = 0 := rfl
    have v11 : (Int32.ofNat 0 < 0) = False := n32_neg (by omega)
    have v12 : (n ≤ max 10 n) = True := eq_true (by omega)
    have v13 : (∀ i, i < n → vOb σ2 (hv σ2 24 (hsz σ) i)) = True := eq_true fun i hi => by rw [k9, u6 i hi]; exact kp_vOb k2 (u11 i hi)
    have v14 : Int32.ofNat 0 + Int32.ofNat n = Int32.ofNat n := by rw [n32_add, Nat.zero_add]
    have v15 : hv σ1 10 a2 1 = .ref (gV g 0) := u8
    simp (config := {decide := true}) only [vRf_r, vRf_n, vI_i, vL_l, vD_d, pI_i, pR_r, pR_n, vZ_0, vZ_1, ct_i, ct_r, ct_n, ct_l, ct_d, csum_n, csum_c, kt_v, kt_n, kt_e, oc_n, oc_i, oc_r, oc_l, oc_u, oc_d, true_and, and_true, Bool.and_true, Bool.true_and, ne_eq, not_false_eq_true, not_true_eq_false, implies_true, false_imp, true_imp_iff, hsz_put, hsl_put, hln_put, hty_put, hsz_new, hsl_new, hln_new, hty_new, Nat.zero_add, Nat.add_zero, eq_self, decide_true, t32_0, t32_1, t32_2, t32_3, t32_4, t32_5, t32_6, hv_same, hv_kne, hv_tne, hv_ntne, hv_nsame, hv_ctne, hty_cpy, hln_cpy, hsz_cpy, hsl_cpy, vrn, vnr, vrr, A27_0, A27_1, A27_6, A27_7, A27_8, A27_9, A27_12, A27_13, A27_14, A27_17, A27_18, A27_19, A27_20, A27_21, A27_24, A27_25, A27_26, A27_27, A27_28, A27_31, A27_32, A27_34, A27_35, A27_36, A27_39, A27_40, A27_42, A27_43, A27_46, A27_47, A27_49, A27_50, A27_51, A27_54, A27_56, A27_57, A27_58, A27_60, A27_62, A27_63, A27_66, A27_67, A27_69, A27_70, A27_71, A27_74, A27_75, x1, x2, x4, hty1, t5, hc1, hs1, u1, u3, u4, u7, u8, u9, e2, hS1, hS2, e3, e4, k3, k4, k6, k7, v1, v3, v4, v5, v6, v7, v8, v9, v10, v11, v12, v13, Nat.le_refl]
    have w1 : kp (fun x => x = a2) (1 + (0 + 1)) (n + (0 + max 10 n)) σ σ2 := kp_trans u5 k2
    refine hQ (hput (hcpy σ2 24 (hsz σ) 0 (hsz σ + 1) 0 n) 10 a2 2 (.int (Int32.ofNat 0 + Int32.ofNat n))) (hsz σ + 1) 1 ⟨v1, x2, by rw [hv_same, v14], ⟨m2 + 1, by rw [hv_kne _ (by decide), hv_ctne _ (by decide)]; exact k5⟩, fun i hi => kp_vOb k2 (u11 i hi), hsz σ + 1, by rw [hv_kne _ (by decide), hv_ctne _ (by decide)]; exact k3, k6, by show n ≤ hln σ2 (hsz σ + 1); omega, by show hln σ2 (hsz σ + 1) ≤ 60000; omega, fun i hi => by rw [hv_tne _ (by decide), hv_cpy, if_pos ⟨rfl, rfl, by omega, by omega⟩, k9, Nat.zero_add, Nat.sub_zero]; exact u6 i hi, Or.inl ⟨rfl, by omega, by show 0 < hln σ2 (hsz σ + 1); omega⟩⟩ (kp_mono (kp_then w1 (kp_trans (kp_cpy (W := fun x => x = a2 ∨ x = hsz σ + 1) (fun _ => Or.inr rfl)) (kp_put (W := fun x => x = a2 ∨ x = hsz σ + 1) (fun _ => Or.inl rfl))) (fun x hx e => by
      rcases e with e | e
      · exact e
      · omega)) (by omega) (by omega) (fun _ _ e => e)) ⟨by omega, by show hsz σ + 1 < hsz σ2; omega⟩ (Or.inr rfl) (fun _ => k8)
theorem l_oeq (x y : Nat) : aw g 13 0 [some (.ref x), some (.ref y)] [] σ Q = Q (.inl (some (.int (if x = y then 1 else 0)))) σ := by
  by_cases h : x = y
  · simp (config := {decide := true}) only [vRf_r, vRf_n, vI_i, vL_l, vD_d, pI_i, pR_r, pR_n, vZ_0, vZ_1, ct_i, ct_r, ct_n, ct_l, ct_d, csum_n, csum_c, kt_v, kt_n, kt_e, oc_n, oc_i, oc_r, oc_l, oc_u, oc_d, true_and, and_true, Bool.and_true, Bool.true_and, ne_eq, not_false_eq_true, not_true_eq_false, implies_true, false_imp, true_imp_iff, hsz_put, hsl_put, hln_put, hty_put, hsz_new, hsl_new, hln_new, hty_new, Nat.zero_add, Nat.add_zero, eq_self, decide_true, t32_0, t32_1, t32_2, t32_3, t32_4, t32_5, t32_6, hv_same, hv_kne, hv_tne, hv_ntne, hv_nsame, hv_ctne, hty_cpy, hln_cpy, hsz_cpy, hsl_cpy, vrn, vnr, vrr, A13_0, A13_1, A13_2, A13_5, A13_6, A13_9, A13_10, h, if_true]
  · simp (config := {decide := true}) only [vRf_r, vRf_n, vI_i, vL_l, vD_d, pI_i, pR_r, pR_n, vZ_0, vZ_1, ct_i, ct_r, ct_n, ct_l, ct_d, csum_n, csum_c, kt_v, kt_n, kt_e, oc_n, oc_i, oc_r, oc_l, oc_u, oc_d, true_and, and_true, Bool.and_true, Bool.true_and, ne_eq, not_false_eq_true, not_true_eq_false, implies_true, false_imp, true_imp_iff, hsz_put, hsl_put, hln_put, hty_put, hsz_new, hsl_new, hln_new, hty_new, Nat.zero_add, Nat.add_zero, eq_self, decide_true, t32_0, t32_1, t32_2, t32_3, t32_4, t32_5, t32_6, hv_same, hv_kne, hv_tne, hv_ntne, hv_nsame, hv_ctne, hty_cpy, hln_cpy, hsz_cpy, hsl_cpy, vrn, vnr, vrr, A13_0, A13_1, A13_2, A13_5, A13_6, A13_9, A13_10, h, if_false]
theorem l_indexNull (h : isL g σ a b n f) (hf : ∀ i, i < n → f i ≠ .null) : aw g 23 0 [some (.ref a), some .null] [] σ Q = Q (.inl (some (.int (-1)))) σ := by
  obtain ⟨h1, h2, h3, ⟨m, h4⟩, h5, d, h6, h7, h8, h9, h10, h11⟩ := h
  have loop : ∀ k c, c + k = n → ∀ Q', aw g 24 13 [some (.ref a), some .null, some (.int 0), some (.int (Int32.ofNat n)), some (.ref d), some (.int (Int32.ofNat c))] [] σ Q' = Q' (.inl (some (.int (-1)))) σ := by
    intro k
    induction k with
    | zero =>
      intro c hc Q'
      have e1 : (Int32.ofNat n ≤ Int32.ofNat c) = True := by rw [n32_le (by omega) (by omega)]; exact eq_true (by omega)
      simp (config := {decide := true}) only [vRf_r, vRf_n, vI_i, vL_l, vD_d, pI_i, pR_r, pR_n, vZ_0, vZ_1, ct_i, ct_r, ct_n, ct_l, ct_d, csum_n, csum_c, kt_v, kt_n, kt_e, oc_n, oc_i, oc_r, oc_l, oc_u, oc_d, true_and, and_true, Bool.and_true, Bool.true_and, ne_eq, not_false_eq_true, not_true_eq_false, implies_true, false_imp, true_imp_iff, hsz_put, hsl_put, hln_put, hty_put, hsz_new, hsl_new, hln_new, hty_new, Nat.zero_add, Nat.add_zero, eq_self, decide_true, t32_0, t32_1, t32_2, t32_3, t32_4, t32_5, t32_6, hv_same, hv_kne, hv_tne, hv_ntne, hv_nsame, hv_ctne, hty_cpy, hln_cpy, hsz_cpy, hsl_cpy, vrn, vnr, vrr, A24_13, A24_15, A24_16, A24_36, A24_69, A24_70, e1]
    | succ k ih =>
      intro c hc Q'
      have e1 : (Int32.ofNat n ≤ Int32.ofNat c) = False := by rw [n32_le (by omega) (by omega)]; exact eq_false (by omega)
      have e2 : (Int32.ofNat c < 0) = False := n32_neg (by omega)
      have e3 : (Int32.ofNat c).toNatClampNeg = c := n32_nat (by omega)
      have e4 : (c < hln σ d) = True := eq_true (by omega)
      have e5 : (f c = .null) = False := eq_false (hf c (by omega))
      have e6 := h5 c (by omega)
      have e7 := h10 c (by omega)
      have e8 := n32_inc c
      rw [A24_13]
      simp (config := {decide := true}) only [vRf_r, vRf_n, vI_i, vL_l, vD_d, pI_i, pR_r, pR_n, vZ_0, vZ_1, ct_i, ct_r, ct_n, ct_l, ct_d, csum_n, csum_c, kt_v, kt_n, kt_e, oc_n, oc_i, oc_r, oc_l, oc_u, oc_d, true_and, and_true, Bool.and_true, Bool.true_and, ne_eq, not_false_eq_true, not_true_eq_false, implies_true, false_imp, true_imp_iff, hsz_put, hsl_put, hln_put, hty_put, hsz_new, hsl_new, hln_new, hty_new, Nat.zero_add, Nat.add_zero, eq_self, decide_true, t32_0, t32_1, t32_2, t32_3, t32_4, t32_5, t32_6, hv_same, hv_kne, hv_tne, hv_ntne, hv_nsame, hv_ctne, hty_cpy, hln_cpy, hsz_cpy, hsl_cpy, vrn, vnr, vrr, A24_0, A24_1, A24_4, A24_6, A24_7, A24_10, A24_11, A24_15, A24_16, A24_19, A24_21, A24_23, A24_24, A24_27, A24_29, A24_30, A24_33, A24_36, A24_39, A24_40, A24_42, A24_44, A24_45, A24_48, A24_49, A24_51, A24_53, A24_54, A24_57, A24_60, A24_62, A24_63, A24_66, A24_69, A24_70, h7, e1, e2, e3, e4, e5, e7, e8, vOb_r e6]
      exact ih (c + 1) (by omega) Q'
  have l0 := fun Q' => loop n 0 (by omega) Q'
  rw [z32_0] at l0
  simp (config := {decide := true}) only [vRf_r, vRf_n, vI_i, vL_l, vD_d, pI_i, pR_r, pR_n, vZ_0, vZ_1, ct_i, ct_r, ct_n, ct_l, ct_d, csum_n, csum_c, kt_v, kt_n, kt_e, oc_n, oc_i, oc_r, oc_l, oc_u, oc_d, true_and, and_true, Bool.and_true, Bool.true_and, ne_eq, not_false_eq_true, not_true_eq_false, implies_true, false_imp, true_imp_iff, hsz_put, hsl_put, hln_put, hty_put, hsz_new, hsl_new, hln_new, hty_new, Nat.zero_add, Nat.add_zero, eq_self, decide_true, t32_0, t32_1, t32_2, t32_3, t32_4, t32_5, t32_6, hv_same, hv_kne, hv_tne, hv_ntne, hv_nsame, hv_ctne, hty_cpy, hln_cpy, hsz_cpy, hsl_cpy, vrn, vnr, vrr, A23_0, A23_1, A23_2, A23_3, A23_4, A23_7, A23_10, A24_0, A24_1, A24_4, A24_6, A24_7, A24_10, A24_11, A24_15, A24_16, A24_19, A24_21, A24_23, A24_24, A24_27, A24_29, A24_30, A24_33, A24_36, A24_39, A24_40, A24_44, A24_45, A24_48, A24_49, A24_51, A24_53, A24_54, A24_57, A24_60, A24_62, A24_63, A24_66, A24_69, A24_70, h1, h3, h6, l0]
theorem l_indexRef (h : isL g σ a b n f) {q j : Nat} (hq : hty σ q = some 2) (hj : j < n) (hjq : f j = .ref q) (hf : ∀ i, i < n → ∃ p, f i = .ref p) (hlt : ∀ i, i < j → f i ≠ .ref q) : aw g 23 0 [some (.ref a), some (.ref q)] [] σ Q = Q (.inl (some (.int (Int32.ofNat j)))) σ := by
  obtain ⟨h1, h2, h3, ⟨m, h4⟩, h5, d, h6, h7, h8, h9, h10, h11⟩ := h
  have loop : ∀ k c, c + k = j → ∀ Q', aw g 24 42 [some (.ref a), some (.ref q), some (.int 0), some (.int (Int32.ofNat n)), some (.ref d), some (.int (Int32.ofNat c))] [] σ Q' = Q' (.inl (some (.int (Int32.ofNat j)))) σ := by
    intro k
    induction k with
    | zero =>
      intro c hc Q'
      have hcj : c = j := by omega
      subst hcj
      have e1 : (Int32.ofNat n ≤ Int32.ofNat c) = False := by rw [n32_le (by omega) (by omega)]; exact eq_false (by omega)
      have e2 : (Int32.ofNat c < 0) = False := n32_neg (by omega)
      have e3 : (Int32.ofNat c).toNatClampNeg = c := n32_nat (by omega)
      have e4 : (c < hln σ d) = True := eq_true (by omega)
      have e7 := h10 c (by omega)
      simp (config := {decide := true}) only [vRf_r, vRf_n, vI_i, vL_l, vD_d, pI_i, pR_r, pR_n, vZ_0, vZ_1, ct_i, ct_r, ct_n, ct_l, ct_d, csum_n, csum_c, kt_v, kt_n, kt_e, oc_n, oc_i, oc_r, oc_l, oc_u, oc_d, true_and, and_true, Bool.and_true, Bool.true_and, ne_eq, not_false_eq_true, not_true_eq_false, implies_true, false_imp, true_imp_iff, hsz_put, hsl_put, hln_put, hty_put, hsz_new, hsl_new, hln_new, hty_new, Nat.zero_add, Nat.add_zero, eq_self, decide_true, t32_0, t32_1, t32_2, t32_3, t32_4, t32_5, t32_6, hv_same, hv_kne, hv_tne, hv_ntne, hv_nsame, hv_ctne, hty_cpy, hln_cpy, hsz_cpy, hsl_cpy, vrn, vnr, vrr, A24_0, A24_1, A24_4, A24_6, A24_7, A24_10, A24_11, A24_13, A24_15, A24_16, A24_19, A24_21, A24_23, A24_24, A24_27, A24_29, A24_30, A24_33, A24_36, A24_39, A24_40, A24_42, A24_44, A24_45, A24_48, A24_49, A24_51, A24_53, A24_54, A24_57, A24_60, A24_62, A24_63, A24_66, A24_69, A24_70, h7, hq, e1, e2, e3, e4, e7, hjq, l_oeq, if_true]
    | succ k ih =>
      intro c hc Q'
      have e1 : (Int32.ofNat n ≤ Int32.ofNat c) = False := by rw [n32_le (by omega) (by omega)]; exact eq_false (by omega)
      have e2 : (Int32.ofNat c < 0) = False := n32_neg (by omega)
      have e3 : (Int32.ofNat c).toNatClampNeg = c := n32_nat (by omega)
      have e4 : (c < hln σ d) = True := eq_true (by omega)
      obtain ⟨p, hp⟩ := hf c (by omega)
      have e5 : (q = p) = False := eq_false (fun e => hlt c (by omega) (by rw [hp, e]))
      have e7 := h10 c (by omega)
      rw [hp] at e7
      have e8 := n32_inc c
      rw [A24_42]
      simp (config := {decide := true}) only [vRf_r, vRf_n, vI_i, vL_l, vD_d, pI_i, pR_r, pR_n, vZ_0, vZ_1, ct_i, ct_r, ct_n, ct_l, ct_d, csum_n, csum_c, kt_v, kt_n, kt_e, oc_n, oc_i, oc_r, oc_l, oc_u, oc_d, true_and, and_true, Bool.and_true, Bool.true_and, ne_eq, not_false_eq_true, not_true_eq_false, implies_true, false_imp, true_imp_iff, hsz_put, hsl_put, hln_put, hty_put, hsz_new, hsl_new, hln_new, hty_new, Nat.zero_add, Nat.add_zero, eq_self, decide_true, t32_0, t32_1, t32_2, t32_3, t32_4, t32_5, t32_6, hv_same, hv_kne, hv_tne, hv_ntne, hv_nsame, hv_ctne, hty_cpy, hln_cpy, hsz_cpy, hsl_cpy, vrn, vnr, vrr, A24_0, A24_1, A24_4, A24_6, A24_7, A24_10, A24_11, A24_13, A24_15, A24_16, A24_19, A24_21, A24_23, A24_24, A24_27, A24_29, A24_30, A24_33, A24_36, A24_39, A24_40, A24_44, A24_45, A24_48, A24_49, A24_51, A24_53, A24_54, A24_57, A24_60, A24_62, A24_63, A24_66, A24_69, A24_70, h7, hq, e1, e2, e3, e4, e5, e7, e8, l_oeq, if_false]
      exact ih (c + 1) (by omega) Q'
  have l0 := fun Q' => loop j 0 (by omega) Q'
  rw [z32_0] at l0
  simp (config := {decide := true}) only [vRf_r, vRf_n, vI_i, vL_l, vD_d, pI_i, pR_r, pR_n, vZ_0, vZ_1, ct_i, ct_r, ct_n, ct_l, ct_d, csum_n, csum_c, kt_v, kt_n, kt_e, oc_n, oc_i, oc_r, oc_l, oc_u, oc_d, true_and, and_true, Bool.and_true, Bool.true_and, ne_eq, not_false_eq_true, not_true_eq_false, implies_true, false_imp, true_imp_iff, hsz_put, hsl_put, hln_put, hty_put, hsz_new, hsl_new, hln_new, hty_new, Nat.zero_add, Nat.add_zero, eq_self, decide_true, t32_0, t32_1, t32_2, t32_3, t32_4, t32_5, t32_6, hv_same, hv_kne, hv_tne, hv_ntne, hv_nsame, hv_ctne, hty_cpy, hln_cpy, hsz_cpy, hsl_cpy, vrn, vnr, vrr, A23_0, A23_1, A23_2, A23_3, A23_4, A23_7, A23_10, A24_0, A24_1, A24_4, A24_6, A24_7, A24_10, A24_11, A24_15, A24_16, A24_19, A24_21, A24_23, A24_24, A24_27, A24_29, A24_30, A24_33, A24_36, A24_39, A24_40, A24_44, A24_45, A24_48, A24_49, A24_51, A24_53, A24_54, A24_57, A24_60, A24_62, A24_63, A24_66, A24_69, A24_70, h1, h3, h6, l0]
end LIST2
