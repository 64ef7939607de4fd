/-! send, await, the device's parts -/
def mn0 (c : Int32) : Int32 := if c < 0 then c else 0
def sendZ (z : ZT) (k : Nat) : ZT := if z.1 1 k 12 = 4 then zs (zs z 3 k 4 (z.1 3 k 4 + 1)) 1 k 9 (mn0 (z.1 1 k 9)) else finishZ (zs (if z.1 1 k 12 = 0 ∧ z.1 0 0 4 ≠ Int32.ofNat k then zs z 3 k 1 (z.1 3 k 1 + 1) else z) 1 k 12 (z.1 1 k 12 + 1)) k 0
def awaitZ (z : ZT) (k : Nat) : ZT := if z.1 1 k 8 = 0 then zs (zs z 3 k 2 (z.1 3 k 2 + 1)) 1 k 3 1 else finishZ (logZ (zs z 1 k 8 0) k (z.1 1 k 8)) k (z.1 1 k 8)
/-- an op is there to be done -/
def okG (z : ZT) (k : Nat) : Prop := okT z k ∧ zpl z k < z.2 2 k
/-- none, or a guest -/
def okR (z : ZT) (x : Int32) : Prop := x = -1 ∨ ∃ j, j < zn z ∧ x = Int32.ofNat j
section SEND
variable {g : GC} {A B : Nat → Nat → Nat} {σ σ' : AH} {z : ZT} {k : Nat} {Q : AQ} {told : Int32}
theorem okT_zs (h : okT z k) {κ i j : Nat} {v : Int32} (h1 : κ ≠ 9) (h2 : κ ≠ 10) (h3 : κ ≠ 1 ∨ j ≠ 22) : okT (zs z κ i j v) k := by
  unfold okT zpl
  rw [zs_2, zs_k _ (Ne.symm h1), zs_k _ (Ne.symm h2), zs_1j h3]
  exact h
theorem zpl_zs {κ i j : Nat} {v : Int32} (h3 : κ ≠ 1 ∨ j ≠ 22) : zpl (zs z κ i j v) k = zpl z k := by
  unfold zpl; rw [zs_1j h3]
theorem okG_zs (h : okG z k) {κ i j : Nat} {v : Int32} (h1 : κ ≠ 9) (h2 : κ ≠ 10) (h3 : κ ≠ 1 ∨ j ≠ 22) : okG (zs z κ i j v) k := ⟨okT_zs h.1 h1 h2 h3, by rw [zpl_zs h3, zs_2]; exact h.2⟩
theorem okG_zl (h : okG z k) {κ i v : Nat} (h1 : κ ≠ 2) : okG (zl z κ i v) k := by
  unfold okG okT zpl
  rw [zl_1, zl_k _ (Ne.symm h1)]
  exact h
theorem okG_log (h : okG z k) (k' : Nat) : okG (logZ z k' told) k := by
  unfold logZ
  split
  · split
    · exact okG_zs h (by decide) (by decide) (by decide)
    · exact okG_zl (okG_zs h (by decide) (by decide) (Or.inl (by decide))) (by decide)
  · exact h
theorem logZ_n (z : ZT) (k : Nat) (t : Int32) : zn (logZ z k t) = zn z ∧ zf (logZ z k t) = zf z := by
  unfold logZ
  split
  · split
    · exact ⟨rfl, rfl⟩
    · exact ⟨rfl, rfl⟩
  · exact ⟨rfl, rfl⟩
theorem gref_r {x : Int32} (hR : okR z x) {j : Nat} (hj : j < zn z) (h3 : zn z ≤ 1000) (hA : cA g (mix A B) σ) : (gref A x = .ref (A 4 j)) = (x = Int32.ofNat j) := by
  rcases hR with e | ⟨i, i1, e⟩
  · subst e
    unfold gref
    rw [if_pos rfl, vnr]
    refine (eq_false (fun e => ?_)).symm
    have := congrArg Int32.toInt e
    rw [Int32.toInt_ofNat_of_lt (by omega)] at this
    have h2 : (-1 : Int32).toInt = -1 := rfl
    omega
  · subst e
    unfold gref
    rw [if_neg (fun e => by
      have := congrArg Int32.toInt e
      rw [Int32.toInt_ofNat_of_lt (by omega)] at this
      have h2 : (-1 : Int32).toInt = -1 := rfl
      omega), vrr, n32_nat (by omega), n32_eq (by omega) (by omega)]
    refine propext ⟨fun q => (hA.1 4 i 4 j q).2, fun q => by rw [q]⟩
theorem gref_v (x : Int32) : vRf (gref A x) = true := by unfold gref; split <;> rfl
theorem gref_c (x : Int32) : (gref A x).category = 1 := by unfold gref; split <;> rfl
theorem gref_o (x : Int32) : oc (some (gref A x)) = true := by unfold gref; split <;> rfl
theorem gref_p (x : Int32) : pR (gref A x) = True := eq_true (gref_v x)
theorem gref_k (x : Int32) (h : x ≠ -1) : gref A x = .ref (A 4 x.toNatClampNeg) := if_neg h
theorem n32_m1 {j : Nat} (h : j < 2147483648) : (Int32.ofNat j = -1) = False := eq_false (fun e => by
  have := congrArg Int32.toInt e
  rw [Int32.toInt_ofNat_of_lt (by omega)] at this
  have h2 : (-1 : Int32).toInt = -1 := rfl
  omega)
theorem c_send (h : RepB g A B σ z) (hk : k < zn z) (h3 : zn z ≤ 1000) (ht : okG z k) (hR : okR z (z.1 0 0 4)) (hQ : ∀ σ', St g A B B σ σ' (sendZ z k) 0 0 → Q (.inl none) σ') : aw g 123 0 [some (.ref (A 1 0)), some (.ref (A 4 k))] [] σ Q := by
  have e4 : (4 : Int32).toNatClampNeg < 5 := by decide
  by_cases h4 : z.1 1 k 12 = 4
  · have e1 : sendZ z k = zs (zs z 3 k 4 (z.1 3 k 4 + 1)) 1 k 9 (mn0 (z.1 1 k 9)) := by unfold sendZ; rw [if_pos h4]
    have e2 := r8vb h hk (p := 4) (by decide)
    have e3 := rb_g (v := mn0 (z.1 1 k 9)) (j := 9) (rb_ex (v := z.1 3 k 4 + 1) (p := 4) h hk (by decide)) hk (by decide)
    simp (config := {decide := true}) only [vRf_r, vRf_n, vI_i, vL_l, vD_d, pI_i, pR_r, pR_n, vZ_0, vZ_1, ct_i, ct_r, ct_n, ct_l, ct_d, csum_n, csum_c, kt_v, kt_n, kt_e, oc_n, oc_i, oc_r, oc_l, oc_u, oc_d, true_and, and_true, Bool.and_true, Bool.true_and, ne_eq, not_false_eq_true, not_true_eq_false, implies_true, false_imp, true_imp_iff, hsz_put, hsl_put, hln_put, hty_put, hsz_new, hsl_new, hln_new, hty_new, Nat.zero_add, Nat.add_zero, eq_self, decide_true, t32_0, t32_1, t32_2, t32_3, t32_4, t32_5, t32_6, hv_same, hv_kne, hv_tne, hv_ntne, hv_nsame, hv_ctne, hty_cpy, hln_cpy, hsz_cpy, hsl_cpy, vrn, vnr, vrr, A123_0, A123_1, A123_4, A123_5, A123_8, A123_9, A123_12, A123_13, A123_14, A123_15, A123_16, A123_17, A123_18, A123_19, A123_20, A123_21, A123_24, A123_27, A123_30, A123_31, A123_32, A123_35, A123_38, A123_39, A123_42, A123_43, A123_46, A123_47, A123_50, A123_51, A123_52, A123_53, A123_54, A123_55, A123_56, A123_57, A123_58, A123_61, A123_62, A123_63, A123_66, A123_67, A123_68, A123_71, r5tb h hk, r5gb h hk, r5nb h hk, r5mb h hk, r5eb h hk, r5db h hk, r5vb h hk, r5lb h hk, r5pb h hk, r6tb h hk, r60b h hk, r61b h hk, r62b h hk, r63b h hk, r7tb h hk, r7lb h hk, r8tb h hk, r8lb h hk, r9tb h hk, r9lb h hk, r10tb h hk, r10lb h hk, rgBA h, r1tb h, r10_b h, r11_b h, r13_b h, r14_b h, r1sb h, rgBA h, h4, e2, l_min]
    exact hQ _ (St_put (St_put (St_refl h) 8 (by decide) (rb_ex (v := z.1 3 k 4 + 1) (p := 4) h hk (by decide))) 4 (by decide) (by rw [e1]; exact e3))
  · have e0 := gref_r (x := z.1 0 0 4) hR hk h3 h.2.1
    by_cases h0 : z.1 1 k 12 = 0 ∧ z.1 0 0 4 ≠ Int32.ofNat k
    · have e1 : sendZ z k = finishZ (zs (zs z 3 k 1 (z.1 3 k 1 + 1)) 1 k 12 (z.1 1 k 12 + 1)) k 0 := by unfold sendZ; rw [if_neg h4, if_pos h0]
      have e2 := r8vb h hk (p := 1) (by decide)
      have e5 : (gref A (z.1 0 0 4) = .ref (A 4 k)) = False := e0.trans (eq_false h0.2)
      have e6 := h0.1
      have S1 := St_put (St_put (St_refl h) 8 (by decide) (rb_ex (v := z.1 3 k 1 + 1) (p := 1) h hk (by decide))) 4 (by decide) (rb_g (v := z.1 1 k 12 + 1) (j := 12) (rb_ex (v := z.1 3 k 1 + 1) (p := 1) h hk (by decide)) hk (by decide))
      rw [e6] at S1
      simp (config := {decide := true}) only [vRf_r, vRf_n, vI_i, vL_l, vD_d, pI_i, pR_r, pR_n, vZ_0, vZ_1, ct_i, ct_r, ct_n, ct_l, ct_d, csum_n, csum_c, kt_v, kt_n, kt_e, oc_n, oc_i, oc_r, oc_l, oc_u, oc_d, true_and, and_true, Bool.and_true, Bool.true_and, ne_eq, not_false_eq_true, not_true_eq_false, implies_true, false_imp, true_imp_iff, hsz_put, hsl_put, hln_put, hty_put, hsz_new, hsl_new, hln_new, hty_new, Nat.zero_add, Nat.add_zero, eq_self, decide_true, t32_0, t32_1, t32_2, t32_3, t32_4, t32_5, t32_6, hv_same, hv_kne, hv_tne, hv_ntne, hv_nsame, hv_ctne, hty_cpy, hln_cpy, hsz_cpy, hsl_cpy, vrn, vnr, vrr, A123_0, A123_1, A123_4, A123_5, A123_8, A123_9, A123_12, A123_13, A123_14, A123_15, A123_16, A123_17, A123_18, A123_19, A123_20, A123_21, A123_24, A123_27, A123_30, A123_31, A123_32, A123_35, A123_38, A123_39, A123_42, A123_43, A123_46, A123_47, A123_50, A123_51, A123_52, A123_53, A123_54, A123_55, A123_56, A123_57, A123_58, A123_61, A123_62, A123_63, A123_66, A123_67, A123_68, A123_71, r5tb h hk, r5gb h hk, r5nb h hk, r5mb h hk, r5eb h hk, r5db h hk, r5vb h hk, r5lb h hk, r5pb h hk, r6tb h hk, r60b h hk, r61b h hk, r62b h hk, r63b h hk, r7tb h hk, r7lb h hk, r8tb h hk, r8lb h hk, r9tb h hk, r9lb h hk, r10tb h hk, r10lb h hk, rgBA h, r1tb h, r10_b h, r11_b h, r13_b h, r14_b h, r1sb h, rgBA h, e2, e5, e6, gref_v, gref_c]
      refine cb_finish S1.1 hk (okG_zs (okG_zs ht (by decide) (by decide) (by decide)) (by decide) (by decide) (by decide)).1 (okG_zs (okG_zs ht (by decide) (by decide) (by decide)) (by decide) (by decide) (by decide)).2 ?_
      intro σ' S2
      simp (config := {decide := true}) only [vRf_r, vRf_n, vI_i, vL_l, vD_d, pI_i, pR_r, pR_n, vZ_0, vZ_1, ct_i, ct_r, ct_n, ct_l, ct_d, csum_n, csum_c, kt_v, kt_n, kt_e, oc_n, oc_i, oc_r, oc_l, oc_u, oc_d, true_and, and_true, Bool.and_true, Bool.true_and, ne_eq, not_false_eq_true, not_true_eq_false, implies_true, false_imp, true_imp_iff, hsz_put, hsl_put, hln_put, hty_put, hsz_new, hsl_new, hln_new, hty_new, Nat.zero_add, Nat.add_zero, eq_self, decide_true, t32_0, t32_1, t32_2, t32_3, t32_4, t32_5, t32_6, hv_same, hv_kne, hv_tne, hv_ntne, hv_nsame, hv_ctne, hty_cpy, hln_cpy, hsz_cpy, hsl_cpy, vrn, vnr, vrr, A123_0, A123_1, A123_4, A123_5, A123_8, A123_9, A123_12, A123_13, A123_14, A123_15, A123_16, A123_17, A123_18, A123_19, A123_20, A123_21, A123_24, A123_27, A123_30, A123_31, A123_32, A123_35, A123_38, A123_39, A123_42, A123_43, A123_46, A123_47, A123_50, A123_51, A123_52, A123_53, A123_54, A123_55, A123_56, A123_57, A123_58, A123_61, A123_62, A123_63, A123_66, A123_67, A123_68, A123_71]
      refine hQ _ ?_
      rw [e1, e6]
      exact St_trans S1 S2
    · have e1 : sendZ z k = finishZ (zs z 1 k 12 (z.1 1 k 12 + 1)) k 0 := by unfold sendZ; rw [if_neg h4, if_neg h0]
      have S1 := St_put (St_refl h) 4 (by decide) (rb_g (v := z.1 1 k 12 + 1) (j := 12) h hk (by decide))
      have hF : ∀ Q', (∀ σ', St g A B B σ σ' (sendZ z k) 0 0 → Q' (.inl none) σ') → aw g 120 0 [some (.ref (A 4 k)), some (.int 0)] [] (hput σ 5 (A 4 k) 12 (.int (z.1 1 k 12 + 1))) Q' := by
        intro Q' hQ'
        refine cb_finish S1.1 hk (okG_zs ht (by decide) (by decide) (by decide)).1 (okG_zs ht (by decide) (by decide) (by decide)).2 ?_
        intro σ' S2
        refine hQ' _ ?_
        rw [e1]
        exact St_trans S1 S2
      by_cases h00 : z.1 1 k 12 = 0
      · have e5 : (gref A (z.1 0 0 4) = .ref (A 4 k)) = True := e0.trans (eq_true (Classical.byContradiction (fun q => h0 ⟨h00, q⟩)))
        rw [h00] at hF
        simp (config := {decide := true}) only [vRf_r, vRf_n, vI_i, vL_l, vD_d, pI_i, pR_r, pR_n, vZ_0, vZ_1, ct_i, ct_r, ct_n, ct_l, ct_d, csum_n, csum_c, kt_v, kt_n, kt_e, oc_n, oc_i, oc_r, oc_l, oc_u, oc_d, true_and, and_true, Bool.and_true, Bool.true_and, ne_eq, not_false_eq_true, not_true_eq_false, implies_true, false_imp, true_imp_iff, hsz_put, hsl_put, hln_put, hty_put, hsz_new, hsl_new, hln_new, hty_new, Nat.zero_add, Nat.add_zero, eq_self, decide_true, t32_0, t32_1, t32_2, t32_3, t32_4, t32_5, t32_6, hv_same, hv_kne, hv_tne, hv_ntne, hv_nsame, hv_ctne, hty_cpy, hln_cpy, hsz_cpy, hsl_cpy, vrn, vnr, vrr, A123_0, A123_1, A123_4, A123_5, A123_8, A123_9, A123_12, A123_13, A123_14, A123_15, A123_16, A123_17, A123_18, A123_19, A123_20, A123_21, A123_24, A123_27, A123_30, A123_31, A123_32, A123_35, A123_38, A123_39, A123_42, A123_43, A123_46, A123_47, A123_50, A123_51, A123_52, A123_53, A123_54, A123_55, A123_56, A123_57, A123_58, A123_61, A123_62, A123_63, A123_66, A123_67, A123_68, A123_71, r5tb h hk, r5gb h hk, r5nb h hk, r5mb h hk, r5eb h hk, r5db h hk, r5vb h hk, r5lb h hk, r5pb h hk, r6tb h hk, r60b h hk, r61b h hk, r62b h hk, r63b h hk, r7tb h hk, r7lb h hk, r8tb h hk, r8lb h hk, r9tb h hk, r9lb h hk, r10tb h hk, r10lb h hk, rgBA h, r1tb h, r10_b h, r11_b h, r13_b h, r14_b h, r1sb h, rgBA h, e5, h00, gref_v, gref_c]
        refine hF _ ?_
        intro σ' S2
        simp (config := {decide := true}) only [vRf_r, vRf_n, vI_i, vL_l, vD_d, pI_i, pR_r, pR_n, vZ_0, vZ_1, ct_i, ct_r, ct_n, ct_l, ct_d, csum_n, csum_c, kt_v, kt_n, kt_e, oc_n, oc_i, oc_r, oc_l, oc_u, oc_d, true_and, and_true, Bool.and_true, Bool.true_and, ne_eq, not_false_eq_true, not_true_eq_false, implies_true, false_imp, true_imp_iff, hsz_put, hsl_put, hln_put, hty_put, hsz_new, hsl_new, hln_new, hty_new, Nat.zero_add, Nat.add_zero, eq_self, decide_true, t32_0, t32_1, t32_2, t32_3, t32_4, t32_5, t32_6, hv_same, hv_kne, hv_tne, hv_ntne, hv_nsame, hv_ctne, hty_cpy, hln_cpy, hsz_cpy, hsl_cpy, vrn, vnr, vrr, A123_0, A123_1, A123_4, A123_5, A123_8, A123_9, A123_12, A123_13, A123_14, A123_15, A123_16, A123_17, A123_18, A123_19, A123_20, A123_21, A123_24, A123_27, A123_30, A123_31, A123_32, A123_35, A123_38, A123_39, A123_42, A123_43, A123_46, A123_47, A123_50, A123_51, A123_52, A123_53, A123_54, A123_55, A123_56, A123_57, A123_58, A123_61, A123_62, A123_63, A123_66, A123_67, A123_68, A123_71]
        exact hQ _ S2
      · simp (config := {decide := true}) only [vRf_r, vRf_n, vI_i, vL_l, vD_d, pI_i, pR_r, pR_n, vZ_0, vZ_1, ct_i, ct_r, ct_n, ct_l, ct_d, csum_n, csum_c, kt_v, kt_n, kt_e, oc_n, oc_i, oc_r, oc_l, oc_u, oc_d, true_and, and_true, Bool.and_true, Bool.true_and, ne_eq, not_false_eq_true, not_true_eq_false, implies_true, false_imp, true_imp_iff, hsz_put, hsl_put, hln_put, hty_put, hsz_new, hsl_new, hln_new, hty_new, Nat.zero_add, Nat.add_zero, eq_self, decide_true, t32_0, t32_1, t32_2, t32_3, t32_4, t32_5, t32_6, hv_same, hv_kne, hv_tne, hv_ntne, hv_nsame, hv_ctne, hty_cpy, hln_cpy, hsz_cpy, hsl_cpy, vrn, vnr, vrr, A123_0, A123_1, A123_4, A123_5, A123_8, A123_9, A123_12, A123_13, A123_14, A123_15, A123_16, A123_17, A123_18, A123_19, A123_20, A123_21, A123_24, A123_27, A123_30, A123_31, A123_32, A123_35, A123_38, A123_39, A123_42, A123_43, A123_46, A123_47, A123_50, A123_51, A123_52, A123_53, A123_54, A123_55, A123_56, A123_57, A123_58, A123_61, A123_62, A123_63, A123_66, A123_67, A123_68, A123_71, r5tb h hk, r5gb h hk, r5nb h hk, r5mb h hk, r5eb h hk, r5db h hk, r5vb h hk, r5lb h hk, r5pb h hk, r6tb h hk, r60b h hk, r61b h hk, r62b h hk, r63b h hk, r7tb h hk, r7lb h hk, r8tb h hk, r8lb h hk, r9tb h hk, r9lb h hk, r10tb h hk, r10lb h hk, rgBA h, r1tb h, r10_b h, r11_b h, r13_b h, r14_b h, r1sb h, rgBA h, h00, h4]
        refine hF _ ?_
        intro σ' S2
        simp (config := {decide := true}) only [vRf_r, vRf_n, vI_i, vL_l, vD_d, pI_i, pR_r, pR_n, vZ_0, vZ_1, ct_i, ct_r, ct_n, ct_l, ct_d, csum_n, csum_c, kt_v, kt_n, kt_e, oc_n, oc_i, oc_r, oc_l, oc_u, oc_d, true_and, and_true, Bool.and_true, Bool.true_and, ne_eq, not_false_eq_true, not_true_eq_false, implies_true, false_imp, true_imp_iff, hsz_put, hsl_put, hln_put, hty_put, hsz_new, hsl_new, hln_new, hty_new, Nat.zero_add, Nat.add_zero, eq_self, decide_true, t32_0, t32_1, t32_2, t32_3, t32_4, t32_5, t32_6, hv_same, hv_kne, hv_tne, hv_ntne, hv_nsame, hv_ctne, hty_cpy, hln_cpy, hsz_cpy, hsl_cpy, vrn, vnr, vrr, A123_0, A123_1, A123_4, A123_5, A123_8, A123_9, A123_12, A123_13, A123_14, A123_15, A123_16, A123_17, A123_18, A123_19, A123_20, A123_21, A123_24, A123_27, A123_30, A123_31, A123_32, A123_35, A123_38, A123_39, A123_42, A123_43, A123_46, A123_47, A123_50, A123_51, A123_52, A123_53, A123_54, A123_55, A123_56, A123_57, A123_58, A123_61, A123_62, A123_63, A123_66, A123_67, A123_68, A123_71]
        exact hQ _ S2
theorem c_await (h : RepB g A B σ z) (hk : k < zn z) (ht : okG z k) (hl : z.2 3 k ≤ 60) (hfull : z.1 1 k 31 = 1 → z.2 3 k ≠ 60 → z.1 1 k 25 = 0) (hc : hsz σ + 2 ≤ gC g) (hsm : hsl σ + 101 ≤ gS g) (hQ : ∀ B' σ', St g A B B' σ σ' (awaitZ z k) 2 101 → Q (.inl none) σ') : aw g 124 0 [some (.ref (A 1 0)), some (.ref (A 4 k)), none] [] σ Q := by
  by_cases h0 : z.1 1 k 8 = 0
  · have e1 : awaitZ z k = zs (zs z 3 k 2 (z.1 3 k 2 + 1)) 1 k 3 1 := by unfold awaitZ; rw [if_pos h0]
    have e2 := r8vb h hk (p := 2) (by decide)
    have e3 := rb_ex (v := z.1 3 k 2 + 1) (p := 2) h hk (by decide)
    simp (config := {decide := true}) only [vRf_r, vRf_n, vI_i, vL_l, vD_d, pI_i, pR_r, pR_n, vZ_0, vZ_1, ct_i, ct_r, ct_n, ct_l, ct_d, csum_n, csum_c, kt_v, kt_n, kt_e, oc_n, oc_i, oc_r, oc_l, oc_u, oc_d, true_and, and_true, Bool.and_true, Bool.true_and, ne_eq, not_false_eq_true, not_true_eq_false, implies_true, false_imp, true_imp_iff, hsz_put, hsl_put, hln_put, hty_put, hsz_new, hsl_new, hln_new, hty_new, Nat.zero_add, Nat.add_zero, eq_self, decide_true, t32_0, t32_1, t32_2, t32_3, t32_4, t32_5, t32_6, hv_same, hv_kne, hv_tne, hv_ntne, hv_nsame, hv_ctne, hty_cpy, hln_cpy, hsz_cpy, hsl_cpy, vrn, vnr, vrr, A124_0, A124_1, A124_4, A124_7, A124_8, A124_11, A124_12, A124_13, A124_14, A124_15, A124_16, A124_17, A124_18, A124_19, A124_22, A124_23, A124_24, A124_27, A124_28, A124_29, A124_30, A124_33, A124_34, A124_35, A124_38, A124_39, A124_40, A124_43, r5tb h hk, r5gb h hk, r5nb h hk, r5mb h hk, r5eb h hk, r5db h hk, r5vb h hk, r5lb h hk, r5pb h hk, r6tb h hk, r60b h hk, r61b h hk, r62b h hk, r63b h hk, r7tb h hk, r7lb h hk, r8tb h hk, r8lb h hk, r9tb h hk, r9lb h hk, r10tb h hk, r10lb h hk, rgBA h, h0, e2]
    exact hQ B _ (St_mono (St_put (St_put (St_refl h) 8 (by decide) e3) 4 (by decide) (by rw [e1]; exact rb_g (v := 1) (j := 3) e3 hk (by decide))) (by omega) (by omega))
  · have e1 : awaitZ z k = finishZ (logZ (zs z 1 k 8 0) k (z.1 1 k 8)) k (z.1 1 k 8) := by unfold awaitZ; rw [if_neg h0]
    have S1 := St_put (St_refl h) 4 (by decide) (rb_g (v := 0) (j := 8) h hk (by decide))
    have g1 := okG_zs (κ := 1) (i := k) (j := 8) (v := 0) ht (by decide) (by decide) (by decide)
    have g2 := okG_log (told := z.1 1 k 8) g1 k
    simp (config := {decide := true}) only [vRf_r, vRf_n, vI_i, vL_l, vD_d, pI_i, pR_r, pR_n, vZ_0, vZ_1, ct_i, ct_r, ct_n, ct_l, ct_d, csum_n, csum_c, kt_v, kt_n, kt_e, oc_n, oc_i, oc_r, oc_l, oc_u, oc_d, true_and, and_true, Bool.and_true, Bool.true_and, ne_eq, not_false_eq_true, not_true_eq_false, implies_true, false_imp, true_imp_iff, hsz_put, hsl_put, hln_put, hty_put, hsz_new, hsl_new, hln_new, hty_new, Nat.zero_add, Nat.add_zero, eq_self, decide_true, t32_0, t32_1, t32_2, t32_3, t32_4, t32_5, t32_6, hv_same, hv_kne, hv_tne, hv_ntne, hv_nsame, hv_ctne, hty_cpy, hln_cpy, hsz_cpy, hsl_cpy, vrn, vnr, vrr, A124_0, A124_1, A124_4, A124_7, A124_8, A124_11, A124_12, A124_13, A124_14, A124_15, A124_16, A124_17, A124_18, A124_19, A124_22, A124_23, A124_24, A124_27, A124_28, A124_29, A124_30, A124_33, A124_34, A124_35, A124_38, A124_39, A124_40, A124_43, r5tb h hk, r5gb h hk, r5nb h hk, r5mb h hk, r5eb h hk, r5db h hk, r5vb h hk, r5lb h hk, r5pb h hk, r6tb h hk, r60b h hk, r61b h hk, r62b h hk, r63b h hk, r7tb h hk, r7lb h hk, r8tb h hk, r8lb h hk, r9tb h hk, r9lb h hk, r10tb h hk, r10lb h hk, rgBA h, h0]
    refine c_log S1.1 hk hl (by rw [zs_j _ (by decide), zs_j _ (by decide)]; exact hfull) hc hsm ?_
    intro B1 σ1 S2
    simp (config := {decide := true}) only [vRf_r, vRf_n, vI_i, vL_l, vD_d, pI_i, pR_r, pR_n, vZ_0, vZ_1, ct_i, ct_r, ct_n, ct_l, ct_d, csum_n, csum_c, kt_v, kt_n, kt_e, oc_n, oc_i, oc_r, oc_l, oc_u, oc_d, true_and, and_true, Bool.and_true, Bool.true_and, ne_eq, not_false_eq_true, not_true_eq_false, implies_true, false_imp, true_imp_iff, hsz_put, hsl_put, hln_put, hty_put, hsz_new, hsl_new, hln_new, hty_new, Nat.zero_add, Nat.add_zero, eq_self, decide_true, t32_0, t32_1, t32_2, t32_3, t32_4, t32_5, t32_6, hv_same, hv_kne, hv_tne, hv_ntne, hv_nsame, hv_ctne, hty_cpy, hln_cpy, hsz_cpy, hsl_cpy, vrn, vnr, vrr, A124_0, A124_1, A124_4, A124_7, A124_8, A124_11, A124_12, A124_13, A124_14, A124_15, A124_16, A124_17, A124_18, A124_19, A124_22, A124_23, A124_24, A124_27, A124_28, A124_29, A124_30, A124_33, A124_34, A124_35, A124_38, A124_39, A124_40, A124_43]
    refine cb_finish S2.1 (by rw [(logZ_n _ _ _).1]; exact hk) g2.1 g2.2 ?_
    intro σ2 S3
    simp (config := {decide := true}) only [vRf_r, vRf_n, vI_i, vL_l, vD_d, pI_i, pR_r, pR_n, vZ_0, vZ_1, ct_i, ct_r, ct_n, ct_l, ct_d, csum_n, csum_c, kt_v, kt_n, kt_e, oc_n, oc_i, oc_r, oc_l, oc_u, oc_d, true_and, and_true, Bool.and_true, Bool.true_and, ne_eq, not_false_eq_true, not_true_eq_false, implies_true, false_imp, true_imp_iff, hsz_put, hsl_put, hln_put, hty_put, hsz_new, hsl_new, hln_new, hty_new, Nat.zero_add, Nat.add_zero, eq_self, decide_true, t32_0, t32_1, t32_2, t32_3, t32_4, t32_5, t32_6, hv_same, hv_kne, hv_tne, hv_ntne, hv_nsame, hv_ctne, hty_cpy, hln_cpy, hsz_cpy, hsl_cpy, vrn, vnr, vrr, A124_0, A124_1, A124_4, A124_7, A124_8, A124_11, A124_12, A124_13, A124_14, A124_15, A124_16, A124_17, A124_18, A124_19, A124_22, A124_23, A124_24, A124_27, A124_28, A124_29, A124_30, A124_33, A124_34, A124_35, A124_38, A124_39, A124_40, A124_43]
    refine hQ B1 σ2 ?_
    rw [e1]
    exact St_mono (St_trans S1 (St_trans S2 S3)) (by omega) (by omega)
end SEND
