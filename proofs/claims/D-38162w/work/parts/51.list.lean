/-! ArrayList -/
/-- an array behind a list: of its own, or one of the two empty ones -/
def bkL (g : GC) (σ : AH) (b d : Nat) : Prop := (d = b ∧ gB g ≤ d ∧ 0 < hln σ d) ∨ (hln σ d = 0 ∧ (d = gV g 0 ∨ d = gV g 1) ∧ (gC g ≤ b ∨ hty σ b = some 24))
/-- the list at a holds f 0 .. f (n-1); the array behind it is b, if it has one of its own -/
def isL (g : GC) (σ : AH) (a b n : Nat) (f : Nat → Value) : Prop := hty σ a = some 10 ∧ gB g ≤ a ∧ hv σ 10 a 2 = .int (Int32.ofNat n) ∧ (∃ m, hv σ 10 a 0 = .int m) ∧ (∀ i, i < n → vOb σ (f i)) ∧ ∃ d, hv σ 10 a 1 = .ref d ∧ hty σ d = some 24 ∧ n ≤ hln σ d ∧ hln σ d ≤ 60000 ∧ (∀ i, i < n → hv σ 24 d i = f i) ∧ bkL g σ b d
section LIST
variable {g : GC} {σ : AH} {Q : AQ} {a b n : Nat} {f : Nat → Value}
theorem l_size (h : isL g σ a b n f) : aw g 15 0 [some (.ref a)] [] σ Q = Q (.inl (some (.int (Int32.ofNat n)))) σ := by
  obtain ⟨h1, h2, h3, ⟨m, h4⟩, h5, d, h6, h7, h8, h9, h10, h11⟩ := h
  simp (config := {decide := true}) only [vRf_r, vRf_n, vI_i, vL_l, vD_d, pI_i, pR_r, pR_n, vZ_0, vZ_1, ct_i, ct_r, ct_n, ct_l, ct_d, csum_n, csum_c, kt_v, kt_n, kt_e, oc_n, oc_i, oc_r, oc_l, oc_u, oc_d, true_and, and_true, Bool.and_true, Bool.true_and, ne_eq, not_false_eq_true, not_true_eq_false, implies_true, false_imp, true_imp_iff, hsz_put, hsl_put, hln_put, hty_put, hsz_new, hsl_new, hln_new, hty_new, Nat.zero_add, Nat.add_zero, eq_self, decide_true, t32_0, t32_1, t32_2, t32_3, t32_4, t32_5, t32_6, hv_same, hv_kne, hv_tne, hv_ntne, hv_nsame, hv_ctne, hty_cpy, hln_cpy, hsz_cpy, hsl_cpy, vrn, vnr, vrr, A15_0, A15_1, A15_4, h1, h3]
theorem l_get (h : isL g σ a b n f) {i : Nat} (hi : i < n) : aw g 25 0 [some (.ref a), some (.int (Int32.ofNat i))] [] σ Q = Q (.inl (some (f i))) σ := by
  obtain ⟨h1, h2, h3, ⟨m, h4⟩, h5, d, h6, h7, h8, h9, h10, h11⟩ := h
  have e1 : (Int32.ofNat i < 0) = False := n32_neg (by omega)
  have e2 : (Int32.ofNat i < Int32.ofNat n) = True := by rw [n32_lt (by omega) (by omega)]; exact eq_true hi
  have e3 : (Int32.ofNat i).toNatClampNeg = i := n32_nat (by omega)
  have e4 : (i < hln σ d) = True := eq_true (by omega)
  have e7 := h10 i hi
  simp (config := {decide := true}) only [vRf_r, vRf_n, vI_i, vL_l, vD_d, pI_i, pR_r, pR_n, vZ_0, vZ_1, ct_i, ct_r, ct_n, ct_l, ct_d, csum_n, csum_c, kt_v, kt_n, kt_e, oc_n, oc_i, oc_r, oc_l, oc_u, oc_d, true_and, and_true, Bool.and_true, Bool.true_and, ne_eq, not_false_eq_true, not_true_eq_false, implies_true, false_imp, true_imp_iff, hsz_put, hsl_put, hln_put, hty_put, hsz_new, hsl_new, hln_new, hty_new, Nat.zero_add, Nat.add_zero, eq_self, decide_true, t32_0, t32_1, t32_2, t32_3, t32_4, t32_5, t32_6, hv_same, hv_kne, hv_tne, hv_ntne, hv_nsame, hv_ctne, hty_cpy, hln_cpy, hsz_cpy, hsl_cpy, vrn, vnr, vrr, A25_0, A25_1, A25_2, A25_5, A25_8, A25_9, A25_10, A25_11, A25_14, A26_0, A26_1, A26_4, A26_5, A26_6, A30_0, A30_1, A30_2, A30_3, A30_6, A31_0, A31_1, A31_4, A31_5, A31_6, A31_9, A31_10, A31_11, A31_16, A31_17, h1, h3, h6, h7, e1, e2, e3, e4, vOb_r (h5 i hi), vOb_c (h5 i hi), vOb_p (h5 i hi), e7]
theorem l_max (x y : Int32) : aw g 34 0 [some (.int x), some (.int y)] [] σ Q = Q (.inl (some (.int (if x < y then y else x)))) σ := by
  by_cases h : x < y
  · simp (config := {decide := true}) only [vRf_r, vRf_n, vI_i, vL_l, vD_d, pI_i, pR_r, pR_n, vZ_0, vZ_1, ct_i, ct_r, ct_n, ct_l, ct_d, csum_n, csum_c, kt_v, kt_n, kt_e, oc_n, oc_i, oc_r, oc_l, oc_u, oc_d, true_and, and_true, Bool.and_true, Bool.true_and, ne_eq, not_false_eq_true, not_true_eq_false, implies_true, false_imp, true_imp_iff, hsz_put, hsl_put, hln_put, hty_put, hsz_new, hsl_new, hln_new, hty_new, Nat.zero_add, Nat.add_zero, eq_self, decide_true, t32_0, t32_1, t32_2, t32_3, t32_4, t32_5, t32_6, hv_same, hv_kne, hv_tne, hv_ntne, hv_nsame, hv_ctne, hty_cpy, hln_cpy, hsz_cpy, hsl_cpy, vrn, vnr, vrr, A34_0, A34_1, A34_2, A34_5, A34_6, A34_9, A34_10, h, if_true]
  · simp (config := {decide := true}) only [vRf_r, vRf_n, vI_i, vL_l, vD_d, pI_i, pR_r, pR_n, vZ_0, vZ_1, ct_i, ct_r, ct_n, ct_l, ct_d, csum_n, csum_c, kt_v, kt_n, kt_e, oc_n, oc_i, oc_r, oc_l, oc_u, oc_d, true_and, and_true, Bool.and_true, Bool.true_and, ne_eq, not_false_eq_true, not_true_eq_false, implies_true, false_imp, true_imp_iff, hsz_put, hsl_put, hln_put, hty_put, hsz_new, hsl_new, hln_new, hty_new, Nat.zero_add, Nat.add_zero, eq_self, decide_true, t32_0, t32_1, t32_2, t32_3, t32_4, t32_5, t32_6, hv_same, hv_kne, hv_tne, hv_ntne, hv_nsame, hv_ctne, hty_cpy, hln_cpy, hsz_cpy, hsl_cpy, vrn, vnr, vrr, A34_0, A34_1, A34_2, A34_5, A34_6, A34_9, A34_10, h, if_false]
theorem l_min (x y : Int32) : aw g 35 0 [some (.int x), some (.int y)] [] σ Q = Q (.inl (some (.int (if y < x then y else x)))) σ := by
  by_cases h : y < x
  · simp (config := {decide := true}) only [vRf_r, vRf_n, vI_i, vL_l, vD_d, pI_i, pR_r, pR_n, vZ_0, vZ_1, ct_i, ct_r, ct_n, ct_l, ct_d, csum_n, csum_c, kt_v, kt_n, kt_e, oc_n, oc_i, oc_r, oc_l, oc_u, oc_d, true_and, and_true, Bool.and_true, Bool.true_and, ne_eq, not_false_eq_true, not_true_eq_false, implies_true, false_imp, true_imp_iff, hsz_put, hsl_put, hln_put, hty_put, hsz_new, hsl_new, hln_new, hty_new, Nat.zero_add, Nat.add_zero, eq_self, decide_true, t32_0, t32_1, t32_2, t32_3, t32_4, t32_5, t32_6, hv_same, hv_kne, hv_tne, hv_ntne, hv_nsame, hv_ctne, hty_cpy, hln_cpy, hsz_cpy, hsl_cpy, vrn, vnr, vrr, A35_0, A35_1, A35_2, A35_5, A35_6, A35_9, A35_10, h, if_true]
  · simp (config := {decide := true}) only [vRf_r, vRf_n, vI_i, vL_l, vD_d, pI_i, pR_r, pR_n, vZ_0, vZ_1, ct_i, ct_r, ct_n, ct_l, ct_d, csum_n, csum_c, kt_v, kt_n, kt_e, oc_n, oc_i, oc_r, oc_l, oc_u, oc_d, true_and, and_true, Bool.and_true, Bool.true_and, ne_eq, not_false_eq_true, not_true_eq_false, implies_true, false_imp, true_imp_iff, hsz_put, hsl_put, hln_put, hty_put, hsz_new, hsl_new, hln_new, hty_new, Nat.zero_add, Nat.add_zero, eq_self, decide_true, t32_0, t32_1, t32_2, t32_3, t32_4, t32_5, t32_6, hv_same, hv_kne, hv_tne, hv_ntne, hv_nsame, hv_ctne, hty_cpy, hln_cpy, hsz_cpy, hsl_cpy, vrn, vnr, vrr, A35_0, A35_1, A35_2, A35_5, A35_6, A35_9, A35_10, h, if_false]
theorem l_newLength {x y z : Nat} (hx : x ≤ 100000) (hy : y ≤ 100000) (hz : z ≤ 100000) (h0 : 0 < x + max y z) : aw g 32 0 [some (.int (Int32.ofNat x)), some (.int (Int32.ofNat y)), some (.int (Int32.ofNat z)), none] [] σ Q = Q (.inl (some (.int (Int32.ofNat (x + max y z))))) σ := by
  have e1 : (if Int32.ofNat y < Int32.ofNat z then Int32.ofNat z else Int32.ofNat y) = Int32.ofNat (max y z) := by
    have e0 := n32_lt (i := y) (n := z) (by omega) (by omega)
    by_cases h : y < z
    · rw [if_pos (by rw [e0]; exact h), Nat.max_eq_right (by omega)]
    · rw [if_neg (by rw [e0]; exact h), Nat.max_eq_left (by omega)]
  have e2 : (Int32.ofNat (x + max y z) ≤ 0) = False := by
    rw [← z32_0, n32_le (by omega) (by omega)]
    exact eq_false (by omega)
  have e3 : (Int32.ofNat (x + max y z) ≤ 2147483639) = True := by
    rw [show (2147483639 : Int32) = Int32.ofNat 2147483639 from rfl, n32_le (by omega) (by omega)]
    exact eq_true (by omega)
  have e4 : (2147483639 < Int32.ofNat (x + max y z)) = False := by
    rw [show (2147483639 : Int32) = Int32.ofNat 2147483639 from rfl, n32_lt (by omega) (by omega)]
    exact eq_false (by omega)
  simp (config := {decide := true}) only [vRf_r, vRf_n, vI_i, vL_l, vD_d, pI_i, pR_r, pR_n, vZ_0, vZ_1, ct_i, ct_r, ct_n, ct_l, ct_d, csum_n, csum_c, kt_v, kt_n, kt_e, oc_n, oc_i, oc_r, oc_l, oc_u, oc_d, true_and, and_true, Bool.and_true, Bool.true_and, ne_eq, not_false_eq_true, not_true_eq_false, implies_true, false_imp, true_imp_iff, hsz_put, hsl_put, hln_put, hty_put, hsz_new, hsl_new, hln_new, hty_new, Nat.zero_add, Nat.add_zero, eq_self, decide_true, t32_0, t32_1, t32_2, t32_3, t32_4, t32_5, t32_6, hv_same, hv_kne, hv_tne, hv_ntne, hv_nsame, hv_ctne, hty_cpy, hln_cpy, hsz_cpy, hsl_cpy, vrn, vnr, vrr, A32_0, A32_1, A32_2, A32_3, A32_6, A32_7, A32_8, A32_9, A32_10, A32_13, A32_14, A32_16, A32_19, A32_20, A32_21, A32_22, A32_23, A32_26, l_max, e1, e2, e3, e4, n32_add]
/-- a copy of the first m of an array of objects -/
def cpH (σ : AH) (d m : Nat) : AH := hcpy (hnew σ 24 m (fun _ => .null) m) 24 d 0 (hsz σ) 0 (min (hln σ d) m)
theorem l_copyOf {d m : Nat} (hd : hty σ d = some 24) (hm : m ≤ 60000) (hl : hln σ d ≤ 60000) (hB : gB g ≤ hsz σ) (ho : ∀ i, i < min (hln σ d) m → vOb σ (hv σ 24 d i)) : aw g 36 0 [some (.ref d), some (.int (Int32.ofNat m))] [] σ Q = ((hsz σ + 1 ≤ gC g ∧ hsl σ + m ≤ gS g) ∧ Q (.inl (some (.ref (hsz σ)))) (cpH σ d m)) := by
  have hlt := hty_lt hd
  have e1 : (if Int32.ofNat m < Int32.ofNat (hln σ d) then Int32.ofNat m else Int32.ofNat (hln σ d)) = Int32.ofNat (min (hln σ d) m) := by
    have e0 := n32_lt (i := m) (n := hln σ d) (by omega) (by omega)
    by_cases h : m < hln σ d
    · rw [if_pos (by rw [e0]; exact h), Nat.min_eq_right (by omega)]
    · rw [if_neg (by rw [e0]; exact h), Nat.min_eq_left (by omega)]
  have e2 : (Int32.ofNat m < 0) = False := n32_neg (by omega)
  have e3 : (Int32.ofNat (min (hln σ d) m) < 0) = False := n32_neg (by omega)
  have e4 : (Int32.ofNat m).toNatClampNeg = m := n32_nat (by omega)
  have e5 : (Int32.ofNat (min (hln σ d) m)).toNatClampNeg = min (hln σ d) m := n32_nat (by omega)
  have e6 : (m ≤ 65536) = True := eq_true (by omega)
  have e7 : (d = hsz σ) = False := eq_false (by omega)
  have e8 : (min (hln σ d) m ≤ hln σ d) = True := eq_true (by omega)
  have e9 : (min (hln σ d) m ≤ m) = True := eq_true (by omega)
  have e10 : (∀ i, i < min (hln σ d) m → vOb (hnew σ 24 m (fun _ => .null) m) (hv (hnew σ 24 m (fun _ => .null) m) 24 d i)) = True := by
    refine eq_true fun i hi => ?_
    rw [hv_nane σ (by omega)]
    exact kp_vOb (kp_new (W := fun _ => False)) (ho i hi)
  simp (config := {decide := true}) only [vRf_r, vRf_n, vI_i, vL_l, vD_d, pI_i, pR_r, pR_n, vZ_0, vZ_1, ct_i, ct_r, ct_n, ct_l, ct_d, csum_n, csum_c, kt_v, kt_n, kt_e, oc_n, oc_i, oc_r, oc_l, oc_u, oc_d, true_and, and_true, Bool.and_true, Bool.true_and, ne_eq, not_false_eq_true, not_true_eq_false, implies_true, false_imp, true_imp_iff, hsz_put, hsl_put, hln_put, hty_put, hsz_new, hsl_new, hln_new, hty_new, Nat.zero_add, Nat.add_zero, eq_self, decide_true, t32_0, t32_1, t32_2, t32_3, t32_4, t32_5, t32_6, hv_same, hv_kne, hv_tne, hv_ntne, hv_nsame, hv_ctne, hty_cpy, hln_cpy, hsz_cpy, hsl_cpy, vrn, vnr, vrr, A36_0, A36_1, A36_2, A36_3, A36_6, A36_9, A37_0, A37_1, A37_3, A37_6, A37_7, A37_10, A37_13, A37_17, A37_21, A37_21r, A37_24, A37_25, A37_26, A37_27, A37_28, A37_29, A37_30, A37_31, A37_32, A37_35, A37_38, A37_39, hd, hB, l_min, e1, e2, e3, e4, e5, e6, e7, e8, e9, e10, if_true, if_false, cpH, and_assoc, List.mem_cons, exists_eq_left]
theorem cpH_kp (W : Nat → Prop) (d m : Nat) : kp W 1 m σ (cpH σ d m) := kp_then (kp_new (W := W)) (kp_cpy (W := fun a => a = hsz σ) (fun _ => rfl)) (fun a ha e => by omega)
theorem cpH_sz (d m : Nat) : hsz (cpH σ d m) = hsz σ + 1 := rfl
theorem cpH_ty (d m : Nat) : hty (cpH σ d m) (hsz σ) = some 24 := by
  unfold cpH; rw [hty_cpy, hty_new, if_pos rfl]
theorem cpH_ln (d m : Nat) : hln (cpH σ d m) (hsz σ) = m := by
  unfold cpH; rw [hln_cpy, hln_new, if_pos rfl]
theorem cpH_v {d m i : Nat} (hi : i < min (hln σ d) m) (hd : d < hsz σ) : hv (cpH σ d m) 24 (hsz σ) i = hv σ 24 d i := by
  unfold cpH; rw [hv_cpy, if_pos ⟨rfl, rfl, by omega, by omega⟩, hv_nane σ (by omega)]
  congr 1; omega
/-- what a list needs to grow by one -/
def gw (n : Nat) : Nat := n + n / 2 + 10
theorem l_grow (h : isL g σ a b n f) (hn : n ≤ 30000) (hB : gB g ≤ hsz σ) (hc : hsz σ + 1 ≤ gC g) (hs : hsl σ + gw n ≤ gS g) (hfull : ∀ d, hv σ 10 a 1 = .ref d → hln σ d = n)
    (hQ : ∀ σ' m, n + 1 ≤ m → m ≤ gw n → hsz σ' = hsz σ + 1 → kp (fun x => x = a) 1 (gw n) σ σ' → hty σ' (hsz σ) = some 24 → hln σ' (hsz σ) = m → (∀ i, i < n → hv σ' 24 (hsz σ) i = f i) → hv σ' 10 a 1 = .ref (hsz σ) → hv σ' 10 a 2 = .int (Int32.ofNat n) → hv σ' 10 a 0 = hv σ 10 a 0 → Q (.inl (some (.ref (hsz σ)))) σ') : aw g 20 0 [some (.ref a)] [] σ Q := by
  obtain ⟨h1, h2, h3, ⟨m, h4⟩, h5, d, h6, h7, h8, h9, h10, h11⟩ := h
  have hcap : hln σ d = n := hfull d h6
  have hlt := hty_lt h1
  have hlt2 := hty_lt h7
  have ed : (a = hsz σ) = False := eq_false (by omega)
  have hi : Int32.ofNat n + 1 = Int32.ofNat (n + 1) := n32_inc n
  have e1 : (0 < Int32.ofNat n) = (0 < n) := by rw [← z32_0, n32_lt (by omega) (by omega)]
  by_cases h0 : 0 < n ∨ d ≠ gV g 0
  · have e2 : Int32.ofNat (n + 1) - Int32.ofNat n = Int32.ofNat 1 := by rw [n32_sub (by omega)]; congr 1; omega
    have e3 : Int32.ofNat n >>> ((1 : Int32) &&& 31) = Int32.ofNat (n / 2) := n32_half (by omega)
    have e4 : ∀ Q', aw g 32 0 [some (.int (Int32.ofNat n)), some (.int (Int32.ofNat 1)), some (.int (Int32.ofNat (n / 2))), none] [] σ Q' = Q' (.inl (some (.int (Int32.ofNat (n + max 1 (n / 2)))))) σ := fun Q' => l_newLength (by omega) (by omega) (by omega) (by omega)
    have e5 : ∀ Q', aw g 36 0 [some (.ref d), some (.int (Int32.ofNat (n + max 1 (n / 2))))] [] σ Q' = ((hsz σ + 1 ≤ gC g ∧ hsl σ + (n + max 1 (n / 2)) ≤ gS g) ∧ Q' (.inl (some (.ref (hsz σ)))) (cpH σ d (n + max 1 (n / 2)))) := fun Q' => l_copyOf h7 (by omega) h9 hB (fun i hi => by rw [h10 i (by omega)]; exact h5 i (by omega))
    have e6 : (hsl σ + (n + max 1 (n / 2)) ≤ gS g) = True := eq_true (by unfold gw at hs; omega)
    have e7 : hty (cpH σ d (n + max 1 (n / 2))) a = some 10 := kp_ty (cpH_kp (fun _ => False) d _) h1
    have hE : ∀ (Q' : AQ), aw g 21 20 [some (.ref a), some (.int (Int32.ofNat (n + 1))), some (.int (Int32.ofNat n)), none] [] σ Q' = Q' (.inl (some (.ref (hsz σ)))) (hput (cpH σ d (n + max 1 (n / 2))) 10 a 1 (.ref (hsz σ))) := by
      intro Q'
      simp (config := {decide := true}) only [vRf_r, vRf_n, vI_i, vL_l, vD_d, pI_i, pR_r, pR_n, vZ_0, vZ_1, ct_i, ct_r, ct_n, ct_l, ct_d, csum_n, csum_c, kt_v, kt_n, kt_e, oc_n, oc_i, oc_r, oc_l, oc_u, oc_d, true_and, and_true, Bool.and_true, Bool.true_and, ne_eq, not_false_eq_true, not_true_eq_false, implies_true, false_imp, true_imp_iff, hsz_put, hsl_put, hln_put, hty_put, hsz_new, hsl_new, hln_new, hty_new, Nat.zero_add, Nat.add_zero, eq_self, decide_true, t32_0, t32_1, t32_2, t32_3, t32_4, t32_5, t32_6, hv_same, hv_kne, hv_tne, hv_ntne, hv_nsame, hv_ctne, hty_cpy, hln_cpy, hsz_cpy, hsl_cpy, vrn, vnr, vrr, A21_20, A21_21, A21_22, A21_23, A21_24, A21_25, A21_26, A21_27, A21_30, A21_31, A21_32, A21_33, A21_36, A21_37, A21_40, A21_41, A21_44, h1, h2, h3, h6, h7, e2, e3, e4, e5, hc, e6, e7, hcap]
    have hF : Q (.inl (some (.ref (hsz σ)))) (hput (cpH σ d (n + max 1 (n / 2))) 10 a 1 (.ref (hsz σ))) := by
      refine hQ _ (n + max 1 (n / 2)) (by omega) (by unfold gw; omega) rfl (kp_mono (kp_then (cpH_kp (fun x => x = a) d _) (kp_put (W := fun x => x = a) (fun _ => rfl)) (fun _ _ e => e)) (by omega) (by unfold gw; omega) (fun _ _ e => e)) (cpH_ty (σ := σ) d (n + max 1 (n / 2))) (cpH_ln (σ := σ) d (n + max 1 (n / 2))) (fun i hi => ?_) (hv_same _ _ _ _ _) ?_ ?_
      · rw [hv_tne _ (by decide), cpH_v (by omega) hlt2]; exact h10 i hi
      · rw [hv_kne _ (by decide), ((cpH_kp (fun _ => False) d _).2.2.2.2 a hlt).2.2 (fun e => e)]; exact h3
      · rw [hv_kne _ (by decide), ((cpH_kp (fun _ => False) d _).2.2.2.2 a hlt).2.2 (fun e => e)]
    by_cases h00 : 0 < n
    · simp (config := {decide := true}) only [vRf_r, vRf_n, vI_i, vL_l, vD_d, pI_i, pR_r, pR_n, vZ_0, vZ_1, ct_i, ct_r, ct_n, ct_l, ct_d, csum_n, csum_c, kt_v, kt_n, kt_e, oc_n, oc_i, oc_r, oc_l, oc_u, oc_d, true_and, and_true, Bool.and_true, Bool.true_and, ne_eq, not_false_eq_true, not_true_eq_false, implies_true, false_imp, true_imp_iff, hsz_put, hsl_put, hln_put, hty_put, hsz_new, hsl_new, hln_new, hty_new, Nat.zero_add, Nat.add_zero, eq_self, decide_true, t32_0, t32_1, t32_2, t32_3, t32_4, t32_5, t32_6, hv_same, hv_kne, hv_tne, hv_ntne, hv_nsame, hv_ctne, hty_cpy, hln_cpy, hsz_cpy, hsl_cpy, vrn, vnr, vrr, A20_0, A20_1, A20_2, A20_5, A20_6, A20_7, A20_10, A21_0, A21_1, A21_4, A21_5, A21_6, A21_7, A21_10, A21_11, A21_14, A21_17, A21_21, A21_22, A21_23, A21_24, A21_25, A21_26, A21_27, A21_30, A21_31, A21_32, A21_33, A21_36, A21_37, A21_40, A21_41, A21_44, A21_45, A21_46, A21_48, A21_49, A21_52, A21_55, A21_56, A21_59, h1, h3, h6, h7, hcap, hi, e1, h00, hE]
      exact hF
    · have e8 : ((Value.ref d) = .ref (gV g 0)) = False := eq_false (fun e => by
        rcases h0 with h0 | h0
        · exact h00 h0
        · exact h0 (Value.ref.inj e))
      simp (config := {decide := true}) only [vRf_r, vRf_n, vI_i, vL_l, vD_d, pI_i, pR_r, pR_n, vZ_0, vZ_1, ct_i, ct_r, ct_n, ct_l, ct_d, csum_n, csum_c, kt_v, kt_n, kt_e, oc_n, oc_i, oc_r, oc_l, oc_u, oc_d, true_and, and_true, Bool.and_true, Bool.true_and, ne_eq, not_false_eq_true, not_true_eq_false, implies_true, false_imp, true_imp_iff, hsz_put, hsl_put, hln_put, hty_put, hsz_new, hsl_new, hln_new, hty_new, Nat.zero_add, Nat.add_zero, eq_self, decide_true, t32_0, t32_1, t32_2, t32_3, t32_4, t32_5, t32_6, hv_same, hv_kne, hv_tne, hv_ntne, hv_nsame, hv_ctne, hty_cpy, hln_cpy, hsz_cpy, hsl_cpy, vrn, vnr, vrr, A20_0, A20_1, A20_2, A20_5, A20_6, A20_7, A20_10, A21_0, A21_1, A21_4, A21_5, A21_6, A21_7, A21_10, A21_11, A21_14, A21_17, A21_21, A21_22, A21_23, A21_24, A21_25, A21_26, A21_27, A21_30, A21_31, A21_32, A21_33, A21_36, A21_37, A21_40, A21_41, A21_44, A21_45, A21_46, A21_48, A21_49, A21_52, A21_55, A21_56, A21_59, h1, h3, h6, h7, hcap, hi, e1, h00, hE, e8]
      exact hF
  · have hn0 : n = 0 := by omega
    have hd0 : d = gV g 0 := Classical.byContradiction (fun e => h0 (Or.inr e))
    subst hn0
    subst hd0
    have e9 : (if (10 : Int32) < Int32.ofNat 1 then Int32.ofNat 1 else 10) = 10 := rfl
    have e10 : (10 : Int32).toNatClampNeg = 10 := rfl
    have e6 : (hsl σ + 10 ≤ gS g) = True := eq_true (by unfold gw at hs; omega)
    simp (config := {decide := true}) only [vRf_r, vRf_n, vI_i, vL_l, vD_d, pI_i, pR_r, pR_n, vZ_0, vZ_1, ct_i, ct_r, ct_n, ct_l, ct_d, csum_n, csum_c, kt_v, kt_n, kt_e, oc_n, oc_i, oc_r, oc_l, oc_u, oc_d, true_and, and_true, Bool.and_true, Bool.true_and, ne_eq, not_false_eq_true, not_true_eq_false, implies_true, false_imp, true_imp_iff, hsz_put, hsl_put, hln_put, hty_put, hsz_new, hsl_new, hln_new, hty_new, Nat.zero_add, Nat.add_zero, eq_self, decide_true, t32_0, t32_1, t32_2, t32_3, t32_4, t32_5, t32_6, hv_same, hv_kne, hv_tne, hv_ntne, hv_nsame, hv_ctne, hty_cpy, hln_cpy, hsz_cpy, hsl_cpy, vrn, vnr, vrr, A20_0, A20_1, A20_2, A20_5, A20_6, A20_7, A20_10, A21_0, A21_1, A21_4, A21_5, A21_6, A21_7, A21_10, A21_11, A21_14, A21_17, A21_20, A21_21, A21_22, A21_23, A21_24, A21_25, A21_26, A21_27, A21_30, A21_31, A21_32, A21_33, A21_36, A21_37, A21_40, A21_41, A21_44, A21_45, A21_46, A21_48, A21_49, A21_52, A21_55, A21_56, A21_59, h1, h2, h3, h6, h7, hcap, hi, e1, l_max, e9, e10, hc, e6, ed, if_false]
    refine hQ _ 10 (by omega) (by unfold gw; omega) rfl (kp_mono (kp_then (kp_new (W := fun x => x = a)) (kp_put (W := fun x => x = a) (fun _ => rfl)) (fun _ _ e => e)) (by omega) (by unfold gw; omega) (fun _ _ e => e)) (by rw [hty_put, hty_new, if_pos rfl]) (by rw [hln_put, hln_new, if_pos rfl]) (fun i hi => by omega) (hv_same _ _ _ _ _) ?_ ?_
    · rw [hv_kne _ (by decide), hv_nane _ (by omega)]; exact h3
    · rw [hv_kne _ (by decide), hv_nane _ (by omega)]
theorem isL_kp {W : Nat → Prop} {c s : Nat} {σ' : AH} (h : isL g σ a b n f) (k : kp W c s σ σ') (ha : ¬ W a) (hb : ¬ W b) : isL g σ' a b n f := by
  obtain ⟨h1, h2, h3, ⟨m, h4⟩, h5, d, h6, h7, h8, h9, h10, h11⟩ := h
  obtain ⟨x1, x2, x3⟩ := k.2.2.2.2 a (hty_lt h1)
  obtain ⟨y1, y2, y3⟩ := k.2.2.2.2 d (hty_lt h7)
  refine ⟨kp_ty k h1, h2, by rw [x3 ha]; exact h3, ⟨m, by rw [x3 ha]; exact h4⟩, fun i hi => kp_vOb k (h5 i hi), d, by rw [x3 ha]; exact h6, kp_ty k h7, by rw [y2]; exact h8, by rw [y2]; exact h9, fun i hi => ?_, ?_⟩
  · rcases h11 with ⟨e, _, _⟩ | ⟨e, _⟩
    · rw [y3 (by rw [e]; exact hb)]; exact h10 i hi
    · omega
  · rcases h11 with ⟨e1, e2, e3⟩ | ⟨e1, e2⟩
    · exact Or.inl ⟨e1, e2, by rw [y2]; exact e3⟩
    · exact Or.inr ⟨by rw [y2]; exact e1, e2.1, e2.2.imp_right (fun q => kp_ty k q)⟩
/-- the ghost array of a list has the tag of an array, or is none -/
theorem isL_bty (h : isL g σ a b n f) : gC g ≤ b ∨ hty σ b = some 24 := by
  obtain ⟨h1, h2, h3, ⟨m, h4⟩, h5, d, h6, h7, h8, h9, h10, h11⟩ := h
  rcases h11 with ⟨e, _, _⟩ | ⟨_, _, e⟩
  · right; rw [← e]; exact h7
  · exact e
theorem isL_mod (h : isL g σ a b n f) (m : Int32) : isL g (hput σ 10 a 0 (.int m)) a b n f := by
  obtain ⟨h1, h2, h3, h4, h5, d, h6, h7, h8, h9, h10, h11⟩ := h
  exact ⟨h1, h2, by rw [hv_kne _ (by decide)]; exact h3, ⟨m, hv_same _ _ _ _ _⟩, h5, d, by rw [hv_kne _ (by decide)]; exact h6, h7, h8, h9, fun i hi => by rw [hv_tne _ (by decide)]; exact h10 i hi, h11⟩
theorem l_add (h : isL g σ a b n f) (hn : n ≤ 30000) (hB : gB g ≤ hsz σ) (hc : hsz σ + 1 ≤ gC g) (hs : hsl σ + gw n ≤ gS g) {v : Value} (ho : vOb σ v)
    (hQ : ∀ σ' b', isL g σ' a b' (n + 1) (fun i => if i = n then v else f i) → kp (fun x => x = a ∨ x = b) 1 (gw n) σ σ' → (b' = b ∨ b' = hsz σ ∧ hsz σ' = hsz σ + 1) → Q (.inl (some (.int 1))) σ') : aw g 18 0 [some (.ref a), some v] [] σ Q := by
  have h' := h
  obtain ⟨h1, h2, h3, ⟨m, h4⟩, h5, d, h6, h7, h8, h9, h10, h11⟩ := h'
  have hlt := hty_lt h1
  have hlt2 := hty_lt h7
  have hn1 : Int32.ofNat n + 1 = Int32.ofNat (n + 1) := n32_inc n
  have e2 : (Int32.ofNat n < 0) = False := n32_neg (by omega)
  have e3 : (Int32.ofNat n).toNatClampNeg = n := n32_nat (by omega)
  have e1 : (Int32.ofNat n = Int32.ofNat (hln σ d)) = (n = hln σ d) := n32_eq (by omega) (by omega)
  have k1 : hv (hput σ 10 a 0 (.int (m + 1))) 10 a 1 = .ref d := by rw [hv_kne _ (by decide)]; exact h6
  have k2 : hv (hput σ 10 a 0 (.int (m + 1))) 10 a 2 = .int (Int32.ofNat n) := by rw [hv_kne _ (by decide)]; exact h3
  by_cases hf : n = hln σ d
  · have e1t : (Int32.ofNat n = Int32.ofNat (hln σ d)) = True := e1.trans (eq_true hf)
    simp (config := {decide := true}) only [vRf_r, vRf_n, vI_i, vL_l, vD_d, pI_i, pR_r, pR_n, vZ_0, vZ_1, ct_i, ct_r, ct_n, ct_l, ct_d, csum_n, csum_c, kt_v, kt_n, kt_e, oc_n, oc_i, oc_r, oc_l, oc_u, oc_d, true_and, and_true, Bool.and_true, Bool.true_and, ne_eq, not_false_eq_true, not_true_eq_false, implies_true, false_imp, true_imp_iff, hsz_put, hsl_put, hln_put, hty_put, hsz_new, hsl_new, hln_new, hty_new, Nat.zero_add, Nat.add_zero, eq_self, decide_true, t32_0, t32_1, t32_2, t32_3, t32_4, t32_5, t32_6, hv_same, hv_kne, hv_tne, hv_ntne, hv_nsame, hv_ctne, hty_cpy, hln_cpy, hsz_cpy, hsl_cpy, vrn, vnr, vrr, A18_0, A18_1, A18_2, A18_5, A18_6, A18_7, A18_10, A18_11, A18_12, A18_13, A18_16, A18_17, A18_20, A18_23, A18_24, A19_0, A19_1, A19_2, A19_3, A19_6, A19_7, h1, h2, h3, h4, h7, k1, k2, e1t, vOb_r ho, vOb_c ho, vOb_p ho]
    refine l_grow (isL_mod h (m + 1)) hn hB hc hs (fun d' hd' => by rw [k1] at hd'; rw [← Value.ref.inj hd']; exact hf.symm) ?_
    intro σ' M q1 q2 q3 q4 q5 q6 q7 q8 q9 q10
    have q10' : hv σ' 10 a 0 = .int (m + 1) := by rw [q10, hv_same]
    have q11 : hty σ' a = some 10 := kp_ty q4 h1
    have e4 : (n < M) = True := eq_true (by omega)
    have e5 : (gB g ≤ hsz σ) = True := eq_true hB
    have e6 : vOb σ' v := kp_vOb (kp_trans (kp_put (W := fun _ => True) (fun _ => trivial)) (kp_mono q4 (Nat.le_refl _) (Nat.le_refl _) (fun _ _ _ => trivial))) ho
    have e7 := q5
    rw [hsz_put] at e7
    have q6' := q6
    rw [hsz_put] at q6'
    simp (config := {decide := true}) only [vRf_r, vRf_n, vI_i, vL_l, vD_d, pI_i, pR_r, pR_n, vZ_0, vZ_1, ct_i, ct_r, ct_n, ct_l, ct_d, csum_n, csum_c, kt_v, kt_n, kt_e, oc_n, oc_i, oc_r, oc_l, oc_u, oc_d, true_and, and_true, Bool.and_true, Bool.true_and, ne_eq, not_false_eq_true, not_true_eq_false, implies_true, false_imp, true_imp_iff, hsz_put, hsl_put, hln_put, hty_put, hsz_new, hsl_new, hln_new, hty_new, Nat.zero_add, Nat.add_zero, eq_self, decide_true, t32_0, t32_1, t32_2, t32_3, t32_4, t32_5, t32_6, hv_same, hv_kne, hv_tne, hv_ntne, hv_nsame, hv_ctne, hty_cpy, hln_cpy, hsz_cpy, hsl_cpy, vrn, vnr, vrr, A18_0, A18_1, A18_2, A18_5, A18_6, A18_7, A18_10, A18_11, A18_12, A18_13, A18_16, A18_17, A18_20, A18_23, A18_24, A19_0, A19_1, A19_2, A19_3, A19_6, A19_7, A19_10, A19_11, A19_12, A19_13, A19_14, A19_15, A19_16, A19_17, A19_18, A19_19, A19_22, h2, e2, e3, hn1, q9, q11, e4, e5, eq_true e6, e7, q6', vOb_o ho, vOb_r ho, vOb_c ho, vOb_p ho]
    have e8 : a ≠ hsz σ := by omega
    refine hQ (hput (hput σ' 24 (hsz σ) n v) 10 a 2 (.int (Int32.ofNat (n + 1)))) (hsz σ) ⟨q11, h2, hv_same _ _ _ _ _, ⟨m + 1, by rw [hv_kne _ (by decide), hv_tne _ (by decide)]; exact q10'⟩, fun i hi => ?_, hsz σ, by rw [hv_kne _ (by decide), hv_tne _ (by decide)]; exact q8, q5, by show n + 1 ≤ hln σ' (hsz (hput σ 10 a 0 (.int (m + 1)))); omega, by show hln σ' (hsz (hput σ 10 a 0 (.int (m + 1)))) ≤ 60000; unfold gw at q2; omega, fun i hi => ?_, Or.inl ⟨rfl, hB, by show 0 < hln σ' (hsz (hput σ 10 a 0 (.int (m + 1)))); omega⟩⟩ (kp_mono (kp_trans (kp_put (W := fun x => x = a ∨ x = b) (fun _ => Or.inl rfl)) (kp_then (kp_mono q4 (Nat.le_refl _) (Nat.le_refl _) (fun x _ e => Or.inl e)) (kp_trans (kp_put (W := fun x => x = hsz σ ∨ x = a) (fun _ => Or.inl rfl)) (kp_put (W := fun x => x = hsz σ ∨ x = a) (fun _ => Or.inr rfl))) (fun x hx e => by
      rcases e with e | e
      · rw [hsz_put] at hx; omega
      · exact Or.inl e))) (by omega) (by omega) (fun _ _ e => e)) (Or.inr ⟨rfl, q3⟩)
    · show vOb _ (if i = n then v else f i)
      by_cases hin : i = n
      · rw [if_pos hin]; exact e6
      · rw [if_neg hin]; exact kp_vOb q4 (h5 i (by omega))
    · show _ = if i = n then v else f i
      rw [hv_tne _ (by decide)]
      by_cases hin : i = n
      · rw [if_pos hin, hin, hv_same]
      · rw [if_neg hin, hv_kne _ hin]; exact q7 i (by omega)
  · have e4 : (n < hln σ d) = True := eq_true (by omega)
    rcases h11 with ⟨q1, q2, q3⟩ | ⟨q1, q2⟩
    · subst q1
      have e5 : (gB g ≤ d) = True := eq_true q2
      have e6 : vOb (hput σ 10 a 0 (.int (m + 1))) v = True := eq_true ho
      simp (config := {decide := true}) only [vRf_r, vRf_n, vI_i, vL_l, vD_d, pI_i, pR_r, pR_n, vZ_0, vZ_1, ct_i, ct_r, ct_n, ct_l, ct_d, csum_n, csum_c, kt_v, kt_n, kt_e, oc_n, oc_i, oc_r, oc_l, oc_u, oc_d, true_and, and_true, Bool.and_true, Bool.true_and, ne_eq, not_false_eq_true, not_true_eq_false, implies_true, false_imp, true_imp_iff, hsz_put, hsl_put, hln_put, hty_put, hsz_new, hsl_new, hln_new, hty_new, Nat.zero_add, Nat.add_zero, eq_self, decide_true, t32_0, t32_1, t32_2, t32_3, t32_4, t32_5, t32_6, hv_same, hv_kne, hv_tne, hv_ntne, hv_nsame, hv_ctne, hty_cpy, hln_cpy, hsz_cpy, hsl_cpy, vrn, vnr, vrr, A18_0, A18_1, A18_2, A18_5, A18_6, A18_7, A18_10, A18_11, A18_12, A18_13, A18_16, A18_17, A18_20, A18_23, A18_24, A19_0, A19_1, A19_2, A19_3, A19_6, A19_7, A19_10, A19_11, A19_12, A19_13, A19_14, A19_15, A19_16, A19_17, A19_18, A19_19, A19_22, h1, h2, h3, h4, h7, k1, k2, e1, e2, e3, e4, e5, e6, hn1, hf, vOb_r ho, vOb_c ho, vOb_p ho]
      refine hQ _ d ⟨h1, h2, hv_same _ _ _ _ _, ⟨m + 1, by rw [hv_kne _ (by decide), hv_tne _ (by decide), hv_same]⟩, fun i hi => ?_, d, by rw [hv_kne _ (by decide), hv_tne _ (by decide)]; exact k1, h7, by show n + 1 ≤ hln σ d; omega, h9, fun i hi => ?_, Or.inl ⟨rfl, q2, q3⟩⟩ (kp_mono (kp_trans (kp_put (W := fun x => x = a ∨ x = d) (fun _ => Or.inl rfl)) (kp_trans (kp_put (W := fun x => x = a ∨ x = d) (fun _ => Or.inr rfl)) (kp_put (W := fun x => x = a ∨ x = d) (fun _ => Or.inl rfl)))) (by omega) (by omega) (fun _ _ e => e)) (Or.inl rfl)
      · show vOb _ (if i = n then v else f i)
        by_cases hin : i = n
        · rw [if_pos hin]; exact ho
        · rw [if_neg hin]; exact h5 i (by omega)
      · show _ = if i = n then v else f i
        rw [hv_tne _ (by decide)]
        by_cases hin : i = n
        · rw [if_pos hin, hin, hv_same]
        · rw [if_neg hin, hv_kne _ hin, hv_tne _ (by decide)]; exact h10 i (by omega)
    · omega
/-! the iterator -/
def isI (g : GC) (σ : AH) (it a c : Nat) : Prop := hty σ it = some 11 ∧ gB g ≤ it ∧ hv σ 11 it 0 = .int (Int32.ofNat c) ∧ hv σ 11 it 2 = hv σ 10 a 0 ∧ hv σ 11 it 3 = .ref a
/-- a new iterator over the list at a -/
def itH (σ : AH) (a : Nat) : AH := hput (hput (hput (hnew σ 11 0 (fun k => defaultValue (tyJ16 k)) 4) 11 (hsz σ) 3 (.ref a)) 11 (hsz σ) 1 (.int (-1))) 11 (hsz σ) 2 (hv σ 10 a 0)
theorem l_iter (h : isL g σ a b n f) (hB : gB g ≤ hsz σ) : aw g 22 0 [some (.ref a)] [] σ Q = ((hsz σ + 1 ≤ gC g ∧ hsl σ + 4 ≤ gS g) ∧ Q (.inl (some (.ref (hsz σ)))) (itH σ a)) := by
  obtain ⟨h1, h2, h3, ⟨m, h4⟩, h5, d, h6, h7, h8, h9, h10, h11⟩ := h
  have hlt := hty_lt h1
  have e1 : (a = hsz σ) = False := eq_false (by omega)
  have e2 : hv (hput (hput (hnew σ 11 0 (fun k => defaultValue (tyJ16 k)) 4) 11 (hsz σ) 3 (.ref a)) 11 (hsz σ) 1 (.int (-1))) 10 a 0 = .int m := by
    rw [hv_tne _ (by decide), hv_tne _ (by decide), hv_ntne _ (by decide)]; exact h4
  simp (config := {decide := true}) only [vRf_r, vRf_n, vI_i, vL_l, vD_d, pI_i, pR_r, pR_n, vZ_0, vZ_1, ct_i, ct_r, ct_n, ct_l, ct_d, csum_n, csum_c, kt_v, kt_n, kt_e, oc_n, oc_i, oc_r, oc_l, oc_u, oc_d, true_and, and_true, Bool.and_true, Bool.true_and, ne_eq, not_false_eq_true, not_true_eq_false, implies_true, false_imp, true_imp_iff, hsz_put, hsl_put, hln_put, hty_put, hsz_new, hsl_new, hln_new, hty_new, Nat.zero_add, Nat.add_zero, eq_self, decide_true, t32_0, t32_1, t32_2, t32_3, t32_4, t32_5, t32_6, hv_same, hv_kne, hv_tne, hv_ntne, hv_nsame, hv_ctne, hty_cpy, hln_cpy, hsz_cpy, hsl_cpy, vrn, vnr, vrr, A22_0, A22_3, A22_4, A22_5, A22_8, A2_0, A2_1, A2_2, A2_5, A2_6, A2_9, A2_10, A2_11, A2_14, A2_15, A2_16, A2_19, A2_22, A2_25, h1, h4, hB, e1, e2, if_true, if_false, itH, and_assoc]
theorem itH_kp (W : Nat → Prop) (a : Nat) : kp W 1 4 σ (itH σ a) := kp_then (kp_new (W := W)) (kp_trans (kp_put (W := fun x => x = hsz σ) (fun _ => rfl)) (kp_trans (kp_put (W := fun x => x = hsz σ) (fun _ => rfl)) (kp_put (W := fun x => x = hsz σ) (fun _ => rfl)))) (fun x hx e => by omega)
theorem itH_isI (hB : gB g ≤ hsz σ) (ha : a < hsz σ) : isI g (itH σ a) (hsz σ) a 0 := by
  refine ⟨by unfold itH; rw [hty_put, hty_put, hty_put, hty_new, if_pos rfl], hB, ?_, ?_, ?_⟩
  · unfold itH; rw [hv_kne _ (by decide), hv_kne _ (by decide), hv_kne _ (by decide), hv_nsame]; rfl
  · rw [((itH_kp (fun _ => False) a).2.2.2.2 a ha).2.2 (fun e => e)]; unfold itH; rw [hv_same]
  · unfold itH; rw [hv_kne _ (by decide), hv_kne _ (by decide), hv_same]
theorem isI_kp {W : Nat → Prop} {c s it k : Nat} {σ' : AH} (h : isI g σ it a k) (q : kp W c s σ σ') (ha : a < hsz σ) (hi : ¬ W it) (hm : hv σ' 10 a 0 = hv σ 10 a 0) : isI g σ' it a k := by
  obtain ⟨h1, h2, h3, h4, h5⟩ := h
  have x := (q.2.2.2.2 it (hty_lt h1)).2.2 hi
  exact ⟨kp_ty q h1, h2, by rw [x]; exact h3, by rw [x, hm]; exact h4, by rw [x]; exact h5⟩
theorem l_hasNext {it c : Nat} (h : isL g σ a b n f) (hi : isI g σ it a c) (hc : c ≤ n) : aw g 3 0 [some (.ref it)] [] σ Q = Q (.inl (some (.int (if c < n then 1 else 0)))) σ := by
  obtain ⟨h1, h2, h3, ⟨m, h4⟩, h5, d, h6, h7, h8, h9, h10, h11⟩ := h
  obtain ⟨i1, i2, i3, i4, i5⟩ := hi
  have e1 : (Int32.ofNat c = Int32.ofNat n) = (c = n) := n32_eq (by omega) (by omega)
  by_cases q : c = n
  · have e2 : (c < n) = False := eq_false (by omega)
    have e3 : (Int32.ofNat c = Int32.ofNat n) = True := e1.trans (eq_true q)
    simp (config := {decide := true}) only [vRf_r, vRf_n, vI_i, vL_l, vD_d, pI_i, pR_r, pR_n, vZ_0, vZ_1, ct_i, ct_r, ct_n, ct_l, ct_d, csum_n, csum_c, kt_v, kt_n, kt_e, oc_n, oc_i, oc_r, oc_l, oc_u, oc_d, true_and, and_true, Bool.and_true, Bool.true_and, ne_eq, not_false_eq_true, not_true_eq_false, implies_true, false_imp, true_imp_iff, hsz_put, hsl_put, hln_put, hty_put, hsz_new, hsl_new, hln_new, hty_new, Nat.zero_add, Nat.add_zero, eq_self, decide_true, t32_0, t32_1, t32_2, t32_3, t32_4, t32_5, t32_6, hv_same, hv_kne, hv_tne, hv_ntne, hv_nsame, hv_ctne, hty_cpy, hln_cpy, hsz_cpy, hsl_cpy, vrn, vnr, vrr, A3_0, A3_1, A3_4, A3_5, A3_8, A3_11, A3_14, A3_15, A3_18, A3_19, h1, h3, i1, i3, i5, e3, e2, if_false]
  · have e2 : (c < n) = True := eq_true (by omega)
    have e3 : (Int32.ofNat c = Int32.ofNat n) = False := e1.trans (eq_false q)
    simp (config := {decide := true}) only [vRf_r, vRf_n, vI_i, vL_l, vD_d, pI_i, pR_r, pR_n, vZ_0, vZ_1, ct_i, ct_r, ct_n, ct_l, ct_d, csum_n, csum_c, kt_v, kt_n, kt_e, oc_n, oc_i, oc_r, oc_l, oc_u, oc_d, true_and, and_true, Bool.and_true, Bool.true_and, ne_eq, not_false_eq_true, not_true_eq_false, implies_true, false_imp, true_imp_iff, hsz_put, hsl_put, hln_put, hty_put, hsz_new, hsl_new, hln_new, hty_new, Nat.zero_add, Nat.add_zero, eq_self, decide_true, t32_0, t32_1, t32_2, t32_3, t32_4, t32_5, t32_6, hv_same, hv_kne, hv_tne, hv_ntne, hv_nsame, hv_ctne, hty_cpy, hln_cpy, hsz_cpy, hsl_cpy, vrn, vnr, vrr, A3_0, A3_1, A3_4, A3_5, A3_8, A3_11, A3_14, A3_15, A3_18, A3_19, h1, h3, i1, i3, i5, e3, e2, if_true]
/-- behind a step -/
def nxH (σ : AH) (it c : Nat) : AH := hput (hput σ 11 it 0 (.int (Int32.ofNat (c + 1)))) 11 it 1 (.int (Int32.ofNat c))
theorem l_next {it c : Nat} (h : isL g σ a b n f) (hi : isI g σ it a c) (hc : c < n) : aw g 4 0 [some (.ref it), none, none] [] σ Q = Q (.inl (some (f c))) (nxH σ it c) := by
  obtain ⟨h1, h2, h3, ⟨m, h4⟩, h5, d, h6, h7, h8, h9, h10, h11⟩ := h
  obtain ⟨i1, i2, i3, i4, i5⟩ := hi
  have i4' := i4.trans h4
  have e1 : (Int32.ofNat c < Int32.ofNat n) = True := by rw [n32_lt (by omega) (by omega)]; exact eq_true hc
  have e2 : (Int32.ofNat c < Int32.ofNat (hln σ d)) = True := by rw [n32_lt (by omega) (by omega)]; exact eq_true (by omega)
  have e3 : (Int32.ofNat c < 0) = False := n32_neg (by omega)
  have e4 : (Int32.ofNat c).toNatClampNeg = c := n32_nat (by omega)
  have e5 : (c < hln σ d) = True := eq_true (by omega)
  have e6 : hv (hput (hput σ 11 it 0 (.int (Int32.ofNat (c + 1)))) 11 it 1 (.int (Int32.ofNat c))) 24 d c = f c := by
    rw [hv_tne _ (by decide), hv_tne _ (by decide)]; exact h10 c hc
  have e7 : Int32.ofNat c + 1 = Int32.ofNat (c + 1) := n32_inc c
  simp (config := {decide := true}) only [vRf_r, vRf_n, vI_i, vL_l, vD_d, pI_i, pR_r, pR_n, vZ_0, vZ_1, ct_i, ct_r, ct_n, ct_l, ct_d, csum_n, csum_c, kt_v, kt_n, kt_e, oc_n, oc_i, oc_r, oc_l, oc_u, oc_d, true_and, and_true, Bool.and_true, Bool.true_and, ne_eq, not_false_eq_true, not_true_eq_false, implies_true, false_imp, true_imp_iff, hsz_put, hsl_put, hln_put, hty_put, hsz_new, hsl_new, hln_new, hty_new, Nat.zero_add, Nat.add_zero, eq_self, decide_true, t32_0, t32_1, t32_2, t32_3, t32_4, t32_5, t32_6, hv_same, hv_kne, hv_tne, hv_ntne, hv_nsame, hv_ctne, hty_cpy, hln_cpy, hsz_cpy, hsl_cpy, vrn, vnr, vrr, A4_0, A4_1, A4_4, A4_5, A4_8, A4_9, A4_10, A4_11, A4_14, A4_17, A4_23, A4_28, A4_29, A4_32, A4_35, A4_36, A4_37, A4_38, A4_39, A4_45, A4_50, A4_51, A4_52, A4_53, A4_54, A4_57, A4_58, A4_59, A4_60, A4_61, A4_64, A4_65, A5_0, A5_1, A5_4, A5_7, A5_8, A5_11, A5_17, A5_22, h1, h3, h4, h6, h7, i1, i2, i3, i4', i5, e1, e2, e3, e4, e5, e6, e7, vOb_o (h5 c hc), vOb_r (h5 c hc), vOb_c (h5 c hc), vOb_p (h5 c hc), nxH]
theorem nxH_kp {it c : Nat} : kp (fun x => x = it) 0 0 σ (nxH σ it c) := kp_trans (kp_put (W := fun x => x = it) (fun _ => rfl)) (kp_put (W := fun x => x = it) (fun _ => rfl))
theorem nxH_isI {it c : Nat} (hi : isI g σ it a c) : isI g (nxH σ it c) it a (c + 1) := by
  obtain ⟨i1, i2, i3, i4, i5⟩ := hi
  refine ⟨i1, i2, ?_, ?_, ?_⟩
  · unfold nxH; rw [hv_kne _ (by decide), hv_same]
  · unfold nxH; rw [hv_kne _ (by decide), hv_kne _ (by decide), hv_tne _ (by decide), hv_tne _ (by decide)]; exact i4
  · unfold nxH; rw [hv_kne _ (by decide), hv_kne _ (by decide)]; exact i5
end LIST
