/-! what the calls require -/
def inR (lo hi v : Int32) : Prop := ¬ v < lo ∧ ¬ hi < v
/-- an index among n -/
def inI (n : Nat) (x : Int32) : Prop := ¬ x < 0 ∧ x < Int32.ofNat n
section REQ
variable {g : GC} {A A' B B' : Nat → Nat → Nat} {σ σ' : AH} {z : ZT} {k p : Nat} {Q : AQ}
theorem inI_n {n : Nat} {x : Int32} (h : inI n x) (hn : n ≤ 1000) : x = Int32.ofNat x.toNatClampNeg ∧ x.toNatClampNeg < n := by
  have e := n32_of h.1
  refine ⟨e, ?_⟩
  have h2 := h.2
  rw [e, n32_lt (n32_bd x) (by omega)] at h2
  exact h2
theorem inR_n {lo hi : Nat} {v : Int32} (h : inR (Int32.ofNat lo) (Int32.ofNat hi) v) (hl : lo < 2147483648) (hh : hi < 2147483648) : v = Int32.ofNat v.toNatClampNeg ∧ lo ≤ v.toNatClampNeg ∧ v.toNatClampNeg ≤ hi := by
  have h0 : ¬ v < 0 := by
    intro e
    refine h.1 ?_
    rw [Int32.lt_iff_toInt_lt] at e ⊢
    rw [Int32.toInt_ofNat_of_lt (by omega)]
    have : (0 : Int32).toInt = 0 := rfl
    omega
  have e := n32_of h0
  have h1 := h.1
  have h2 := h.2
  rw [e, n32_lt (n32_bd v) hl] at h1
  rw [e, n32_lt hh (n32_bd v)] at h2
  exact ⟨e, by omega, by omega⟩
theorem hopq_kp {i j : Nat} (hi : i ≤ 1) (hj : j ≤ 6) : kp (fun _ => False) 1 6 σ (hopq σ i j) := kp_mono kp_opq hi hj (fun _ _ e => e)
theorem c_require {b : Int32} (hc : hsz σ + 1 ≤ gC g) (hs : hsl σ + 6 ≤ gS g) (h1 : b ≠ 0 → Q (.inl none) σ) (h2 : b = 0 → ∀ σ', kp (fun _ => False) 1 6 σ σ' → Q (.inr 0) σ') : aw g 78 0 [some (.int b)] [] σ Q := by
  by_cases e : b = 0
  · have := h2 e
    subst e
    simp (config := {decide := true}) only [vRf_r, vRf_n, vI_i, vL_l, vD_d, pI_i, pR_r, pR_n, vZ_0, vZ_1, ct_i, ct_r, ct_n, ct_l, ct_d, csum_n, csum_c, kt_v, kt_n, kt_e, oc_n, oc_i, oc_r, oc_l, oc_u, oc_d, true_and, and_true, Bool.and_true, Bool.true_and, ne_eq, not_false_eq_true, not_true_eq_false, implies_true, false_imp, true_imp_iff, hsz_put, hsl_put, hln_put, hty_put, hsz_new, hsl_new, hln_new, hty_new, Nat.zero_add, Nat.add_zero, eq_self, decide_true, t32_0, t32_1, t32_2, t32_3, t32_4, t32_5, t32_6, hv_same, hv_kne, hv_tne, hv_ntne, hv_nsame, hv_ctne, hty_cpy, hln_cpy, hsz_cpy, hsl_cpy, vrn, vnr, vrr, A78_0, A78_1, A78_4, A78_7, A78_12, hc, hs]
    exact fun i j hi hj => this _ (hopq_kp hi hj)
  · have := h1 e
    simp (config := {decide := true}) only [vRf_r, vRf_n, vI_i, vL_l, vD_d, pI_i, pR_r, pR_n, vZ_0, vZ_1, ct_i, ct_r, ct_n, ct_l, ct_d, csum_n, csum_c, kt_v, kt_n, kt_e, oc_n, oc_i, oc_r, oc_l, oc_u, oc_d, true_and, and_true, Bool.and_true, Bool.true_and, ne_eq, not_false_eq_true, not_true_eq_false, implies_true, false_imp, true_imp_iff, hsz_put, hsl_put, hln_put, hty_put, hsz_new, hsl_new, hln_new, hty_new, Nat.zero_add, Nat.add_zero, eq_self, decide_true, t32_0, t32_1, t32_2, t32_3, t32_4, t32_5, t32_6, hv_same, hv_kne, hv_tne, hv_ntne, hv_nsame, hv_ctne, hty_cpy, hln_cpy, hsz_cpy, hsl_cpy, vrn, vnr, vrr, A78_0, A78_1, A78_4, A78_7, A78_12, e]
    exact this
theorem c_requireState {b : Int32} (hc : hsz σ + 1 ≤ gC g) (hs : hsl σ + 6 ≤ gS g) (h1 : b ≠ 0 → Q (.inl none) σ) (h2 : b = 0 → ∀ σ', kp (fun _ => False) 1 6 σ σ' → Q (.inr 1) σ') : aw g 79 0 [some (.int b)] [] σ Q := by
  by_cases e : b = 0
  · have := h2 e
    subst e
    simp (config := {decide := true}) only [vRf_r, vRf_n, vI_i, vL_l, vD_d, pI_i, pR_r, pR_n, vZ_0, vZ_1, ct_i, ct_r, ct_n, ct_l, ct_d, csum_n, csum_c, kt_v, kt_n, kt_e, oc_n, oc_i, oc_r, oc_l, oc_u, oc_d, true_and, and_true, Bool.and_true, Bool.true_and, ne_eq, not_false_eq_true, not_true_eq_false, implies_true, false_imp, true_imp_iff, hsz_put, hsl_put, hln_put, hty_put, hsz_new, hsl_new, hln_new, hty_new, Nat.zero_add, Nat.add_zero, eq_self, decide_true, t32_0, t32_1, t32_2, t32_3, t32_4, t32_5, t32_6, hv_same, hv_kne, hv_tne, hv_ntne, hv_nsame, hv_ctne, hty_cpy, hln_cpy, hsz_cpy, hsl_cpy, vrn, vnr, vrr, A79_0, A79_1, A79_4, A79_7, A79_12, hc, hs]
    exact fun i j hi hj => this _ (hopq_kp hi hj)
  · have := h1 e
    simp (config := {decide := true}) only [vRf_r, vRf_n, vI_i, vL_l, vD_d, pI_i, pR_r, pR_n, vZ_0, vZ_1, ct_i, ct_r, ct_n, ct_l, ct_d, csum_n, csum_c, kt_v, kt_n, kt_e, oc_n, oc_i, oc_r, oc_l, oc_u, oc_d, true_and, and_true, Bool.and_true, Bool.true_and, ne_eq, not_false_eq_true, not_true_eq_false, implies_true, false_imp, true_imp_iff, hsz_put, hsl_put, hln_put, hty_put, hsz_new, hsl_new, hln_new, hty_new, Nat.zero_add, Nat.add_zero, eq_self, decide_true, t32_0, t32_1, t32_2, t32_3, t32_4, t32_5, t32_6, hv_same, hv_kne, hv_tne, hv_ntne, hv_nsame, hv_ctne, hty_cpy, hln_cpy, hsz_cpy, hsl_cpy, vrn, vnr, vrr, A79_0, A79_1, A79_4, A79_7, A79_12, e]
    exact this
theorem c_requireIndex {n : Nat} {x : Int32} (hc : hsz σ + 1 ≤ gC g) (hs : hsl σ + 6 ≤ gS g) (h1 : inI n x → Q (.inl none) σ) (h2 : ¬ inI n x → ∀ σ', kp (fun _ => False) 1 6 σ σ' → Q (.inr 2) σ') : aw g 83 0 [some (.int x), some (.int (Int32.ofNat n))] [] σ Q := by
  by_cases e0 : x < 0
  · have := h2 (fun e => e.1 e0)
    simp (config := {decide := true}) only [vRf_r, vRf_n, vI_i, vL_l, vD_d, pI_i, pR_r, pR_n, vZ_0, vZ_1, ct_i, ct_r, ct_n, ct_l, ct_d, csum_n, csum_c, kt_v, kt_n, kt_e, oc_n, oc_i, oc_r, oc_l, oc_u, oc_d, true_and, and_true, Bool.and_true, Bool.true_and, ne_eq, not_false_eq_true, not_true_eq_false, implies_true, false_imp, true_imp_iff, hsz_put, hsl_put, hln_put, hty_put, hsz_new, hsl_new, hln_new, hty_new, Nat.zero_add, Nat.add_zero, eq_self, decide_true, t32_0, t32_1, t32_2, t32_3, t32_4, t32_5, t32_6, hv_same, hv_kne, hv_tne, hv_ntne, hv_nsame, hv_ctne, hty_cpy, hln_cpy, hsz_cpy, hsl_cpy, vrn, vnr, vrr, A83_0, A83_1, A83_4, A83_5, A83_6, A83_9, A83_12, A83_17, hc, hs, e0]
    exact fun i j hi hj => this _ (hopq_kp hi hj)
  · by_cases e1 : x < Int32.ofNat n
    · have := h1 ⟨e0, e1⟩
      simp (config := {decide := true}) only [vRf_r, vRf_n, vI_i, vL_l, vD_d, pI_i, pR_r, pR_n, vZ_0, vZ_1, ct_i, ct_r, ct_n, ct_l, ct_d, csum_n, csum_c, kt_v, kt_n, kt_e, oc_n, oc_i, oc_r, oc_l, oc_u, oc_d, true_and, and_true, Bool.and_true, Bool.true_and, ne_eq, not_false_eq_true, not_true_eq_false, implies_true, false_imp, true_imp_iff, hsz_put, hsl_put, hln_put, hty_put, hsz_new, hsl_new, hln_new, hty_new, Nat.zero_add, Nat.add_zero, eq_self, decide_true, t32_0, t32_1, t32_2, t32_3, t32_4, t32_5, t32_6, hv_same, hv_kne, hv_tne, hv_ntne, hv_nsame, hv_ctne, hty_cpy, hln_cpy, hsz_cpy, hsl_cpy, vrn, vnr, vrr, A83_0, A83_1, A83_4, A83_5, A83_6, A83_9, A83_12, A83_17, e0, e1]
      exact this
    · have := h2 (fun e => e1 e.2)
      simp (config := {decide := true}) only [vRf_r, vRf_n, vI_i, vL_l, vD_d, pI_i, pR_r, pR_n, vZ_0, vZ_1, ct_i, ct_r, ct_n, ct_l, ct_d, csum_n, csum_c, kt_v, kt_n, kt_e, oc_n, oc_i, oc_r, oc_l, oc_u, oc_d, true_and, and_true, Bool.and_true, Bool.true_and, ne_eq, not_false_eq_true, not_true_eq_false, implies_true, false_imp, true_imp_iff, hsz_put, hsl_put, hln_put, hty_put, hsz_new, hsl_new, hln_new, hty_new, Nat.zero_add, Nat.add_zero, eq_self, decide_true, t32_0, t32_1, t32_2, t32_3, t32_4, t32_5, t32_6, hv_same, hv_kne, hv_tne, hv_ntne, hv_nsame, hv_ctne, hty_cpy, hln_cpy, hsz_cpy, hsl_cpy, vrn, vnr, vrr, A83_0, A83_1, A83_4, A83_5, A83_6, A83_9, A83_12, A83_17, hc, hs, e0, e1]
      exact fun i j hi hj => this _ (hopq_kp hi hj)
theorem c_requireFrom {lo hi v : Int32} (hc : hsz σ + 1 ≤ gC g) (hs : hsl σ + 6 ≤ gS g) (h1 : inR lo hi v → Q (.inl none) σ) (h2 : ¬ inR lo hi v → ∀ σ', kp (fun _ => False) 1 6 σ σ' → Q (.inr 0) σ') : aw g 77 0 [some (.int lo), some (.int hi), some (.int v)] [] σ Q := by
  by_cases e0 : v < lo
  · have := h2 (fun e => e.1 e0)
    simp (config := {decide := true}) only [vRf_r, vRf_n, vI_i, vL_l, vD_d, pI_i, pR_r, pR_n, vZ_0, vZ_1, ct_i, ct_r, ct_n, ct_l, ct_d, csum_n, csum_c, kt_v, kt_n, kt_e, oc_n, oc_i, oc_r, oc_l, oc_u, oc_d, true_and, and_true, Bool.and_true, Bool.true_and, ne_eq, not_false_eq_true, not_true_eq_false, implies_true, false_imp, true_imp_iff, hsz_put, hsl_put, hln_put, hty_put, hsz_new, hsl_new, hln_new, hty_new, Nat.zero_add, Nat.add_zero, eq_self, decide_true, t32_0, t32_1, t32_2, t32_3, t32_4, t32_5, t32_6, hv_same, hv_kne, hv_tne, hv_ntne, hv_nsame, hv_ctne, hty_cpy, hln_cpy, hsz_cpy, hsl_cpy, vrn, vnr, vrr, A77_0, A77_1, A77_2, A77_5, A77_6, A77_7, A77_10, A77_11, A77_14, A77_15, A77_18, e0]
    refine c_require hc hs (fun e => absurd rfl e) (fun _ σ' q => ?_)
    rw [kt_e]
    exact this σ' q
  · by_cases e1 : hi < v
    · have := h2 (fun e => e.2 e1)
      simp (config := {decide := true}) only [vRf_r, vRf_n, vI_i, vL_l, vD_d, pI_i, pR_r, pR_n, vZ_0, vZ_1, ct_i, ct_r, ct_n, ct_l, ct_d, csum_n, csum_c, kt_v, kt_n, kt_e, oc_n, oc_i, oc_r, oc_l, oc_u, oc_d, true_and, and_true, Bool.and_true, Bool.true_and, ne_eq, not_false_eq_true, not_true_eq_false, implies_true, false_imp, true_imp_iff, hsz_put, hsl_put, hln_put, hty_put, hsz_new, hsl_new, hln_new, hty_new, Nat.zero_add, Nat.add_zero, eq_self, decide_true, t32_0, t32_1, t32_2, t32_3, t32_4, t32_5, t32_6, hv_same, hv_kne, hv_tne, hv_ntne, hv_nsame, hv_ctne, hty_cpy, hln_cpy, hsz_cpy, hsl_cpy, vrn, vnr, vrr, A77_0, A77_1, A77_2, A77_5, A77_6, A77_7, A77_10, A77_11, A77_14, A77_15, A77_18, e0, e1]
      refine c_require hc hs (fun e => absurd rfl e) (fun _ σ' q => ?_)
      rw [kt_e]
      exact this σ' q
    · have := h1 ⟨e0, e1⟩
      simp (config := {decide := true}) only [vRf_r, vRf_n, vI_i, vL_l, vD_d, pI_i, pR_r, pR_n, vZ_0, vZ_1, ct_i, ct_r, ct_n, ct_l, ct_d, csum_n, csum_c, kt_v, kt_n, kt_e, oc_n, oc_i, oc_r, oc_l, oc_u, oc_d, true_and, and_true, Bool.and_true, Bool.true_and, ne_eq, not_false_eq_true, not_true_eq_false, implies_true, false_imp, true_imp_iff, hsz_put, hsl_put, hln_put, hty_put, hsz_new, hsl_new, hln_new, hty_new, Nat.zero_add, Nat.add_zero, eq_self, decide_true, t32_0, t32_1, t32_2, t32_3, t32_4, t32_5, t32_6, hv_same, hv_kne, hv_tne, hv_ntne, hv_nsame, hv_ctne, hty_cpy, hln_cpy, hsz_cpy, hsl_cpy, vrn, vnr, vrr, A77_0, A77_1, A77_2, A77_5, A77_6, A77_7, A77_10, A77_11, A77_14, A77_15, A77_18, e0, e1]
      refine c_require hc hs (fun _ => ?_) (fun e => absurd e (by decide))
      simp (config := {decide := true}) only [vRf_r, vRf_n, vI_i, vL_l, vD_d, pI_i, pR_r, pR_n, vZ_0, vZ_1, ct_i, ct_r, ct_n, ct_l, ct_d, csum_n, csum_c, kt_v, kt_n, kt_e, oc_n, oc_i, oc_r, oc_l, oc_u, oc_d, true_and, and_true, Bool.and_true, Bool.true_and, ne_eq, not_false_eq_true, not_true_eq_false, implies_true, false_imp, true_imp_iff, hsz_put, hsl_put, hln_put, hty_put, hsz_new, hsl_new, hln_new, hty_new, Nat.zero_add, Nat.add_zero, eq_self, decide_true, t32_0, t32_1, t32_2, t32_3, t32_4, t32_5, t32_6, hv_same, hv_kne, hv_tne, hv_ntne, hv_nsame, hv_ctne, hty_cpy, hln_cpy, hsz_cpy, hsl_cpy, vrn, vnr, vrr, A77_0, A77_1, A77_2, A77_5, A77_6, A77_7, A77_10, A77_11, A77_14, A77_15, A77_18]
      exact this
theorem c_at {a b n : Nat} {f : Nat → Value} {x : Int32} (hl : isL g σ a b n f) (hn : n ≤ 1000) (hc : hsz σ + 1 ≤ gC g) (hs : hsl σ + 6 ≤ gS g) (h1 : inI n x → Q (.inl (some (f x.toNatClampNeg))) σ) (h2 : ¬ inI n x → ∀ σ', kp (fun _ => False) 1 6 σ σ' → Q (.inr 2) σ') : aw g 82 0 [some (.ref a), some (.int x)] [] σ Q := by
  have e1 := fun Q' => l_size (Q := Q') hl
  have t := hl.1
  simp (config := {decide := true}) only [vRf_r, vRf_n, vI_i, vL_l, vD_d, pI_i, pR_r, pR_n, vZ_0, vZ_1, ct_i, ct_r, ct_n, ct_l, ct_d, csum_n, csum_c, kt_v, kt_n, kt_e, oc_n, oc_i, oc_r, oc_l, oc_u, oc_d, true_and, and_true, Bool.and_true, Bool.true_and, ne_eq, not_false_eq_true, not_true_eq_false, implies_true, false_imp, true_imp_iff, hsz_put, hsl_put, hln_put, hty_put, hsz_new, hsl_new, hln_new, hty_new, Nat.zero_add, Nat.add_zero, eq_self, decide_true, t32_0, t32_1, t32_2, t32_3, t32_4, t32_5, t32_6, hv_same, hv_kne, hv_tne, hv_ntne, hv_nsame, hv_ctne, hty_cpy, hln_cpy, hsz_cpy, hsl_cpy, vrn, vnr, vrr, A82_0, A82_1, A82_2, A82_7, e1, t]
  refine c_requireIndex hc hs (fun hi => ?_) (fun hi σ' q => ?_)
  · obtain ⟨ex, hx⟩ := inI_n hi hn
    have := h1 hi
    have e2 := fun Q' => l_get (Q := Q') hl hx
    rw [← ex] at e2
    have hv := vOb_r (hl.2.2.2.2.1 _ hx)
    have hp := vOb_p (hl.2.2.2.2.1 _ hx)
    simp (config := {decide := true}) only [vRf_r, vRf_n, vI_i, vL_l, vD_d, pI_i, pR_r, pR_n, vZ_0, vZ_1, ct_i, ct_r, ct_n, ct_l, ct_d, csum_n, csum_c, kt_v, kt_n, kt_e, oc_n, oc_i, oc_r, oc_l, oc_u, oc_d, true_and, and_true, Bool.and_true, Bool.true_and, ne_eq, not_false_eq_true, not_true_eq_false, implies_true, false_imp, true_imp_iff, hsz_put, hsl_put, hln_put, hty_put, hsz_new, hsl_new, hln_new, hty_new, Nat.zero_add, Nat.add_zero, eq_self, decide_true, t32_0, t32_1, t32_2, t32_3, t32_4, t32_5, t32_6, hv_same, hv_kne, hv_tne, hv_ntne, hv_nsame, hv_ctne, hty_cpy, hln_cpy, hsz_cpy, hsl_cpy, vrn, vnr, vrr, A82_10, A82_11, A82_12, A82_17, e2, t, hp]
    exact this
  · rw [kt_e]; exact h2 hi σ' q
theorem c_guestOf {x : Int32} (h : RepH g A B σ z) (h3 : zn z ≤ 1000) (hc : hsz σ + 1 ≤ gC g) (hs : hsl σ + 6 ≤ gS g) (h1 : inI (zn z) x → Q (.inl (some (.ref (A 4 x.toNatClampNeg)))) σ) (h2 : ¬ inI (zn z) x → ∀ σ', kp (fun _ => False) 1 6 σ σ' → Q (.inr 2) σ') : aw g 81 0 [some (.ref (A 0 0)), some (.int x)] [] σ Q := by
  have e0 := h.2.1
  have e1 := h.2.2
  simp (config := {decide := true}) only [vRf_r, vRf_n, vI_i, vL_l, vD_d, pI_i, pR_r, pR_n, vZ_0, vZ_1, ct_i, ct_r, ct_n, ct_l, ct_d, csum_n, csum_c, kt_v, kt_n, kt_e, oc_n, oc_i, oc_r, oc_l, oc_u, oc_d, true_and, and_true, Bool.and_true, Bool.true_and, ne_eq, not_false_eq_true, not_true_eq_false, implies_true, false_imp, true_imp_iff, hsz_put, hsl_put, hln_put, hty_put, hsz_new, hsl_new, hln_new, hty_new, Nat.zero_add, Nat.add_zero, eq_self, decide_true, t32_0, t32_1, t32_2, t32_3, t32_4, t32_5, t32_6, hv_same, hv_kne, hv_tne, hv_ntne, hv_nsame, hv_ctne, hty_cpy, hln_cpy, hsz_cpy, hsl_cpy, vrn, vnr, vrr, A81_0, A81_1, A81_4, A81_7, A81_8, r1tb h.1, r10_b h.1, r11_b h.1, r13_b h.1, r14_b h.1, r1sb h.1, rgBA h.1, e0, e1]
  refine c_at (rLgb h.1) h3 hc hs (fun hi => ?_) (fun hi σ' q => ?_)
  · have := h1 hi
    have t := r5tb h.1 (inI_n hi h3).2
    have e7 : (∃ t, t ∈ [5] ∧ some 5 = some t) = True := eq_true ⟨5, by decide, rfl⟩
    simp (config := {decide := true}) only [vRf_r, vRf_n, vI_i, vL_l, vD_d, pI_i, pR_r, pR_n, vZ_0, vZ_1, ct_i, ct_r, ct_n, ct_l, ct_d, csum_n, csum_c, kt_v, kt_n, kt_e, oc_n, oc_i, oc_r, oc_l, oc_u, oc_d, true_and, and_true, Bool.and_true, Bool.true_and, ne_eq, not_false_eq_true, not_true_eq_false, implies_true, false_imp, true_imp_iff, hsz_put, hsl_put, hln_put, hty_put, hsz_new, hsl_new, hln_new, hty_new, Nat.zero_add, Nat.add_zero, eq_self, decide_true, t32_0, t32_1, t32_2, t32_3, t32_4, t32_5, t32_6, hv_same, hv_kne, hv_tne, hv_ntne, hv_nsame, hv_ctne, hty_cpy, hln_cpy, hsz_cpy, hsl_cpy, vrn, vnr, vrr, A81_11, A81_11r, A81_14, t, e7]
    exact this
  · rw [kt_e]; exact h2 hi σ' q
end REQ
