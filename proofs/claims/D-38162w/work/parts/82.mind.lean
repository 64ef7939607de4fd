/-! new minds, copies of minds, of pasts -/
theorem hsz_nl (g : GC) (σ : AH) (a : Nat) : hsz (nlH g σ a) = hsz σ := rfl
theorem hsl_nl (g : GC) (σ : AH) (a : Nat) : hsl (nlH g σ a) = hsl σ := rfl
theorem hty_nl (g : GC) (σ : AH) (a b : Nat) : hty (nlH g σ a) b = hty σ b := rfl
theorem hln_nl (g : GC) (σ : AH) (a b : Nat) : hln (nlH g σ a) b = hln σ b := rfl
theorem hv_nl (g : GC) (σ : AH) (a : Nat) {t : Nat} (h : t ≠ 10) : hv (nlH g σ a) t = hv σ t := by unfold nlH; rw [hv_tne _ h, hv_tne _ h]
/-- a new list's cell -/
def nAL (σ : AH) : AH := hnew σ 10 0 (fun k => defaultValue (tyJ2 k)) 3
/-- a mind at x that is made -/
def miH (g : GC) (σ : AH) (x : Nat) : AH := hput (hnew (hput (nlH g (nAL σ) (hsz σ)) 6 x 0 (.ref (hsz σ))) 20 6 (fun _ => .int 0) 6) 6 x 1 (.ref (hsz σ + 1))
/-- a mind and what it holds -/
def mindA (g : GC) (σ : AH) (x y u b n : Nat) (f : Nat → Value) (w : Nat → Int32) (pl mk : Int32) : Prop := (hty σ x = some 6 ∧ hv σ 6 x 0 = .ref y ∧ hv σ 6 x 1 = .ref u ∧ hv σ 6 x 2 = .int pl ∧ hv σ 6 x 3 = .int mk) ∧ isL g σ y b n f ∧ hty σ u = some 20 ∧ hln σ u = 6 ∧ ∀ p, p < 6 → hv σ 20 u p = .int (w p)
section MINDC
variable {g : GC} {A B : Nat → Nat → Nat} {σ σ' : AH} {z : ZT} {k p x y u b n : Nat} {f : Nat → Value} {w : Nat → Int32} {pl mk : Int32} {Q : AQ}
theorem nAL_t (σ : AH) : hty (nAL σ) (hsz σ) = some 10 := by unfold nAL; rw [hty_new, if_pos rfl]
theorem nAL_kp (W : Nat → Prop) (σ : AH) : kp W 1 3 σ (nAL σ) := kp_new
theorem nAL_2 (σ : AH) : hv (nAL σ) 10 (hsz σ) 2 = .int 0 := by unfold nAL; rw [hv_nsame]; rfl
/-- a new, empty list -/
theorem nAL_L (hB : Bas g σ) {b : Nat} (hb : gC g ≤ b) (f : Nat → Value) : isL g (nlH g (nAL σ) (hsz σ)) (hsz σ) b 0 f ∧ hv (nlH g (nAL σ) (hsz σ)) 10 (hsz σ) 1 = .ref (gV g 0) :=
  ⟨nlH_isL (Bas_kp hB (nAL_kp (fun _ => False) σ) (fun _ e => e.elim)) (nAL_t σ) hB.1 (nAL_2 σ) hb f, by unfold nlH; rw [hv_same]⟩
theorem c_mindInit (h1 : hty σ x = some 6) (h2 : gB g ≤ x) (hB : gB g ≤ hsz σ) (hc : hsz σ + 2 ≤ gC g) (hs : hsl σ + 9 ≤ gS g) : aw g 202 0 [some (.ref x)] [] σ Q = Q (.inl none) (miH g σ x) := by
  have e1 := fun Q' => l_init (Q := Q') (σ := nAL σ) (nAL_t σ) hB
  have eN : hnew σ 10 0 (fun k => defaultValue (tyJ2 k)) 3 = nAL σ := rfl
  have c1 : hsz σ + 1 ≤ gC g := by omega
  have c2 : hsz σ + 1 + 1 ≤ gC g := by omega
  have s1 : hsl σ + 3 ≤ gS g := by omega
  have s2 : hsl σ + 3 + 6 ≤ gS g := by omega
  have z1 : hsz (nAL σ) = hsz σ + 1 := rfl
  have z2 : hsl (nAL σ) = hsl σ + 3 := rfl
  have t1 : hty (nAL σ) x = some 6 := kp_ty (nAL_kp (fun _ => False) σ) h1
  have x1 : (x = hsz σ + 1) = False := eq_false (fun e => by have := hty_lt h1; omega)
  simp (config := {decide := true}) only [vRf_r, vRf_n, vI_i, vL_l, vD_d, pI_i, pR_r, pR_n, vZ_0, vZ_1, ct_i, ct_r, ct_n, ct_l, ct_d, csum_n, csum_c, kt_v, kt_n, kt_e, oc_n, oc_i, oc_r, oc_l, oc_u, oc_d, true_and, and_true, Bool.and_true, Bool.true_and, ne_eq, not_false_eq_true, not_true_eq_false, implies_true, false_imp, true_imp_iff, hsz_put, hsl_put, hln_put, hty_put, hsz_new, hsl_new, hln_new, hty_new, Nat.zero_add, Nat.add_zero, eq_self, decide_true, t32_0, t32_1, t32_2, t32_3, t32_4, t32_5, t32_6, hv_same, hv_kne, hv_tne, hv_ntne, hv_nsame, hv_ctne, hty_cpy, hln_cpy, hsz_cpy, hsl_cpy, vrn, vnr, vrr, A202_0, A202_1, A202_4, A202_5, A202_8, A202_9, A202_12, A202_15, A202_16, A202_18, A202_20, A202_23, h1, h2, eN, e1, c1, c2, s1, s2, z1, z2, t1, x1, hsz_nl, hsl_nl, hty_nl, hln_nl, if_false, miH]
theorem miH_kp (hx : hsz σ ≤ x ∨ True) : kp (fun a => a = x) 2 9 σ (miH g σ x) := by
  unfold miH
  have k1 : kp (fun a => a = x) 1 3 σ (nAL σ) := nAL_kp _ σ
  have k2 : kp (fun a => a = x) 1 3 σ (nlH g (nAL σ) (hsz σ)) := kp_then k1 (nlH_kp (W := fun a => a = hsz σ) rfl) (fun a ha e => by omega)
  have k3 : kp (fun a => a = x) 1 3 σ (hput (nlH g (nAL σ) (hsz σ)) 6 x 0 (.ref (hsz σ))) := kp_trans k2 (kp_put (fun _ => rfl))
  exact kp_trans (kp_trans k3 (kp_new (s := 6))) (kp_put (fun _ => rfl))
theorem miH_A (hB : Bas g σ) (h1 : hty σ x = some 6) (h2 : hv σ 6 x 2 = .int pl) (h3 : hv σ 6 x 3 = .int mk) {b : Nat} (hb : gC g ≤ b) (hC : hsz σ + 2 ≤ gC g) (f : Nat → Value) : mindA g (miH g σ x) x (hsz σ) (hsz σ + 1) b 0 f (fun _ => 0) pl mk ∧ hv (miH g σ x) 10 (hsz σ) 1 = .ref (gV g 0) := by
  have hx := hty_lt h1
  obtain ⟨l1, l2⟩ := nAL_L hB hb f
  have hk := miH_kp (g := g) (σ := σ) (x := x) (Or.inr trivial)
  have q : kp (fun a => a = x) 1 6 (nlH g (nAL σ) (hsz σ)) (miH g σ x) := kp_trans (kp_trans (kp_put (W := fun a => a = x) (fun _ => rfl)) (kp_new (s := 6))) (kp_put (W := fun a => a = x) (fun _ => rfl))
  refine ⟨⟨⟨kp_ty hk h1, ?_, ?_, ?_, ?_⟩, isL_kq l1 q (fun e => by omega) (fun _ => by omega), ?_, ?_, ?_⟩, ?_⟩
  · unfold miH; rw [hv_kne _ (by decide), hv_ntne _ (by decide), hv_same]
  · unfold miH; rw [hv_same]
  · unfold miH; rw [hv_kne _ (by decide), hv_ntne _ (by decide), hv_kne _ (by decide), hv_nl _ _ _ (by decide)]; unfold nAL; rw [hv_ntne _ (by decide)]; exact h2
  · unfold miH; rw [hv_kne _ (by decide), hv_ntne _ (by decide), hv_kne _ (by decide), hv_nl _ _ _ (by decide)]; unfold nAL; rw [hv_ntne _ (by decide)]; exact h3
  · unfold miH
    rw [hty_put, hty_new]; exact if_pos rfl
  · unfold miH
    rw [hln_put, hln_new]; exact if_pos rfl
  · intro p _
    unfold miH
    rw [hv_tne _ (by decide)]
    exact hv_nsame _ _ _ _ _ _
  · unfold miH
    rw [hv_tne _ (by decide), hv_ntne _ (by decide), hv_tne _ (by decide)]
    exact l2
theorem c_mindCopy {m tl v tb : Nat} (hB : Bas g σ) (h1 : mindA g σ m tl v tb n f w pl mk) (hn : n ≤ 12) (hc : hsz σ + 5 ≤ gC g) (hs : hsl σ + 47 ≤ gS g)
    (hQ : ∀ σ' x y u b, kp (fun _ => False) 5 47 σ σ' → hsz σ ≤ x → x < y → y < u → u < b → b < hsz σ' → mindA g σ' x y u b n f w pl mk → Q (.inl (some (.ref x))) σ') : aw g 201 0 [some (.ref m), none] [] σ Q := by
  obtain ⟨⟨a1, a2, a3, a4, a5⟩, a6, a7, a8, a9⟩ := h1
  have hgB := hB.1
  have lm := hty_lt a1
  have lv := hty_lt a7
  have lt := hty_lt a6.1
  have c1 : hsz σ + 1 ≤ gC g := by omega
  have s1 : hsl σ + 4 ≤ gS g := by omega
  -- the new mind
  have kA : kp (fun _ => False) 1 4 σ (hnew σ 6 0 (fun k => defaultValue (tyX7 k)) 4) := kp_new
  have tA : hty (hnew σ 6 0 (fun k => defaultValue (tyX7 k)) 4) (hsz σ) = some 6 := by rw [hty_new, if_pos rfl]
  have vA2 : hv (hnew σ 6 0 (fun k => defaultValue (tyX7 k)) 4) 6 (hsz σ) 2 = .int 0 := hv_nsame _ _ _ _ _ _
  have vA3 : hv (hnew σ 6 0 (fun k => defaultValue (tyX7 k)) 4) 6 (hsz σ) 3 = .int 0 := hv_nsame _ _ _ _ _ _
  have zA : hsz (hnew σ 6 0 (fun k => defaultValue (tyX7 k)) 4) = hsz σ + 1 := rfl
  have yA : hsl (hnew σ 6 0 (fun k => defaultValue (tyX7 k)) 4) = hsl σ + 4 := rfl
  simp (config := {decide := true}) only [vRf_r, vRf_n, vI_i, vL_l, vD_d, pI_i, pR_r, pR_n, vZ_0, vZ_1, ct_i, ct_r, ct_n, ct_l, ct_d, csum_n, csum_c, kt_v, kt_n, kt_e, oc_n, oc_i, oc_r, oc_l, oc_u, oc_d, true_and, and_true, Bool.and_true, Bool.true_and, ne_eq, not_false_eq_true, not_true_eq_false, implies_true, false_imp, true_imp_iff, hsz_put, hsl_put, hln_put, hty_put, hsz_new, hsl_new, hln_new, hty_new, Nat.zero_add, Nat.add_zero, eq_self, decide_true, t32_0, t32_1, t32_2, t32_3, t32_4, t32_5, t32_6, hv_same, hv_kne, hv_tne, hv_ntne, hv_nsame, hv_ctne, hty_cpy, hln_cpy, hsz_cpy, hsl_cpy, vrn, vnr, vrr, A201_0, A201_3, A201_4, c1, s1]
  generalize hnew σ 6 0 (fun k => defaultValue (tyX7 k)) 4 = σA at *
  have BA := Bas_kp hB kA (fun _ e => e.elim)
  have e1 := fun Q' => c_mindInit (Q := Q') tA hgB BA.1 (by omega) (by omega)
  rw [e1]
  obtain ⟨MI, ML⟩ := miH_A BA tA vA2 vA3 (b := gC g) (Nat.le_refl _) (by omega) f
  have kB := miH_kp (g := g) (σ := σA) (x := hsz σ) (Or.inr trivial)
  have zB : hsz (miH g σA (hsz σ)) = hsz σ + 3 := by show hsz σA + 1 + 1 = _; omega
  have yB : hsl (miH g σA (hsz σ)) = hsl σ + 13 := by show hsl σA + 3 + 6 = _; omega
  rw [zA] at MI ML
  generalize miH g σA (hsz σ) = σB at *
  have kAB : kp (fun _ => False) 3 13 σ σB := kp_then kA kB (fun a ha e => by omega)
  have BB := Bas_kp hB kAB (fun _ e => e.elim)
  obtain ⟨⟨b1, b2, b3, b4, b5⟩, b6, b7, b8, b9⟩ := MI
  have oB : ∀ a t, hty σ a = some t → ∀ t' i, hv σB t' a i = hv σ t' a i := fun a t e => (kAB.2.2.2.2 a (hty_lt e)).2.2 (fun e => e)
  have a1' := kp_ty kAB a1
  have tl' := isL_kp a6 kAB (fun e => e) (fun e => e)
  have a2' : hv σB 6 m 0 = .ref tl := by rw [oB m 6 a1]; exact a2
  have ub := isL_bty a6
  have nb : tb ≠ hsz σ + 1 := by
    intro e
    rcases ub with e2 | e2
    · omega
    · have := hty_lt e2; omega
  simp (config := {decide := true}) only [vRf_r, vRf_n, vI_i, vL_l, vD_d, pI_i, pR_r, pR_n, vZ_0, vZ_1, ct_i, ct_r, ct_n, ct_l, ct_d, csum_n, csum_c, kt_v, kt_n, kt_e, oc_n, oc_i, oc_r, oc_l, oc_u, oc_d, true_and, and_true, Bool.and_true, Bool.true_and, ne_eq, not_false_eq_true, not_true_eq_false, implies_true, false_imp, true_imp_iff, hsz_put, hsl_put, hln_put, hty_put, hsz_new, hsl_new, hln_new, hty_new, Nat.zero_add, Nat.add_zero, eq_self, decide_true, t32_0, t32_1, t32_2, t32_3, t32_4, t32_5, t32_6, hv_same, hv_kne, hv_tne, hv_ntne, hv_nsame, hv_ctne, hty_cpy, hln_cpy, hsz_cpy, hsl_cpy, vrn, vnr, vrr, A201_7, A201_8, A201_9, A201_12, A201_13, A201_16, a1', a2', b1, b2, b6.1]
  refine l_addAll BB tl' b6 ML (by omega) nb (by omega) (by omega) ?_
  intro σC b2' rv l1 kC lb _ _
  have kAC : kp (fun _ => False) 5 47 σ σC := kp_mono (kp_then kAB kC (fun a ha e => by omega)) (by omega) (by omega) (fun _ _ e => e)
  have oC : ∀ a t, hty σ a = some t → ∀ t' i, hv σC t' a i = hv σ t' a i := fun a t e => (kAC.2.2.2.2 a (hty_lt e)).2.2 (fun e => e)
  have oD : ∀ a t, hty σB a = some t → a ≠ hsz σ + 1 → ∀ t' i, hv σC t' a i = hv σB t' a i := fun a t e n => (kC.2.2.2.2 a (hty_lt e)).2.2 n
  have m1 := kp_ty kAC a1
  have v1 := kp_ty kAC a7
  have v2 : hln σC v = 6 := by rw [(kAC.2.2.2.2 v lv).2.1]; exact a8
  have v3 : hv σC 6 m 1 = .ref v := by rw [oC m 6 a1]; exact a3
  have v4 : hv σC 6 m 2 = .int pl := by rw [oC m 6 a1]; exact a4
  have v5 : hv σC 6 m 3 = .int mk := by rw [oC m 6 a1]; exact a5
  have x1 := kp_ty kC b1
  have x2 : hv σC 6 (hsz σ) 0 = .ref (hsz σ + 1) := by rw [oD _ 6 b1 (by omega)]; exact b2
  have x3 : hv σC 6 (hsz σ) 1 = .ref (hsz σ + 1 + 1) := by rw [oD _ 6 b1 (by omega)]; exact b3
  have u1 := kp_ty kC b7
  have u2 : hln σC (hsz σ + 1 + 1) = 6 := by rw [(kC.2.2.2.2 _ (hty_lt b7)).2.1]; exact b8
  have hok : (∀ i, i < 6 → vI (hv σC 20 v i) = true) = True := eq_true (fun i hi => by rw [oC v 20 a7, a9 i hi]; rfl)
  have gu : gB g ≤ hsz σ + 1 + 1 := by omega
  simp (config := {decide := true}) only [vRf_r, vRf_n, vI_i, vL_l, vD_d, pI_i, pR_r, pR_n, vZ_0, vZ_1, ct_i, ct_r, ct_n, ct_l, ct_d, csum_n, csum_c, kt_v, kt_n, kt_e, oc_n, oc_i, oc_r, oc_l, oc_u, oc_d, true_and, and_true, Bool.and_true, Bool.true_and, ne_eq, not_false_eq_true, not_true_eq_false, implies_true, false_imp, true_imp_iff, hsz_put, hsl_put, hln_put, hty_put, hsz_new, hsl_new, hln_new, hty_new, Nat.zero_add, Nat.add_zero, eq_self, decide_true, t32_0, t32_1, t32_2, t32_3, t32_4, t32_5, t32_6, hv_same, hv_kne, hv_tne, hv_ntne, hv_nsame, hv_ctne, hty_cpy, hln_cpy, hsz_cpy, hsl_cpy, vrn, vnr, vrr, A201_19, A201_20, A201_21, A201_24, A201_25, A201_26, A201_29, A201_30, A201_32, A201_35, A201_36, A201_37, A201_40, A201_43, A201_44, A201_45, A201_48, A201_51, A201_52, m1, v1, v2, v3, v4, v5, x1, x2, x3, u1, u2, hok, hgB, gu]
  have kE : kp (fun a => a = hsz σ ∨ a = hsz σ + 1 + 1) 0 0 σC (hput (hput (hcpy σC 20 v 0 (hsz σ + 1 + 1) 0 6) 6 (hsz σ) 2 (.int pl)) 6 (hsz σ) 3 (.int mk)) := kp_trans (kp_trans (kp_cpy (fun _ => Or.inr rfl)) (kp_put (fun _ => Or.inl rfl))) (kp_put (fun _ => Or.inl rfl))
  refine hQ _ (hsz σ) (hsz σ + 1) (hsz σ + 1 + 1) b2' (kp_mono (kp_then kAC kE (fun a ha e => by omega)) (by omega) (by omega) (fun _ _ e => e)) (Nat.le_refl _) (by omega) (by omega) (by omega) lb.2 ⟨⟨x1, ?_, ?_, ?_, ?_⟩, isL_kp l1 kE (by omega) (by omega), u1, u2, fun p hp => ?_⟩
  · rw [hv_kne _ (by decide), hv_kne _ (by decide), hv_ctne _ (by decide)]; exact x2
  · rw [hv_kne _ (by decide), hv_kne _ (by decide), hv_ctne _ (by decide)]; exact x3
  · rw [hv_kne _ (by decide), hv_same]
  · rw [hv_same]
  · rw [hv_tne _ (by decide), hv_tne _ (by decide), hv_cpy, if_pos ⟨rfl, rfl, Nat.zero_le _, by omega⟩, oC v 20 a7, Nat.sub_zero, Nat.zero_add]
    exact a9 p hp
/-- a past with a mind m, a log and given rows -/
def pastA (g : GC) (σ : AH) (x m y b n : Nat) (f : Nat → Value) (y2 b2 n2 : Nat) (f2 : Nat → Value) (dn fl : Int32) : Prop := (hty σ x = some 9 ∧ hv σ 9 x 0 = .ref m ∧ hv σ 9 x 1 = .ref y ∧ hv σ 9 x 2 = .ref y2 ∧ hv σ 9 x 3 = .int dn ∧ hv σ 9 x 4 = .int fl) ∧ isL g σ y b n f ∧ isL g σ y2 b2 n2 f2
/-- a past at x that is made -/
def piH (g : GC) (σ : AH) (x m : Nat) : AH := hput (hput (nlH g (nAL (hput (nlH g (nAL σ) (hsz σ)) 9 x 1 (.ref (hsz σ)))) (hsz σ + 1)) 9 x 2 (.ref (hsz σ + 1))) 9 x 0 (.ref m)
theorem c_pastInit {m : Nat} (h1 : hty σ x = some 9) (h2 : gB g ≤ x) (hB : gB g ≤ hsz σ) (hc : hsz σ + 2 ≤ gC g) (hs : hsl σ + 6 ≤ gS g) : aw g 106 0 [some (.ref x), some (.ref m)] [] σ Q = Q (.inl none) (piH g σ x m) := by
  have e1 := fun Q' => l_init (Q := Q') (σ := nAL σ) (nAL_t σ) hB
  have hB2 : gB g ≤ hsz σ + 1 := by omega
  have e2 := fun Q' => l_init (g := g) (Q := Q') (σ := nAL (hput (nlH g (nAL σ) (hsz σ)) 9 x 1 (.ref (hsz σ)))) (a := hsz σ + 1) (nAL_t _) hB2
  have eN : ∀ σ : AH, hnew σ 10 0 (fun k => defaultValue (tyJ2 k)) 3 = nAL σ := fun _ => rfl
  have c1 : hsz σ + 1 ≤ gC g := by omega
  have c2 : hsz σ + 1 + 1 ≤ gC g := by omega
  have s1 : hsl σ + 3 ≤ gS g := by omega
  have s2 : hsl σ + 3 + 3 ≤ gS g := by omega
  have z1 : ∀ σ : AH, hsz (nAL σ) = hsz σ + 1 := fun _ => rfl
  have z2 : ∀ σ : AH, hsl (nAL σ) = hsl σ + 3 := fun _ => rfl
  have t0 : hty (nAL σ) x = some 9 := kp_ty (nAL_kp (fun _ => False) σ) h1
  have t1 : hty (nAL (hput (nlH g (nAL σ) (hsz σ)) 9 x 1 (.ref (hsz σ)))) x = some 9 := kp_ty (nAL_kp (fun _ => False) _) (show hty (hput (nlH g (nAL σ) (hsz σ)) 9 x 1 (.ref (hsz σ))) x = some 9 from t0)
  simp (config := {decide := true}) only [vRf_r, vRf_n, vI_i, vL_l, vD_d, pI_i, pR_r, pR_n, vZ_0, vZ_1, ct_i, ct_r, ct_n, ct_l, ct_d, csum_n, csum_c, kt_v, kt_n, kt_e, oc_n, oc_i, oc_r, oc_l, oc_u, oc_d, true_and, and_true, Bool.and_true, Bool.true_and, ne_eq, not_false_eq_true, not_true_eq_false, implies_true, false_imp, true_imp_iff, hsz_put, hsl_put, hln_put, hty_put, hsz_new, hsl_new, hln_new, hty_new, Nat.zero_add, Nat.add_zero, eq_self, decide_true, t32_0, t32_1, t32_2, t32_3, t32_4, t32_5, t32_6, hv_same, hv_kne, hv_tne, hv_ntne, hv_nsame, hv_ctne, hty_cpy, hln_cpy, hsz_cpy, hsl_cpy, vrn, vnr, vrr, A106_0, A106_1, A106_4, A106_5, A106_8, A106_9, A106_12, A106_15, A106_16, A106_19, A106_20, A106_23, A106_26, A106_27, A106_28, A106_31, h1, h2, eN, e1, e2, c1, c2, s1, s2, z1, z2, t0, t1, hsz_nl, hsl_nl, hty_nl, hln_nl, piH]
theorem piH_kp {m : Nat} : kp (fun a => a = x) 2 6 σ (piH g σ x m) := by
  unfold piH
  have k2 : ∀ σ : AH, kp (fun a => a = x) 1 3 σ (nlH g (nAL σ) (hsz σ)) := fun σ => kp_then (nAL_kp _ σ) (nlH_kp (W := fun a => a = hsz σ) rfl) (fun a ha e => by omega)
  exact kp_trans (kp_trans (kp_trans (kp_trans (k2 σ) (kp_put (fun _ => rfl))) (k2 (hput (nlH g (nAL σ) (hsz σ)) 9 x 1 (.ref (hsz σ))))) (kp_put (fun _ => rfl))) (kp_put (fun _ => rfl))
theorem piH_A {m : Nat} {dn fl : Int32} (hB : Bas g σ) (h0 : gB g ≤ x) (h1 : hty σ x = some 9) (h2 : hv σ 9 x 3 = .int dn) (h3 : hv σ 9 x 4 = .int fl) {b b2 : Nat} (hb : gC g ≤ b) (hb2 : gC g ≤ b2) (hC : hsz σ + 2 ≤ gC g) (f f2 : Nat → Value) : pastA g (piH g σ x m) x m (hsz σ) b 0 f (hsz σ + 1) b2 0 f2 dn fl ∧ hv (piH g σ x m) 10 (hsz σ) 1 = .ref (gV g 0) ∧ hv (piH g σ x m) 10 (hsz σ + 1) 1 = .ref (gV g 0) := by
  have hx := hty_lt h1
  obtain ⟨l1, l2⟩ := nAL_L hB hb f
  have k1 : kp (fun a => a = x) 1 3 σ (hput (nlH g (nAL σ) (hsz σ)) 9 x 1 (.ref (hsz σ))) := kp_trans (kp_then (nAL_kp _ σ) (nlH_kp (W := fun a => a = hsz σ) rfl) (fun a ha e => by omega)) (kp_put (W := fun a => a = x) (fun _ => rfl))
  have hB1 : Bas g (hput (nlH g (nAL σ) (hsz σ)) 9 x 1 (.ref (hsz σ))) := Bas_kp hB k1 (fun a e => by rw [e]; exact h0)
  have l1' : isL g (hput (nlH g (nAL σ) (hsz σ)) 9 x 1 (.ref (hsz σ))) (hsz σ) b 0 f := isL_tag l1 (by decide) (by decide)
  have l2' : hv (hput (nlH g (nAL σ) (hsz σ)) 9 x 1 (.ref (hsz σ))) 10 (hsz σ) 1 = .ref (gV g 0) := by rw [hv_tne _ (by decide)]; exact l2
  have t1 : hty (hput (nlH g (nAL σ) (hsz σ)) 9 x 1 (.ref (hsz σ))) x = some 9 := kp_ty k1 h1
  have v1 : hv (hput (nlH g (nAL σ) (hsz σ)) 9 x 1 (.ref (hsz σ))) 9 x 1 = .ref (hsz σ) := hv_same _ _ _ _ _
  have v3 : hv (hput (nlH g (nAL σ) (hsz σ)) 9 x 1 (.ref (hsz σ))) 9 x 3 = .int dn := by rw [hv_kne _ (by decide), hv_nl _ _ _ (by decide)]; unfold nAL; rw [hv_ntne _ (by decide)]; exact h2
  have v4 : hv (hput (nlH g (nAL σ) (hsz σ)) 9 x 1 (.ref (hsz σ))) 9 x 4 = .int fl := by rw [hv_kne _ (by decide), hv_nl _ _ _ (by decide)]; unfold nAL; rw [hv_ntne _ (by decide)]; exact h3
  have z1 : hsz (hput (nlH g (nAL σ) (hsz σ)) 9 x 1 (.ref (hsz σ))) = hsz σ + 1 := rfl
  unfold piH
  generalize hput (nlH g (nAL σ) (hsz σ)) 9 x 1 (.ref (hsz σ)) = σ2 at *
  obtain ⟨m1, m2⟩ := nAL_L hB1 hb2 f2
  rw [z1] at m1 m2
  have k3 : kp (fun a => a = hsz σ + 1) 1 3 σ2 (nlH g (nAL σ2) (hsz σ + 1)) := kp_trans (nAL_kp _ σ2) (nlH_kp (W := fun a => a = hsz σ + 1) rfl)
  have w1 : ∀ i, hv (nlH g (nAL σ2) (hsz σ + 1)) 9 x i = hv σ2 9 x i := fun i => (k3.2.2.2.2 x (by omega)).2.2 (by omega) 9 i
  refine ⟨⟨⟨kp_ty k3 t1, ?_, ?_, ?_, ?_, ?_⟩, isL_tag (isL_tag (isL_kq l1' k3 (by omega) (by omega)) (by decide) (by decide)) (by decide) (by decide), isL_tag (isL_tag m1 (by decide) (by decide)) (by decide) (by decide)⟩, ?_, ?_⟩
  · rw [hv_same]
  · rw [hv_kne _ (by decide), hv_kne _ (by decide), w1]; exact v1
  · rw [hv_kne _ (by decide), hv_same]
  · rw [hv_kne _ (by decide), hv_kne _ (by decide), w1]; exact v3
  · rw [hv_kne _ (by decide), hv_kne _ (by decide), w1]; exact v4
  · rw [hv_tne _ (by decide), hv_tne _ (by decide), (k3.2.2.2.2 (hsz σ) (by omega)).2.2 (by omega)]; exact l2'
  · rw [hv_tne _ (by decide), hv_tne _ (by decide)]; exact m2
theorem c_pastCopy {x0 m y b n y2 b2 n2 : Nat} {f2 : Nat → Value} {dn fl : Int32} (hB : Bas g σ) (h1 : pastA g σ x0 m y b n f y2 b2 n2 f2 dn fl) (hm : hty σ m = some 6) (hfl : fl = 0 ∨ fl = 1) (hn : n ≤ 60) (hn2 : n2 ≤ 400) (hc : hsz σ + 7 ≤ gC g) (hs : hsl σ + 951 ≤ gS g)
    (hQ : ∀ σ' x' y' b' y2' b2', kp (fun _ => False) 7 951 σ σ' → hsz σ ≤ x' → x' < y' → y' < y2' → y2' < b' → b' < b2' → b2' < hsz σ' → pastA g σ' x' m y' b' n f y2' b2' n2 f2 dn fl → Q (.inl (some (.ref x'))) σ') : aw g 105 0 [some (.ref x0), none] [] σ Q := by
  obtain ⟨⟨a1, a2, a3, a4, a5, a6⟩, a7, a8⟩ := h1
  have hgB := hB.1
  have c1 : hsz σ + 1 ≤ gC g := by omega
  have s1 : hsl σ + 5 ≤ gS g := by omega
  have lx := hty_lt a1
  have x1 : (x0 = hsz σ) = False := eq_false (by omega)
  have kA : kp (fun _ => False) 1 5 σ (hnew σ 9 0 (fun k => defaultValue (tyX10 k)) 5) := kp_new
  have tA : hty (hnew σ 9 0 (fun k => defaultValue (tyX10 k)) 5) (hsz σ) = some 9 := by rw [hty_new, if_pos rfl]
  have vA3 : hv (hnew σ 9 0 (fun k => defaultValue (tyX10 k)) 5) 9 (hsz σ) 3 = .int 0 := hv_nsame _ _ _ _ _ _
  have vA4 : hv (hnew σ 9 0 (fun k => defaultValue (tyX10 k)) 5) 9 (hsz σ) 4 = .int 0 := hv_nsame _ _ _ _ _ _
  have vA0 : hv (hnew σ 9 0 (fun k => defaultValue (tyX10 k)) 5) 9 x0 0 = .ref m := by rw [hv_nane _ (by omega)]; exact a2
  have zA : hsz (hnew σ 9 0 (fun k => defaultValue (tyX10 k)) 5) = hsz σ + 1 := rfl
  have yA : hsl (hnew σ 9 0 (fun k => defaultValue (tyX10 k)) 5) = hsl σ + 5 := rfl
  simp (config := {decide := true}) only [vRf_r, vRf_n, vI_i, vL_l, vD_d, pI_i, pR_r, pR_n, vZ_0, vZ_1, ct_i, ct_r, ct_n, ct_l, ct_d, csum_n, csum_c, kt_v, kt_n, kt_e, oc_n, oc_i, oc_r, oc_l, oc_u, oc_d, true_and, and_true, Bool.and_true, Bool.true_and, ne_eq, not_false_eq_true, not_true_eq_false, implies_true, false_imp, true_imp_iff, hsz_put, hsl_put, hln_put, hty_put, hsz_new, hsl_new, hln_new, hty_new, Nat.zero_add, Nat.add_zero, eq_self, decide_true, t32_0, t32_1, t32_2, t32_3, t32_4, t32_5, t32_6, hv_same, hv_kne, hv_tne, hv_ntne, hv_nsame, hv_ctne, hty_cpy, hln_cpy, hsz_cpy, hsl_cpy, vrn, vnr, vrr, A105_0, A105_3, A105_4, A105_5, A105_8, c1, s1, a1, x1, vA0, if_false]
  generalize hnew σ 9 0 (fun k => defaultValue (tyX10 k)) 5 = σA at *
  have BA := Bas_kp hB kA (fun _ e => e.elim)
  have e1 := fun Q' => c_pastInit (Q := Q') (m := m) tA hgB BA.1 (by omega) (by omega)
  rw [e1]
  obtain ⟨MI, ML, ML2⟩ := piH_A (m := m) BA hgB tA vA3 vA4 (b := gC g) (b2 := gC g) (Nat.le_refl _) (Nat.le_refl _) (by omega) f f2
  have kB := piH_kp (g := g) (σ := σA) (x := hsz σ) (m := m)
  have zB : hsz (piH g σA (hsz σ) m) = hsz σ + 3 := by show hsz σA + 1 + 1 = _; omega
  have yB : hsl (piH g σA (hsz σ) m) = hsl σ + 11 := by show hsl σA + 3 + 3 = _; omega
  rw [zA] at MI ML ML2
  generalize piH g σA (hsz σ) m = σB at *
  have kAB : kp (fun _ => False) 3 11 σ σB := kp_then kA kB (fun a ha e => by omega)
  have BB := Bas_kp hB kAB (fun _ e => e.elim)
  obtain ⟨⟨b1, b2_, b3, b4, b5, b6⟩, b7, b8⟩ := MI
  have oB : ∀ a t, hty σ a = some t → ∀ t' i, hv σB t' a i = hv σ t' a i := fun a t e => (kAB.2.2.2.2 a (hty_lt e)).2.2 (fun e => e)
  have a1' := kp_ty kAB a1
  have ly := hty_lt a7.1
  have ly2 := hty_lt a8.1
  have y1' := isL_kp a7 kAB (fun e => e) (fun e => e)
  have y2' := isL_kp a8 kAB (fun e => e) (fun e => e)
  have a3' : hv σB 9 x0 1 = .ref y := by rw [oB x0 9 a1]; exact a3
  have nbq : ∀ {b n : Nat} {y : Nat} {f : Nat → Value}, isL g σ y b n f → ∀ q, hsz σ ≤ q → q < gC g → b ≠ q := by
    intro b n y f h q h1 h2 e
    rcases isL_bty h with e2 | e2
    · omega
    · have := hty_lt e2; omega
  simp (config := {decide := true}) only [vRf_r, vRf_n, vI_i, vL_l, vD_d, pI_i, pR_r, pR_n, vZ_0, vZ_1, ct_i, ct_r, ct_n, ct_l, ct_d, csum_n, csum_c, kt_v, kt_n, kt_e, oc_n, oc_i, oc_r, oc_l, oc_u, oc_d, true_and, and_true, Bool.and_true, Bool.true_and, ne_eq, not_false_eq_true, not_true_eq_false, implies_true, false_imp, true_imp_iff, hsz_put, hsl_put, hln_put, hty_put, hsz_new, hsl_new, hln_new, hty_new, Nat.zero_add, Nat.add_zero, eq_self, decide_true, t32_0, t32_1, t32_2, t32_3, t32_4, t32_5, t32_6, hv_same, hv_kne, hv_tne, hv_ntne, hv_nsame, hv_ctne, hty_cpy, hln_cpy, hsz_cpy, hsl_cpy, vrn, vnr, vrr, A105_11, A105_12, A105_13, A105_16, A105_17, A105_20, a1', a3', b1, b3, b7.1]
  refine l_addAll BB y1' b7 ML (by omega) (nbq a7 _ (by omega) (by omega)) (by omega) (by omega) ?_
  intro σC b' rv l1 kC lb _ _
  have kAC : kp (fun _ => False) 5 141 σ σC := kp_mono (kp_then kAB kC (fun a ha e => by omega)) (by omega) (by omega) (fun _ _ e => e)
  have BC := Bas_kp hB kAC (fun _ e => e.elim)
  have dC1 := kAC.2.1
  have dC2 := kAC.2.2.2.1
  have oC : ∀ a t, hty σ a = some t → ∀ t' i, hv σC t' a i = hv σ t' a i := fun a t e => (kAC.2.2.2.2 a (hty_lt e)).2.2 (fun e => e)
  have oD : ∀ a t, hty σB a = some t → a ≠ hsz σ + 1 → ∀ t' i, hv σC t' a i = hv σB t' a i := fun a t e n => (kC.2.2.2.2 a (hty_lt e)).2.2 n
  have y2C := isL_kp a8 kAC (fun e => e) (fun e => e)
  have n2C := isL_kq b8 kC (by omega) (by omega)
  have ML2C : hv σC 10 (hsz σ + 1 + 1) 1 = .ref (gV g 0) := by rw [oD _ 10 b8.1 (by omega)]; exact ML2
  have m1 := kp_ty kAC a1
  have m4 : hv σC 9 x0 2 = .ref y2 := by rw [oC x0 9 a1]; exact a4
  have x1' := kp_ty kC b1
  have x2' : hv σC 9 (hsz σ) 2 = .ref (hsz σ + 1 + 1) := by rw [oD _ 9 b1 (by omega)]; exact b4
  simp (config := {decide := true}) only [vRf_r, vRf_n, vI_i, vL_l, vD_d, pI_i, pR_r, pR_n, vZ_0, vZ_1, ct_i, ct_r, ct_n, ct_l, ct_d, csum_n, csum_c, kt_v, kt_n, kt_e, oc_n, oc_i, oc_r, oc_l, oc_u, oc_d, true_and, and_true, Bool.and_true, Bool.true_and, ne_eq, not_false_eq_true, not_true_eq_false, implies_true, false_imp, true_imp_iff, hsz_put, hsl_put, hln_put, hty_put, hsz_new, hsl_new, hln_new, hty_new, Nat.zero_add, Nat.add_zero, eq_self, decide_true, t32_0, t32_1, t32_2, t32_3, t32_4, t32_5, t32_6, hv_same, hv_kne, hv_tne, hv_ntne, hv_nsame, hv_ctne, hty_cpy, hln_cpy, hsz_cpy, hsl_cpy, vrn, vnr, vrr, A105_23, A105_24, A105_25, A105_28, A105_29, A105_32, m1, m4, x1', x2', n2C.1]
  refine l_addAll BC y2C n2C ML2C (by omega) (nbq a8 _ (by omega) (by omega)) (by omega) (by omega) ?_
  intro σD b2' rv2 l2 kD lb2 _ _
  have kAD : kp (fun _ => False) 7 951 σ σD := kp_mono (kp_then kAC kD (fun a ha e => by omega)) (by omega) (by omega) (fun _ _ e => e)
  have oE : ∀ a t, hty σ a = some t → ∀ t' i, hv σD t' a i = hv σ t' a i := fun a t e => (kAD.2.2.2.2 a (hty_lt e)).2.2 (fun e => e)
  have oF : ∀ a t, hty σB a = some t → a ≠ hsz σ + 1 → a ≠ hsz σ + 1 + 1 → ∀ t' i, hv σD t' a i = hv σB t' a i := fun a t e n n2 t' i => by
    rw [(kD.2.2.2.2 a (hty_lt (kp_ty kC e))).2.2 n2]; exact oD a t e n t' i
  have d1 := kp_ty kAD a1
  have d3 : hv σD 9 x0 3 = .int dn := by rw [oE x0 9 a1]; exact a5
  have d4 : hv σD 9 x0 4 = .int fl := by rw [oE x0 9 a1]; exact a6
  have e1 := kp_ty kD x1'
  have vz : vZ (.int fl) = True := eq_true hfl
  simp (config := {decide := true}) only [vRf_r, vRf_n, vI_i, vL_l, vD_d, pI_i, pR_r, pR_n, vZ_0, vZ_1, ct_i, ct_r, ct_n, ct_l, ct_d, csum_n, csum_c, kt_v, kt_n, kt_e, oc_n, oc_i, oc_r, oc_l, oc_u, oc_d, true_and, and_true, Bool.and_true, Bool.true_and, ne_eq, not_false_eq_true, not_true_eq_false, implies_true, false_imp, true_imp_iff, hsz_put, hsl_put, hln_put, hty_put, hsz_new, hsl_new, hln_new, hty_new, Nat.zero_add, Nat.add_zero, eq_self, decide_true, t32_0, t32_1, t32_2, t32_3, t32_4, t32_5, t32_6, hv_same, hv_kne, hv_tne, hv_ntne, hv_nsame, hv_ctne, hty_cpy, hln_cpy, hsz_cpy, hsl_cpy, vrn, vnr, vrr, A105_35, A105_36, A105_37, A105_38, A105_41, A105_44, A105_45, A105_46, A105_49, A105_52, A105_53, d1, d3, d4, e1, vz, hgB]
  have kE : kp (fun a => a = hsz σ) 0 0 σD (hput (hput σD 9 (hsz σ) 3 (.int dn)) 9 (hsz σ) 4 (.int fl)) := kp_trans (kp_put (W := fun a => a = hsz σ) (fun _ => rfl)) (kp_put (W := fun a => a = hsz σ) (fun _ => rfl))
  have kC1 := kC.1
  have kD1 := kD.1
  refine hQ _ (hsz σ) (hsz σ + 1) b' (hsz σ + 1 + 1) b2' (kp_mono (kp_then kAD kE (fun a ha e => by omega)) (by omega) (by omega) (fun _ _ e => e)) (Nat.le_refl _) (by omega) (by omega) (by omega) (by omega) (by exact lb2.2) ⟨⟨e1, ?_, ?_, ?_, ?_, ?_⟩, isL_tag (isL_tag (isL_kp l1 kD (by omega) (by omega)) (by decide) (by decide)) (by decide) (by decide), isL_tag (isL_tag l2 (by decide) (by decide)) (by decide) (by decide)⟩
  · rw [hv_kne _ (by decide), hv_kne _ (by decide), oF _ 9 b1 (by omega) (by omega)]; exact b2_
  · rw [hv_kne _ (by decide), hv_kne _ (by decide), oF _ 9 b1 (by omega) (by omega)]; exact b3
  · rw [hv_kne _ (by decide), hv_kne _ (by decide), oF _ 9 b1 (by omega) (by omega)]; exact b4
  · rw [hv_kne _ (by decide), hv_same]
  · rw [hv_same]
end MINDC
