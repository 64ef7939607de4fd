/-! new guests, copies of guests -/
/-- the fields of a guest that is made -/
def giF (o : Nat → Value) (num w : Int32) (m e d v : Nat) : Nat → Value := fun j => if j = 1 then .int w else if j = 0 then .int num else if j = 15 then .ref v else if j = 14 then .ref d else if j = 13 then .ref e else if j = 6 then .int (-1) else if j = 4 then .int 5 else if j = 3 then .int 5 else if j = 2 then .ref m else o j
section GCOPY
variable {g : GC} {A B X : Nat → Nat → Nat} {σ σ' : AH} {z : ZT} {k p x y u b n : Nat} {f : Nat → Value} {w num : Int32} {Q : AQ}
theorem c_guestInit (hB : Bas g σ) (h1 : hty σ x = some 5) (h2 : gB g ≤ x) (hc : hsz σ + 6 ≤ gC g) (hs : hsl σ + 30 ≤ gS g)
    (hQ : ∀ σ', kp (fun a => a = x) 6 30 σ σ' → hsz σ' = hsz σ + 6 → hsl σ' = hsl σ + 30 → mindA g σ' (hsz σ) (hsz σ + 1) (hsz σ + 2) (gC g) 0 f (fun _ => 0) 0 0 → hv σ' 10 (hsz σ + 1) 1 = .ref (gV g 0) → (∀ j, hv σ' 5 x j = giF (hv σ 5 x) num w (hsz σ) (hsz σ + 3) (hsz σ + 4) (hsz σ + 5) j) → (hty σ' (hsz σ + 3) = some 20 ∧ hln σ' (hsz σ + 3) = 5 ∧ ∀ p, hv σ' 20 (hsz σ + 3) p = .int 0) → (hty σ' (hsz σ + 4) = some 21 ∧ hln σ' (hsz σ + 4) = 6 ∧ ∀ p, hv σ' 21 (hsz σ + 4) p = .int 0) → (hty σ' (hsz σ + 5) = some 21 ∧ hln σ' (hsz σ + 5) = 6 ∧ ∀ p, hv σ' 21 (hsz σ + 5) p = .int 0) → Q (.inl none) σ') : aw g 196 0 [some (.ref x), some (.int num), some (.int w)] [] σ Q := by
  have hgB := hB.1
  have lx := hty_lt h1
  have c1 : hsz σ + 1 ≤ gC g := by omega
  have s1 : hsl σ + 4 ≤ gS g := by omega
  have kA : kp (fun _ => False) 1 4 σ (hnew σ 6 0 (fun k => defaultValue (tyX7 k)) 4) := kp_new
  have tA : hty (hnew σ 6 0 (fun k => defaultValue (tyX7 k)) 4) (hsz σ) = some 6 := by rw [hty_new, if_pos rfl]
  have vA2 : hv (hnew σ 6 0 (fun k => defaultValue (tyX7 k)) 4) 6 (hsz σ) 2 = .int 0 := hv_nsame _ _ _ _ _ _
  have vA3 : hv (hnew σ 6 0 (fun k => defaultValue (tyX7 k)) 4) 6 (hsz σ) 3 = .int 0 := hv_nsame _ _ _ _ _ _
  have zA : hsz (hnew σ 6 0 (fun k => defaultValue (tyX7 k)) 4) = hsz σ + 1 := rfl
  have yA : hsl (hnew σ 6 0 (fun k => defaultValue (tyX7 k)) 4) = hsl σ + 4 := rfl
  simp (config := {decide := true}) only [vRf_r, vRf_n, vI_i, vL_l, vD_d, pI_i, pR_r, pR_n, vZ_0, vZ_1, ct_i, ct_r, ct_n, ct_l, ct_d, csum_n, csum_c, kt_v, kt_n, kt_e, oc_n, oc_i, oc_r, oc_l, oc_u, oc_d, true_and, and_true, Bool.and_true, Bool.true_and, ne_eq, not_false_eq_true, not_true_eq_false, implies_true, false_imp, true_imp_iff, hsz_put, hsl_put, hln_put, hty_put, hsz_new, hsl_new, hln_new, hty_new, Nat.zero_add, Nat.add_zero, eq_self, decide_true, t32_0, t32_1, t32_2, t32_3, t32_4, t32_5, t32_6, hv_same, hv_kne, hv_tne, hv_ntne, hv_nsame, hv_ctne, hty_cpy, hln_cpy, hsz_cpy, hsl_cpy, vrn, vnr, vrr, A196_0, A196_1, A196_4, A196_5, A196_8, A196_9, c1, s1]
  generalize hnew σ 6 0 (fun k => defaultValue (tyX7 k)) 4 = σA at *
  have BA := Bas_kp hB kA (fun _ e => e.elim)
  have e1 := fun Q' => c_mindInit (Q := Q') tA hgB BA.1 (by omega) (by omega)
  rw [e1]
  obtain ⟨MI, ML⟩ := miH_A BA tA vA2 vA3 (b := gC g) (Nat.le_refl _) (by omega) f
  have kB := miH_kp (g := g) (σ := σA) (x := hsz σ) (Or.inr trivial)
  have zB : hsz (miH g σA (hsz σ)) = hsz σ + 3 := by show hsz σA + 1 + 1 = _; omega
  have yB : hsl (miH g σA (hsz σ)) = hsl σ + 13 := by show hsl σA + 3 + 6 = _; omega
  rw [zA] at MI ML
  generalize miH g σA (hsz σ) = σB at *
  have kAB : kp (fun _ => False) 3 13 σ σB := kp_then kA kB (fun a ha e => by omega)
  have BB := Bas_kp hB kAB (fun _ e => e.elim)
  have tx := kp_ty kAB h1
  have vx : hv σB 5 x = hv σ 5 x := by funext j; exact (kAB.2.2.2.2 x lx).2.2 (fun e => e) 5 j
  have n0 : (x = hsz σ + 3) = False := eq_false (by omega)
  have n1 : (x = hsz σ + 3 + 1) = False := eq_false (by omega)
  have n2 : (x = hsz σ + 3 + 1 + 1) = False := eq_false (by omega)
  have c2 : hsz σ + 3 + 1 ≤ gC g := by omega
  have c3 : hsz σ + 3 + 1 + 1 ≤ gC g := by omega
  have c4 : hsz σ + 3 + 1 + 1 + 1 ≤ gC g := by omega
  have s2 : hsl σ + 13 + 5 ≤ gS g := by omega
  have s3 : hsl σ + 13 + 5 + 6 ≤ gS g := by omega
  have s4 : hsl σ + 13 + 5 + 6 + 6 ≤ gS g := by omega
  simp (config := {decide := true}) only [vRf_r, vRf_n, vI_i, vL_l, vD_d, pI_i, pR_r, pR_n, vZ_0, vZ_1, ct_i, ct_r, ct_n, ct_l, ct_d, csum_n, csum_c, kt_v, kt_n, kt_e, oc_n, oc_i, oc_r, oc_l, oc_u, oc_d, true_and, and_true, Bool.and_true, Bool.true_and, ne_eq, not_false_eq_true, not_true_eq_false, implies_true, false_imp, true_imp_iff, hsz_put, hsl_put, hln_put, hty_put, hsz_new, hsl_new, hln_new, hty_new, Nat.zero_add, Nat.add_zero, eq_self, decide_true, t32_0, t32_1, t32_2, t32_3, t32_4, t32_5, t32_6, hv_same, hv_kne, hv_tne, hv_ntne, hv_nsame, hv_ctne, hty_cpy, hln_cpy, hsz_cpy, hsl_cpy, vrn, vnr, vrr, A196_12, A196_15, A196_16, A196_17, A196_20, A196_21, A196_22, A196_25, A196_26, A196_27, A196_30, A196_31, A196_32, A196_34, A196_37, A196_38, A196_40, A196_42, A196_45, A196_46, A196_48, A196_50, A196_53, A196_54, A196_55, A196_58, A196_59, A196_60, A196_63, tx, h2, zB, yB, n0, n1, n2, c2, c3, c4, s2, s3, s4, if_false]
  have kC : kp (fun a => a = x) 3 17 σB (hput (hput (hput (hnew (hput (hnew (hput (hnew (hput (hput (hput (hput σB 5 x 2 (.ref (hsz σ))) 5 x 3 (.int 5)) 5 x 4 (.int 5)) 5 x 6 (.int (-1))) 20 5 (fun _ => .int 0) 5) 5 x 13 (.ref (hsz σ + 3))) 21 6 (fun _ => .int 0) 6) 5 x 14 (.ref (hsz σ + 3 + 1))) 21 6 (fun _ => .int 0) 6) 5 x 15 (.ref (hsz σ + 3 + 1 + 1))) 5 x 0 (.int num)) 5 x 1 (.int w)) := by
    have p : ∀ (s : AH) j v, kp (fun a => a = x) 0 0 s (hput s 5 x j v) := fun s j v => kp_put (W := fun a => a = x) (fun _ => rfl)
    have q : ∀ (s : AH) t n f l, kp (fun a => a = x) 1 l s (hnew s t n f l) := fun s t n f l => kp_new
    exact kp_mono (kp_trans (kp_trans (kp_trans (kp_trans (kp_trans (kp_trans (kp_trans (kp_trans (kp_trans (kp_trans (kp_trans (p σB 2 _) (p _ 3 _)) (p _ 4 _)) (p _ 6 _)) (q _ 20 5 _ 5)) (p _ 13 _)) (q _ 21 6 _ 6)) (p _ 14 _)) (q _ 21 6 _ 6)) (p _ 15 _)) (p _ 0 _)) (p _ 1 _)) (by omega) (by omega) (fun _ _ e => e)
  have zC : hsz (hput (hput (hput (hnew (hput (hnew (hput (hnew (hput (hput (hput (hput σB 5 x 2 (.ref (hsz σ))) 5 x 3 (.int 5)) 5 x 4 (.int 5)) 5 x 6 (.int (-1))) 20 5 (fun _ => .int 0) 5) 5 x 13 (.ref (hsz σ + 3))) 21 6 (fun _ => .int 0) 6) 5 x 14 (.ref (hsz σ + 3 + 1))) 21 6 (fun _ => .int 0) 6) 5 x 15 (.ref (hsz σ + 3 + 1 + 1))) 5 x 0 (.int num)) 5 x 1 (.int w)) = hsz σ + 6 := by show hsz σB + 1 + 1 + 1 = _; omega
  have yC : hsl (hput (hput (hput (hnew (hput (hnew (hput (hnew (hput (hput (hput (hput σB 5 x 2 (.ref (hsz σ))) 5 x 3 (.int 5)) 5 x 4 (.int 5)) 5 x 6 (.int (-1))) 20 5 (fun _ => .int 0) 5) 5 x 13 (.ref (hsz σ + 3))) 21 6 (fun _ => .int 0) 6) 5 x 14 (.ref (hsz σ + 3 + 1))) 21 6 (fun _ => .int 0) 6) 5 x 15 (.ref (hsz σ + 3 + 1 + 1))) 5 x 0 (.int num)) 5 x 1 (.int w)) = hsl σ + 30 := by show hsl σB + 5 + 6 + 6 = _; omega
  obtain ⟨⟨b1, b2, b3, b4, b5⟩, b6, b7, b8, b9⟩ := MI
  have oC : ∀ a t, hty σB a = some t → a ≠ x → ∀ t' i, hv (hput (hput (hput (hnew (hput (hnew (hput (hnew (hput (hput (hput (hput σB 5 x 2 (.ref (hsz σ))) 5 x 3 (.int 5)) 5 x 4 (.int 5)) 5 x 6 (.int (-1))) 20 5 (fun _ => .int 0) 5) 5 x 13 (.ref (hsz σ + 3))) 21 6 (fun _ => .int 0) 6) 5 x 14 (.ref (hsz σ + 3 + 1))) 21 6 (fun _ => .int 0) 6) 5 x 15 (.ref (hsz σ + 3 + 1 + 1))) 5 x 0 (.int num)) 5 x 1 (.int w)) t' a i = hv σB t' a i := fun a t e n => (kC.2.2.2.2 a (hty_lt e)).2.2 n
  refine hQ _ (kp_mono (kp_trans (kp_mono kAB (Nat.le_refl _) (Nat.le_refl _) (fun _ _ e => e.elim)) kC) (by omega) (by omega) (fun _ _ e => e)) zC yC ⟨⟨kp_ty kC b1, ?_, ?_, ?_, ?_⟩, isL_kq b6 kC (by omega) (fun e => by omega), kp_ty kC b7, ?_, fun p hp => ?_⟩ ?_ (fun j => ?_) ⟨?_, ?_, fun p => ?_⟩ ⟨?_, ?_, fun p => ?_⟩ ⟨?_, ?_, fun p => ?_⟩
  · rw [oC _ 6 b1 (by omega)]; exact b2
  · rw [oC _ 6 b1 (by omega)]; exact b3
  · rw [oC _ 6 b1 (by omega)]; exact b4
  · rw [oC _ 6 b1 (by omega)]; exact b5
  · rw [(kC.2.2.2.2 _ (hty_lt b7)).2.1]; exact b8
  · rw [oC _ 20 b7 (by omega)]; exact b9 p hp
  · rw [oC _ 10 b6.1 (by omega)]; exact ML
  · rw [hv_put, hv_put, hv_put, hv_ntne _ (by decide), hv_put, hv_ntne _ (by decide), hv_put, hv_ntne _ (by decide), hv_put, hv_put, hv_put, hv_put, vx]
    unfold giF
    simp only [true_and]
  · rw [hty_put, hty_put, hty_put, hty_new, if_neg (by show ¬ (hsz σ + 3 = hsz σB + 1 + 1); omega), hty_put, hty_new, if_neg (by show ¬ (hsz σ + 3 = hsz σB + 1); omega), hty_put, hty_new, if_pos (by show hsz σ + 3 = hsz σB; omega)]
  · rw [hln_put, hln_put, hln_put, hln_new, if_neg (by show ¬ (hsz σ + 3 = hsz σB + 1 + 1); omega), hln_put, hln_new, if_neg (by show ¬ (hsz σ + 3 = hsz σB + 1); omega), hln_put, hln_new, if_pos (by show hsz σ + 3 = hsz σB; omega)]
  · rw [hv_tne _ (by decide), hv_tne _ (by decide), hv_tne _ (by decide), hv_ntne _ (by decide), hv_tne _ (by decide), hv_ntne _ (by decide), hv_tne _ (by decide), hv_new, if_pos ⟨rfl, by show hsz σ + 3 = hsz σB; omega⟩]
  · rw [hty_put, hty_put, hty_put, hty_new, if_neg (by show ¬ (hsz σ + 4 = hsz σB + 1 + 1); omega), hty_put, hty_new, if_pos (by show hsz σ + 4 = hsz σB + 1; omega)]
  · rw [hln_put, hln_put, hln_put, hln_new, if_neg (by show ¬ (hsz σ + 4 = hsz σB + 1 + 1); omega), hln_put, hln_new, if_pos (by show hsz σ + 4 = hsz σB + 1; omega)]
  · rw [hv_tne _ (by decide), hv_tne _ (by decide), hv_tne _ (by decide), hv_nane _ (by show ¬ (hsz σ + 4 = hsz σB + 1 + 1); omega), hv_tne _ (by decide), hv_new, if_pos ⟨rfl, by show hsz σ + 4 = hsz σB + 1; omega⟩]
  · rw [hty_put, hty_put, hty_put, hty_new, if_pos (by show hsz σ + 5 = hsz σB + 1 + 1; omega)]
  · rw [hln_put, hln_put, hln_put, hln_new, if_pos (by show hsz σ + 5 = hsz σB + 1 + 1; omega)]
  · rw [hv_tne _ (by decide), hv_tne _ (by decide), hv_tne _ (by decide), hv_new, if_pos ⟨rfl, by show hsz σ + 5 = hsz σB + 1 + 1; omega⟩]
/-- names, by the size of the heap alone -/
def cAs (g : GC) (X : Nat → Nat → Nat) (n : Nat) : Prop := (∀ r k r' k', X r k = X r' k' → r = r' ∧ k = k') ∧ ∀ r k, gB g ≤ X r k ∧ (X r k < n ∨ X r k = gC g + enc r k)
theorem cAs_of (h : cA g X σ) : cAs g X (hsz σ) := h
theorem cAs_to {n : Nat} (h : cAs g X n) (hn : n ≤ hsz σ) : cA g X σ := ⟨h.1, fun r k => ⟨(h.2 r k).1, by
  rcases (h.2 r k).2 with q | q
  · exact Or.inl (by omega)
  · exact Or.inr q⟩⟩
theorem cAs_nm {n r0 k0 x : Nat} (h : cAs g X n) (hx : n ≤ x) (hC : x < gC g) (hB : gB g ≤ n) : cAs g (nm X r0 k0 x) (x + 1) := by
  have hd : ∀ r k, ¬ (r = r0 ∧ k = k0) → X r k ≠ x := by
    intro r k hn e
    rcases (h.2 r k).2 with q | q <;> omega
  refine ⟨fun r1 k1 r2 k2 he => ?_, fun r k => ?_⟩
  · by_cases h1 : r1 = r0 ∧ k1 = k0
    · by_cases h2 : r2 = r0 ∧ k2 = k0
      · exact ⟨by omega, by omega⟩
      · rw [h1.1, h1.2, nm_at, nm_ne h2] at he
        exact absurd he.symm (hd _ _ h2)
    · by_cases h2 : r2 = r0 ∧ k2 = k0
      · rw [h2.1, h2.2, nm_at, nm_ne h1] at he
        exact absurd he (hd _ _ h1)
      · rw [nm_ne h1, nm_ne h2] at he
        exact h.1 _ _ _ _ he
  · by_cases h1 : r = r0 ∧ k = k0
    · rw [h1.1, h1.2, nm_at]; exact ⟨by omega, Or.inl (by omega)⟩
    · rw [nm_ne h1]
      refine ⟨(h.2 r k).1, ?_⟩
      rcases (h.2 r k).2 with q | q
      · exact Or.inl (by omega)
      · exact Or.inr q
/-- ten fields of a copy -/
def fcH (σ : AH) (x : Nat) (v : Nat → Value) : AH := hput (hput (hput (hput (hput (hput (hput (hput (hput (hput σ 5 x 3 (v 3)) 5 x 4 (v 4)) 5 x 5 (v 5)) 5 x 6 (v 6)) 5 x 7 (v 7)) 5 x 8 (v 8)) 5 x 9 (v 9)) 5 x 10 (v 10)) 5 x 11 (v 11)) 5 x 12 (v 12)
theorem fcH_kp {v : Nat → Value} : kp (fun a => a = x) 0 0 σ (fcH σ x v) := by
  have p : ∀ (s : AH) j v, kp (fun a => a = x) 0 0 s (hput s 5 x j v) := fun s j v => kp_put (W := fun a => a = x) (fun _ => rfl)
  exact kp_trans (kp_trans (kp_trans (kp_trans (kp_trans (kp_trans (kp_trans (kp_trans (kp_trans (p σ 3 _) (p _ 4 _)) (p _ 5 _)) (p _ 6 _)) (p _ 7 _)) (p _ 8 _)) (p _ 9 _)) (p _ 10 _)) (p _ 11 _)) (p _ 12 _)
theorem fcH_v {v : Nat → Value} (j : Nat) : hv (fcH σ x v) 5 x j = if 3 ≤ j ∧ j ≤ 12 then v j else hv σ 5 x j := by
  by_cases h : 3 ≤ j ∧ j ≤ 12
  · rw [if_pos h]
    have : j = 3 ∨ j = 4 ∨ j = 5 ∨ j = 6 ∨ j = 7 ∨ j = 8 ∨ j = 9 ∨ j = 10 ∨ j = 11 ∨ j = 12 := by omega
    unfold fcH
    rcases this with e | e | e | e | e | e | e | e | e | e <;> subst e <;> simp [hv_put]
  · rw [if_neg h]
    unfold fcH
    rw [hv_kne _ (by omega), hv_kne _ (by omega), hv_kne _ (by omega), hv_kne _ (by omega), hv_kne _ (by omega), hv_kne _ (by omega), hv_kne _ (by omega), hv_kne _ (by omega), hv_kne _ (by omega), hv_kne _ (by omega)]
/-- most of a guest's clauses: not the fields from 17 on, not the past -/
def gm (g : GC) (N : Nat → Nat → Nat) (a : Nat → Nat) (σ : AH) (z : ZT) (k : Nat) : Prop :=
  (hty σ (a 4) = some 5 ∧ hty σ (a 5) = some 6 ∧ (hty σ (a 7) = some 20 ∧ hln σ (a 7) = 6) ∧ (hty σ (a 8) = some 20 ∧ hln σ (a 8) = 5) ∧ (hty σ (a 9) = some 21 ∧ hln σ (a 9) = 6) ∧ (hty σ (a 10) = some 21 ∧ hln σ (a 10) = 6) ∧ (z.1 1 k 30 = 1 → hty σ (a 11) = some 21 ∧ hln σ (a 11) = 6)) ∧
  (hv σ 5 (a 4) 0 = .int (Int32.ofNat k) ∧ hv σ 5 (a 4) 2 = .ref (a 5) ∧ hv σ 5 (a 4) 13 = .ref (a 8) ∧ hv σ 5 (a 4) 14 = .ref (a 9) ∧ hv σ 5 (a 4) 15 = .ref (a 10) ∧ hv σ 5 (a 4) 16 = (if z.1 1 k 30 = 1 then .ref (a 11) else .null) ∧ ∀ j, gsc j = true → j < 17 → hv σ 5 (a 4) j = .int (z.1 1 k j)) ∧
  (hv σ 6 (a 5) 0 = .ref (a 6) ∧ hv σ 6 (a 5) 1 = .ref (a 7) ∧ hv σ 6 (a 5) 2 = .int (z.1 1 k 22) ∧ hv σ 6 (a 5) 3 = .int (z.1 1 k 23)) ∧
  ((∀ p, p < 6 → hv σ 20 (a 7) p = .int (z.1 2 k p)) ∧ (∀ p, p < 5 → hv σ 20 (a 8) p = .int (z.1 3 k p))) ∧
  ((∀ p, p < 6 → hv σ 21 (a 9) p = .int (z.1 4 k p)) ∧ (∀ p, p < 6 → hv σ 21 (a 10) p = .int (z.1 5 k p)) ∧ (z.1 1 k 30 = 1 → ∀ p, p < 6 → hv σ 21 (a 11) p = .int (z.1 6 k p))) ∧ gcT g N a σ z k
/-- the rest of it -/
theorem gm_gc {N N' : Nat → Nat → Nat} {a : Nat → Nat} {c s : Nat} (h : gm g N a σ z k) (q : kp (fun y => y = a 4) c s σ σ') (hd : ∀ r, r ≠ 4 → gwr r = true → a r ≠ a 4) (hA : AN N N' σ) (hN : ∃ r i, a 4 = N r i) (hj : ∀ j, j < 17 → hv σ' 5 (a 4) j = hv σ 5 (a 4) j) (h17 : ∀ j, j = 17 ∨ j = 18 ∨ j = 19 ∨ j = 20 → hv σ' 5 (a 4) j = .int (z.1 1 k j)) (h21 : hv σ' 5 (a 4) 21 = (if z.1 1 k 31 = 1 then .ref (a 12) else .null))
    (hp : z.1 1 k 31 = 1 → (hty σ' (a 12) = some 9 ∧ hty σ' (a 15) = some 6 ∧ hty σ' (a 17) = some 20 ∧ hln σ' (a 17) = 6) ∧ (hv σ' 6 (a 15) 0 = .ref (a 16) ∧ hv σ' 6 (a 15) 1 = .ref (a 17) ∧ hv σ' 6 (a 15) 2 = .int (z.1 1 k 32) ∧ hv σ' 6 (a 15) 3 = .int (z.1 1 k 33)) ∧ (hv σ' 9 (a 12) 0 = .ref (a 15) ∧ hv σ' 9 (a 12) 1 = .ref (a 13) ∧ hv σ' 9 (a 12) 2 = .ref (a 14) ∧ hv σ' 9 (a 12) 3 = .int (z.1 1 k 24) ∧ hv σ' 9 (a 12) 4 = .int (z.1 1 k 25)) ∧ (∀ p, p < 6 → hv σ' 20 (a 17) p = .int (z.1 7 k p)) ∧ gcP g N' a σ' z k) : gc g N' a σ' z k := by
  obtain ⟨⟨x0, x1, ⟨x2, x2'⟩, ⟨x3, x3'⟩, ⟨x4, x4'⟩, ⟨x5, x5'⟩, x6⟩, ⟨y0, y1, y2, y3, y4, y5, y6⟩, hm, ⟨v1, v2⟩, ⟨w1, w2, w3⟩, hT⟩ := h
  have S : ∀ r t, hty σ (a r) = some t → r ≠ 4 ∧ gwr r = true → ∀ t' i, hv σ' t' (a r) i = hv σ t' (a r) i := fun r t e n => (q.2.2.2.2 _ (hty_lt e)).2.2 (hd r n.1 n.2)
  have N1 : ∀ r t, hty σ (a r) = some t → hln σ' (a r) = hln σ (a r) := fun r t e => (q.2.2.2.2 _ (hty_lt e)).2.1
  refine ⟨⟨⟨kp_ty q x0, kp_ty q x1, ⟨kp_ty q x2, by rw [N1 _ _ x2]; exact x2'⟩, ⟨kp_ty q x3, by rw [N1 _ _ x3]; exact x3'⟩, ⟨kp_ty q x4, by rw [N1 _ _ x4]; exact x4'⟩, ⟨kp_ty q x5, by rw [N1 _ _ x5]; exact x5'⟩, fun hs => ⟨kp_ty q (x6 hs).1, by rw [N1 _ _ (x6 hs).1]; exact (x6 hs).2⟩, fun hs => (hp hs).1⟩, ⟨?_, ?_, ?_, ?_, ?_, ?_, h21, fun j hg => ?_⟩, ⟨?_, fun hs => (hp hs).2.1⟩, fun hs => (hp hs).2.2.1, ⟨fun p hp' => ?_, fun p hp' => ?_, fun hs => (hp hs).2.2.2.1⟩, ⟨fun p hp' => ?_, fun p hp' => ?_, fun hs p hp' => ?_⟩⟩, ?_, fun hs => (hp hs).2.2.2.2⟩
  · rw [hj 0 (by decide)]; exact y0
  · rw [hj 2 (by decide)]; exact y1
  · rw [hj 13 (by decide)]; exact y2
  · rw [hj 14 (by decide)]; exact y3
  · rw [hj 15 (by decide)]; exact y4
  · rw [hj 16 (by decide)]; exact y5
  · by_cases e : j < 17
    · rw [hj j e]; exact y6 j hg e
    · refine h17 j ?_
      have : j = 17 ∨ j = 18 ∨ j = 19 ∨ j = 20 ∨ 20 < j := by omega
      rcases this with e | e | e | e | e
      · exact Or.inl e
      · exact Or.inr (Or.inl e)
      · exact Or.inr (Or.inr (Or.inl e))
      · exact Or.inr (Or.inr (Or.inr e))
      · exfalso
        simp [gsc] at hg
        omega
  · have S5 := S 5 6 x1 (by decide) 6
    rw [S5, S5, S5, S5]; exact hm
  · rw [S 7 20 x2 (by decide)]; exact v1 p hp'
  · rw [S 8 20 x3 (by decide)]; exact v2 p hp'
  · rw [S 9 21 x4 (by decide)]; exact w1 p hp'
  · rw [S 10 21 x5 (by decide)]; exact w2 p hp'
  · rw [S 11 21 (x6 hs).1 (by decide)]; exact w3 hs p hp'
  · exact gcT_kp hT q (hd 6 (by decide) rfl) (fun _ => hd 26 (by decide) rfl) (fun y e _ => Or.inr (by
      obtain ⟨r, i, e2⟩ := hN
      exact ⟨r, i, e.trans e2⟩)) hA
/-- new names for one guest, its own too -/
def AG (X X' : Nat → Nat → Nat) (σ : AH) (k : Nat) : Prop := ∀ r i, X' r i = X r i ∨ (i = k ∧ gwr r = true ∧ hsz σ ≤ X' r i)
theorem AG_refl (X : Nat → Nat → Nat) (σ : AH) (k : Nat) : AG X X σ k := fun _ _ => Or.inl rfl
theorem AG_nm {X' : Nat → Nat → Nat} {r0 x : Nat} (h : AG X X' σ k) (hr : gwr r0 = true) (hx : hsz σ ≤ x) : AG X (nm X' r0 k x) σ k := by
  intro r i
  by_cases e : r = r0 ∧ i = k
  · rw [e.1, e.2, nm_at]; exact Or.inr ⟨rfl, hr, hx⟩
  · rw [nm_ne e]; exact h r i
theorem AG_AN {X' : Nat → Nat → Nat} (h : AG X X' σ k) : AN X X' σ := fun r i => (h r i).imp_right (fun e => e.2.2)
end GCOPY
