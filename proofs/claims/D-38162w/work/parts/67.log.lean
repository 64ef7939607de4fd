/-! the log -/
def Bup (B : Nat → Nat → Nat) (r j x : Nat) : Nat → Nat → Nat := fun r' j' => if r' = r ∧ j' = j then x else B r' j'
def logZ (z : ZT) (k : Nat) (told : Int32) : ZT := if z.1 1 k 31 = 1 then (if z.2 3 k = 60 then zs z 1 k 25 1 else zl (zs z 11 k (z.2 3 k) told) 3 k (z.2 3 k + 1)) else z
section LOG
variable {g : GC} {A B : Nat → Nat → Nat} {σ σ' : AH} {z : ZT} {k : Nat} {Q : AQ} {told : Int32}
theorem Bup_at (B : Nat → Nat → Nat) (r j x : Nat) : Bup B r j x r j = x := if_pos ⟨rfl, rfl⟩
theorem Bup_ne {B : Nat → Nat → Nat} {r j x r' j' : Nat} (h : ¬ (r' = r ∧ j' = j)) : Bup B r j x r' j' = B r' j' := if_neg h
theorem cA_up {r j x : Nat} (h : cA g (mix A B) σ) (hr : 20 ≤ r) (hx : x = B r j ∨ hsz σ ≤ x) (hl : hsz σ ≤ hsz σ') (hx2 : x < hsz σ' ∨ x = B r j) (hC : hsz σ' ≤ gC g) (hB : gB g ≤ hsz σ) : cA g (mix A (Bup B r j x)) σ' := by
  have e : ∀ r' j', ¬ (r' = r ∧ j' = j) → mix A (Bup B r j x) r' j' = mix A B r' j' := by
    intro r' j' hn
    unfold mix
    by_cases h1 : r' < 20
    · rw [if_pos h1, if_pos h1]
    · rw [if_neg h1, if_neg h1, Bup_ne hn]
  have e0 : mix A (Bup B r j x) r j = x := by unfold mix; rw [if_neg (by omega), Bup_at]
  have e1 : mix A B r j = B r j := by unfold mix; rw [if_neg (by omega)]
  have hd : ∀ r' j', ¬ (r' = r ∧ j' = j) → mix A B r' j' ≠ x := by
    intro r' j' hn he
    rcases hx with hx | hx
    · rw [hx, ← e1] at he
      exact hn (h.1 _ _ _ _ he)
    · rcases (h.2 r' j').2 with q | q
      · omega
      · rcases hx2 with w | w
        · omega
        · rw [w, ← e1] at he
          exact hn (h.1 _ _ _ _ he)
  refine ⟨fun r1 j1 r2 j2 he => ?_, fun r1 j1 => ?_⟩
  · by_cases h1 : r1 = r ∧ j1 = j
    · by_cases h2 : r2 = r ∧ j2 = j
      · exact ⟨by omega, by omega⟩
      · rw [h1.1, h1.2, e0, e _ _ h2] at he
        exact absurd he.symm (hd _ _ h2)
    · by_cases h2 : r2 = r ∧ j2 = j
      · rw [h2.1, h2.2, e0, e _ _ h1] at he
        exact absurd he (hd _ _ h1)
      · rw [e _ _ h1, e _ _ h2] at he
        exact h.1 _ _ _ _ he
  · by_cases h1 : r1 = r ∧ j1 = j
    · rw [h1.1, h1.2, e0]
      rcases hx with hx | hx
      · rw [hx, ← e1]
        refine ⟨(h.2 r j).1, ?_⟩
        rcases (h.2 r j).2 with q | q
        · exact Or.inl (by omega)
        · exact Or.inr q
      · rcases hx2 with w | w
        · exact ⟨by omega, Or.inl w⟩
        · rw [w, ← e1]
          refine ⟨(h.2 r j).1, ?_⟩
          rcases (h.2 r j).2 with q | q
          · exact Or.inl (by omega)
          · exact Or.inr q
    · rw [e _ _ h1]
      refine ⟨(h.2 r1 j1).1, ?_⟩
      rcases (h.2 r1 j1).2 with q | q
      · exact Or.inl (by omega)
      · exact Or.inr q
theorem AN_up {r j x : Nat} (hx : x = B r j ∨ hsz σ ≤ x) : AN (mix A B) (mix A (Bup B r j x)) σ := by
  intro r' j'
  unfold mix
  by_cases h0 : r' < 20
  · rw [if_pos h0, if_pos h0]; exact Or.inl rfl
  · rw [if_neg h0, if_neg h0]
    by_cases h1 : r' = r ∧ j' = j
    · rw [h1.1, h1.2, Bup_at]; exact hx
    · rw [Bup_ne h1]; exact Or.inl rfl
theorem BK_up {r j x : Nat} (hr : r < 40) (hx : x = B r j ∨ hsz σ ≤ x) : BK B (Bup B r j x) σ := by
  intro r' j'
  by_cases h1 : r' = r ∧ j' = j
  · rw [h1.1, h1.2, Bup_at]
    by_cases e : x = B r j
    · exact Or.inl e
    · exact Or.inr ⟨by omega, e, hx.resolve_left e⟩
  · rw [Bup_ne h1]; exact Or.inl rfl
theorem rb_log {W : Nat → Prop} {c s b' : Nat} {f' : Nat → Value} (h : RepB g A B σ z) (hk : k < zn z) (hs : z.1 1 k 31 = 1) (q : kp W c s σ σ') (hC : hsz σ' ≤ gC g) (hW : ∀ a, W a → a = A 13 k ∨ a = B 33 k) (hl : isL g σ' (A 13 k) b' (z.2 3 k + 1) f') (hb : b' = B 33 k ∨ hsz σ ≤ b') (hb2 : b' < hsz σ' ∨ b' = B 33 k) (hf : ∀ i, i < z.2 3 k → InAt (mix A (Bup B 33 k b')) σ' (f' i) (z.1 11 k i)) (hf2 : InAt (mix A (Bup B 33 k b')) σ' (f' (z.2 3 k)) told) : RepB g A (Bup B 33 k b') σ' (zl (zs z 11 k (z.2 3 k) told) 3 k (z.2 3 k + 1)) := by
  have hA : cA g (mix A B) σ := h.2.1
  have hN : AN (mix A B) (mix A (Bup B 33 k b')) σ := AN_up hb
  obtain ⟨⟨q1, q2, q3, q4, q5, q6, q7, q8, q9, q10⟩, x1, x2, x3⟩ := RX_kp (A := mix A B) (r0 := 13) (k0 := k) h q hN (by decide) (fun a w => by
      rcases hW a w with e | e
      · rw [e]; exact (hA.2 13 k).1
      · rw [e]; exact (hA.2 33 k).1) (fun r j n1 n2 hl w => by
      rcases hW _ w with e | e
      · exact n1 (hA.1 _ _ 13 k e)
      · exact n2 (hA.1 _ _ 33 k e)) (fun a w _ => Or.inr (by
      rcases hW a w with e | e
      · exact ⟨13, k, e⟩
      · exact ⟨33, k, e⟩))
  refine ⟨q1, cA_up hA (by decide) hb q.1 hb2 hC (rgs (A := mix A B) h), q3, q4, q5, q6, q7, q8, q9, q10, ⟨x1 (by decide), x2 (by decide)⟩, fun j hj => ?_⟩
  obtain ⟨y1, y2⟩ := x3 j hj
  refine ⟨y1 (by omega), fun hs' => ?_⟩
  obtain ⟨y3, y4, y5⟩ := y2 hs'
  refine ⟨y3, ?_, y5 (by omega)⟩
  by_cases e : j = k
  · subst e
    refine ⟨f', ?_, ?_⟩
    · show isL g σ' (A 13 j) (mix A (Bup B 33 j b') 33 j) _ f'
      rw [show mix A (Bup B 33 j b') 33 j = b' from Bup_at B 33 j b', zl_at]
      exact hl
    · intro i hi
      rw [zl_at] at hi
      show InAt (mix A (Bup B 33 j b')) σ' (f' i) ((zs z 11 j (z.2 3 j) told).1 11 j i)
      by_cases ei : i = z.2 3 j
      · rw [ei, zs_at]; exact hf2
      · rw [zs_j _ ei]; exact hf i (by omega)
  · obtain ⟨f, g1, g2⟩ := y4 (by omega)
    refine ⟨f, ?_, ?_⟩
    · show isL g σ' (A 13 j) (mix A (Bup B 33 k b') 33 j) _ f
      rw [show mix A (Bup B 33 k b') 33 j = B 33 j from Bup_ne (by omega), zl_i _ e]
      exact g1
    · intro i hi
      rw [zl_i _ e] at hi
      show InAt (mix A (Bup B 33 k b')) σ' (f i) ((zs z 11 k (z.2 3 k) told).1 11 j i)
      rw [zs_i _ e]; exact g2 i hi
theorem c_padd (h : RepB g A B σ z) (hk : k < zn z) (hs : z.1 1 k 31 = 1) (hl : z.2 3 k ≤ 60) (hfull : z.2 3 k ≠ 60 → z.1 1 k 25 = 0) (hc : hsz σ + 2 ≤ gC g) (hsm : hsl σ + 101 ≤ gS g) (hQ : ∀ B' σ', St g A B B' σ σ' (logZ z k told) 2 101 → Q (.inl none) σ') : aw g 107 0 [some (.ref (A 12 k)), some (.int told)] [] σ Q := by
  have p12 := r12tb h hk hs
  have p9 := r9_b h hk hs
  obtain ⟨_, ⟨f2, u3, u4⟩, _⟩ := rLp (A := mix A B) h hk hs
  have u3 : isL g σ (A 13 k) (B 33 k) (z.2 3 k) f2 := u3
  have e1 := fun Q' => l_size (Q := Q') u3
  have t13 := u3.1
  have hgB := rgs (A := mix A B) h
  by_cases e60 : z.2 3 k = 60
  · rw [e60] at e1
    have e2 : (Int32.ofNat 60 = 60) = True := eq_true rfl
    have e3 := rb_p4 (v := 1) h hk
    have e4 : logZ z k told = zs z 1 k 25 1 := by unfold logZ; rw [if_pos hs, if_pos e60]
    simp (config := {decide := true}) only [vRf_r, vRf_n, vI_i, vL_l, vD_d, pI_i, pR_r, pR_n, vZ_0, vZ_1, ct_i, ct_r, ct_n, ct_l, ct_d, csum_n, csum_c, kt_v, kt_n, kt_e, oc_n, oc_i, oc_r, oc_l, oc_u, oc_d, true_and, and_true, Bool.and_true, Bool.true_and, ne_eq, not_false_eq_true, not_true_eq_false, implies_true, false_imp, true_imp_iff, hsz_put, hsl_put, hln_put, hty_put, hsz_new, hsl_new, hln_new, hty_new, Nat.zero_add, Nat.add_zero, eq_self, decide_true, t32_0, t32_1, t32_2, t32_3, t32_4, t32_5, t32_6, hv_same, hv_kne, hv_tne, hv_ntne, hv_nsame, hv_ctne, hty_cpy, hln_cpy, hsz_cpy, hsl_cpy, vrn, vnr, vrr, A107_0, A107_1, A107_4, A107_7, A107_9, A107_12, A107_13, A107_14, A107_17, A107_20, A107_21, A107_24, A107_27, A107_28, A107_31, A107_32, A107_35, A107_38, A107_39, p12, p9, e1, e2, t13, rgBA h]
    exact hQ B _ (St_mono (St_put (St_refl h) 12 (by decide) (by rw [e4]; exact e3)) (by omega) (by omega))
  · have e2 : (Int32.ofNat (z.2 3 k) = 60) = False := by
      rw [show (60 : Int32) = Int32.ofNat 60 from rfl, n32_eq (by omega) (by omega)]; exact eq_false e60
    have e3 := hfull e60
    have e4 : logZ z k told = zl (zs z 11 k (z.2 3 k) told) 3 k (z.2 3 k + 1) := by unfold logZ; rw [if_pos hs, if_neg e60]
    simp (config := {decide := true}) only [vRf_r, vRf_n, vI_i, vL_l, vD_d, pI_i, pR_r, pR_n, vZ_0, vZ_1, ct_i, ct_r, ct_n, ct_l, ct_d, csum_n, csum_c, kt_v, kt_n, kt_e, oc_n, oc_i, oc_r, oc_l, oc_u, oc_d, true_and, and_true, Bool.and_true, Bool.true_and, ne_eq, not_false_eq_true, not_true_eq_false, implies_true, false_imp, true_imp_iff, hsz_put, hsl_put, hln_put, hty_put, hsz_new, hsl_new, hln_new, hty_new, Nat.zero_add, Nat.add_zero, eq_self, decide_true, t32_0, t32_1, t32_2, t32_3, t32_4, t32_5, t32_6, hv_same, hv_kne, hv_tne, hv_ntne, hv_nsame, hv_ctne, hty_cpy, hln_cpy, hsz_cpy, hsl_cpy, vrn, vnr, vrr, A107_0, A107_1, A107_4, A107_7, A107_9, A107_12, A107_13, A107_14, A107_17, A107_20, A107_21, A107_24, A107_27, A107_28, A107_31, A107_32, p12, p9, e1, e2, e3, t13]
    refine l_valueOf (Bas_kp (h.1) (kp_refl (fun _ => False) σ) (fun _ e => e.elim)) (by omega) (by omega) ?_
    intro σ1 c c1 c2 c3 c4
    have t13' : hty σ1 (A 13 k) = some 10 := kp_ty c3 t13
    simp (config := {decide := true}) only [vRf_r, vRf_n, vI_i, vL_l, vD_d, pI_i, pR_r, pR_n, vZ_0, vZ_1, ct_i, ct_r, ct_n, ct_l, ct_d, csum_n, csum_c, kt_v, kt_n, kt_e, oc_n, oc_i, oc_r, oc_l, oc_u, oc_d, true_and, and_true, Bool.and_true, Bool.true_and, ne_eq, not_false_eq_true, not_true_eq_false, implies_true, false_imp, true_imp_iff, hsz_put, hsl_put, hln_put, hty_put, hsz_new, hsl_new, hln_new, hty_new, Nat.zero_add, Nat.add_zero, eq_self, decide_true, t32_0, t32_1, t32_2, t32_3, t32_4, t32_5, t32_6, hv_same, hv_kne, hv_tne, hv_ntne, hv_nsame, hv_ctne, hty_cpy, hln_cpy, hsz_cpy, hsl_cpy, vrn, vnr, vrr, A107_35, t13']
    have hgw : gw (z.2 3 k) ≤ 100 := by unfold gw; omega
    have d1 := c3.2.1
    have d2 := c3.2.2.2.1
    have u3' := isL_kp u3 c3 (fun e => e) (fun e => e)
    have ub := isL_bty u3'
    have hW1 : ∀ a t, (a = A 13 k ∨ a = B 33 k) → a < hsz σ1 → hty σ1 a = some t → t = 10 ∨ t = 24 := by
      intro a t w l q
      rcases w with e | e
      · subst e; rw [t13'] at q; left; exact (Option.some.inj q).symm
      · subst e
        rcases ub with e | e
        · omega
        · rw [e] at q; right; exact (Option.some.inj q).symm
    refine l_add u3' (by omega) (by have := c3.1; omega) (by omega) (by omega) ⟨12, c1, Or.inl (by decide)⟩ ?_
    intro σ2 b' l1 k2 l2
    have q := kp_then (W := fun x => x = A 13 k ∨ x = B 33 k) (kp_mono c3 (Nat.le_refl _) (Nat.le_refl _) (fun _ _ e => e.elim)) k2 (fun _ _ e => e)
    have hC2 : hsz σ2 ≤ gC g := by have := q.2.1; omega
    simp (config := {decide := true}) only [vRf_r, vRf_n, vI_i, vL_l, vD_d, pI_i, pR_r, pR_n, vZ_0, vZ_1, ct_i, ct_r, ct_n, ct_l, ct_d, csum_n, csum_c, kt_v, kt_n, kt_e, oc_n, oc_i, oc_r, oc_l, oc_u, oc_d, true_and, and_true, Bool.and_true, Bool.true_and, ne_eq, not_false_eq_true, not_true_eq_false, implies_true, false_imp, true_imp_iff, hsz_put, hsl_put, hln_put, hty_put, hsz_new, hsl_new, hln_new, hty_new, Nat.zero_add, Nat.add_zero, eq_self, decide_true, t32_0, t32_1, t32_2, t32_3, t32_4, t32_5, t32_6, hv_same, hv_kne, hv_tne, hv_ntne, hv_nsame, hv_ctne, hty_cpy, hln_cpy, hsz_cpy, hsl_cpy, vrn, vnr, vrr, A107_38, A107_39]
    refine hQ (Bup B 33 k b') σ2 ⟨?_, BK_up (by decide) (l2.imp_right (fun e => by have := c3.1; omega)), kp_mono q (by omega) (by omega) (fun a _ e => by
      rcases e with e | e
      · rw [e]; exact FB_i 13 (by decide)
      · rw [e]; exact FB_b 33 (by decide))⟩
    rw [e4]
    have k2t : ∀ a t, hty σ1 a = some t → t ≠ 10 → t ≠ 24 → ∀ t' i, hv σ2 t' a i = hv σ1 t' a i := by
      intro a t e n1 n2
      refine (k2.2.2.2.2 a (hty_lt e)).2.2 (fun w => ?_)
      rcases hW1 a t w (hty_lt e) e with e | e
      · exact n1 e
      · exact n2 e
    refine rb_log h hk hs q hC2 (fun _ e => e) l1 (l2.imp_right (fun e => by have := c3.1; omega)) (l2.elim (fun e => Or.inr e) (fun e => Or.inl (by omega))) (fun i hi => ?_) ?_
    · show InAt _ σ2 (if i = z.2 3 k then .ref c else f2 i) _
      rw [if_neg (by omega)]
      obtain ⟨x, x1, x2, x3, x4⟩ := InAt_kp (u4 i hi) c3 (AN_up (l2.imp_right (fun e => by have := c3.1; omega))) (fun _ e => e.elim)
      exact ⟨x, x1, kp_ty k2 x2, by rw [k2t x 12 x2 (by decide) (by decide)]; exact x3, x4⟩
    · show InAt _ σ2 (if z.2 3 k = z.2 3 k then .ref c else f2 _) _
      rw [if_pos rfl]
      refine ⟨c, rfl, kp_ty k2 c1, by rw [k2t c 12 c1 (by decide) (by decide)]; exact c2, ?_⟩
      have hcl := hty_lt c1
      have h0 : ∀ r j, c ≠ mix A B r j := fun r j e => by
        have h1 := h.2.1.2 r j
        rcases c4 with w | w
        · have := h1.1; omega
        · rcases h1.2 with v | v <;> omega
      exact AN_q (A := mix A B) (σ := σ1) (AN_up (l2.imp_right (fun e => by omega))) hcl h0
theorem c_log (h : RepB g A B σ z) (hk : k < zn z) (hl : z.2 3 k ≤ 60) (hfull : z.1 1 k 31 = 1 → z.2 3 k ≠ 60 → z.1 1 k 25 = 0) (hc : hsz σ + 2 ≤ gC g) (hsm : hsl σ + 101 ≤ gS g) (hQ : ∀ B' σ', St g A B B' σ σ' (logZ z k told) 2 101 → Q (.inl none) σ') : aw g 125 0 [some (.ref (A 4 k)), some (.int told)] [] σ Q := by
  by_cases hs : z.1 1 k 31 = 1
  · have p12 := r12tb h hk hs
    simp (config := {decide := true}) only [vRf_r, vRf_n, vI_i, vL_l, vD_d, pI_i, pR_r, pR_n, vZ_0, vZ_1, ct_i, ct_r, ct_n, ct_l, ct_d, csum_n, csum_c, kt_v, kt_n, kt_e, oc_n, oc_i, oc_r, oc_l, oc_u, oc_d, true_and, and_true, Bool.and_true, Bool.true_and, ne_eq, not_false_eq_true, not_true_eq_false, implies_true, false_imp, true_imp_iff, hsz_put, hsl_put, hln_put, hty_put, hsz_new, hsl_new, hln_new, hty_new, Nat.zero_add, Nat.add_zero, eq_self, decide_true, t32_0, t32_1, t32_2, t32_3, t32_4, t32_5, t32_6, hv_same, hv_kne, hv_tne, hv_ntne, hv_nsame, hv_ctne, hty_cpy, hln_cpy, hsz_cpy, hsl_cpy, vrn, vnr, vrr, A125_0, A125_1, A125_4, A125_7, A125_8, A125_11, A125_12, A125_15, r5tb h hk, r5gb h hk, r5nb h hk, r5mb h hk, r5eb h hk, r5db h hk, r5vb h hk, r5lb h hk, r5pb h hk, r6tb h hk, r60b h hk, r61b h hk, r62b h hk, r63b h hk, r7tb h hk, r7lb h hk, r8tb h hk, r8lb h hk, r9tb h hk, r9lb h hk, r10tb h hk, r10lb h hk, rgBA h, hs, p12, if_true]
    refine c_padd h hk hs hl (hfull hs) hc hsm ?_
    intro B' σ' hS
    simp (config := {decide := true}) only [vRf_r, vRf_n, vI_i, vL_l, vD_d, pI_i, pR_r, pR_n, vZ_0, vZ_1, ct_i, ct_r, ct_n, ct_l, ct_d, csum_n, csum_c, kt_v, kt_n, kt_e, oc_n, oc_i, oc_r, oc_l, oc_u, oc_d, true_and, and_true, Bool.and_true, Bool.true_and, ne_eq, not_false_eq_true, not_true_eq_false, implies_true, false_imp, true_imp_iff, hsz_put, hsl_put, hln_put, hty_put, hsz_new, hsl_new, hln_new, hty_new, Nat.zero_add, Nat.add_zero, eq_self, decide_true, t32_0, t32_1, t32_2, t32_3, t32_4, t32_5, t32_6, hv_same, hv_kne, hv_tne, hv_ntne, hv_nsame, hv_ctne, hty_cpy, hln_cpy, hsz_cpy, hsl_cpy, vrn, vnr, vrr, A125_0, A125_1, A125_4, A125_7, A125_8, A125_11, A125_12, A125_15]
    exact hQ B' σ' hS
  · have e4 : logZ z k told = z := by unfold logZ; rw [if_neg hs]
    simp (config := {decide := true}) only [vRf_r, vRf_n, vI_i, vL_l, vD_d, pI_i, pR_r, pR_n, vZ_0, vZ_1, ct_i, ct_r, ct_n, ct_l, ct_d, csum_n, csum_c, kt_v, kt_n, kt_e, oc_n, oc_i, oc_r, oc_l, oc_u, oc_d, true_and, and_true, Bool.and_true, Bool.true_and, ne_eq, not_false_eq_true, not_true_eq_false, implies_true, false_imp, true_imp_iff, hsz_put, hsl_put, hln_put, hty_put, hsz_new, hsl_new, hln_new, hty_new, Nat.zero_add, Nat.add_zero, eq_self, decide_true, t32_0, t32_1, t32_2, t32_3, t32_4, t32_5, t32_6, hv_same, hv_kne, hv_tne, hv_ntne, hv_nsame, hv_ctne, hty_cpy, hln_cpy, hsz_cpy, hsl_cpy, vrn, vnr, vrr, A125_0, A125_1, A125_4, A125_7, A125_8, A125_11, A125_12, A125_15, r5tb h hk, r5gb h hk, r5nb h hk, r5mb h hk, r5eb h hk, r5db h hk, r5vb h hk, r5lb h hk, r5pb h hk, r6tb h hk, r60b h hk, r61b h hk, r62b h hk, r63b h hk, r7tb h hk, r7lb h hk, r8tb h hk, r8lb h hk, r9tb h hk, r9lb h hk, r10tb h hk, r10lb h hk, rgBA h, hs, if_false]
    exact hQ B σ (St_mono (by rw [e4]; exact St_refl h) (by omega) (by omega))
end LOG
