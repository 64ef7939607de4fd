/-! a guest's copy -/
/-- booleans are 0 or 1 -/
def b01 (x : Int32) : Prop := x = 0 ∨ x = 1
def WB (z : ZT) (k : Nat) : Prop := (∀ p, p < 6 → b01 (z.1 4 k p) ∧ b01 (z.1 5 k p) ∧ (z.1 1 k 30 = 1 → b01 (z.1 6 k p))) ∧ b01 (z.1 1 k 5) ∧ b01 (z.1 1 k 19) ∧ (z.1 1 k 31 = 1 → b01 (z.1 1 k 25))
section GCOPY2
variable {g : GC} {A B X : Nat → Nat → Nat} {σ σ' : AH} {z : ZT} {k p x y u b n : Nat} {f : Nat → Value} {w num : Int32} {Q : AQ}
theorem gm_a {N : Nat → Nat → Nat} {a a' : Nat → Nat} (h : gm g N a σ z k) (e : ∀ r, r = 4 ∨ r = 5 ∨ r = 6 ∨ r = 7 ∨ r = 8 ∨ r = 9 ∨ r = 10 ∨ r = 11 ∨ r = 26 → a' r = a r) : gm g N a' σ z k := by
  unfold gm gcT
  rw [e 4 (by decide), e 5 (by decide), e 6 (by decide), e 7 (by decide), e 8 (by decide), e 9 (by decide), e 10 (by decide), e 11 (by decide), e 26 (by decide)]
  exact h
/-- the end of the copying: the last fields, the past -/
theorem c_gcopy_end {X2 : Nat → Nat → Nat} {σ2 : AH} {x4 : Nat} (h : RepB g A B σ z) (hk : k < zn z) (hb : WB z k) (hg4 : z.2 4 k ≤ 400) (hg3 : z.2 3 k ≤ 60) (hX : cA g X σ) (hG : gc g X (fun r => mix A B r k) σ z k) (h15 : X 15 k = A 15 k ∧ X 16 k = A 16 k ∧ X 17 k = A 17 k ∧ X 36 k = B 36 k) (hc : hsz σ + 20 ≤ gC g) (hs : hsl σ + 1056 ≤ gS g)
    (q2 : kp (fun _ => False) 13 105 σ σ2) (hx : hsz σ ≤ x4) (hc2 : cAs g X2 (hsz σ2)) (hA2 : AG X X2 σ k) (h15' : X2 15 k = X 15 k ∧ X2 16 k = X 16 k ∧ X2 17 k = X 17 k ∧ X2 36 k = X 36 k) (h4 : X2 4 k = x4) (hm : gm g X2 (fun r => X2 r k) σ2 z k) (h21 : hv σ2 5 x4 21 = .null)
    (hQ : ∀ X' σ', kp (fun _ => False) 20 1056 σ σ' → cA g X' σ' → AG X X' σ k → (X' 15 k = X 15 k ∧ X' 16 k = X 16 k ∧ X' 17 k = X 17 k ∧ X' 36 k = X 36 k) → gc g X' (fun r => X' r k) σ' z k → Q (.inl (some (.ref (X' 4 k)))) σ') : aw g 195 176 [some (.ref (A 4 k)), some (.ref x4)] [] σ2 Q := by
  have h2 : RepB g A B σ2 z := (St_0 h q2).1
  have hgB : gB g ≤ hsz σ := rgsb h
  have gx : gB g ≤ x4 := by omega
  have t4 : hty σ2 x4 = some 5 := by have t : hty σ2 (X2 4 k) = some 5 := hm.1.1; rw [h4] at t; exact t
  have l4 := hty_lt t4
  have vz : vZ (.int (z.1 1 k 19)) = True := eq_true hb.2.2.1
  have s4 : A 4 k < hsz σ := hty_lt (r5tb h hk)
  have d1 := q2.2.1
  have d2 := q2.2.2.2.1
  -- four fields
  have kE : kp (fun a => a = x4) 0 0 σ2 (hput (hput (hput (hput σ2 5 x4 17 (.int (z.1 1 k 17))) 5 x4 18 (.int (z.1 1 k 18))) 5 x4 19 (.int (z.1 1 k 19))) 5 x4 20 (.int (z.1 1 k 20))) := kp_trans (kp_trans (kp_trans (kp_put (W := fun a => a = x4) (fun _ => rfl)) (kp_put (W := fun a => a = x4) (fun _ => rfl))) (kp_put (W := fun a => a = x4) (fun _ => rfl))) (kp_put (W := fun a => a = x4) (fun _ => rfl))
  have vE : ∀ j, hv (hput (hput (hput (hput σ2 5 x4 17 (.int (z.1 1 k 17))) 5 x4 18 (.int (z.1 1 k 18))) 5 x4 19 (.int (z.1 1 k 19))) 5 x4 20 (.int (z.1 1 k 20))) 5 x4 j = if j = 20 then .int (z.1 1 k 20) else if j = 19 then .int (z.1 1 k 19) else if j = 18 then .int (z.1 1 k 18) else if j = 17 then .int (z.1 1 k 17) else hv σ2 5 x4 j := by
    intro j
    rw [hv_put, hv_put, hv_put, hv_put]
    simp only [true_and]
  have q3 : kp (fun _ => False) 13 105 σ (hput (hput (hput (hput σ2 5 x4 17 (.int (z.1 1 k 17))) 5 x4 18 (.int (z.1 1 k 18))) 5 x4 19 (.int (z.1 1 k 19))) 5 x4 20 (.int (z.1 1 k 20))) := kp_mono (kp_then q2 kE (fun a ha e => by omega)) (by omega) (by omega) (fun _ _ e => e)
  have z3 : hsz (hput (hput (hput (hput σ2 5 x4 17 (.int (z.1 1 k 17))) 5 x4 18 (.int (z.1 1 k 18))) 5 x4 19 (.int (z.1 1 k 19))) 5 x4 20 (.int (z.1 1 k 20))) = hsz σ2 := rfl
  have y3 : hsl (hput (hput (hput (hput σ2 5 x4 17 (.int (z.1 1 k 17))) 5 x4 18 (.int (z.1 1 k 18))) 5 x4 19 (.int (z.1 1 k 19))) 5 x4 20 (.int (z.1 1 k 20))) = hsl σ2 := rfl
  simp (config := {decide := true}) only [vRf_r, vRf_n, vI_i, vL_l, vD_d, pI_i, pR_r, pR_n, vZ_0, vZ_1, ct_i, ct_r, ct_n, ct_l, ct_d, csum_n, csum_c, kt_v, kt_n, kt_e, oc_n, oc_i, oc_r, oc_l, oc_u, oc_d, true_and, and_true, Bool.and_true, Bool.true_and, ne_eq, not_false_eq_true, not_true_eq_false, implies_true, false_imp, true_imp_iff, hsz_put, hsl_put, hln_put, hty_put, hsz_new, hsl_new, hln_new, hty_new, Nat.zero_add, Nat.add_zero, eq_self, decide_true, t32_0, t32_1, t32_2, t32_3, t32_4, t32_5, t32_6, hv_same, hv_kne, hv_tne, hv_ntne, hv_nsame, hv_ctne, hty_cpy, hln_cpy, hsz_cpy, hsl_cpy, vrn, vnr, vrr, A195_176, A195_177, A195_178, A195_181, A195_184, A195_185, A195_186, A195_189, A195_192, A195_193, A195_194, A195_197, A195_200, A195_201, A195_202, A195_205, r5tb h2 hk, r5gb h2 hk, r5nb h2 hk, r5mb h2 hk, r5eb h2 hk, r5db h2 hk, r5vb h2 hk, r5lb h2 hk, r5pb h2 hk, r6tb h2 hk, r60b h2 hk, r61b h2 hk, r62b h2 hk, r63b h2 hk, r7tb h2 hk, r7lb h2 hk, r8tb h2 hk, r8lb h2 hk, r9tb h2 hk, r9lb h2 hk, r10tb h2 hk, r10lb h2 hk, rgBA h2, t4, gx, vz]
  generalize hput (hput (hput (hput σ2 5 x4 17 (.int (z.1 1 k 17))) 5 x4 18 (.int (z.1 1 k 18))) 5 x4 19 (.int (z.1 1 k 19))) 5 x4 20 (.int (z.1 1 k 20)) = σ3 at *
  have h3 : RepB g A B σ3 z := (St_0 h q3).1
  have t43 := kp_ty kE t4
  have dX : ∀ r, r ≠ 4 → gwr r = true → X2 r k ≠ X2 4 k := fun r hr _ e => hr (hc2.1 r k 4 k e).1
  have h17 : ∀ j, j = 17 ∨ j = 18 ∨ j = 19 ∨ j = 20 → hv σ3 5 x4 j = .int (z.1 1 k j) := by
    intro j hj
    rw [vE]
    rcases hj with e | e | e | e <;> subst e <;> rfl
  have hjE : ∀ j, j ≠ 17 → j ≠ 18 → j ≠ 19 → j ≠ 20 → hv σ3 5 x4 j = hv σ2 5 x4 j := fun j a1 a2 a3 a4 => by rw [vE, if_neg a4, if_neg a3, if_neg a2, if_neg a1]
  by_cases hs1 : z.1 1 k 31 = 1
  · have p21 := r5pb h3 hk
    rw [if_pos hs1] at p21
    have g4 := r5tb h3 hk
    have p12 := r12tb h3 hk hs1
    have p15 := r15tb h3 hk hs1
    have p9 := r9_b h3 hk hs1
    obtain ⟨⟨f1, w1, w2⟩, ⟨f2, u3, u4⟩, ⟨f3, u5, u6⟩⟩ := hG.2.2 hs1
    have w1 : isL g σ (A 16 k) (B 36 k) (z.2 2 k) f1 := w1
    have u3 : isL g σ (A 13 k) (B 33 k) (z.2 3 k) f2 := u3
    have u5 : isL g σ (A 14 k) (B 34 k) (z.2 4 k) f3 := u5
    have u3' := isL_kp u3 q3 (fun e => e) (fun e => e)
    have u5' := isL_kp u5 q3 (fun e => e) (fun e => e)
    simp (config := {decide := true}) only [vRf_r, vRf_n, vI_i, vL_l, vD_d, pI_i, pR_r, pR_n, vZ_0, vZ_1, ct_i, ct_r, ct_n, ct_l, ct_d, csum_n, csum_c, kt_v, kt_n, kt_e, oc_n, oc_i, oc_r, oc_l, oc_u, oc_d, true_and, and_true, Bool.and_true, Bool.true_and, ne_eq, not_false_eq_true, not_true_eq_false, implies_true, false_imp, true_imp_iff, hsz_put, hsl_put, hln_put, hty_put, hsz_new, hsl_new, hln_new, hty_new, Nat.zero_add, Nat.add_zero, eq_self, decide_true, t32_0, t32_1, t32_2, t32_3, t32_4, t32_5, t32_6, hv_same, hv_kne, hv_tne, hv_ntne, hv_nsame, hv_ctne, hty_cpy, hln_cpy, hsz_cpy, hsl_cpy, vrn, vnr, vrr, A195_208, A195_209, A195_210, A195_213, A195_216, A195_217, A195_220, A195_221, A195_224, g4, p21, p12, t43]
    refine c_pastCopy (x0 := A 12 k) (m := A 15 k) h3.1 ⟨⟨p12, p9.1, p9.2.1, p9.2.2.1, p9.2.2.2.1, p9.2.2.2.2⟩, u3', u5'⟩ p15 (hb.2.2.2 hs1) hg3 hg4 (by omega) (by omega) ?_
    intro σ4 xp yl bl yg bg q4 i1 i2 i3 i4 i5 i6 hP
    obtain ⟨⟨a1, a2, a3, a4, a5, a6⟩, a7, a8⟩ := hP
    have t44 := kp_ty q4 t43
    simp (config := {decide := true}) only [vRf_r, vRf_n, vI_i, vL_l, vD_d, pI_i, pR_r, pR_n, vZ_0, vZ_1, ct_i, ct_r, ct_n, ct_l, ct_d, csum_n, csum_c, kt_v, kt_n, kt_e, oc_n, oc_i, oc_r, oc_l, oc_u, oc_d, true_and, and_true, Bool.and_true, Bool.true_and, ne_eq, not_false_eq_true, not_true_eq_false, implies_true, false_imp, true_imp_iff, hsz_put, hsl_put, hln_put, hty_put, hsz_new, hsl_new, hln_new, hty_new, Nat.zero_add, Nat.add_zero, eq_self, decide_true, t32_0, t32_1, t32_2, t32_3, t32_4, t32_5, t32_6, hv_same, hv_kne, hv_tne, hv_ntne, hv_nsame, hv_ctne, hty_cpy, hln_cpy, hsz_cpy, hsl_cpy, vrn, vnr, vrr, A195_227, A195_230, A195_231, t44, gx]
    have k5 : kp (fun a => a = x4) 0 0 σ4 (hput σ4 5 x4 21 (.ref xp)) := kp_put (W := fun a => a = x4) (fun _ => rfl)
    have qe : kp (fun a => a = x4) 7 951 σ2 (hput σ4 5 x4 21 (.ref xp)) := kp_mono (kp_trans (kp_trans kE (kp_mono q4 (Nat.le_refl _) (Nat.le_refl _) (fun _ _ e => e.elim))) k5) (by omega) (by omega) (fun _ _ e => e)
    have q5 : kp (fun _ => False) 20 1056 σ (hput σ4 5 x4 21 (.ref xp)) := kp_mono (kp_then q2 qe (fun a ha e => by omega)) (by omega) (by omega) (fun _ _ e => e)
    have e34 : hsz σ3 = hsz σ2 := z3
    have hC4 := q4.2.1
    -- the names
    have c12 := cAs_nm (r0 := 12) (k0 := k) (x := xp) hc2 (by omega) (by omega) (by omega)
    have c13 := cAs_nm (r0 := 13) (k0 := k) (x := yl) c12 (by omega) (by omega) (by omega)
    have c14 := cAs_nm (r0 := 14) (k0 := k) (x := yg) c13 (by omega) (by omega) (by omega)
    have c33 := cAs_nm (r0 := 33) (k0 := k) (x := bl) c14 (by omega) (by omega) (by omega)
    have c34 := cAs_nm (r0 := 34) (k0 := k) (x := bg) c33 (by omega) (by omega) (by omega)
    have hA5 := AG_nm (x := bg) (AG_nm (x := bl) (AG_nm (x := yg) (AG_nm (x := yl) (AG_nm (x := xp) hA2 (r0 := 12) rfl (by omega)) (r0 := 13) rfl (by omega)) (r0 := 14) rfl (by omega)) (r0 := 33) rfl (by omega)) (r0 := 34) rfl (by omega)
    have nX : ∀ r, r ≠ 12 → r ≠ 13 → r ≠ 14 → r ≠ 33 → r ≠ 34 → nm (nm (nm (nm (nm X2 12 k xp) 13 k yl) 14 k yg) 33 k bl) 34 k bg r k = X2 r k := by
      intro r n1 n2 n3 n4 n5
      rw [nm_ne (by omega), nm_ne (by omega), nm_ne (by omega), nm_ne (by omega), nm_ne (by omega)]
    have e12 : nm (nm (nm (nm (nm X2 12 k xp) 13 k yl) 14 k yg) 33 k bl) 34 k bg 12 k = xp := by rw [nm_ne (by omega), nm_ne (by omega), nm_ne (by omega), nm_ne (by omega), nm_at]
    have e13 : nm (nm (nm (nm (nm X2 12 k xp) 13 k yl) 14 k yg) 33 k bl) 34 k bg 13 k = yl := by rw [nm_ne (by omega), nm_ne (by omega), nm_ne (by omega), nm_at]
    have e14 : nm (nm (nm (nm (nm X2 12 k xp) 13 k yl) 14 k yg) 33 k bl) 34 k bg 14 k = yg := by rw [nm_ne (by omega), nm_ne (by omega), nm_at]
    have e33 : nm (nm (nm (nm (nm X2 12 k xp) 13 k yl) 14 k yg) 33 k bl) 34 k bg 33 k = bl := by rw [nm_ne (by omega), nm_at]
    have e34' : nm (nm (nm (nm (nm X2 12 k xp) 13 k yl) 14 k yg) 33 k bl) 34 k bg 34 k = bg := nm_at _ _ _ _
    have hAN5 : AN X2 (nm (nm (nm (nm (nm X2 12 k xp) 13 k yl) 14 k yg) 33 k bl) 34 k bg) σ2 := by
      intro r i
      by_cases e1 : r = 34 ∧ i = k
      · rw [e1.1, e1.2, e34']; exact Or.inr (by omega)
      rw [nm_ne e1]
      by_cases e2 : r = 33 ∧ i = k
      · rw [e2.1, e2.2, nm_at]; exact Or.inr (by omega)
      rw [nm_ne e2]
      by_cases e3 : r = 14 ∧ i = k
      · rw [e3.1, e3.2, nm_at]; exact Or.inr (by omega)
      rw [nm_ne e3]
      by_cases e4 : r = 13 ∧ i = k
      · rw [e4.1, e4.2, nm_at]; exact Or.inr (by omega)
      rw [nm_ne e4]
      by_cases e5 : r = 12 ∧ i = k
      · rw [e5.1, e5.2, nm_at]; exact Or.inr (by omega)
      rw [nm_ne e5]; exact Or.inl rfl
    have hAN0 : AN X (nm (nm (nm (nm (nm X2 12 k xp) 13 k yl) 14 k yg) 33 k bl) 34 k bg) σ := AG_AN hA5
    generalize nm (nm (nm (nm (nm X2 12 k xp) 13 k yl) 14 k yg) 33 k bl) 34 k bg = X5 at *
    have kF : ∀ t' a i, a ≠ x4 → hv (hput σ4 5 x4 21 (.ref xp)) t' a i = hv σ4 t' a i := fun t' a i n => hv_ane _ n
    have hp := (h.2.2.1.2.2 k hk).2.2.2.2.2.2.2 hs1
    have hp2 := r15_b h hk hs1
    have hp3 := fun p hp => r17vb h hk hs1 (p := p) hp
    have o5 : ∀ a t, hty σ a = some t → hty (hput σ4 5 x4 21 (.ref xp)) a = some t ∧ hln (hput σ4 5 x4 21 (.ref xp)) a = hln σ a ∧ ∀ t' i, hv (hput σ4 5 x4 21 (.ref xp)) t' a i = hv σ t' a i := fun a t e => ⟨kp_ty q5 e, (q5.2.2.2.2 a (hty_lt e)).2.1, fun t' i => (q5.2.2.2.2 a (hty_lt e)).2.2 (fun e => e) t' i⟩
    have r15 : X5 15 k = A 15 k := (nX 15 (by decide) (by decide) (by decide) (by decide) (by decide)).trans (h15'.1.trans h15.1)
    have r16 : X5 16 k = A 16 k := (nX 16 (by decide) (by decide) (by decide) (by decide) (by decide)).trans (h15'.2.1.trans h15.2.1)
    have r17 : X5 17 k = A 17 k := (nX 17 (by decide) (by decide) (by decide) (by decide) (by decide)).trans (h15'.2.2.1.trans h15.2.2.1)
    have r36 : X5 36 k = B 36 k := (nX 36 (by decide) (by decide) (by decide) (by decide) (by decide)).trans (h15'.2.2.2.trans h15.2.2.2)
    have r4 : X5 4 k = x4 := (nX 4 (by decide) (by decide) (by decide) (by decide) (by decide)).trans h4
    have hm5 : gm g X2 (fun r => X5 r k) σ2 z k := gm_a hm (fun r hr => nX r (by omega) (by omega) (by omega) (by omega) (by omega))
    have dX5 : ∀ r, r ≠ 4 → gwr r = true → X5 r k ≠ X5 4 k := fun r hr _ e => hr (c34.1 r k 4 k e).1
    have G := gm_gc (N' := X5) (σ' := hput σ4 5 x4 21 (.ref xp)) hm5 (show kp (fun y => y = X5 4 k) 7 951 σ2 (hput σ4 5 x4 21 (.ref xp)) by rw [r4]; exact qe) dX5 hAN5 ⟨4, k, r4.trans h4.symm⟩ (fun j hj => by
        show hv _ 5 (X5 4 k) j = hv σ2 5 (X5 4 k) j
        rw [r4, hv_kne _ (by omega), (q4.2.2.2.2 x4 (by omega)).2.2 (fun e => e)]
        exact hjE j (by omega) (by omega) (by omega) (by omega)) (fun j hj => by
        show hv _ 5 (X5 4 k) j = _
        rw [r4, hv_kne _ (by omega), (q4.2.2.2.2 x4 (by omega)).2.2 (fun e => e)]
        exact h17 j hj) (by
        show hv _ 5 (X5 4 k) 21 = if z.1 1 k 31 = 1 then .ref (X5 12 k) else .null
        rw [r4, hv_same, if_pos hs1, e12]) (fun _ => by
        have m15 := o5 _ _ hp.2.1
        have m17 := o5 _ _ hp.2.2.1
        refine ⟨⟨?_, ?_, ?_, ?_⟩, ?_, ?_, fun p hp' => ?_, ⟨f1, ?_, fun i hi => OpAt_kp (w2 i hi) q5 hAN0 (fun _ e => e.elim)⟩, ⟨f2, ?_, fun i hi => InAt_kp (u4 i hi) q5 hAN0 (fun _ e => e.elim)⟩, ⟨f3, ?_, fun i hi => RwAt_kp (u6 i hi) q5 hAN0 (fun _ e => e.elim)⟩⟩
        · show hty _ (X5 12 k) = _
          rw [e12]; exact a1
        · show hty _ (X5 15 k) = _
          rw [r15]; exact m15.1
        · show hty _ (X5 17 k) = _
          rw [r17]; exact m17.1
        · show hln _ (X5 17 k) = _
          rw [r17]; exact m17.2.1.trans hp.2.2.2
        · show hv _ 6 (X5 15 k) 0 = .ref (X5 16 k) ∧ hv _ 6 (X5 15 k) 1 = .ref (X5 17 k) ∧ hv _ 6 (X5 15 k) 2 = _ ∧ hv _ 6 (X5 15 k) 3 = _
          have m := m15.2.2 6
          have m : ∀ i, hv (hput σ4 5 x4 21 (.ref xp)) 6 (A 15 k) i = hv σ 6 (A 15 k) i := m
          rw [r15, r16, r17, m, m, m, m]
          exact hp2
        · show hv _ 9 (X5 12 k) 0 = .ref (X5 15 k) ∧ hv _ 9 (X5 12 k) 1 = .ref (X5 13 k) ∧ hv _ 9 (X5 12 k) 2 = .ref (X5 14 k) ∧ hv _ 9 (X5 12 k) 3 = _ ∧ hv _ 9 (X5 12 k) 4 = _
          rw [e12, r15, e13, e14, hv_tne _ (by decide)]
          exact ⟨a2, a3, a4, a5, a6⟩
        · show hv _ 20 (X5 17 k) p = _
          rw [r17]
          exact (m17.2.2 20 p).trans (hp3 p hp')
        · show isL g _ (X5 16 k) (X5 36 k) _ _
          rw [r16, r36]
          exact isL_kp w1 q5 (fun e => e) (fun e => e)
        · show isL g _ (X5 13 k) (X5 33 k) _ _
          rw [e13, e33]
          exact isL_tag a7 (by decide) (by decide)
        · show isL g _ (X5 14 k) (X5 34 k) _ _
          rw [e14, e34']
          exact isL_tag a8 (by decide) (by decide))
    have := hQ X5 _ q5 (cAs_to c34 (by show bg + 1 ≤ hsz σ4; omega)) hA5 ⟨r15.trans h15.1.symm, r16.trans h15.2.1.symm, r17.trans h15.2.2.1.symm, r36.trans h15.2.2.2.symm⟩ G
    rw [r4] at this
    exact this
  · have p21 := r5pb h3 hk
    rw [if_neg hs1] at p21
    have g4 := r5tb h3 hk
    simp (config := {decide := true}) only [vRf_r, vRf_n, vI_i, vL_l, vD_d, pI_i, pR_r, pR_n, vZ_0, vZ_1, ct_i, ct_r, ct_n, ct_l, ct_d, csum_n, csum_c, kt_v, kt_n, kt_e, oc_n, oc_i, oc_r, oc_l, oc_u, oc_d, true_and, and_true, Bool.and_true, Bool.true_and, ne_eq, not_false_eq_true, not_true_eq_false, implies_true, false_imp, true_imp_iff, hsz_put, hsl_put, hln_put, hty_put, hsz_new, hsl_new, hln_new, hty_new, Nat.zero_add, Nat.add_zero, eq_self, decide_true, t32_0, t32_1, t32_2, t32_3, t32_4, t32_5, t32_6, hv_same, hv_kne, hv_tne, hv_ntne, hv_nsame, hv_ctne, hty_cpy, hln_cpy, hsz_cpy, hsl_cpy, vrn, vnr, vrr, A195_208, A195_209, A195_210, A195_213, A195_216, A195_217, A195_227, A195_230, A195_231, g4, p21, t43, gx]
    have k5 : kp (fun a => a = x4) 0 0 σ3 (hput σ3 5 x4 21 .null) := kp_put (W := fun a => a = x4) (fun _ => rfl)
    have qe : kp (fun a => a = x4) 0 0 σ2 (hput σ3 5 x4 21 .null) := kp_trans kE k5
    have q5 : kp (fun _ => False) 20 1056 σ (hput σ3 5 x4 21 .null) := kp_mono (kp_then q2 qe (fun a ha e => by omega)) (by omega) (by omega) (fun _ _ e => e)
    have G := gm_gc (N' := X2) (σ' := hput σ3 5 x4 21 .null) hm (show kp (fun y => y = X2 4 k) 0 0 σ2 (hput σ3 5 x4 21 .null) by rw [h4]; exact qe) dX (AN_refl _ _) ⟨4, k, rfl⟩ (fun j hj => by
        show hv _ 5 (X2 4 k) j = hv σ2 5 (X2 4 k) j
        rw [h4, hv_kne _ (by omega)]
        exact hjE j (by omega) (by omega) (by omega) (by omega)) (fun j hj => by
        show hv _ 5 (X2 4 k) j = _
        rw [h4, hv_kne _ (by omega)]
        exact h17 j hj) (by
        show hv _ 5 (X2 4 k) 21 = _
        rw [h4, hv_same, if_neg hs1]) (fun e => absurd e hs1)
    have := hQ X2 _ q5 (cAs_to hc2 (by show hsz σ2 ≤ hsz σ3; omega)) hA2 h15' G
    rw [h4] at this
    exact this
theorem c_guestCopy (h : RepB g A B σ z) (hk : k < zn z) (hb : WB z k) (hg2 : z.2 2 k ≤ 12) (hg4 : z.2 4 k ≤ 400) (hg3 : z.2 3 k ≤ 60) (hX : cA g X σ) (hG : gc g X (fun r => mix A B r k) σ z k) (h15 : X 15 k = A 15 k ∧ X 16 k = A 16 k ∧ X 17 k = A 17 k ∧ X 36 k = B 36 k) (hc : hsz σ + 20 ≤ gC g) (hs : hsl σ + 1056 ≤ gS g)
    (hQ : ∀ X' σ', kp (fun _ => False) 20 1056 σ σ' → cA g X' σ' → AG X X' σ k → (X' 15 k = X 15 k ∧ X' 16 k = X 16 k ∧ X' 17 k = X 17 k ∧ X' 36 k = X 36 k) → gc g X' (fun r => X' r k) σ' z k → Q (.inl (some (.ref (X' 4 k)))) σ') : aw g 195 0 [some (.ref (A 4 k)), none] [] σ Q := by
  have hB0 := h.1
  have hgB : gB g ≤ hsz σ := rgsb h
  have c1 : hsz σ + 1 ≤ gC g := by omega
  have s1 : hsl σ + 22 ≤ gS g := by omega
  have l4 : A 4 k < hsz σ := hty_lt (r5tb h hk)
  -- the new guest's cell
  have kA : kp (fun _ => False) 1 22 σ (hnew σ 5 0 (fun k => defaultValue (tyX6 k)) 22) := kp_new
  have tA : hty (hnew σ 5 0 (fun k => defaultValue (tyX6 k)) 22) (hsz σ) = some 5 := by rw [hty_new, if_pos rfl]
  have vA : ∀ j, hv (hnew σ 5 0 (fun k => defaultValue (tyX6 k)) 22) 5 (hsz σ) j = defaultValue (tyX6 j) := fun j => hv_nsame _ _ _ _ _ _
  have zA : hsz (hnew σ 5 0 (fun k => defaultValue (tyX6 k)) 22) = hsz σ + 1 := rfl
  have yA : hsl (hnew σ 5 0 (fun k => defaultValue (tyX6 k)) 22) = hsl σ + 22 := rfl
  have hA := (St_0 h kA).1
  rw [A195_0]
  refine ⟨c1, s1, ?_⟩
  generalize hnew σ 5 0 (fun k => defaultValue (tyX6 k)) 22 = σA at *
  simp (config := {decide := true}) only [vRf_r, vRf_n, vI_i, vL_l, vD_d, pI_i, pR_r, pR_n, vZ_0, vZ_1, ct_i, ct_r, ct_n, ct_l, ct_d, csum_n, csum_c, kt_v, kt_n, kt_e, oc_n, oc_i, oc_r, oc_l, oc_u, oc_d, true_and, and_true, Bool.and_true, Bool.true_and, ne_eq, not_false_eq_true, not_true_eq_false, implies_true, false_imp, true_imp_iff, hsz_put, hsl_put, hln_put, hty_put, hsz_new, hsl_new, hln_new, hty_new, Nat.zero_add, Nat.add_zero, eq_self, decide_true, t32_0, t32_1, t32_2, t32_3, t32_4, t32_5, t32_6, hv_same, hv_kne, hv_tne, hv_ntne, hv_nsame, hv_ctne, hty_cpy, hln_cpy, hsz_cpy, hsl_cpy, vrn, vnr, vrr, A195_3, A195_4, A195_5, A195_8, A195_9, A195_12, r5tb hA hk, r5gb hA hk, r5nb hA hk, r5mb hA hk, r5eb hA hk, r5db hA hk, r5vb hA hk, r5lb hA hk, r5pb hA hk, r6tb hA hk, r60b hA hk, r61b hA hk, r62b hA hk, r63b hA hk, r7tb hA hk, r7lb hA hk, r8tb hA hk, r8lb hA hk, r9tb hA hk, r9lb hA hk, r10tb hA hk, r10lb hA hk, rgBA hA]
  refine c_guestInit (f := fun _ => .null) hA.1 tA hgB (by omega) (by omega) ?_
  intro σB kB zB yB _ _ vB x8 x9 x10
  have kAB : kp (fun _ => False) 7 52 σ σB := kp_mono (kp_then kA kB (fun a ha e => by omega)) (by omega) (by omega) (fun _ _ e => e)
  have hB := (St_0 h kAB).1
  have tB := kp_ty kB tA
  rw [zA] at zB vB x8 x9 x10
  simp (config := {decide := true}) only [vRf_r, vRf_n, vI_i, vL_l, vD_d, pI_i, pR_r, pR_n, vZ_0, vZ_1, ct_i, ct_r, ct_n, ct_l, ct_d, csum_n, csum_c, kt_v, kt_n, kt_e, oc_n, oc_i, oc_r, oc_l, oc_u, oc_d, true_and, and_true, Bool.and_true, Bool.true_and, ne_eq, not_false_eq_true, not_true_eq_false, implies_true, false_imp, true_imp_iff, hsz_put, hsl_put, hln_put, hty_put, hsz_new, hsl_new, hln_new, hty_new, Nat.zero_add, Nat.add_zero, eq_self, decide_true, t32_0, t32_1, t32_2, t32_3, t32_4, t32_5, t32_6, hv_same, hv_kne, hv_tne, hv_ntne, hv_nsame, hv_ctne, hty_cpy, hln_cpy, hsz_cpy, hsl_cpy, vrn, vnr, vrr, A195_15, A195_16, A195_17, A195_18, A195_21, r5tb hB hk, r5gb hB hk, r5nb hB hk, r5mb hB hk, r5eb hB hk, r5db hB hk, r5vb hB hk, r5lb hB hk, r5pb hB hk, r6tb hB hk, r60b hB hk, r61b hB hk, r62b hB hk, r63b hB hk, r7tb hB hk, r7lb hB hk, r8tb hB hk, r8lb hB hk, r9tb hB hk, r9lb hB hk, r10tb hB hk, r10lb hB hk, rgBA hB]
  obtain ⟨fT, u1, u2⟩ := hG.2.1
  have u1 : isL g σ (A 6 k) (B 26 k) (z.2 2 k) fT := u1
  have u1 := isL_kp u1 kAB (fun e => e) (fun e => e)
  refine c_mindCopy (w := fun p => z.1 2 k p) hB.1 ⟨⟨r6tb hB hk, r60b hB hk, r61b hB hk, r62b hB hk, r63b hB hk⟩, u1, r7tb hB hk, r7lb hB hk, fun p hp => r7vb hB hk hp⟩ hg2 (by omega) (by omega) ?_
  intro σC x5 x6 x7 x26 kC i1 i2 i3 i4 i5 hM
  have tC := kp_ty kC tB
  have vC : ∀ j, hv σC 5 (hsz σ) j = hv σB 5 (hsz σ) j := fun j => (kC.2.2.2.2 _ (hty_lt tB)).2.2 (fun e => e) 5 j
  -- the mind's field
  have kD : kp (fun a => a = hsz σ) 0 0 σC (hput σC 5 (hsz σ) 2 (.ref x5)) := kp_put (W := fun a => a = hsz σ) (fun _ => rfl)
  have tD := kp_ty kD tC
  have kAC : kp (fun _ => False) 12 99 σ σC := kp_mono (kp_trans kAB kC) (by omega) (by omega) (fun _ _ e => e)
  have kAD : kp (fun _ => False) 12 99 σ (hput σC 5 (hsz σ) 2 (.ref x5)) := kp_mono (kp_then kAC kD (fun a ha e => by omega)) (by omega) (by omega) (fun _ _ e => e)
  have hD := (St_0 h kAD).1
  have vD : ∀ j, hv (hput σC 5 (hsz σ) 2 (.ref x5)) 5 (hsz σ) j = if j = 2 then .ref x5 else hv σB 5 (hsz σ) j := by
    intro j
    rw [hv_put]
    simp only [true_and]
    rw [vC]
  have zD : hsz (hput σC 5 (hsz σ) 2 (.ref x5)) = hsz σC := rfl
  have hMD : mindA g (hput σC 5 (hsz σ) 2 (.ref x5)) x5 x6 x7 x26 (z.2 2 k) fT (fun p => z.1 2 k p) (z.1 1 k 22) (z.1 1 k 23) := by
    obtain ⟨⟨a1, a2, a3, a4, a5⟩, a6, a7, a8, a9⟩ := hM
    exact ⟨⟨a1, by rw [hv_tne _ (by decide)]; exact a2, by rw [hv_tne _ (by decide)]; exact a3, by rw [hv_tne _ (by decide)]; exact a4, by rw [hv_tne _ (by decide)]; exact a5⟩, isL_tag a6 (by decide) (by decide), a7, a8, fun p hp => by rw [hv_tne _ (by decide)]; exact a9 p hp⟩
  have vz5 : vZ (.int (z.1 1 k 5)) = True := eq_true hb.2.1
  have eF : ∀ s : AH, hput (hput (hput (hput (hput (hput (hput (hput (hput (hput s 5 (hsz σ) 3 (.int (z.1 1 k 3))) 5 (hsz σ) 4 (.int (z.1 1 k 4))) 5 (hsz σ) 5 (.int (z.1 1 k 5))) 5 (hsz σ) 6 (.int (z.1 1 k 6))) 5 (hsz σ) 7 (.int (z.1 1 k 7))) 5 (hsz σ) 8 (.int (z.1 1 k 8))) 5 (hsz σ) 9 (.int (z.1 1 k 9))) 5 (hsz σ) 10 (.int (z.1 1 k 10))) 5 (hsz σ) 11 (.int (z.1 1 k 11))) 5 (hsz σ) 12 (.int (z.1 1 k 12)) = fcH s (hsz σ) (fun j => .int (z.1 1 k j)) := fun _ => rfl
  have kBC1 := kC.1
  simp (config := {decide := true}) only [vRf_r, vRf_n, vI_i, vL_l, vD_d, pI_i, pR_r, pR_n, vZ_0, vZ_1, ct_i, ct_r, ct_n, ct_l, ct_d, csum_n, csum_c, kt_v, kt_n, kt_e, oc_n, oc_i, oc_r, oc_l, oc_u, oc_d, true_and, and_true, Bool.and_true, Bool.true_and, ne_eq, not_false_eq_true, not_true_eq_false, implies_true, false_imp, true_imp_iff, hsz_put, hsl_put, hln_put, hty_put, hsz_new, hsl_new, hln_new, hty_new, Nat.zero_add, Nat.add_zero, eq_self, decide_true, t32_0, t32_1, t32_2, t32_3, t32_4, t32_5, t32_6, hv_same, hv_kne, hv_tne, hv_ntne, hv_nsame, hv_ctne, hty_cpy, hln_cpy, hsz_cpy, hsl_cpy, vrn, vnr, vrr, A195_24, tC, hgB]
  generalize hput σC 5 (hsz σ) 2 (.ref x5) = σD at *
  simp (config := {decide := true}) only [vRf_r, vRf_n, vI_i, vL_l, vD_d, pI_i, pR_r, pR_n, vZ_0, vZ_1, ct_i, ct_r, ct_n, ct_l, ct_d, csum_n, csum_c, kt_v, kt_n, kt_e, oc_n, oc_i, oc_r, oc_l, oc_u, oc_d, true_and, and_true, Bool.and_true, Bool.true_and, ne_eq, not_false_eq_true, not_true_eq_false, implies_true, false_imp, true_imp_iff, hsz_put, hsl_put, hln_put, hty_put, hsz_new, hsl_new, hln_new, hty_new, Nat.zero_add, Nat.add_zero, eq_self, decide_true, t32_0, t32_1, t32_2, t32_3, t32_4, t32_5, t32_6, hv_same, hv_kne, hv_tne, hv_ntne, hv_nsame, hv_ctne, hty_cpy, hln_cpy, hsz_cpy, hsl_cpy, vrn, vnr, vrr, A195_27, A195_28, A195_29, A195_32, A195_35, A195_36, A195_37, A195_40, A195_43, A195_44, A195_45, A195_48, A195_51, A195_52, A195_53, A195_56, A195_59, A195_60, A195_61, A195_64, A195_67, A195_68, A195_69, A195_72, A195_75, A195_76, A195_77, A195_80, A195_83, A195_84, A195_85, A195_88, A195_91, A195_92, A195_93, A195_96, A195_99, A195_100, A195_101, A195_104, r5tb hD hk, r5gb hD hk, r5nb hD hk, r5mb hD hk, r5eb hD hk, r5db hD hk, r5vb hD hk, r5lb hD hk, r5pb hD hk, r6tb hD hk, r60b hD hk, r61b hD hk, r62b hD hk, r63b hD hk, r7tb hD hk, r7lb hD hk, r8tb hD hk, r8lb hD hk, r9tb hD hk, r9lb hD hk, r10tb hD hk, r10lb hD hk, rgBA hD, tD, hgB, vz5, eF]
  have kE : kp (fun a => a = hsz σ) 0 0 σD (fcH σD (hsz σ) (fun j => .int (z.1 1 k j))) := fcH_kp
  have vE := fun j => fcH_v (σ := σD) (x := hsz σ) (v := fun j => .int (z.1 1 k j)) j
  have nE : ∀ t, t ≠ 5 → hv (fcH σD (hsz σ) (fun j => .int (z.1 1 k j))) t = hv σD t := fun t ht => by
    unfold fcH
    rw [hv_tne _ ht, hv_tne _ ht, hv_tne _ ht, hv_tne _ ht, hv_tne _ ht, hv_tne _ ht, hv_tne _ ht, hv_tne _ ht, hv_tne _ ht, hv_tne _ ht]
  have zE : hsz (fcH σD (hsz σ) (fun j => .int (z.1 1 k j))) = hsz σC := zD
  have lE : ∀ q, hln (fcH σD (hsz σ) (fun j => .int (z.1 1 k j))) q = hln σD q := fun _ => rfl
  have yE : hsl (fcH σD (hsz σ) (fun j => .int (z.1 1 k j))) = hsl σD := rfl
  have hME : mindA g (fcH σD (hsz σ) (fun j => .int (z.1 1 k j))) x5 x6 x7 x26 (z.2 2 k) fT (fun p => z.1 2 k p) (z.1 1 k 22) (z.1 1 k 23) := by
    obtain ⟨⟨a1, a2, a3, a4, a5⟩, a6, a7, a8, a9⟩ := hMD
    exact ⟨⟨kp_ty kE a1, by rw [nE 6 (by decide)]; exact a2, by rw [nE 6 (by decide)]; exact a3, by rw [nE 6 (by decide)]; exact a4, by rw [nE 6 (by decide)]; exact a5⟩, isL_kq a6 kE (by omega) (by omega), kp_ty kE a7, a8, fun p hp => by rw [nE 20 (by decide)]; exact a9 p hp⟩
  generalize fcH σD (hsz σ) (fun j => .int (z.1 1 k j)) = σE at *
  have kAE : kp (fun _ => False) 12 99 σ σE := kp_mono (kp_then kAD kE (fun a ha e => by omega)) (by omega) (by omega) (fun _ _ e => e)
  have hE := (St_0 h kAE).1
  have tE := kp_ty kE tD
  -- what was made with the guest
  have kBE : kp (fun a => a = hsz σ) 5 47 σB σE := kp_trans (kp_trans (kp_mono kC (Nat.le_refl _) (Nat.le_refl _) (fun _ _ e => e.elim)) kD) kE
  have y8 := kp_ty kBE x8.1
  have y9 := kp_ty kBE x9.1
  have y10 := kp_ty kBE x10.1
  have l8 : hln σE (hsz σ + 1 + 3) = 5 := by rw [(kBE.2.2.2.2 _ (hty_lt x8.1)).2.1]; exact x8.2.1
  have l9 : hln σE (hsz σ + 1 + 4) = 6 := by rw [(kBE.2.2.2.2 _ (hty_lt x9.1)).2.1]; exact x9.2.1
  have l10 : hln σE (hsz σ + 1 + 5) = 6 := by rw [(kBE.2.2.2.2 _ (hty_lt x10.1)).2.1]; exact x10.2.1
  have fE : ∀ j, hv σE 5 (hsz σ) j = if 3 ≤ j ∧ j ≤ 12 then .int (z.1 1 k j) else if j = 2 then .ref x5 else giF (fun j => defaultValue (tyX6 j)) (Int32.ofNat k) (z.1 1 k 1) (hsz σ + 1) (hsz σ + 1 + 3) (hsz σ + 1 + 4) (hsz σ + 1 + 5) j := by
    intro j
    rw [vE, vD, vB, show hv σA 5 (hsz σ) = fun j => defaultValue (tyX6 j) from funext vA]
  have f13 : hv σE 5 (hsz σ) 13 = .ref (hsz σ + 1 + 3) := by rw [fE]; rfl
  have f14 : hv σE 5 (hsz σ) 14 = .ref (hsz σ + 1 + 4) := by rw [fE]; rfl
  have f15 : hv σE 5 (hsz σ) 15 = .ref (hsz σ + 1 + 5) := by rw [fE]; rfl
  have ok8 : (∀ i, i < 5 → vI (hv σE 20 (A 8 k) i) = true) = True := eq_true (fun i hi => by rw [r8vb hE hk hi]; rfl)
  have ok9 : (∀ i, i < 6 → vZ (hv σE 21 (A 9 k) i)) = True := eq_true (fun i hi => by rw [r9vb hE hk hi]; exact (hb.1 i hi).1)
  have ok10 : (∀ i, i < 6 → vZ (hv (hcpy (hcpy σE 20 (A 8 k) 0 (hsz σ + 1 + 3) 0 5) 21 (A 9 k) 0 (hsz σ + 1 + 4) 0 6) 21 (A 10 k) i)) = True := eq_true (fun i hi => by
    rw [hv_cane _ (by have := hty_lt (r10tb h hk); omega), hv_ctne _ (by decide), r10vb hE hk hi]; exact (hb.1 i hi).2.1)
  have g8 : gB g ≤ hsz σ + 1 + 3 := by omega
  have g9 : gB g ≤ hsz σ + 1 + 4 := by omega
  have g10 : gB g ≤ hsz σ + 1 + 5 := by omega
  simp (config := {decide := true}) only [vRf_r, vRf_n, vI_i, vL_l, vD_d, pI_i, pR_r, pR_n, vZ_0, vZ_1, ct_i, ct_r, ct_n, ct_l, ct_d, csum_n, csum_c, kt_v, kt_n, kt_e, oc_n, oc_i, oc_r, oc_l, oc_u, oc_d, true_and, and_true, Bool.and_true, Bool.true_and, ne_eq, not_false_eq_true, not_true_eq_false, implies_true, false_imp, true_imp_iff, hsz_put, hsl_put, hln_put, hty_put, hsz_new, hsl_new, hln_new, hty_new, Nat.zero_add, Nat.add_zero, eq_self, decide_true, t32_0, t32_1, t32_2, t32_3, t32_4, t32_5, t32_6, hv_same, hv_kne, hv_tne, hv_ntne, hv_nsame, hv_ctne, hty_cpy, hln_cpy, hsz_cpy, hsl_cpy, vrn, vnr, vrr, A195_107, A195_108, A195_111, A195_112, A195_113, A195_116, A195_117, A195_118, A195_121, A195_122, A195_125, A195_126, A195_127, A195_130, A195_131, A195_133, A195_136, A195_137, A195_140, A195_141, A195_142, A195_145, A195_146, A195_148, r5tb hE hk, r5gb hE hk, r5nb hE hk, r5mb hE hk, r5eb hE hk, r5db hE hk, r5vb hE hk, r5lb hE hk, r5pb hE hk, r6tb hE hk, r60b hE hk, r61b hE hk, r62b hE hk, r63b hE hk, r7tb hE hk, r7lb hE hk, r8tb hE hk, r8lb hE hk, r9tb hE hk, r9lb hE hk, r10tb hE hk, r10lb hE hk, rgBA hE, tE, f13, f14, f15, y8, y9, y10, l8, l9, l10, ok8, ok9, ok10, g8, g9, g10, hgB]
  have kF : kp (fun a => a = hsz σ + 1 + 3 ∨ a = hsz σ + 1 + 4 ∨ a = hsz σ + 1 + 5) 0 0 σE (hcpy (hcpy (hcpy σE 20 (A 8 k) 0 (hsz σ + 1 + 3) 0 5) 21 (A 9 k) 0 (hsz σ + 1 + 4) 0 6) 21 (A 10 k) 0 (hsz σ + 1 + 5) 0 6) := kp_trans (kp_trans (kp_cpy (fun _ => Or.inl rfl)) (kp_cpy (fun _ => Or.inr (Or.inl rfl)))) (kp_cpy (fun _ => Or.inr (Or.inr rfl)))
  have l9' : A 9 k < hsz σ := hty_lt (r9tb h hk)
  have l10' : A 10 k < hsz σ := hty_lt (r10tb h hk)
  have w8 : ∀ p, p < 5 → hv (hcpy (hcpy (hcpy σE 20 (A 8 k) 0 (hsz σ + 1 + 3) 0 5) 21 (A 9 k) 0 (hsz σ + 1 + 4) 0 6) 21 (A 10 k) 0 (hsz σ + 1 + 5) 0 6) 20 (hsz σ + 1 + 3) p = .int (z.1 3 k p) := fun p hp => by
    rw [hv_ctne _ (by decide), hv_ctne _ (by decide), hv_cpy, if_pos ⟨rfl, rfl, Nat.zero_le _, by omega⟩, Nat.sub_zero, Nat.zero_add]
    exact r8vb hE hk hp
  have w9 : ∀ p, p < 6 → hv (hcpy (hcpy (hcpy σE 20 (A 8 k) 0 (hsz σ + 1 + 3) 0 5) 21 (A 9 k) 0 (hsz σ + 1 + 4) 0 6) 21 (A 10 k) 0 (hsz σ + 1 + 5) 0 6) 21 (hsz σ + 1 + 4) p = .int (z.1 4 k p) := fun p hp => by
    rw [hv_cane _ (by omega), hv_cpy, if_pos ⟨rfl, rfl, Nat.zero_le _, by omega⟩, Nat.sub_zero, Nat.zero_add, hv_ctne _ (by decide)]
    exact r9vb hE hk hp
  have w10 : ∀ p, p < 6 → hv (hcpy (hcpy (hcpy σE 20 (A 8 k) 0 (hsz σ + 1 + 3) 0 5) 21 (A 9 k) 0 (hsz σ + 1 + 4) 0 6) 21 (A 10 k) 0 (hsz σ + 1 + 5) 0 6) 21 (hsz σ + 1 + 5) p = .int (z.1 5 k p) := fun p hp => by
    rw [hv_cpy, if_pos ⟨rfl, rfl, Nat.zero_le _, by omega⟩, Nat.sub_zero, Nat.zero_add, hv_cane _ (by omega), hv_ctne _ (by decide)]
    exact r10vb hE hk hp
  have fF : ∀ j, hv (hcpy (hcpy (hcpy σE 20 (A 8 k) 0 (hsz σ + 1 + 3) 0 5) 21 (A 9 k) 0 (hsz σ + 1 + 4) 0 6) 21 (A 10 k) 0 (hsz σ + 1 + 5) 0 6) 5 (hsz σ) j = hv σE 5 (hsz σ) j := fun j => by
    rw [hv_ctne _ (by decide), hv_ctne _ (by decide), hv_ctne _ (by decide)]
  have zF : hsz (hcpy (hcpy (hcpy σE 20 (A 8 k) 0 (hsz σ + 1 + 3) 0 5) 21 (A 9 k) 0 (hsz σ + 1 + 4) 0 6) 21 (A 10 k) 0 (hsz σ + 1 + 5) 0 6) = hsz σC := zE
  generalize hcpy (hcpy (hcpy σE 20 (A 8 k) 0 (hsz σ + 1 + 3) 0 5) 21 (A 9 k) 0 (hsz σ + 1 + 4) 0 6) 21 (A 10 k) 0 (hsz σ + 1 + 5) 0 6 = σF at *
  have kAF : kp (fun _ => False) 12 99 σ σF := kp_mono (kp_then kAE kF (fun a ha e => by omega)) (by omega) (by omega) (fun _ _ e => e)
  have hF := (St_0 h kAF).1
  have tF := kp_ty kF tE
  have d1 := kAF.2.1
  have d2 := kAF.2.2.2.1
  have fin : ∀ (σG : AH) (X2 : Nat → Nat → Nat), kp (fun a => a = hsz σ) 1 6 σF σG → (X2 4 k = hsz σ ∧ X2 5 k = x5 ∧ X2 6 k = x6 ∧ X2 7 k = x7 ∧ X2 8 k = hsz σ + 1 + 3 ∧ X2 9 k = hsz σ + 1 + 4 ∧ X2 10 k = hsz σ + 1 + 5 ∧ X2 26 k = x26) → cAs g X2 (hsz σG) → AG X X2 σ k → (X2 15 k = X 15 k ∧ X2 16 k = X 16 k ∧ X2 17 k = X 17 k ∧ X2 36 k = X 36 k) → hv σG 5 (hsz σ) 16 = (if z.1 1 k 30 = 1 then .ref (X2 11 k) else .null) → (∀ j, j ≠ 16 → hv σG 5 (hsz σ) j = hv σF 5 (hsz σ) j) → (z.1 1 k 30 = 1 → (hty σG (X2 11 k) = some 21 ∧ hln σG (X2 11 k) = 6) ∧ ∀ p, p < 6 → hv σG 21 (X2 11 k) p = .int (z.1 6 k p)) → aw g 195 176 [some (.ref (A 4 k)), some (.ref (hsz σ))] [] σG Q := by
    intro σG X2 kG hN cX aX h15' f16 fj h11
    obtain ⟨n4, n5, n6, n7, n8, n9, n10, n26⟩ := hN
    have kAG : kp (fun _ => False) 13 105 σ σG := kp_mono (kp_then kAF kG (fun a ha e => by omega)) (by omega) (by omega) (fun _ _ e => e)
    have kEG : kp (fun a => a = hsz σ ∨ a = hsz σ + 1 + 3 ∨ a = hsz σ + 1 + 4 ∨ a = hsz σ + 1 + 5) 1 6 σE σG := kp_mono (kp_trans (kp_mono kF (Nat.le_refl _) (Nat.le_refl _) (fun a _ e => Or.inr e)) (kp_mono kG (Nat.le_refl _) (Nat.le_refl _) (fun a _ e => Or.inl e))) (by omega) (by omega) (fun _ _ e => e)
    have hANX : AN X X2 σ := AG_AN aX
    obtain ⟨⟨a1, a2, a3, a4, a5⟩, a6, a7, a8, a9⟩ := hME
    have SG : ∀ a t, hty σE a = some t → (hsz σ + 1 + 5 < a) → ∀ t' i, hv σG t' a i = hv σE t' a i := fun a t e n => (kEG.2.2.2.2 a (hty_lt e)).2.2 (by omega)
    have hm : gm g X2 (fun r => X2 r k) σG z k := by
      refine ⟨⟨?_, ?_, ⟨?_, ?_⟩, ⟨?_, ?_⟩, ⟨?_, ?_⟩, ⟨?_, ?_⟩, fun hs => (h11 hs).1⟩, ⟨?_, ?_, ?_, ?_, ?_, ?_, fun j hg hj => ?_⟩, ?_, ⟨fun p hp => ?_, fun p hp => ?_⟩, ⟨fun p hp => ?_, fun p hp => ?_, fun hs => (h11 hs).2⟩, fT, ?_, fun i hi => OpAt_kp (u2 i hi) kAG hANX (fun _ e => e.elim)⟩
      · show hty _ (X2 4 k) = _; rw [n4]; exact kp_ty kG tF
      · show hty _ (X2 5 k) = _; rw [n5]; exact kp_ty kEG a1
      · show hty _ (X2 7 k) = _; rw [n7]; exact kp_ty kEG a7
      · show hln _ (X2 7 k) = _; rw [n7, (kEG.2.2.2.2 _ (hty_lt a7)).2.1]; exact a8
      · show hty _ (X2 8 k) = _; rw [n8]; exact kp_ty kEG y8
      · show hln _ (X2 8 k) = _; rw [n8, (kEG.2.2.2.2 _ (hty_lt y8)).2.1]; exact l8
      · show hty _ (X2 9 k) = _; rw [n9]; exact kp_ty kEG y9
      · show hln _ (X2 9 k) = _; rw [n9, (kEG.2.2.2.2 _ (hty_lt y9)).2.1]; exact l9
      · show hty _ (X2 10 k) = _; rw [n10]; exact kp_ty kEG y10
      · show hln _ (X2 10 k) = _; rw [n10, (kEG.2.2.2.2 _ (hty_lt y10)).2.1]; exact l10
      · show hv _ 5 (X2 4 k) 0 = _; rw [n4, fj 0 (by decide), fF, fE]; rfl
      · show hv _ 5 (X2 4 k) 2 = .ref (X2 5 k); rw [n4, n5, fj 2 (by decide), fF, fE]; rfl
      · show hv _ 5 (X2 4 k) 13 = .ref (X2 8 k); rw [n4, n8, fj 13 (by decide), fF, fE]; rfl
      · show hv _ 5 (X2 4 k) 14 = .ref (X2 9 k); rw [n4, n9, fj 14 (by decide), fF, fE]; rfl
      · show hv _ 5 (X2 4 k) 15 = .ref (X2 10 k); rw [n4, n10, fj 15 (by decide), fF, fE]; rfl
      · show hv _ 5 (X2 4 k) 16 = _; rw [n4]; exact f16
      · show hv _ 5 (X2 4 k) j = _
        have hn := gsc_no hg
        rw [n4, fj j (by omega), fF, fE]
        by_cases e : 3 ≤ j ∧ j ≤ 12
        · rw [if_pos e]
        · have e1 : j = 1 := by omega
          subst e1
          rfl
      · show hv _ 6 (X2 5 k) 0 = .ref (X2 6 k) ∧ hv _ 6 (X2 5 k) 1 = .ref (X2 7 k) ∧ hv _ 6 (X2 5 k) 2 = _ ∧ hv _ 6 (X2 5 k) 3 = _
        have S5 := SG x5 6 a1 (by omega) 6
        rw [n5, n6, n7, S5, S5, S5, S5]
        exact ⟨a2, a3, a4, a5⟩
      · show hv _ 20 (X2 7 k) p = _
        rw [n7, SG x7 20 a7 (by omega) 20]; exact a9 p hp
      · show hv _ 20 (X2 8 k) p = _
        rw [n8, (kG.2.2.2.2 _ (by have := hty_lt y8; have := kF.1; omega)).2.2 (by omega)]; exact w8 p hp
      · show hv _ 21 (X2 9 k) p = _
        rw [n9, (kG.2.2.2.2 _ (by have := hty_lt y9; have := kF.1; omega)).2.2 (by omega)]; exact w9 p hp
      · show hv _ 21 (X2 10 k) p = _
        rw [n10, (kG.2.2.2.2 _ (by have := hty_lt y10; have := kF.1; omega)).2.2 (by omega)]; exact w10 p hp
      · show isL g _ (X2 6 k) (X2 26 k) _ _
        rw [n6, n26]
        exact isL_kq a6 kEG (by omega) (by omega)
    exact c_gcopy_end h hk hb hg4 hg3 hX hG h15 hc hs kAG (Nat.le_refl _) cX aX h15' n4 hm (by rw [fj 21 (by decide), fF, fE]; rfl) hQ
  -- the names
  have C0 : cAs g X (hsz σ) := hX
  have C4 := cAs_nm (r0 := 4) (k0 := k) (x := hsz σ) C0 (Nat.le_refl _) (by omega) hgB
  have C8 := cAs_nm (r0 := 8) (k0 := k) (x := hsz σ + 1 + 3) C4 (by omega) (by omega) (by omega)
  have C9 := cAs_nm (r0 := 9) (k0 := k) (x := hsz σ + 1 + 4) C8 (by omega) (by omega) (by omega)
  have C10 := cAs_nm (r0 := 10) (k0 := k) (x := hsz σ + 1 + 5) C9 (by omega) (by omega) (by omega)
  have C5 := cAs_nm (r0 := 5) (k0 := k) (x := x5) C10 (by omega) (by omega) (by omega)
  have C6 := cAs_nm (r0 := 6) (k0 := k) (x := x6) C5 (by omega) (by omega) (by omega)
  have C7 := cAs_nm (r0 := 7) (k0 := k) (x := x7) C6 (by omega) (by omega) (by omega)
  have C26 := cAs_nm (r0 := 26) (k0 := k) (x := x26) C7 (by omega) (by omega) (by omega)
  have AG26 := AG_nm (r0 := 26) (x := x26) (AG_nm (r0 := 7) (x := x7) (AG_nm (r0 := 6) (x := x6) (AG_nm (r0 := 5) (x := x5) (AG_nm (r0 := 10) (x := hsz σ + 1 + 5) (AG_nm (r0 := 9) (x := hsz σ + 1 + 4) (AG_nm (r0 := 8) (x := hsz σ + 1 + 3) (AG_nm (r0 := 4) (x := hsz σ) (AG_refl X σ k) rfl (by omega)) rfl (by omega)) rfl (by omega)) rfl (by omega)) rfl (by omega)) rfl (by omega)) rfl (by omega)) rfl (by omega)
  have rest : ∀ r, r ≠ 4 → r ≠ 5 → r ≠ 6 → r ≠ 7 → r ≠ 8 → r ≠ 9 → r ≠ 10 → r ≠ 26 → nm (nm (nm (nm (nm (nm (nm (nm X 4 k (hsz σ)) 8 k (hsz σ + 1 + 3)) 9 k (hsz σ + 1 + 4)) 10 k (hsz σ + 1 + 5)) 5 k x5) 6 k x6) 7 k x7) 26 k x26 r k = X r k := by
    intro r n4 n5 n6 n7 n8 n9 n10 n26
    rw [nm_ne (by omega), nm_ne (by omega), nm_ne (by omega), nm_ne (by omega), nm_ne (by omega), nm_ne (by omega), nm_ne (by omega), nm_ne (by omega)]
  have names : (nm (nm (nm (nm (nm (nm (nm (nm X 4 k (hsz σ)) 8 k (hsz σ + 1 + 3)) 9 k (hsz σ + 1 + 4)) 10 k (hsz σ + 1 + 5)) 5 k x5) 6 k x6) 7 k x7) 26 k x26 4 k = hsz σ ∧ nm (nm (nm (nm (nm (nm (nm (nm X 4 k (hsz σ)) 8 k (hsz σ + 1 + 3)) 9 k (hsz σ + 1 + 4)) 10 k (hsz σ + 1 + 5)) 5 k x5) 6 k x6) 7 k x7) 26 k x26 5 k = x5 ∧ nm (nm (nm (nm (nm (nm (nm (nm X 4 k (hsz σ)) 8 k (hsz σ + 1 + 3)) 9 k (hsz σ + 1 + 4)) 10 k (hsz σ + 1 + 5)) 5 k x5) 6 k x6) 7 k x7) 26 k x26 6 k = x6 ∧ nm (nm (nm (nm (nm (nm (nm (nm X 4 k (hsz σ)) 8 k (hsz σ + 1 + 3)) 9 k (hsz σ + 1 + 4)) 10 k (hsz σ + 1 + 5)) 5 k x5) 6 k x6) 7 k x7) 26 k x26 7 k = x7 ∧ nm (nm (nm (nm (nm (nm (nm (nm X 4 k (hsz σ)) 8 k (hsz σ + 1 + 3)) 9 k (hsz σ + 1 + 4)) 10 k (hsz σ + 1 + 5)) 5 k x5) 6 k x6) 7 k x7) 26 k x26 8 k = hsz σ + 1 + 3 ∧ nm (nm (nm (nm (nm (nm (nm (nm X 4 k (hsz σ)) 8 k (hsz σ + 1 + 3)) 9 k (hsz σ + 1 + 4)) 10 k (hsz σ + 1 + 5)) 5 k x5) 6 k x6) 7 k x7) 26 k x26 9 k = hsz σ + 1 + 4 ∧ nm (nm (nm (nm (nm (nm (nm (nm X 4 k (hsz σ)) 8 k (hsz σ + 1 + 3)) 9 k (hsz σ + 1 + 4)) 10 k (hsz σ + 1 + 5)) 5 k x5) 6 k x6) 7 k x7) 26 k x26 10 k = hsz σ + 1 + 5 ∧ nm (nm (nm (nm (nm (nm (nm (nm X 4 k (hsz σ)) 8 k (hsz σ + 1 + 3)) 9 k (hsz σ + 1 + 4)) 10 k (hsz σ + 1 + 5)) 5 k x5) 6 k x6) 7 k x7) 26 k x26 26 k = x26) := by
    refine ⟨?_, ?_, ?_, ?_, ?_, ?_, ?_, ?_⟩ <;> simp [nm]
  have hlF : hsz σC ≤ hsz σF := by omega
  generalize nm (nm (nm (nm (nm (nm (nm (nm X 4 k (hsz σ)) 8 k (hsz σ + 1 + 3)) 9 k (hsz σ + 1 + 4)) 10 k (hsz σ + 1 + 5)) 5 k x5) 6 k x6) 7 k x7) 26 k x26 = X2 at *
  have r15 : X2 15 k = X 15 k ∧ X2 16 k = X 16 k ∧ X2 17 k = X 17 k ∧ X2 36 k = X 36 k := ⟨rest 15 (by decide) (by decide) (by decide) (by decide) (by decide) (by decide) (by decide) (by decide), rest 16 (by decide) (by decide) (by decide) (by decide) (by decide) (by decide) (by decide) (by decide), rest 17 (by decide) (by decide) (by decide) (by decide) (by decide) (by decide) (by decide) (by decide), rest 36 (by decide) (by decide) (by decide) (by decide) (by decide) (by decide) (by decide) (by decide)⟩
  by_cases hm : z.1 1 k 30 = 1
  · have m11 := r11tb hF hk hm
    have m11l := r11lb hF hk hm
    have okz : (∀ i, i < 6 → vZ (hv σF 21 (A 11 k) i)) = True := eq_true (fun i hi => by rw [r11vb hF hk hm hi]; exact (hb.1 i hi).2.2 hm)
    have cF : hsz σF + 1 ≤ gC g := by omega
    have sF : hsl σF + 6 ≤ gS g := by omega
    have x4F : (hsz σ = hsz σF) = False := eq_false (by omega)
    have kG : kp (fun a => a = hsz σ) 1 6 σF (hput (hnew σF 21 6 (hv σF 21 (A 11 k)) 6) 5 (hsz σ) 16 (.ref (hsz σF))) := kp_trans (c1 := 1) (s1 := 6) (c2 := 0) (s2 := 0) kp_new (kp_put (W := fun a => a = hsz σ) (fun _ => rfl))
    have e7 : (∃ t, t ∈ [21] ∧ some 21 = some t) = True := eq_true ⟨21, by decide, rfl⟩
    have e11 : nm X2 11 k (hsz σF) 11 k = hsz σF := nm_at _ _ _ _
    have ne11 : ∀ r, r ≠ 11 → nm X2 11 k (hsz σF) r k = X2 r k := fun r hr => nm_ne (by omega)
    have C11 := cAs_nm (r0 := 11) (k0 := k) (x := hsz σF) C26 (by omega) (by omega) (by omega)
    have := fin (hput (hnew σF 21 6 (hv σF 21 (A 11 k)) 6) 5 (hsz σ) 16 (.ref (hsz σF))) (nm X2 11 k (hsz σF)) kG (by
      rw [ne11 4 (by decide), ne11 5 (by decide), ne11 6 (by decide), ne11 7 (by decide), ne11 8 (by decide), ne11 9 (by decide), ne11 10 (by decide), ne11 26 (by decide)]; exact names) C11 (AG_nm AG26 rfl (by omega)) (by
      rw [ne11 15 (by decide), ne11 16 (by decide), ne11 17 (by decide), ne11 36 (by decide)]; exact r15) (by rw [if_pos hm, e11, hv_same]) (fun j hj => by rw [hv_kne _ hj, hv_ntne _ (by decide)]) (fun _ => by
      rw [e11]
      refine ⟨⟨by rw [hty_put, hty_new, if_pos rfl], by rw [hln_put, hln_new, if_pos rfl]⟩, fun p hp => ?_⟩
      rw [hv_tne _ (by decide), hv_nsame]
      exact r11vb hF hk hm hp)
    simp (config := {decide := true}) only [vRf_r, vRf_n, vI_i, vL_l, vD_d, pI_i, pR_r, pR_n, vZ_0, vZ_1, ct_i, ct_r, ct_n, ct_l, ct_d, csum_n, csum_c, kt_v, kt_n, kt_e, oc_n, oc_i, oc_r, oc_l, oc_u, oc_d, true_and, and_true, Bool.and_true, Bool.true_and, ne_eq, not_false_eq_true, not_true_eq_false, implies_true, false_imp, true_imp_iff, hsz_put, hsl_put, hln_put, hty_put, hsz_new, hsl_new, hln_new, hty_new, Nat.zero_add, Nat.add_zero, eq_self, decide_true, t32_0, t32_1, t32_2, t32_3, t32_4, t32_5, t32_6, hv_same, hv_kne, hv_tne, hv_ntne, hv_nsame, hv_ctne, hty_cpy, hln_cpy, hsz_cpy, hsl_cpy, vrn, vnr, vrr, A195_151, A195_152, A195_153, A195_156, A195_159, A195_160, A195_163, A195_164, A195_167, A195_170, A195_170r, A195_173, r5tb hF hk, r5gb hF hk, r5nb hF hk, r5mb hF hk, r5eb hF hk, r5db hF hk, r5vb hF hk, r5lb hF hk, r5pb hF hk, r6tb hF hk, r60b hF hk, r61b hF hk, r62b hF hk, r63b hF hk, r7tb hF hk, r7lb hF hk, r8tb hF hk, r8lb hF hk, r9tb hF hk, r9lb hF hk, r10tb hF hk, r10lb hF hk, rgBA hF, hm, m11, m11l, okz, cF, sF, x4F, tF, e7, hgB, if_true, if_false]
    exact this
  · have := fin (hput σF 5 (hsz σ) 16 .null) X2 (kp_mono (kp_put (W := fun a => a = hsz σ) (fun _ => rfl)) (by omega) (by omega) (fun _ _ e => e)) names (by
      refine ⟨C26.1, fun r k => ⟨(C26.2 r k).1, (C26.2 r k).2.imp_left (fun e => by rw [hsz_put]; omega)⟩⟩) AG26 r15 (by rw [if_neg hm, hv_same]) (fun j hj => by rw [hv_kne _ hj]) (fun e => absurd e hm)
    simp (config := {decide := true}) only [vRf_r, vRf_n, vI_i, vL_l, vD_d, pI_i, pR_r, pR_n, vZ_0, vZ_1, ct_i, ct_r, ct_n, ct_l, ct_d, csum_n, csum_c, kt_v, kt_n, kt_e, oc_n, oc_i, oc_r, oc_l, oc_u, oc_d, true_and, and_true, Bool.and_true, Bool.true_and, ne_eq, not_false_eq_true, not_true_eq_false, implies_true, false_imp, true_imp_iff, hsz_put, hsl_put, hln_put, hty_put, hsz_new, hsl_new, hln_new, hty_new, Nat.zero_add, Nat.add_zero, eq_self, decide_true, t32_0, t32_1, t32_2, t32_3, t32_4, t32_5, t32_6, hv_same, hv_kne, hv_tne, hv_ntne, hv_nsame, hv_ctne, hty_cpy, hln_cpy, hsz_cpy, hsl_cpy, vrn, vnr, vrr, A195_151, A195_152, A195_153, A195_156, A195_159, A195_160, A195_173, r5tb hF hk, r5gb hF hk, r5nb hF hk, r5mb hF hk, r5eb hF hk, r5db hF hk, r5vb hF hk, r5lb hF hk, r5pb hF hk, r6tb hF hk, r60b hF hk, r61b hF hk, r62b hF hk, r63b hF hk, r7tb hF hk, r7lb hF hk, r8tb hF hk, r8lb hF hk, r9tb hF hk, r9lb hF hk, r10tb hF hk, r10lb hF hk, rgBA hF, hm, tF, hgB, if_false]
    exact this
end GCOPY2
