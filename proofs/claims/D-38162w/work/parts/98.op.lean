/-! ops, snapshots, guests: what is new -/
def opA (z : ZT) (k : Nat) (kd a : Int32) : ZT := zs (zl (zs (zs z 9 k (z.2 2 k) kd) 10 k (z.2 2 k) a) 2 k (z.2 2 k + 1)) 1 k 31 0
def opPZ (z : ZT) (k : Nat) (kd a : Int32) : ZT :=
  let z2 := if z.1 1 k 3 = 5 then zs (opA z k kd a) 1 k 3 0 else opA z k kd a
  let z3 := if z.1 1 k 4 = 5 then zs z2 1 k 4 0 else z2
  if z.1 1 k 3 = 3 ∧ z.1 1 k 36 = 5 then zs z3 1 k 36 0 else z3
/-- the most that an op's second int may be -/
def opM (kd : Int32) : Int32 := if kd = 1 ∨ kd = 2 then 5 else 0
def okOp (z : ZT) (k : Nat) : Prop := z.2 2 k < 12 ∧ z.1 1 k 3 ≠ 4
section OPP
variable {g : GC} {A A' B B' : Nat → Nat → Nat} {σ σ' σ2 : AH} {z z' : ZT} {k p : Nat} {Q : AQ}
theorem rb_op {W : Nat → Prop} {c s b' : Nat} {f' : Nat → Value} {kd a : Int32} (h : RepB g A B σ z) (hk : k < zn z) (q : kp W c s σ σ2) (hC : hsz σ2 ≤ gC g) (hW : ∀ y, W y → y = A 6 k ∨ y = B 26 k) (hl : isL g σ2 (A 6 k) b' (z.2 2 k + 1) f') (hb : b' = B 26 k ∨ hsz σ ≤ b' ∧ b' < hsz σ2) (hf : ∀ i, i < z.2 2 k → OpAt (mix A (Bup B 26 k b')) σ2 (f' i) (z.1 9 k i) (z.1 10 k i)) (hf2 : OpAt (mix A (Bup B 26 k b')) σ2 (f' (z.2 2 k)) kd a) : RepB g A (Bup B 26 k b') (hput σ2 5 (A 4 k) 21 .null) (opA z k kd a) := by
  have G := (RepC_out (A := mix A B) h).2.2.2.2 k hk
  have hcA : cA g (mix A B) σ := h.2.1
  have hgB := rgsb h
  have m1 : mix A (Bup B 26 k b') = nm (mix A B) 26 k b' := mix_Bup (by decide)
  have nW : ∀ r, r ≠ 6 → r ≠ 26 → ¬ W (mix A B r k) := by
    intro r h1 h2 w
    rcases hW _ w with e | e
    · exact h1 (hcA.1 r k 6 k e).1
    · exact h2 (hcA.1 r k 26 k e).1
  have qe : kp (fun y => W y ∨ y = A 4 k) c s σ (hput σ2 5 (A 4 k) 21 .null) := kp_trans (c2 := 0) (s2 := 0) (kp_mono q (Nat.le_refl _) (Nat.le_refl _) (fun _ _ e => Or.inl e)) (kp_put (fun _ => Or.inr rfl))
  have hAK : AK (mix A B) (mix A (Bup B 26 k b')) σ k := by rw [m1]; exact AK_nm rfl (hb.imp_right (fun e => e.1))
  have ne : ∀ r, r ≠ 26 → mix A (Bup B 26 k b') r k = mix A B r k := fun r hr => by rw [m1, nm_ne (by omega)]
  have at26 : mix A (Bup B 26 k b') 26 k = b' := by rw [m1, nm_at]
  have z31 : (opA z k kd a).1 1 k 31 = 0 := by unfold opA; rw [zs_at]
  have z1j : ∀ j, j ≠ 31 → (opA z k kd a).1 1 k j = z.1 1 k j := fun j hj => by unfold opA; rw [zs_j _ hj, zl_1, zs_k _ (by decide), zs_k _ (by decide)]
  have zκ : ∀ κ, κ ≠ 1 → κ ≠ 9 → κ ≠ 10 → (opA z k kd a).1 κ k = z.1 κ k := fun κ h1 h2 h3 => by unfold opA; rw [zs_k _ h1, zl_1, zs_k _ h3, zs_k _ h2]
  refine RepC_one (A := mix A B) (A' := mix A (Bup B 26 k b')) h qe hk (fun y w => ?_) hAK (by rw [m1]; exact cA_nm' hcA (by exact q.1) (by exact hC) hgB hb) (fun i hi => ?_) ?_ ?_ ?_ ?_ ⟨?_, ?_, fun hs => ?_⟩
  · rcases w with w | w
    · rcases hW y w with e | e
      · exact ⟨6, e, rfl⟩
      · exact ⟨26, e, rfl⟩
    · exact ⟨4, w, rfl⟩
  · unfold opA
    exact zsame_zs (zsame_zl (zsame_zs (zsame_zs (zsame_refl z i) hi) hi) hi) hi
  · unfold opA; rw [zs_k _ (by decide), zl_1, zs_k _ (by decide), zs_k _ (by decide)]
  · unfold opA; rw [zs_k _ (by decide), zl_1, zs_k _ (by decide), zs_k _ (by decide)]
  · unfold zn opA; rw [zs_2, zl_k _ (by decide)]; rfl
  · unfold zf opA; rw [zs_2, zl_k _ (by decide)]; rfl
  · refine gcH_a ?_ (fun r e => ne r (by omega))
    obtain ⟨⟨x0, x1, x2, x3, x4, x5, x6, x7⟩, h5, h6, h9, h20, h21⟩ := gcH_kp (a := fun r => mix A B r k) G.1 q (fun r e _ => nW r (by omega) (by omega))
    have h5k : ∀ j, j ≠ 21 → hv (hput σ2 5 (A 4 k) 21 .null) 5 (A 4 k) j = hv σ2 5 (A 4 k) j := fun j h1 => hv_kne _ h1
    have ht : ∀ t, t ≠ 5 → hv (hput σ2 5 (A 4 k) 21 .null) t = hv σ2 t := fun t h1 => hv_tne _ h1
    have n31 : ¬ (opA z k kd a).1 1 k 31 = 1 := by rw [z31]; decide
    refine ⟨⟨x0, x1, x2, x3, x4, x5, fun hm => x6 (by rw [z1j 30 (by decide)] at hm; exact hm), fun hm => absurd hm n31⟩, ?_, ?_, fun hm => absurd hm n31, ?_, ?_⟩
    · obtain ⟨y0, y1, y2, y3, y4, y5, y6, y7⟩ := h5
      refine ⟨(h5k 0 (by decide)).trans y0, (h5k 2 (by decide)).trans y1, (h5k 13 (by decide)).trans y2, (h5k 14 (by decide)).trans y3, (h5k 15 (by decide)).trans y4, ?_, ?_, fun j hj => ?_⟩
      · rw [z1j 30 (by decide)]; exact (h5k 16 (by decide)).trans y5
      · rw [if_neg n31]; exact hv_same _ _ _ _ _
      · have hn := gsc_no hj
        rw [z1j j (by omega)]
        exact (h5k j (by omega)).trans (y7 j hj)
    · refine ⟨?_, fun hm => absurd hm n31⟩
      rw [ht 6 (by decide), z1j 22 (by decide), z1j 23 (by decide)]; exact h6.1
    · rw [ht 20 (by decide), zκ 2 (by decide) (by decide) (by decide), zκ 3 (by decide) (by decide) (by decide)]
      exact ⟨h20.1, h20.2.1, fun hm => absurd hm n31⟩
    · rw [ht 21 (by decide), zκ 4 (by decide) (by decide) (by decide), zκ 5 (by decide) (by decide) (by decide), zκ 6 (by decide) (by decide) (by decide), z1j 30 (by decide)]
      exact h21
  · refine ⟨f', ?_, fun i hi => ?_⟩
    · show isL g _ (mix A (Bup B 26 k b') 6 k) (mix A (Bup B 26 k b') 26 k) _ f'
      rw [ne 6 (by decide), at26]
      have e2 : (opA z k kd a).2 2 k = z.2 2 k + 1 := by unfold opA; rw [zs_2, zl_at]
      rw [e2]
      exact isL_tag hl (by decide) (by decide)
    · have e2 : (opA z k kd a).2 2 k = z.2 2 k + 1 := by unfold opA; rw [zs_2, zl_at]
      rw [e2] at hi
      refine OpAt_tag ?_ (by decide)
      by_cases e : i = z.2 2 k
      · have e9 : (opA z k kd a).1 9 k i = kd := by unfold opA; rw [zs_k _ (by decide), zl_1, zs_k _ (by decide), e, zs_at]
        have e10 : (opA z k kd a).1 10 k i = a := by unfold opA; rw [zs_k _ (by decide), zl_1, e, zs_at]
        rw [e9, e10, e]; exact hf2
      · have e9 : (opA z k kd a).1 9 k i = z.1 9 k i := by unfold opA; rw [zs_k _ (by decide), zl_1, zs_j _ e, zs_j _ e]
        have e10 : (opA z k kd a).1 10 k i = z.1 10 k i := by unfold opA; rw [zs_k _ (by decide), zl_1, zs_j _ e, zs_j _ e]
        rw [e9, e10]; exact hf i (by omega)
  · rw [z31] at hs; exact absurd hs (by decide)
/-- a new op's cell -/
def noH (σ : AH) (kd a : Int32) : AH := hput (hput (hnew σ 8 0 (fun k => defaultValue (tyX9 k)) 2) 8 (hsz σ) 0 (.int kd)) 8 (hsz σ) 1 (.int a)
theorem noH_kp (W : Nat → Prop) {kd a : Int32} : kp W 1 2 σ (noH σ kd a) := kp_then (kp_new (W := W)) (kp_trans (kp_put (W := fun x => x = hsz σ) (fun _ => rfl)) (kp_put (W := fun x => x = hsz σ) (fun _ => rfl))) (fun x hx e => by omega)
theorem c_opP {x kd a : Int32} (h : RepH g A B σ z) (hI : CI z) (hm : rm g σ) (h2 : ¬ inI (zn z) x → ∀ σ', kp (fun _ => False) 1 6 σ σ' → Q (.inr 2) σ') (h0 : inI (zn z) x → ¬ (inR 0 6 kd ∧ inR 0 (opM kd) a) → ∀ σ', kp (fun _ => False) 1 6 σ σ' → Q (.inr 0) σ') (h1 : inI (zn z) x → inR 0 6 kd → inR 0 (opM kd) a → ¬ okOp z x.toNatClampNeg → ∀ σ', kp (fun _ => False) 1 6 σ σ' → Q (.inr 1) σ') (hok : inI (zn z) x → inR 0 6 kd → inR 0 (opM kd) a → okOp z x.toNatClampNeg → ∀ A' B' σ', SA g (FA A B) A A' B B' σ σ' (opPZ z x.toNatClampNeg kd a) 4600 56000 → Q (.inl (some (.int (Int32.ofNat (z.2 2 x.toNatClampNeg + 1))))) σ') : aw g 80 0 [some (.ref (A 0 0)), some (.int x), some (.int kd), some (.int a), none] [] σ Q := by
  obtain ⟨m1, m2⟩ := hm
  have h3 := hI.1.1.1
  have t0 := h.2.1
  simp (config := {decide := true}) only [vRf_r, vRf_n, vI_i, vL_l, vD_d, pI_i, pR_r, pR_n, vZ_0, vZ_1, ct_i, ct_r, ct_n, ct_l, ct_d, csum_n, csum_c, kt_v, kt_n, kt_e, oc_n, oc_i, oc_r, oc_l, oc_u, oc_d, true_and, and_true, Bool.and_true, Bool.true_and, ne_eq, not_false_eq_true, not_true_eq_false, implies_true, false_imp, true_imp_iff, hsz_put, hsl_put, hln_put, hty_put, hsz_new, hsl_new, hln_new, hty_new, Nat.zero_add, Nat.add_zero, eq_self, decide_true, t32_0, t32_1, t32_2, t32_3, t32_4, t32_5, t32_6, hv_same, hv_kne, hv_tne, hv_ntne, hv_nsame, hv_ctne, hty_cpy, hln_cpy, hsz_cpy, hsl_cpy, vrn, vnr, vrr, A80_0, A80_1, A80_2, t0]
  refine c_guestOf h (by omega) (by omega) (by omega) (fun hi => ?_) (fun hi σ' q => by rw [kt_e]; exact h2 hi σ' q)
  obtain ⟨ex, hx⟩ := inI_n hi (by omega)
  simp (config := {decide := true}) only [vRf_r, vRf_n, vI_i, vL_l, vD_d, pI_i, pR_r, pR_n, vZ_0, vZ_1, ct_i, ct_r, ct_n, ct_l, ct_d, csum_n, csum_c, kt_v, kt_n, kt_e, oc_n, oc_i, oc_r, oc_l, oc_u, oc_d, true_and, and_true, Bool.and_true, Bool.true_and, ne_eq, not_false_eq_true, not_true_eq_false, implies_true, false_imp, true_imp_iff, hsz_put, hsl_put, hln_put, hty_put, hsz_new, hsl_new, hln_new, hty_new, Nat.zero_add, Nat.add_zero, eq_self, decide_true, t32_0, t32_1, t32_2, t32_3, t32_4, t32_5, t32_6, hv_same, hv_kne, hv_tne, hv_ntne, hv_nsame, hv_ctne, hty_cpy, hln_cpy, hsz_cpy, hsl_cpy, vrn, vnr, vrr, A80_5, A80_7, A80_8, A80_10, A80_11]
  refine c_requireFrom (by omega) (by omega) (fun hr => ?_) (fun hr σ' q => by rw [kt_e]; exact h0 hi (fun e => hr e.1) σ' q)
  have T := hI.1.2.2.2.2 _ hx
  have h12 := T.1.1
  generalize x.toNatClampNeg = k at *
  -- behind the second check
  have go : inR 0 (opM kd) a → aw g 80 34 [some (.ref (A 0 0)), some (.int x), some (.int kd), some (.int a), some (.ref (A 4 k))] [] σ Q := by
    intro ha
    obtain ⟨fT, u1, u2⟩ := rLt (A := mix A B) h.1 hx
    have u1 : isL g σ (A 6 k) (B 26 k) (z.2 2 k) fT := u1
    have e1 := fun Q' => l_size (Q := Q') u1
    have t6 := u1.1
    have rs : ∀ Q', (∀ σ', kp (fun _ => False) 1 6 σ σ' → Q' (.inr 1) σ') → aw g 79 0 [some (.int 0)] [] σ Q' := fun Q' hq => c_requireState (by omega) (by omega) (fun e => absurd rfl e) (fun _ => hq)
    have el : ((12 : Int32) ≤ Int32.ofNat (z.2 2 k)) = (12 ≤ z.2 2 k) := by rw [show (12 : Int32) = Int32.ofNat 12 from rfl, n32_le (by omega) (by omega)]
    by_cases g12 : 12 ≤ z.2 2 k
    · have el2 := el.trans (eq_true g12)
      have h1 := h1 hi hr ha (fun e => by have := e.1; omega)
      simp (config := {decide := true}) only [vRf_r, vRf_n, vI_i, vL_l, vD_d, pI_i, pR_r, pR_n, vZ_0, vZ_1, ct_i, ct_r, ct_n, ct_l, ct_d, csum_n, csum_c, kt_v, kt_n, kt_e, oc_n, oc_i, oc_r, oc_l, oc_u, oc_d, true_and, and_true, Bool.and_true, Bool.true_and, ne_eq, not_false_eq_true, not_true_eq_false, implies_true, false_imp, true_imp_iff, hsz_put, hsl_put, hln_put, hty_put, hsz_new, hsl_new, hln_new, hty_new, Nat.zero_add, Nat.add_zero, eq_self, decide_true, t32_0, t32_1, t32_2, t32_3, t32_4, t32_5, t32_6, hv_same, hv_kne, hv_tne, hv_ntne, hv_nsame, hv_ctne, hty_cpy, hln_cpy, hsz_cpy, hsl_cpy, vrn, vnr, vrr, A80_34, A80_36, A80_39, A80_42, A80_45, A80_47, A80_62, A80_63, r5tb h.1 hx, r5gb h.1 hx, r5nb h.1 hx, r5mb h.1 hx, r5eb h.1 hx, r5db h.1 hx, r5vb h.1 hx, r5lb h.1 hx, r5pb h.1 hx, r6tb h.1 hx, r60b h.1 hx, r61b h.1 hx, r62b h.1 hx, r63b h.1 hx, r7tb h.1 hx, r7lb h.1 hx, r8tb h.1 hx, r8lb h.1 hx, r9tb h.1 hx, r9lb h.1 hx, r10tb h.1 hx, r10lb h.1 hx, rgBA h.1, e1, t6, el2]
      refine rs _ (fun σ' q => by rw [kt_e]; exact h1 σ' q)
    · have el2 := el.trans (eq_false g12)
      by_cases g4 : z.1 1 k 3 = 4
      · have h1 := h1 hi hr ha (fun e => e.2 g4)
        simp (config := {decide := true}) only [vRf_r, vRf_n, vI_i, vL_l, vD_d, pI_i, pR_r, pR_n, vZ_0, vZ_1, ct_i, ct_r, ct_n, ct_l, ct_d, csum_n, csum_c, kt_v, kt_n, kt_e, oc_n, oc_i, oc_r, oc_l, oc_u, oc_d, true_and, and_true, Bool.and_true, Bool.true_and, ne_eq, not_false_eq_true, not_true_eq_false, implies_true, false_imp, true_imp_iff, hsz_put, hsl_put, hln_put, hty_put, hsz_new, hsl_new, hln_new, hty_new, Nat.zero_add, Nat.add_zero, eq_self, decide_true, t32_0, t32_1, t32_2, t32_3, t32_4, t32_5, t32_6, hv_same, hv_kne, hv_tne, hv_ntne, hv_nsame, hv_ctne, hty_cpy, hln_cpy, hsz_cpy, hsl_cpy, vrn, vnr, vrr, A80_34, A80_36, A80_39, A80_42, A80_45, A80_47, A80_50, A80_52, A80_55, A80_58, A80_59, A80_62, A80_63, A197_0, A197_1, A197_4, A197_5, A197_8, A197_9, A197_12, A197_13, r5tb h.1 hx, r5gb h.1 hx, r5nb h.1 hx, r5mb h.1 hx, r5eb h.1 hx, r5db h.1 hx, r5vb h.1 hx, r5lb h.1 hx, r5pb h.1 hx, r6tb h.1 hx, r60b h.1 hx, r61b h.1 hx, r62b h.1 hx, r63b h.1 hx, r7tb h.1 hx, r7lb h.1 hx, r8tb h.1 hx, r8lb h.1 hx, r9tb h.1 hx, r9lb h.1 hx, r10tb h.1 hx, r10lb h.1 hx, rgBA h.1, e1, t6, el2, g4]
        refine rs _ (fun σ' q => by rw [kt_e]; exact h1 σ' q)
      · have hok := hok hi hr ha ⟨by omega, g4⟩
        simp (config := {decide := true}) only [vRf_r, vRf_n, vI_i, vL_l, vD_d, pI_i, pR_r, pR_n, vZ_0, vZ_1, ct_i, ct_r, ct_n, ct_l, ct_d, csum_n, csum_c, kt_v, kt_n, kt_e, oc_n, oc_i, oc_r, oc_l, oc_u, oc_d, true_and, and_true, Bool.and_true, Bool.true_and, ne_eq, not_false_eq_true, not_true_eq_false, implies_true, false_imp, true_imp_iff, hsz_put, hsl_put, hln_put, hty_put, hsz_new, hsl_new, hln_new, hty_new, Nat.zero_add, Nat.add_zero, eq_self, decide_true, t32_0, t32_1, t32_2, t32_3, t32_4, t32_5, t32_6, hv_same, hv_kne, hv_tne, hv_ntne, hv_nsame, hv_ctne, hty_cpy, hln_cpy, hsz_cpy, hsl_cpy, vrn, vnr, vrr, A80_34, A80_36, A80_39, A80_42, A80_45, A80_47, A80_50, A80_52, A80_55, A80_58, A80_59, A80_62, A80_63, A197_0, A197_1, A197_4, A197_5, A197_8, A197_9, A197_12, A197_13, r5tb h.1 hx, r5gb h.1 hx, r5nb h.1 hx, r5mb h.1 hx, r5eb h.1 hx, r5db h.1 hx, r5vb h.1 hx, r5lb h.1 hx, r5pb h.1 hx, r6tb h.1 hx, r60b h.1 hx, r61b h.1 hx, r62b h.1 hx, r63b h.1 hx, r7tb h.1 hx, r7lb h.1 hx, r8tb h.1 hx, r8lb h.1 hx, r9tb h.1 hx, r9lb h.1 hx, r10tb h.1 hx, r10lb h.1 hx, rgBA h.1, e1, t6, el2, g4]
        refine c_requireState (by omega) (by omega) (fun _ => ?_) (fun e => absurd e (by decide))
        have hgB := rgsb h.1
        have c1 : hsz σ + 1 ≤ gC g := by omega
        have s1 : hsl σ + 2 ≤ gS g := by omega
        have x6 : (A 6 k = hsz σ) = False := eq_false (fun e => by have := hty_lt t6; omega)
        have eN : hput (hput (hnew σ 8 0 (fun k => defaultValue (tyX9 k)) 2) 8 (hsz σ) 0 (.int kd)) 8 (hsz σ) 1 (.int a) = noH σ kd a := rfl
        have w1 := noH_kp (σ := σ) (fun _ => False) (kd := kd) (a := a)
        have tN : hty (noH σ kd a) (A 6 k) = some 10 := kp_ty w1 t6
        have nt : hty (noH σ kd a) (hsz σ) = some 8 := by unfold noH; rw [hty_put, hty_put, hty_new, if_pos rfl]
        have n0 : hv (noH σ kd a) 8 (hsz σ) 0 = .int kd := by unfold noH; rw [hv_kne _ (by decide), hv_same]
        have n1 : hv (noH σ kd a) 8 (hsz σ) 1 = .int a := by unfold noH; rw [hv_same]
        have sz1 : hsz (noH σ kd a) = hsz σ + 1 := rfl
        have sl1 : hsl (noH σ kd a) = hsl σ + 2 := rfl
        have L1 := isL_kp u1 w1 (fun e => e) (fun e => e)
        simp (config := {decide := true}) only [vRf_r, vRf_n, vI_i, vL_l, vD_d, pI_i, pR_r, pR_n, vZ_0, vZ_1, ct_i, ct_r, ct_n, ct_l, ct_d, csum_n, csum_c, kt_v, kt_n, kt_e, oc_n, oc_i, oc_r, oc_l, oc_u, oc_d, true_and, and_true, Bool.and_true, Bool.true_and, ne_eq, not_false_eq_true, not_true_eq_false, implies_true, false_imp, true_imp_iff, hsz_put, hsl_put, hln_put, hty_put, hsz_new, hsl_new, hln_new, hty_new, Nat.zero_add, Nat.add_zero, eq_self, decide_true, t32_0, t32_1, t32_2, t32_3, t32_4, t32_5, t32_6, hv_same, hv_kne, hv_tne, hv_ntne, hv_nsame, hv_ctne, hty_cpy, hln_cpy, hsz_cpy, hsl_cpy, vrn, vnr, vrr, A80_66, A80_68, A80_71, A80_74, A80_77, A80_78, A80_79, A80_80, A80_83, A211_0, A211_1, A211_4, A211_5, A211_6, A211_9, A211_10, A211_11, A211_14, r5tb h.1 hx, r5gb h.1 hx, r5nb h.1 hx, r5mb h.1 hx, r5eb h.1 hx, r5db h.1 hx, r5vb h.1 hx, r5lb h.1 hx, r5pb h.1 hx, r6tb h.1 hx, r60b h.1 hx, r61b h.1 hx, r62b h.1 hx, r63b h.1 hx, r7tb h.1 hx, r7lb h.1 hx, r8tb h.1 hx, r8lb h.1 hx, r9tb h.1 hx, r9lb h.1 hx, r10tb h.1 hx, r10lb h.1 hx, rgBA h.1, t6, x6, c1, s1, hgB, eN, tN, if_true, if_false]
        generalize noH σ kd a = σ1 at *
        have hgw : gw (z.2 2 k) ≤ 40 := by unfold gw; omega
        refine l_add (v := .ref (hsz σ)) L1 (by omega) (by omega) (by omega) (by omega) ⟨8, nt, Or.inl (by decide)⟩ ?_
        intro σ2 b' l2 k2 hb2
        have q := kp_then (W := fun x => x = A 6 k ∨ x = B 26 k) (kp_mono w1 (Nat.le_refl _) (Nat.le_refl _) (fun _ _ e => e.elim)) k2 (fun _ _ e => e)
        have k21 := k2.1
        have hC2 : hsz σ2 ≤ gC g := by have := q.2.1; omega
        have hcA1 : cA g (mix A B) σ := h.1.2.1
        have nx : ∀ r j, hsz σ ≠ mix A B r j := fun r j e => by
          rcases (hcA1.2 r j).2 with w | w <;> omega
        have hAN : AN (mix A B) (mix A (Bup B 26 k b')) σ1 := AN_up (hb2.imp_right (fun e => by omega))
        have hLf : Lf (mix A B) σ1 (fun x => x = A 6 k ∨ x = B 26 k) := fun y w _ => Or.inr (by
          rcases w with e | e
          · exact ⟨6, k, e⟩
          · exact ⟨26, k, e⟩)
        have R0 := rb_op (kd := kd) (a := a) h.1 hx q hC2 (fun _ e => e) l2 (hb2.imp_right (fun e => by omega)) (fun i hi' => by
            show OpAt _ σ2 (if i = z.2 2 k then .ref (hsz σ) else fT i) _ _
            rw [if_neg (by omega)]
            exact OpAt_kp (OpAt_kp (u2 i hi') w1 (AN_refl _ _) (fun _ e => e.elim)) k2 hAN (fun y w l => (hLf y w l).imp_left (fun e => e.1))) (by
            show OpAt _ σ2 (if z.2 2 k = z.2 2 k then .ref (hsz σ) else fT _) _ _
            rw [if_pos rfl]
            exact OpAt_kp (A := mix A B) ⟨hsz σ, rfl, nt, n0, n1, nx⟩ k2 hAN (fun y w l => (hLf y w l).imp_left (fun e => e.1)))
        have S0 : SA g (FA A B) A A B (Bup B 26 k b') σ (hput σ2 5 (A 4 k) 21 .null) (opA z k kd a) 2 42 := ⟨R0, BK_refl A _, BK_up (by decide) (hb2.imp_right (fun e => by omega)), kp_mono (kp_trans (c2 := 0) (s2 := 0) (kp_mono q (Nat.le_refl _) (Nat.le_refl _) (fun y _ e => show FA A B y by
            rcases e with e | e
            · rw [e]; exact FA_i 6 (by decide)
            · rw [e]; exact FA_b 26 (by decide))) (kp_put (fun _ => FA_i 4 (by decide)))) (by omega) (by omega) (fun _ _ e => e), fun _ _ => rfl⟩
        have hkn : k < zn (opA z k kd a) := by unfold zn opA; rw [zs_2, zl_k _ (by decide)]; exact hx
        have z1j : ∀ j, j ≠ 31 → (opA z k kd a).1 1 k j = z.1 1 k j := fun j hj => by unfold opA; rw [zs_j _ hj, zl_1, zs_k _ (by decide), zs_k _ (by decide)]
        have g5t := r5tb R0 hkn
        have g5t : hty σ2 (A 4 k) = some 5 := g5t
        have g53 := r5gb R0 hkn (j := 3) (by decide)
        have g54 := r5gb R0 hkn (j := 4) (by decide)
        have g52 := r5mb R0 hkn
        have g60 := r60b R0 hkn
        rw [z1j 3 (by decide)] at g53
        rw [z1j 4 (by decide)] at g54
        have hgA : gB g ≤ A 4 k := rgBA h.1 4 k (by decide)
        have eP : ∀ s j v, hput (hput s 5 (A 4 k) 21 .null) 5 (A 4 k) j v = hput (hput s 5 (A 4 k) 21 .null) 5 (A 4 k) j v := fun _ _ _ => rfl
        simp (config := {decide := true}) only [vRf_r, vRf_n, vI_i, vL_l, vD_d, pI_i, pR_r, pR_n, vZ_0, vZ_1, ct_i, ct_r, ct_n, ct_l, ct_d, csum_n, csum_c, kt_v, kt_n, kt_e, oc_n, oc_i, oc_r, oc_l, oc_u, oc_d, true_and, and_true, Bool.and_true, Bool.true_and, ne_eq, not_false_eq_true, not_true_eq_false, implies_true, false_imp, true_imp_iff, hsz_put, hsl_put, hln_put, hty_put, hsz_new, hsl_new, hln_new, hty_new, Nat.zero_add, Nat.add_zero, eq_self, decide_true, t32_0, t32_1, t32_2, t32_3, t32_4, t32_5, t32_6, hv_same, hv_kne, hv_tne, hv_ntne, hv_nsame, hv_ctne, hty_cpy, hln_cpy, hsz_cpy, hsl_cpy, vrn, vnr, vrr, A80_86, A80_87, A80_89, A80_90, g5t, hgA]
        generalize hput σ2 5 (A 4 k) 21 .null = σ3 at *
        have g5t3 := r5tb R0 hkn
        have g6t3 := r6tb R0 hkn
        have R1 := rb_g (j := 3) (v := 0) R0 hkn (by decide)
        have T1 := SA_FA S0 (SA_Sa (St_put (St_refl R0) 4 (by decide) R1))
        -- the end
        have fin : ∀ σ4 z4, SA g (FA A B) A A B (Bup B 26 k b') σ σ4 z4 2 42 → z4.2 = (opA z k kd a).2 → opPZ z k kd a = (if z.1 1 k 3 = 3 ∧ z.1 1 k 36 = 5 then zs z4 1 k 36 0 else z4) → aw g 80 123 [some (.ref (A 0 0)), some (.int x), some (.int kd), some (.int a), some (.ref (A 4 k))] [] σ4 Q := by
          intro σ4 z4 S4 e42 ez
          have hk4 : k < zn z4 := by unfold zn at hkn ⊢; rw [e42]; exact hkn
          obtain ⟨f4, v1, _⟩ := rLt (A := mix A (Bup B 26 k b')) S4.1 hk4
          have v1 : isL g σ4 (A 6 k) (Bup B 26 k b' 26 k) (z4.2 2 k) f4 := v1
          have e4 := fun Q' => l_size (Q := Q') v1
          have t4 := v1.1
          have en : z4.2 2 k = z.2 2 k + 1 := by rw [e42]; unfold opA; rw [zs_2, zl_at]
          rw [en] at e4
          have RF : RepB g A (Bup B 26 k b') σ4 (opPZ z k kd a) := by
            rw [ez]
            split
            · exact rb_mod S4.1 rfl
            · exact S4.1
          have := hok A (Bup B 26 k b') σ4 ⟨RF, S4.2.1, S4.2.2.1, kp_mono S4.2.2.2.1 (by omega) (by omega) (fun _ _ e => e), S4.2.2.2.2⟩
          simp (config := {decide := true}) only [vRf_r, vRf_n, vI_i, vL_l, vD_d, pI_i, pR_r, pR_n, vZ_0, vZ_1, ct_i, ct_r, ct_n, ct_l, ct_d, csum_n, csum_c, kt_v, kt_n, kt_e, oc_n, oc_i, oc_r, oc_l, oc_u, oc_d, true_and, and_true, Bool.and_true, Bool.true_and, ne_eq, not_false_eq_true, not_true_eq_false, implies_true, false_imp, true_imp_iff, hsz_put, hsl_put, hln_put, hty_put, hsz_new, hsl_new, hln_new, hty_new, Nat.zero_add, Nat.add_zero, eq_self, decide_true, t32_0, t32_1, t32_2, t32_3, t32_4, t32_5, t32_6, hv_same, hv_kne, hv_tne, hv_ntne, hv_nsame, hv_ctne, hty_cpy, hln_cpy, hsz_cpy, hsl_cpy, vrn, vnr, vrr, A80_123, A80_125, A80_128, A80_131, A80_134, r5tb S4.1 hk4, r5gb S4.1 hk4, r5nb S4.1 hk4, r5mb S4.1 hk4, r5eb S4.1 hk4, r5db S4.1 hk4, r5vb S4.1 hk4, r5lb S4.1 hk4, r5pb S4.1 hk4, r6tb S4.1 hk4, r60b S4.1 hk4, r61b S4.1 hk4, r62b S4.1 hk4, r63b S4.1 hk4, r7tb S4.1 hk4, r7lb S4.1 hk4, r8tb S4.1 hk4, r8lb S4.1 hk4, r9tb S4.1 hk4, r9lb S4.1 hk4, r10tb S4.1 hk4, r10lb S4.1 hk4, rgBA S4.1, e4, t4]
          exact this
        by_cases s5 : z.1 1 k 3 = 5
        · have R2 := rb_g (j := 4) (v := 0) R1 hkn (by decide)
          have T2 := SA_FA T1 (SA_Sa (St_put (St_refl R1) 4 (by decide) R2))
          by_cases b5 : z.1 1 k 4 = 5
          · have := fin _ _ T2 rfl (by unfold opPZ; dsimp only; rw [if_pos s5, if_pos b5])
            simp (config := {decide := true}) only [vRf_r, vRf_n, vI_i, vL_l, vD_d, pI_i, pR_r, pR_n, vZ_0, vZ_1, ct_i, ct_r, ct_n, ct_l, ct_d, csum_n, csum_c, kt_v, kt_n, kt_e, oc_n, oc_i, oc_r, oc_l, oc_u, oc_d, true_and, and_true, Bool.and_true, Bool.true_and, ne_eq, not_false_eq_true, not_true_eq_false, implies_true, false_imp, true_imp_iff, hsz_put, hsl_put, hln_put, hty_put, hsz_new, hsl_new, hln_new, hty_new, Nat.zero_add, Nat.add_zero, eq_self, decide_true, t32_0, t32_1, t32_2, t32_3, t32_4, t32_5, t32_6, hv_same, hv_kne, hv_tne, hv_ntne, hv_nsame, hv_ctne, hty_cpy, hln_cpy, hsz_cpy, hsl_cpy, vrn, vnr, vrr, A80_93, A80_95, A80_98, A80_99, A80_102, A80_104, A80_105, A80_108, A80_110, A80_113, A80_114, A80_117, A80_119, A80_120, g5t3, g53, g54, hgA, s5, b5]
            exact this
          · have := fin _ _ T1 rfl (by unfold opPZ; dsimp only; rw [if_pos s5, if_neg b5])
            simp (config := {decide := true}) only [vRf_r, vRf_n, vI_i, vL_l, vD_d, pI_i, pR_r, pR_n, vZ_0, vZ_1, ct_i, ct_r, ct_n, ct_l, ct_d, csum_n, csum_c, kt_v, kt_n, kt_e, oc_n, oc_i, oc_r, oc_l, oc_u, oc_d, true_and, and_true, Bool.and_true, Bool.true_and, ne_eq, not_false_eq_true, not_true_eq_false, implies_true, false_imp, true_imp_iff, hsz_put, hsl_put, hln_put, hty_put, hsz_new, hsl_new, hln_new, hty_new, Nat.zero_add, Nat.add_zero, eq_self, decide_true, t32_0, t32_1, t32_2, t32_3, t32_4, t32_5, t32_6, hv_same, hv_kne, hv_tne, hv_ntne, hv_nsame, hv_ctne, hty_cpy, hln_cpy, hsz_cpy, hsl_cpy, vrn, vnr, vrr, A80_93, A80_95, A80_98, A80_99, A80_102, A80_104, A80_105, A80_108, A80_110, A80_113, A80_114, g5t3, g53, g54, hgA, s5, b5]
            exact this
        · have R2 := rb_g (j := 4) (v := 0) R0 hkn (by decide)
          have T2 := SA_FA S0 (SA_Sa (St_put (St_refl R0) 4 (by decide) R2))
          by_cases b5 : z.1 1 k 4 = 5
          · have := fin _ _ T2 rfl (by unfold opPZ; dsimp only; rw [if_neg s5, if_pos b5])
            simp (config := {decide := true}) only [vRf_r, vRf_n, vI_i, vL_l, vD_d, pI_i, pR_r, pR_n, vZ_0, vZ_1, ct_i, ct_r, ct_n, ct_l, ct_d, csum_n, csum_c, kt_v, kt_n, kt_e, oc_n, oc_i, oc_r, oc_l, oc_u, oc_d, true_and, and_true, Bool.and_true, Bool.true_and, ne_eq, not_false_eq_true, not_true_eq_false, implies_true, false_imp, true_imp_iff, hsz_put, hsl_put, hln_put, hty_put, hsz_new, hsl_new, hln_new, hty_new, Nat.zero_add, Nat.add_zero, eq_self, decide_true, t32_0, t32_1, t32_2, t32_3, t32_4, t32_5, t32_6, hv_same, hv_kne, hv_tne, hv_ntne, hv_nsame, hv_ctne, hty_cpy, hln_cpy, hsz_cpy, hsl_cpy, vrn, vnr, vrr, A80_93, A80_95, A80_98, A80_99, A80_108, A80_110, A80_113, A80_114, A80_117, A80_119, A80_120, g5t3, g53, g54, hgA, s5, b5]
            exact this
          · have := fin _ _ S0 rfl (by unfold opPZ; dsimp only; rw [if_neg s5, if_neg b5])
            simp (config := {decide := true}) only [vRf_r, vRf_n, vI_i, vL_l, vD_d, pI_i, pR_r, pR_n, vZ_0, vZ_1, ct_i, ct_r, ct_n, ct_l, ct_d, csum_n, csum_c, kt_v, kt_n, kt_e, oc_n, oc_i, oc_r, oc_l, oc_u, oc_d, true_and, and_true, Bool.and_true, Bool.true_and, ne_eq, not_false_eq_true, not_true_eq_false, implies_true, false_imp, true_imp_iff, hsz_put, hsl_put, hln_put, hty_put, hsz_new, hsl_new, hln_new, hty_new, Nat.zero_add, Nat.add_zero, eq_self, decide_true, t32_0, t32_1, t32_2, t32_3, t32_4, t32_5, t32_6, hv_same, hv_kne, hv_tne, hv_ntne, hv_nsame, hv_ctne, hty_cpy, hln_cpy, hsz_cpy, hsl_cpy, vrn, vnr, vrr, A80_93, A80_95, A80_98, A80_99, A80_108, A80_110, A80_113, A80_114, g5t3, g53, g54, hgA, s5, b5]
            exact this
  by_cases g1 : kd = 1
  · have em : opM kd = 5 := if_pos (Or.inl g1)
    rw [em] at h0 go
    have g1' : (kd = 1) = True := eq_true g1
    simp (config := {decide := true}) only [vRf_r, vRf_n, vI_i, vL_l, vD_d, pI_i, pR_r, pR_n, vZ_0, vZ_1, ct_i, ct_r, ct_n, ct_l, ct_d, csum_n, csum_c, kt_v, kt_n, kt_e, oc_n, oc_i, oc_r, oc_l, oc_u, oc_d, true_and, and_true, Bool.and_true, Bool.true_and, ne_eq, not_false_eq_true, not_true_eq_false, implies_true, false_imp, true_imp_iff, hsz_put, hsl_put, hln_put, hty_put, hsz_new, hsl_new, hln_new, hty_new, Nat.zero_add, Nat.add_zero, eq_self, decide_true, t32_0, t32_1, t32_2, t32_3, t32_4, t32_5, t32_6, hv_same, hv_kne, hv_tne, hv_ntne, hv_nsame, hv_ctne, hty_cpy, hln_cpy, hsz_cpy, hsl_cpy, vrn, vnr, vrr, A80_14, A80_15, A80_16, A80_17, A80_25, A80_26, A80_29, A80_30, A80_31, g1']
    refine c_requireFrom (by omega) (by omega) (fun ha => ?_) (fun ha σ' q => by rw [kt_e]; exact h0 hi (fun e => ha e.2) σ' q)
    rw [kt_n]
    exact go ha
  · by_cases g2 : kd = 2
    · have em : opM kd = 5 := if_pos (Or.inr g2)
      rw [em] at h0 go
      have g1' : (kd = 1) = False := eq_false g1
      have g2' : (kd = 2) = True := eq_true g2
      simp (config := {decide := true}) only [vRf_r, vRf_n, vI_i, vL_l, vD_d, pI_i, pR_r, pR_n, vZ_0, vZ_1, ct_i, ct_r, ct_n, ct_l, ct_d, csum_n, csum_c, kt_v, kt_n, kt_e, oc_n, oc_i, oc_r, oc_l, oc_u, oc_d, true_and, and_true, Bool.and_true, Bool.true_and, ne_eq, not_false_eq_true, not_true_eq_false, implies_true, false_imp, true_imp_iff, hsz_put, hsl_put, hln_put, hty_put, hsz_new, hsl_new, hln_new, hty_new, Nat.zero_add, Nat.add_zero, eq_self, decide_true, t32_0, t32_1, t32_2, t32_3, t32_4, t32_5, t32_6, hv_same, hv_kne, hv_tne, hv_ntne, hv_nsame, hv_ctne, hty_cpy, hln_cpy, hsz_cpy, hsl_cpy, vrn, vnr, vrr, A80_14, A80_15, A80_16, A80_17, A80_20, A80_21, A80_22, A80_25, A80_26, A80_29, A80_30, A80_31, g1', g2']
      refine c_requireFrom (by omega) (by omega) (fun ha => ?_) (fun ha σ' q => by rw [kt_e]; exact h0 hi (fun e => ha e.2) σ' q)
      rw [kt_n]
      exact go ha
    · have em : opM kd = 0 := if_neg (fun e => e.elim g1 g2)
      rw [em] at h0 go
      simp (config := {decide := true}) only [vRf_r, vRf_n, vI_i, vL_l, vD_d, pI_i, pR_r, pR_n, vZ_0, vZ_1, ct_i, ct_r, ct_n, ct_l, ct_d, csum_n, csum_c, kt_v, kt_n, kt_e, oc_n, oc_i, oc_r, oc_l, oc_u, oc_d, true_and, and_true, Bool.and_true, Bool.true_and, ne_eq, not_false_eq_true, not_true_eq_false, implies_true, false_imp, true_imp_iff, hsz_put, hsl_put, hln_put, hty_put, hsz_new, hsl_new, hln_new, hty_new, Nat.zero_add, Nat.add_zero, eq_self, decide_true, t32_0, t32_1, t32_2, t32_3, t32_4, t32_5, t32_6, hv_same, hv_kne, hv_tne, hv_ntne, hv_nsame, hv_ctne, hty_cpy, hln_cpy, hsz_cpy, hsl_cpy, vrn, vnr, vrr, A80_14, A80_15, A80_16, A80_17, A80_20, A80_21, A80_22, A80_25, A80_26, A80_29, A80_30, A80_31, g1, g2]
      refine c_requireFrom (by omega) (by omega) (fun ha => ?_) (fun ha σ' q => by rw [kt_e]; exact h0 hi (fun e => ha e.2) σ' q)
      rw [kt_n]
      exact go ha
end OPP
