/-! snapshots -/
def cp7Z (z : ZT) (k : Nat) : ZT := zs (zs (zs (zs (zs (zs z 7 k 0 (z.1 2 k 0)) 7 k 1 (z.1 2 k 1)) 7 k 2 (z.1 2 k 2)) 7 k 3 (z.1 2 k 3)) 7 k 4 (z.1 2 k 4)) 7 k 5 (z.1 2 k 5)
def snZ (z : ZT) (k : Nat) : ZT := zl (zl (zs (zs (zs (zs (zs (cp7Z z k) 1 k 31 1) 1 k 24 0) 1 k 25 0) 1 k 32 (z.1 1 k 22)) 1 k 33 (z.1 1 k 23)) 3 k 0) 4 k 0
section SNAP
variable {g : GC} {A A' B B' X : Nat → Nat → Nat} {σ σ' σ2 : AH} {z z' : ZT} {k p : Nat} {Q : AQ}
theorem cp7_o (z : ZT) (k : Nat) {a : Nat} (h : a ≠ 7) : (cp7Z z k).1 a = z.1 a := by
  unfold cp7Z
  rw [zs_k _ h, zs_k _ h, zs_k _ h, zs_k _ h, zs_k _ h, zs_k _ h]
theorem cp7_7 (z : ZT) (k : Nat) {p : Nat} (hp : p < 6) : (cp7Z z k).1 7 k p = z.1 2 k p := by
  have h : p = 0 ∨ p = 1 ∨ p = 2 ∨ p = 3 ∨ p = 4 ∨ p = 5 := by omega
  unfold cp7Z
  rcases h with e | e | e | e | e | e <;> subst e <;> simp [zs]
theorem snZ_j (z : ZT) (k : Nat) {j : Nat} (h : j ≠ 31 ∧ j ≠ 24 ∧ j ≠ 25 ∧ j ≠ 32 ∧ j ≠ 33) : (snZ z k).1 1 k j = z.1 1 k j := by
  unfold snZ
  rw [zl_1, zl_1, zs_j _ (by omega), zs_j _ (by omega), zs_j _ (by omega), zs_j _ (by omega), zs_j _ (by omega), cp7_o z k (by decide)]
theorem snZ_κ (z : ZT) (k : Nat) {a : Nat} (h : a ≠ 1) (h7 : a ≠ 7) : (snZ z k).1 a = z.1 a := by
  unfold snZ
  rw [zl_1, zl_1, zs_k _ h, zs_k _ h, zs_k _ h, zs_k _ h, zs_k _ h, cp7_o z k h7]
theorem snZ_7 (z : ZT) (k : Nat) {p : Nat} (hp : p < 6) : (snZ z k).1 7 k p = z.1 2 k p := by
  unfold snZ
  rw [zl_1, zl_1, zs_k _ (by decide), zs_k _ (by decide), zs_k _ (by decide), zs_k _ (by decide), zs_k _ (by decide), cp7_7 z k hp]
theorem snZ_s (z : ZT) (k : Nat) : (snZ z k).1 1 k 31 = 1 ∧ (snZ z k).1 1 k 24 = 0 ∧ (snZ z k).1 1 k 25 = 0 ∧ (snZ z k).1 1 k 32 = z.1 1 k 22 ∧ (snZ z k).1 1 k 33 = z.1 1 k 23 ∧ (snZ z k).2 2 = z.2 2 ∧ (snZ z k).2 3 k = 0 ∧ (snZ z k).2 4 k = 0 := by
  unfold snZ
  refine ⟨by simp [zs, zl], by simp [zs, zl], by simp [zs, zl], by simp [zs, zl], by simp [zs, zl], ?_, ?_, ?_⟩
  · rw [zl_k _ (by decide), zl_k _ (by decide)]; rfl
  · rw [zl_k _ (by decide), zl_at]
  · rw [zl_at]
theorem cAs_nmD {n r0 k0 : Nat} (h : cAs g X n) (hC : n ≤ gC g) (hB : gB g ≤ gC g) : cAs g (nm X r0 k0 (gC g + enc r0 k0)) n := by
  have hd : ∀ r k, ¬ (r = r0 ∧ k = k0) → X r k ≠ gC g + enc r0 k0 := by
    intro r k hn e
    rcases (h.2 r k).2 with q | q
    · omega
    · exact hn (enc_inj (by omega))
  refine ⟨fun r1 k1 r2 k2 he => ?_, fun r k => ?_⟩
  · by_cases h1 : r1 = r0 ∧ k1 = k0
    · by_cases h2 : r2 = r0 ∧ k2 = k0
      · exact ⟨by omega, by omega⟩
      · rw [h1.1, h1.2, nm_at, nm_ne h2] at he
        exact absurd he.symm (hd _ _ h2)
    · by_cases h2 : r2 = r0 ∧ k2 = k0
      · rw [h2.1, h2.2, nm_at, nm_ne h1] at he
        exact absurd he (hd _ _ h1)
      · rw [nm_ne h1, nm_ne h2] at he
        exact h.1 _ _ _ _ he
  · by_cases h1 : r = r0 ∧ k = k0
    · rw [h1.1, h1.2, nm_at]; exact ⟨by omega, Or.inr rfl⟩
    · rw [nm_ne h1]; exact h.2 r k
theorem c_snapP {x : Int32} (h : RepH g A B σ z) (hI : CI z) (hm : rm g σ) (h2 : ¬ inI (zn z) x → ∀ σ', kp (fun _ => False) 1 6 σ σ' → Q (.inr 2) σ') (h1 : inI (zn z) x → z.1 1 x.toNatClampNeg 3 = 4 → ∀ σ', kp (fun _ => False) 1 6 σ σ' → Q (.inr 1) σ') (hok : inI (zn z) x → z.1 1 x.toNatClampNeg 3 ≠ 4 → ∀ A' B' σ', SA g (FA A B) A A' B B' σ σ' (snZ z x.toNatClampNeg) 4600 56000 → Q (.inl (some (.int (if z.1 1 x.toNatClampNeg 31 = 1 then Int32.ofNat (z.2 3 x.toNatClampNeg) else 0)))) σ') : aw g 90 0 [some (.ref (A 0 0)), some (.int x), none, none] [] σ Q := by
  obtain ⟨m1, m2⟩ := hm
  have h3 := hI.1.1.1
  have t0 := h.2.1
  simp (config := {decide := true}) only [vRf_r, vRf_n, vI_i, vL_l, vD_d, pI_i, pR_r, pR_n, vZ_0, vZ_1, ct_i, ct_r, ct_n, ct_l, ct_d, csum_n, csum_c, kt_v, kt_n, kt_e, oc_n, oc_i, oc_r, oc_l, oc_u, oc_d, true_and, and_true, Bool.and_true, Bool.true_and, ne_eq, not_false_eq_true, not_true_eq_false, implies_true, false_imp, true_imp_iff, hsz_put, hsl_put, hln_put, hty_put, hsz_new, hsl_new, hln_new, hty_new, Nat.zero_add, Nat.add_zero, eq_self, decide_true, t32_0, t32_1, t32_2, t32_3, t32_4, t32_5, t32_6, hv_same, hv_kne, hv_tne, hv_ntne, hv_nsame, hv_ctne, hty_cpy, hln_cpy, hsz_cpy, hsl_cpy, vrn, vnr, vrr, A90_0, A90_1, A90_2, t0]
  refine c_guestOf h (by omega) (by omega) (by omega) (fun hi => ?_) (fun hi σ' q => by rw [kt_e]; exact h2 hi σ' q)
  obtain ⟨ex, hx⟩ := inI_n hi (by omega)
  have T := hI.1.2.2.2.2 _ hx
  generalize x.toNatClampNeg = k at *
  by_cases g4 : z.1 1 k 3 = 4
  · have h1 := h1 hi g4
    simp (config := {decide := true}) only [vRf_r, vRf_n, vI_i, vL_l, vD_d, pI_i, pR_r, pR_n, vZ_0, vZ_1, ct_i, ct_r, ct_n, ct_l, ct_d, csum_n, csum_c, kt_v, kt_n, kt_e, oc_n, oc_i, oc_r, oc_l, oc_u, oc_d, true_and, and_true, Bool.and_true, Bool.true_and, ne_eq, not_false_eq_true, not_true_eq_false, implies_true, false_imp, true_imp_iff, hsz_put, hsl_put, hln_put, hty_put, hsz_new, hsl_new, hln_new, hty_new, Nat.zero_add, Nat.add_zero, eq_self, decide_true, t32_0, t32_1, t32_2, t32_3, t32_4, t32_5, t32_6, hv_same, hv_kne, hv_tne, hv_ntne, hv_nsame, hv_ctne, hty_cpy, hln_cpy, hsz_cpy, hsl_cpy, vrn, vnr, vrr, A90_5, A90_6, A90_7, A90_10, A90_13, A90_14, A90_17, A90_18, A197_0, A197_1, A197_4, A197_5, A197_8, A197_9, A197_12, A197_13, r5tb h.1 hx, r5gb h.1 hx, r5nb h.1 hx, r5mb h.1 hx, r5eb h.1 hx, r5db h.1 hx, r5vb h.1 hx, r5lb h.1 hx, r5pb h.1 hx, r6tb h.1 hx, r60b h.1 hx, r61b h.1 hx, r62b h.1 hx, r63b h.1 hx, r7tb h.1 hx, r7lb h.1 hx, r8tb h.1 hx, r8lb h.1 hx, r9tb h.1 hx, r9lb h.1 hx, r10tb h.1 hx, r10lb h.1 hx, rgBA h.1, g4]
    refine c_requireState (by omega) (by omega) (fun e => absurd rfl e) (fun _ σ' q => by rw [kt_e]; exact h1 σ' q)
  · have hok := hok hi g4
    simp (config := {decide := true}) only [vRf_r, vRf_n, vI_i, vL_l, vD_d, pI_i, pR_r, pR_n, vZ_0, vZ_1, ct_i, ct_r, ct_n, ct_l, ct_d, csum_n, csum_c, kt_v, kt_n, kt_e, oc_n, oc_i, oc_r, oc_l, oc_u, oc_d, true_and, and_true, Bool.and_true, Bool.true_and, ne_eq, not_false_eq_true, not_true_eq_false, implies_true, false_imp, true_imp_iff, hsz_put, hsl_put, hln_put, hty_put, hsz_new, hsl_new, hln_new, hty_new, Nat.zero_add, Nat.add_zero, eq_self, decide_true, t32_0, t32_1, t32_2, t32_3, t32_4, t32_5, t32_6, hv_same, hv_kne, hv_tne, hv_ntne, hv_nsame, hv_ctne, hty_cpy, hln_cpy, hsz_cpy, hsl_cpy, vrn, vnr, vrr, A90_5, A90_6, A90_7, A90_10, A90_13, A90_14, A90_17, A90_18, A197_0, A197_1, A197_4, A197_5, A197_8, A197_9, A197_12, A197_13, r5tb h.1 hx, r5gb h.1 hx, r5nb h.1 hx, r5mb h.1 hx, r5eb h.1 hx, r5db h.1 hx, r5vb h.1 hx, r5lb h.1 hx, r5pb h.1 hx, r6tb h.1 hx, r60b h.1 hx, r61b h.1 hx, r62b h.1 hx, r63b h.1 hx, r7tb h.1 hx, r7lb h.1 hx, r8tb h.1 hx, r8lb h.1 hx, r9tb h.1 hx, r9lb h.1 hx, r10tb h.1 hx, r10lb h.1 hx, rgBA h.1, g4]
    refine c_requireState (by omega) (by omega) (fun _ => ?_) (fun e => absurd e (by decide))
    have hgB := rgsb h.1
    have hcA : cA g (mix A B) σ := h.1.2.1
    have G := (RepC_out (A := mix A B) h.1).2.2.2.2 k hx
    -- from the new past on
    have go : ∀ v : Int32, v = (if z.1 1 k 31 = 1 then Int32.ofNat (z.2 3 k) else 0) → aw g 90 43 [some (.ref (A 0 0)), some (.int x), some (.ref (A 4 k)), some (.int v)] [] σ Q := by
      intro v hv'
      have c1 : hsz σ + 1 ≤ gC g := by omega
      have s1 : hsl σ + 5 ≤ gS g := by omega
      have kA : kp (fun _ => False) 1 5 σ (hnew σ 9 0 (fun k => defaultValue (tyX10 k)) 5) := kp_new
      have tA : hty (hnew σ 9 0 (fun k => defaultValue (tyX10 k)) 5) (hsz σ) = some 9 := by rw [hty_new, if_pos rfl]
      have vA3 : hv (hnew σ 9 0 (fun k => defaultValue (tyX10 k)) 5) 9 (hsz σ) 3 = .int 0 := hv_nsame _ _ _ _ _ _
      have vA4 : hv (hnew σ 9 0 (fun k => defaultValue (tyX10 k)) 5) 9 (hsz σ) 4 = .int 0 := hv_nsame _ _ _ _ _ _
      have zA : hsz (hnew σ 9 0 (fun k => defaultValue (tyX10 k)) 5) = hsz σ + 1 := rfl
      have yA : hsl (hnew σ 9 0 (fun k => defaultValue (tyX10 k)) 5) = hsl σ + 5 := rfl
      have hA := RH_0 h kA
      rw [A90_43]
      refine ⟨rfl, ?_⟩
      rw [A90_44]
      refine ⟨c1, s1, ?_⟩
      generalize hnew σ 9 0 (fun k => defaultValue (tyX10 k)) 5 = σA at *
      simp (config := {decide := true}) only [vRf_r, vRf_n, vI_i, vL_l, vD_d, pI_i, pR_r, pR_n, vZ_0, vZ_1, ct_i, ct_r, ct_n, ct_l, ct_d, csum_n, csum_c, kt_v, kt_n, kt_e, oc_n, oc_i, oc_r, oc_l, oc_u, oc_d, true_and, and_true, Bool.and_true, Bool.true_and, ne_eq, not_false_eq_true, not_true_eq_false, implies_true, false_imp, true_imp_iff, hsz_put, hsl_put, hln_put, hty_put, hsz_new, hsl_new, hln_new, hty_new, Nat.zero_add, Nat.add_zero, eq_self, decide_true, t32_0, t32_1, t32_2, t32_3, t32_4, t32_5, t32_6, hv_same, hv_kne, hv_tne, hv_ntne, hv_nsame, hv_ctne, hty_cpy, hln_cpy, hsz_cpy, hsl_cpy, vrn, vnr, vrr, A90_47, A90_48, A90_49, A90_52, r5tb hA.1 hx, r5gb hA.1 hx, r5nb hA.1 hx, r5mb hA.1 hx, r5eb hA.1 hx, r5db hA.1 hx, r5vb hA.1 hx, r5lb hA.1 hx, r5pb hA.1 hx, r6tb hA.1 hx, r60b hA.1 hx, r61b hA.1 hx, r62b hA.1 hx, r63b hA.1 hx, r7tb hA.1 hx, r7lb hA.1 hx, r8tb hA.1 hx, r8lb hA.1 hx, r9tb hA.1 hx, r9lb hA.1 hx, r10tb hA.1 hx, r10lb hA.1 hx, rgBA hA.1]
      obtain ⟨fT, u1, u2⟩ := rLt (A := mix A B) h.1 hx
      have u1 : isL g σ (A 6 k) (B 26 k) (z.2 2 k) fT := u1
      refine c_mindCopy (w := fun p => z.1 2 k p) hA.1.1 ⟨⟨r6tb hA.1 hx, r60b hA.1 hx, r61b hA.1 hx, r62b hA.1 hx, r63b hA.1 hx⟩, isL_kp u1 kA (fun e => e) (fun e => e), r7tb hA.1 hx, r7lb hA.1 hx, fun p hp => r7vb hA.1 hx hp⟩ T.1.1 (by omega) (by omega) ?_
      intro σB x5 x6 x7 x36 kB i1 i2 i3 i4 i5 hM
      have kAB : kp (fun _ => False) 6 52 σ σB := kp_mono (kp_trans kA kB) (by omega) (by omega) (fun _ _ e => e)
      have BB := Bas_kp h.1.1 kAB (fun _ e => e.elim)
      have tB := kp_ty kB tA
      have vB3 : hv σB 9 (hsz σ) 3 = .int 0 := by rw [(kB.2.2.2.2 _ (hty_lt tA)).2.2 (fun e => e)]; exact vA3
      have vB4 : hv σB 9 (hsz σ) 4 = .int 0 := by rw [(kB.2.2.2.2 _ (hty_lt tA)).2.2 (fun e => e)]; exact vA4
      have d1 := kAB.2.1
      have d2 := kAB.2.2.2.1
      simp (config := {decide := true}) only [vRf_r, vRf_n, vI_i, vL_l, vD_d, pI_i, pR_r, pR_n, vZ_0, vZ_1, ct_i, ct_r, ct_n, ct_l, ct_d, csum_n, csum_c, kt_v, kt_n, kt_e, oc_n, oc_i, oc_r, oc_l, oc_u, oc_d, true_and, and_true, Bool.and_true, Bool.true_and, ne_eq, not_false_eq_true, not_true_eq_false, implies_true, false_imp, true_imp_iff, hsz_put, hsl_put, hln_put, hty_put, hsz_new, hsl_new, hln_new, hty_new, Nat.zero_add, Nat.add_zero, eq_self, decide_true, t32_0, t32_1, t32_2, t32_3, t32_4, t32_5, t32_6, hv_same, hv_kne, hv_tne, hv_ntne, hv_nsame, hv_ctne, hty_cpy, hln_cpy, hsz_cpy, hsl_cpy, vrn, vnr, vrr, A90_55]
      rw [c_pastInit (m := x5) tB hgB BB.1 (by omega) (by omega)]
      obtain ⟨MP, _, _⟩ := piH_A (m := x5) BB hgB tB vB3 vB4 (b := gC g + enc 33 k) (b2 := gC g + enc 34 k) (by omega) (by omega) (by omega) (fun _ => .null) (fun _ => .null)
      have kC := piH_kp (g := g) (σ := σB) (x := hsz σ) (m := x5)
      have zC : hsz (piH g σB (hsz σ) x5) = hsz σB + 1 + 1 := rfl
      have yC : hsl (piH g σB (hsz σ) x5) = hsl σB + 3 + 3 := rfl
      generalize piH g σB (hsz σ) x5 = σC at *
      have kAC : kp (fun _ => False) 8 58 σ σC := kp_mono (kp_then kAB kC (fun a ha e => by omega)) (by omega) (by omega) (fun _ _ e => e)
      obtain ⟨⟨a1, a2, a3, a4, a5, a6⟩, a7, a8⟩ := MP
      have tG : hty σC (A 4 k) = some 5 := kp_ty kAC (r5tb h.1 hx)
      have hgA : gB g ≤ A 4 k := rgBA h.1 4 k (by decide)
      have l4 : A 4 k < hsz σ := hty_lt (r5tb h.1 hx)
      simp (config := {decide := true}) only [vRf_r, vRf_n, vI_i, vL_l, vD_d, pI_i, pR_r, pR_n, vZ_0, vZ_1, ct_i, ct_r, ct_n, ct_l, ct_d, csum_n, csum_c, kt_v, kt_n, kt_e, oc_n, oc_i, oc_r, oc_l, oc_u, oc_d, true_and, and_true, Bool.and_true, Bool.true_and, ne_eq, not_false_eq_true, not_true_eq_false, implies_true, false_imp, true_imp_iff, hsz_put, hsl_put, hln_put, hty_put, hsz_new, hsl_new, hln_new, hty_new, Nat.zero_add, Nat.add_zero, eq_self, decide_true, t32_0, t32_1, t32_2, t32_3, t32_4, t32_5, t32_6, hv_same, hv_kne, hv_tne, hv_ntne, hv_nsame, hv_ctne, hty_cpy, hln_cpy, hsz_cpy, hsl_cpy, vrn, vnr, vrr, A90_58, A90_61, A90_62, tG, hgA]
      -- the names
      have C12 := cAs_nm (r0 := 12) (k0 := k) (x := hsz σ) (cAs_of hcA) (Nat.le_refl _) (by omega) hgB
      have C15 := cAs_nm (r0 := 15) (k0 := k) (x := x5) C12 (by omega) (by omega) (by omega)
      have C16 := cAs_nm (r0 := 16) (k0 := k) (x := x6) C15 (by omega) (by omega) (by omega)
      have C17 := cAs_nm (r0 := 17) (k0 := k) (x := x7) C16 (by omega) (by omega) (by omega)
      have C36 := cAs_nm (r0 := 36) (k0 := k) (x := x36) C17 (by omega) (by omega) (by omega)
      have C13 := cAs_nm (r0 := 13) (k0 := k) (x := hsz σB) C36 (by omega) (by omega) (by omega)
      have C14 := cAs_nm (r0 := 14) (k0 := k) (x := hsz σB + 1) C13 (by omega) (by omega) (by omega)
      have C33 := cAs_nmD (r0 := 33) (k0 := k) C14 (by omega) (by omega)
      have C34 := cAs_nmD (r0 := 34) (k0 := k) C33 (by omega) (by omega)
      have K12 : AK (mix A B) (nm (mix A B) 12 k (hsz σ)) σ k := AK_nm rfl (Or.inr (Nat.le_refl _))
      have K15 := AK_tr (σ1 := σ) K12 (AK_nm (r0 := 15) (x := x5) rfl (Or.inr (by omega))) (Nat.le_refl _)
      have K16 := AK_tr (σ1 := σ) K15 (AK_nm (r0 := 16) (x := x6) rfl (Or.inr (by omega))) (Nat.le_refl _)
      have K17 := AK_tr (σ1 := σ) K16 (AK_nm (r0 := 17) (x := x7) rfl (Or.inr (by omega))) (Nat.le_refl _)
      have K36 := AK_tr (σ1 := σ) K17 (AK_nm (r0 := 36) (x := x36) rfl (Or.inr (by omega))) (Nat.le_refl _)
      have K13 := AK_tr (σ1 := σ) K36 (AK_nm (r0 := 13) (x := hsz σB) rfl (Or.inr (by omega))) (Nat.le_refl _)
      have K14 := AK_tr (σ1 := σ) K13 (AK_nm (r0 := 14) (x := hsz σB + 1) rfl (Or.inr (by omega))) (Nat.le_refl _)
      have K33 := AK_tr (σ1 := σ) K14 (AK_nm (r0 := 33) (x := gC g + enc 33 k) rfl (Or.inr (by omega))) (Nat.le_refl _)
      have K34 := AK_tr (σ1 := σ) K33 (AK_nm (r0 := 34) (x := gC g + enc 34 k) rfl (Or.inr (by omega))) (Nat.le_refl _)
      have eM : mix (nm (nm (nm (nm (nm (nm A 12 k (hsz σ)) 15 k x5) 16 k x6) 17 k x7) 13 k (hsz σB)) 14 k (hsz σB + 1)) (Bup (Bup (Bup B 36 k x36) 33 k (gC g + enc 33 k)) 34 k (gC g + enc 34 k)) = nm (nm (nm (nm (nm (nm (nm (nm (nm (mix A B) 12 k (hsz σ)) 15 k x5) 16 k x6) 17 k x7) 36 k x36) 13 k (hsz σB)) 14 k (hsz σB + 1)) 33 k (gC g + enc 33 k)) 34 k (gC g + enc 34 k) := by
        rw [mix_Bup (by decide), mix_Bup (by decide), mix_nm (by decide), mix_nm (by decide), mix_Bup (by decide), mix_nm (by decide), mix_nm (by decide), mix_nm (by decide), mix_nm (by decide)]
      have nM : ∀ r, r ≠ 12 → r ≠ 13 → r ≠ 14 → r ≠ 15 → r ≠ 16 → r ≠ 17 → r ≠ 33 → r ≠ 34 → r ≠ 36 → nm (nm (nm (nm (nm (nm (nm (nm (nm (mix A B) 12 k (hsz σ)) 15 k x5) 16 k x6) 17 k x7) 36 k x36) 13 k (hsz σB)) 14 k (hsz σB + 1)) 33 k (gC g + enc 33 k)) 34 k (gC g + enc 34 k) r k = mix A B r k := by
        intro r n1 n2 n3 n4 n5 n6 n7 n8 n9
        rw [nm_ne (by omega), nm_ne (by omega), nm_ne (by omega), nm_ne (by omega), nm_ne (by omega), nm_ne (by omega), nm_ne (by omega), nm_ne (by omega), nm_ne (by omega)]
      have names : (nm (nm (nm (nm (nm (nm (nm (nm (nm (mix A B) 12 k (hsz σ)) 15 k x5) 16 k x6) 17 k x7) 36 k x36) 13 k (hsz σB)) 14 k (hsz σB + 1)) 33 k (gC g + enc 33 k)) 34 k (gC g + enc 34 k) 12 k = hsz σ ∧ nm (nm (nm (nm (nm (nm (nm (nm (nm (mix A B) 12 k (hsz σ)) 15 k x5) 16 k x6) 17 k x7) 36 k x36) 13 k (hsz σB)) 14 k (hsz σB + 1)) 33 k (gC g + enc 33 k)) 34 k (gC g + enc 34 k) 13 k = hsz σB ∧ nm (nm (nm (nm (nm (nm (nm (nm (nm (mix A B) 12 k (hsz σ)) 15 k x5) 16 k x6) 17 k x7) 36 k x36) 13 k (hsz σB)) 14 k (hsz σB + 1)) 33 k (gC g + enc 33 k)) 34 k (gC g + enc 34 k) 14 k = hsz σB + 1 ∧ nm (nm (nm (nm (nm (nm (nm (nm (nm (mix A B) 12 k (hsz σ)) 15 k x5) 16 k x6) 17 k x7) 36 k x36) 13 k (hsz σB)) 14 k (hsz σB + 1)) 33 k (gC g + enc 33 k)) 34 k (gC g + enc 34 k) 15 k = x5 ∧ nm (nm (nm (nm (nm (nm (nm (nm (nm (mix A B) 12 k (hsz σ)) 15 k x5) 16 k x6) 17 k x7) 36 k x36) 13 k (hsz σB)) 14 k (hsz σB + 1)) 33 k (gC g + enc 33 k)) 34 k (gC g + enc 34 k) 16 k = x6 ∧ nm (nm (nm (nm (nm (nm (nm (nm (nm (mix A B) 12 k (hsz σ)) 15 k x5) 16 k x6) 17 k x7) 36 k x36) 13 k (hsz σB)) 14 k (hsz σB + 1)) 33 k (gC g + enc 33 k)) 34 k (gC g + enc 34 k) 17 k = x7 ∧ nm (nm (nm (nm (nm (nm (nm (nm (nm (mix A B) 12 k (hsz σ)) 15 k x5) 16 k x6) 17 k x7) 36 k x36) 13 k (hsz σB)) 14 k (hsz σB + 1)) 33 k (gC g + enc 33 k)) 34 k (gC g + enc 34 k) 33 k = gC g + enc 33 k ∧ nm (nm (nm (nm (nm (nm (nm (nm (nm (mix A B) 12 k (hsz σ)) 15 k x5) 16 k x6) 17 k x7) 36 k x36) 13 k (hsz σB)) 14 k (hsz σB + 1)) 33 k (gC g + enc 33 k)) 34 k (gC g + enc 34 k) 34 k = gC g + enc 34 k ∧ nm (nm (nm (nm (nm (nm (nm (nm (nm (mix A B) 12 k (hsz σ)) 15 k x5) 16 k x6) 17 k x7) 36 k x36) 13 k (hsz σB)) 14 k (hsz σB + 1)) 33 k (gC g + enc 33 k)) 34 k (gC g + enc 34 k) 36 k = x36) := by
        refine ⟨?_, ?_, ?_, ?_, ?_, ?_, ?_, ?_, ?_⟩ <;> simp [nm]
      rw [← eM] at C34 K34 nM names
      have hR4 : ∀ r, r < 4 → nm (nm (nm (nm (nm (nm A 12 k (hsz σ)) 15 k x5) 16 k x6) 17 k x7) 13 k (hsz σB)) 14 k (hsz σB + 1) r = A r := by
        intro r hr
        funext i
        rw [nm_ne (by omega), nm_ne (by omega), nm_ne (by omega), nm_ne (by omega), nm_ne (by omega), nm_ne (by omega)]
      have hBA : BK A (nm (nm (nm (nm (nm (nm A 12 k (hsz σ)) 15 k x5) 16 k x6) 17 k x7) 13 k (hsz σB)) 14 k (hsz σB + 1)) σ := BK_trans (BK_trans (BK_trans (BK_trans (BK_trans (BK_nm (r0 := 12) (by decide) (Or.inr (Nat.le_refl _))) (BK_nm (σ := σ) (r0 := 15) (by decide) (Or.inr (by omega))) (Nat.le_refl _)) (BK_nm (σ := σ) (r0 := 16) (by decide) (Or.inr (by omega))) (Nat.le_refl _)) (BK_nm (σ := σ) (r0 := 17) (by decide) (Or.inr (by omega))) (Nat.le_refl _)) (BK_nm (σ := σ) (r0 := 13) (by decide) (Or.inr (by omega))) (Nat.le_refl _)) (BK_nm (σ := σ) (r0 := 14) (by decide) (Or.inr (by omega))) (Nat.le_refl _)
      have hBB : BK B (Bup (Bup (Bup B 36 k x36) 33 k (gC g + enc 33 k)) 34 k (gC g + enc 34 k)) σ := BK_trans (BK_trans (BK_up (by decide) (Or.inr (by omega))) (BK_up (σ := σ) (by decide) (Or.inr (by omega))) (Nat.le_refl _)) (BK_up (σ := σ) (by decide) (Or.inr (by omega))) (Nat.le_refl _)
      generalize nm (nm (nm (nm (nm (nm A 12 k (hsz σ)) 15 k x5) 16 k x6) 17 k x7) 13 k (hsz σB)) 14 k (hsz σB + 1) = A2 at *
      generalize Bup (Bup (Bup B 36 k x36) 33 k (gC g + enc 33 k)) 34 k (gC g + enc 34 k) = B2 at *
      obtain ⟨n12, n13, n14, n15, n16, n17, n33, n34, n36⟩ := names
      have q : kp (fun y => y = A 4 k) 8 58 σ (hput σC 5 (A 4 k) 21 (.ref (hsz σ))) := kp_trans (c2 := 0) (s2 := 0) (kp_mono kAC (Nat.le_refl _) (Nat.le_refl _) (fun _ _ e => e.elim)) (kp_put (W := fun y => y = A 4 k) (fun _ => rfl))
      have hLf : Lf (mix A B) σ (fun y => y = A 4 k) := fun a w _ => Or.inr ⟨4, k, w⟩
      have nW : ∀ r, r ≠ 4 → ¬ (mix A B r k = A 4 k) := fun r hr e => hr (hcA.1 r k 4 k e).1
      obtain ⟨z31, z24, z25, z32, z33, zl2, zl3, zl4⟩ := snZ_s z k
      have kCD : kp (fun y => y = A 4 k) 0 0 σC (hput σC 5 (A 4 k) 21 (.ref (hsz σ))) := kp_put (W := fun y => y = A 4 k) (fun _ => rfl)
      have mM := mindA_kp hM kC (by omega) (by omega) (by omega) (by omega)
      obtain ⟨⟨b1, b2, b3, b4, b5⟩, b6, b7, b8, b9⟩ := mM
      have R : RepB g A2 B2 (hput σC 5 (A 4 k) 21 (.ref (hsz σ))) (snZ z k) := by
        refine RepC_one (A := mix A B) (A' := mix A2 B2) h.1 q hx (fun a w => ⟨4, w, rfl⟩) K34 (cAs_to C34 (by show hsz σB + 1 + 1 ≤ hsz σC; omega)) (fun i hi => ?_) (snZ_κ z k (by decide) (by decide)) (snZ_κ z k (by decide) (by decide)) ?_ ?_ ⟨?_, ?_, fun _ => ?_⟩
        · unfold snZ cp7Z
          exact zsame_zl (zsame_zl (zsame_zs (zsame_zs (zsame_zs (zsame_zs (zsame_zs (zsame_zs (zsame_zs (zsame_zs (zsame_zs (zsame_zs (zsame_zs (zsame_refl z i) hi) hi) hi) hi) hi) hi) hi) hi) hi) hi) hi) hi) hi
        · unfold zn snZ; rw [zl_k _ (by decide), zl_k _ (by decide)]; rfl
        · unfold zf snZ; rw [zl_k _ (by decide), zl_k _ (by decide)]; rfl
        · obtain ⟨⟨x0, x1, x2, x3, x4, x5', x6', x7'⟩, h5, h6, h9, h20, h21⟩ := gcH_kp (a := fun r => mix A B r k) G.1 kAC (fun _ _ _ e => e)
          have h5k : ∀ j, j ≠ 21 → hv (hput σC 5 (A 4 k) 21 (.ref (hsz σ))) 5 (A 4 k) j = hv σC 5 (A 4 k) j := fun j h1 => hv_kne _ h1
          have ht : ∀ t, t ≠ 5 → hv (hput σC 5 (A 4 k) 21 (.ref (hsz σ))) t = hv σC t := fun t h1 => hv_tne _ h1
          have e4 : mix A2 B2 4 k = A 4 k := nM 4 (by decide) (by decide) (by decide) (by decide) (by decide) (by decide) (by decide) (by decide) (by decide)
          have e5 : mix A2 B2 5 k = A 5 k := nM 5 (by decide) (by decide) (by decide) (by decide) (by decide) (by decide) (by decide) (by decide) (by decide)
          have e6 : mix A2 B2 6 k = A 6 k := nM 6 (by decide) (by decide) (by decide) (by decide) (by decide) (by decide) (by decide) (by decide) (by decide)
          have e7 : mix A2 B2 7 k = A 7 k := nM 7 (by decide) (by decide) (by decide) (by decide) (by decide) (by decide) (by decide) (by decide) (by decide)
          have e8 : mix A2 B2 8 k = A 8 k := nM 8 (by decide) (by decide) (by decide) (by decide) (by decide) (by decide) (by decide) (by decide) (by decide)
          have e9 : mix A2 B2 9 k = A 9 k := nM 9 (by decide) (by decide) (by decide) (by decide) (by decide) (by decide) (by decide) (by decide) (by decide)
          have e10 : mix A2 B2 10 k = A 10 k := nM 10 (by decide) (by decide) (by decide) (by decide) (by decide) (by decide) (by decide) (by decide) (by decide)
          have e11 : mix A2 B2 11 k = A 11 k := nM 11 (by decide) (by decide) (by decide) (by decide) (by decide) (by decide) (by decide) (by decide) (by decide)
          unfold gcH
          dsimp only
          rw [e4, e5, e6, e7, e8, e9, e10, e11, n12, n13, n14, n15, n16, n17, snZ_j z k (j := 30) (by decide), snZ_j z k (j := 22) (by decide), snZ_j z k (j := 23) (by decide), z31, z24, z25, z32, z33, snZ_κ z k (a := 2) (by decide) (by decide), snZ_κ z k (a := 3) (by decide) (by decide), snZ_κ z k (a := 4) (by decide) (by decide), snZ_κ z k (a := 5) (by decide) (by decide), snZ_κ z k (a := 6) (by decide) (by decide), ht 6 (by decide), ht 9 (by decide), ht 20 (by decide), ht 21 (by decide)]
          refine ⟨⟨x0, x1, x2, x3, x4, x5', x6', fun _ => ⟨a1, b1, b7, b8⟩⟩, ?_, ⟨h6.1, fun _ => ⟨b2, b3, b4, b5⟩⟩, fun _ => ⟨a2, a3, a4, a5, a6⟩, ⟨h20.1, h20.2.1, fun _ p hp => ?_⟩, h21⟩
          · obtain ⟨y0, y1, y2, y3, y4, y5, y6, y7⟩ := h5
            refine ⟨(h5k 0 (by decide)).trans y0, (h5k 2 (by decide)).trans y1, (h5k 13 (by decide)).trans y2, (h5k 14 (by decide)).trans y3, (h5k 15 (by decide)).trans y4, (h5k 16 (by decide)).trans y5, ?_, fun j hj => ?_⟩
            · rw [if_pos rfl]; exact hv_same _ _ _ _ _
            · have hn := gsc_no hj
              rw [snZ_j z k (by omega)]
              exact (h5k j (by omega)).trans (y7 j hj)
          · rw [snZ_7 z k hp]; exact b9 p hp
        · obtain ⟨f, w1, w2⟩ := gcT_kp (N' := mix A2 B2) G.2.1 q (nW 6 (by decide)) (fun _ => nW 26 (by decide)) hLf (AK_AN K34)
          have e6 : mix A2 B2 6 k = A 6 k := nM 6 (by decide) (by decide) (by decide) (by decide) (by decide) (by decide) (by decide) (by decide) (by decide)
          have e26 : mix A2 B2 26 k = B 26 k := nM 26 (by decide) (by decide) (by decide) (by decide) (by decide) (by decide) (by decide) (by decide) (by decide)
          refine ⟨f, ?_, fun i hi => ?_⟩
          · show isL g _ (mix A2 B2 6 k) (mix A2 B2 26 k) _ f
            rw [e6, e26, zl2]; exact w1
          · rw [zl2] at hi
            rw [snZ_κ z k (by decide) (by decide), snZ_κ z k (by decide) (by decide)]
            exact w2 i hi
        · refine ⟨⟨fT, ?_, fun i hi => ?_⟩, ⟨fun _ => .null, ?_, fun i hi => ?_⟩, ⟨fun _ => .null, ?_, fun i hi => ?_⟩⟩
          · show isL g _ (mix A2 B2 16 k) (mix A2 B2 36 k) _ fT
            rw [n16, n36, zl2]
            exact isL_tag b6 (by decide) (by decide)
          · rw [zl2] at hi
            rw [snZ_κ z k (by decide) (by decide), snZ_κ z k (by decide) (by decide)]
            exact OpAt_kp (u2 i hi) q (AK_AN K34) (fun y w l => (hLf y w l).imp_left (fun e => e.1))
          · show isL g _ (mix A2 B2 13 k) (mix A2 B2 33 k) _ _
            rw [n13, n33, zl3]
            exact isL_tag a7 (by decide) (by decide)
          · rw [zl3] at hi; omega
          · show isL g _ (mix A2 B2 14 k) (mix A2 B2 34 k) _ _
            rw [n14, n34, zl4]
            exact isL_tag a8 (by decide) (by decide)
          · rw [zl4] at hi; omega
      rw [hv']
      exact hok A2 B2 _ ⟨R, hBA, hBB, kp_mono q (by omega) (by omega) (fun a _ e => by rw [e]; exact FA_i 4 (by decide)), hR4⟩
    by_cases hs : z.1 1 k 31 = 1
    · have p12 := r12tb h.1 hx hs
      have p9 := r9_b h.1 hx hs
      obtain ⟨_, ⟨f2, u3, u4⟩, _⟩ := rLp (A := mix A B) h.1 hx hs
      have u3 : isL g σ (A 13 k) (B 33 k) (z.2 3 k) f2 := u3
      have e1 := fun Q' => l_size (Q := Q') u3
      have t13 := u3.1
      have := go (Int32.ofNat (z.2 3 k)) (by rw [if_pos hs])
      simp (config := {decide := true}) only [vRf_r, vRf_n, vI_i, vL_l, vD_d, pI_i, pR_r, pR_n, vZ_0, vZ_1, ct_i, ct_r, ct_n, ct_l, ct_d, csum_n, csum_c, kt_v, kt_n, kt_e, oc_n, oc_i, oc_r, oc_l, oc_u, oc_d, true_and, and_true, Bool.and_true, Bool.true_and, ne_eq, not_false_eq_true, not_true_eq_false, implies_true, false_imp, true_imp_iff, hsz_put, hsl_put, hln_put, hty_put, hsz_new, hsl_new, hln_new, hty_new, Nat.zero_add, Nat.add_zero, eq_self, decide_true, t32_0, t32_1, t32_2, t32_3, t32_4, t32_5, t32_6, hv_same, hv_kne, hv_tne, hv_ntne, hv_nsame, hv_ctne, hty_cpy, hln_cpy, hsz_cpy, hsl_cpy, vrn, vnr, vrr, A90_21, A90_22, A90_25, A90_28, A90_29, A90_32, A90_33, A90_36, A90_39, A90_42, r5tb h.1 hx, r5gb h.1 hx, r5nb h.1 hx, r5mb h.1 hx, r5eb h.1 hx, r5db h.1 hx, r5vb h.1 hx, r5lb h.1 hx, r5pb h.1 hx, r6tb h.1 hx, r60b h.1 hx, r61b h.1 hx, r62b h.1 hx, r63b h.1 hx, r7tb h.1 hx, r7lb h.1 hx, r8tb h.1 hx, r8lb h.1 hx, r9tb h.1 hx, r9lb h.1 hx, r10tb h.1 hx, r10lb h.1 hx, rgBA h.1, hs, p12, p9, e1, t13, if_true]
      exact this
    · have := go 0 (by rw [if_neg hs])
      simp (config := {decide := true}) only [vRf_r, vRf_n, vI_i, vL_l, vD_d, pI_i, pR_r, pR_n, vZ_0, vZ_1, ct_i, ct_r, ct_n, ct_l, ct_d, csum_n, csum_c, kt_v, kt_n, kt_e, oc_n, oc_i, oc_r, oc_l, oc_u, oc_d, true_and, and_true, Bool.and_true, Bool.true_and, ne_eq, not_false_eq_true, not_true_eq_false, implies_true, false_imp, true_imp_iff, hsz_put, hsl_put, hln_put, hty_put, hsz_new, hsl_new, hln_new, hty_new, Nat.zero_add, Nat.add_zero, eq_self, decide_true, t32_0, t32_1, t32_2, t32_3, t32_4, t32_5, t32_6, hv_same, hv_kne, hv_tne, hv_ntne, hv_nsame, hv_ctne, hty_cpy, hln_cpy, hsz_cpy, hsl_cpy, vrn, vnr, vrr, A90_21, A90_22, A90_25, A90_28, A90_29, A90_42, r5tb h.1 hx, r5gb h.1 hx, r5nb h.1 hx, r5mb h.1 hx, r5eb h.1 hx, r5db h.1 hx, r5vb h.1 hx, r5lb h.1 hx, r5pb h.1 hx, r6tb h.1 hx, r60b h.1 hx, r61b h.1 hx, r62b h.1 hx, r63b h.1 hx, r7tb h.1 hx, r7lb h.1 hx, r8tb h.1 hx, r8lb h.1 hx, r9tb h.1 hx, r9lb h.1 hx, r10tb h.1 hx, r10lb h.1 hx, rgBA h.1, hs, if_false]
      exact this
end SNAP
