/-! a tick -/
def twN (z : ZT) (c : Nat) : ZT := if z.1 1 c 3 = 2 ∧ z.1 1 c 6 ≤ z.1 0 0 2 then zs (zs (if z.1 1 c 3 = 3 ∨ z.1 1 c 3 = 4 then z else zs z 1 c 7 (z.1 1 c 7 + 1)) 1 c 3 0) 1 c 6 (-1) else (if z.1 1 c 3 = 3 ∨ z.1 1 c 3 = 4 then z else zs z 1 c 7 (z.1 1 c 7 + 1))
def twF (z : ZT) : Nat → Nat → ZT
  | _, 0 => z
  | c, m + 1 => twF (twN z c) (c + 1) m
def stN (L : Nat) (z : ZT) (c : Nat) : ZT := zs z 1 c 11 (z.1 1 c 11 + if z.1 1 c 3 = 0 ∧ c ≠ L then 1 else 0)
def stF (L : Nat) (z : ZT) : Nat → Nat → ZT
  | _, 0 => z
  | c, m + 1 => stF L (stN L z c) (c + 1) m
noncomputable def mmN (z : ZT) (c : Nat) : ZT := if z.1 1 c 30 = 1 then moveZ z c else z
noncomputable def mmF (z : ZT) : Nat → Nat → ZT
  | _, 0 => z
  | c, m + 1 => mmF (mmN z c) (c + 1) m
section TICK
variable {g : GC} {A B : Nat → Nat → Nat} {σ σ' : AH} {z : ZT} {k p : Nat} {Q : AQ}
theorem twN_2 (z : ZT) (c : Nat) : (twN z c).2 = z.2 := by
  unfold twN
  split
  · rw [zs_2, zs_2]; split <;> rfl
  · split <;> rfl
theorem twF_2 : ∀ m (z : ZT) c, (twF z c m).2 = z.2 := by
  intro m
  induction m with
  | zero => intro z c; rfl
  | succ m ih => intro z c; exact (ih _ _).trans (twN_2 z c)
theorem stF_2 (L : Nat) : ∀ m (z : ZT) c, (stF L z c m).2 = z.2 := by
  intro m
  induction m with
  | zero => intro z c; rfl
  | succ m ih => intro z c; exact (ih _ _).trans rfl
theorem WI_tw (h : WI z) {c : Nat} (hk : c < zn z) : WI (twN z c) := by
  have h1 : WI (if z.1 1 c 3 = 3 ∨ z.1 1 c 3 = 4 then z else zs z 1 c 7 (z.1 1 c 7 + 1)) := by
    split
    · exact h
    · exact WI_zs h rfl
  have n1 : zn (if z.1 1 c 3 = 3 ∨ z.1 1 c 3 = 4 then z else zs z 1 c 7 (z.1 1 c 7 + 1)) = zn z := by split <;> rfl
  have p1 : zpl (if z.1 1 c 3 = 3 ∨ z.1 1 c 3 = 4 then z else zs z 1 c 7 (z.1 1 c 7 + 1)) c = zpl z c ∧ (if z.1 1 c 3 = 3 ∨ z.1 1 c 3 = 4 then z else zs z 1 c 7 (z.1 1 c 7 + 1)).2 = z.2 := by
    split
    · exact ⟨rfl, rfl⟩
    · exact ⟨zpl_zs (by decide), rfl⟩
  unfold twN
  by_cases hq : z.1 1 c 3 = 2 ∧ z.1 1 c 6 ≤ z.1 0 0 2
  · rw [if_pos hq]
    refine WI_zs (WI_st h1 (by rw [n1]; exact hk) (fun _ => ?_)) (by decide)
    rw [p1.1, p1.2]
    exact (h.2.2.2.2 c hk).2.2 (Or.inl (Or.inr (Or.inr hq.1)))
  · rw [if_neg hq]; exact h1
theorem WI_twF : ∀ m (z : ZT) c, WI z → c + m ≤ zn z → WI (twF z c m) := by
  intro m
  induction m with
  | zero => intro z c h _; exact h
  | succ m ih => intro z c h hc; exact ih _ _ (WI_tw h (by omega)) (by unfold zn; rw [twN_2]; exact (by omega : c + 1 + m ≤ zn z))
theorem WI_stF (L : Nat) : ∀ m (z : ZT) c, WI z → WI (stF L z c m) := by
  intro m
  induction m with
  | zero => intro z c h; exact h
  | succ m ih => intro z c h; exact ih _ _ (WI_zs h rfl)
/-- the iterator goes on -/
theorem St_nx {σ0 σ1 : AH} {z1 : ZT} {c c1 s1 r : Nat} (S : St g A B B σ0 σ1 z1 c1 s1) (hi : isI g σ1 (hsz σ0) (A r 0) c) (hn : nIn A B (hsz σ0)) (hgB : gB g ≤ hsz σ0) : St g A B B σ0 (nxH σ1 (hsz σ0) c) z1 c1 s1 := by
  have hi1 := hi.1
  refine ⟨RepC_kp1 (A := mix A B) S.1 nxH_kp hgB hn (fun _ => hi1), S.2.1, ?_⟩
  have := kp_then S.2.2 (nxH_kp (σ := σ1) (it := hsz σ0) (c := c)) (fun a ha e => by omega)
  rwa [Nat.add_zero, Nat.add_zero] at this
theorem tw_loop {σ0 : AH} (hn : nIn A B (hsz σ0)) (hgB : gB g ≤ hsz σ0) : ∀ m c z1 σ1 l2, c + m = zn z1 → St g A B B σ0 σ1 z1 1 4 → isI g σ1 (hsz σ0) (A 2 0) c → (∀ σ' l, St g A B B σ0 σ' (twF z1 c m) 1 4 → aw g 115 73 [some (.ref (A 1 0)), some (.ref (hsz σ0)), l] [] σ' Q) → aw g 115 18 [some (.ref (A 1 0)), some (.ref (hsz σ0)), l2] [] σ1 Q := by
  intro m
  induction m with
  | zero =>
    intro c z1 σ1 l2 hc0 S hi hQ
    have e1 := fun Q' => l_hasNext (Q := Q') (rLgb S.1) hi (by omega)
    have e2 : (c < zn z1) = False := eq_false (by omega)
    have := hQ σ1 l2 S
    simp (config := {decide := true}) only [vRf_r, vRf_n, vI_i, vL_l, vD_d, pI_i, pR_r, pR_n, vZ_0, vZ_1, ct_i, ct_r, ct_n, ct_l, ct_d, csum_n, csum_c, kt_v, kt_n, kt_e, oc_n, oc_i, oc_r, oc_l, oc_u, oc_d, true_and, and_true, Bool.and_true, Bool.true_and, ne_eq, not_false_eq_true, not_true_eq_false, implies_true, false_imp, true_imp_iff, hsz_put, hsl_put, hln_put, hty_put, hsz_new, hsl_new, hln_new, hty_new, Nat.zero_add, Nat.add_zero, eq_self, decide_true, t32_0, t32_1, t32_2, t32_3, t32_4, t32_5, t32_6, hv_same, hv_kne, hv_tne, hv_ntne, hv_nsame, hv_ctne, hty_cpy, hln_cpy, hsz_cpy, hsl_cpy, vrn, vnr, vrr, A115_18, A115_19, A115_24, hi.1, e1, e2, if_false]
    exact this
  | succ m ih =>
    intro c z1 σ1 l2 hc0 S hi hQ
    have hcn : c < zn z1 := by omega
    have e1 := fun Q' => l_hasNext (Q := Q') (rLgb S.1) hi (by omega)
    have e2 : (c < zn z1) = True := eq_true hcn
    have e3 := fun Q' => l_next (Q := Q') (rLgb S.1) hi (by omega)
    have T := St_nx S hi hn hgB
    have hi1 := hi.1
    have hi2 := nxH_isI hi
    have e7 : (∃ t, t ∈ [5] ∧ some 5 = some t) = True := eq_true ⟨5, by decide, rfl⟩
    rw [A115_18]
    generalize nxH σ1 (hsz σ0) c = σ2 at *
    have h2 := T.1
    have nx : ∀ zd σ3, twN z1 c = zd → St g A B B σ0 σ3 zd 1 4 → isI g σ3 (hsz σ0) (A 2 0) (c + 1) → aw g 115 18 [some (.ref (A 1 0)), some (.ref (hsz σ0)), some (.ref (A 4 c))] [] σ3 Q := by
      intro zd σ3 ez S3 i3
      refine ih (c + 1) zd σ3 _ (by rw [← ez]; unfold zn; rw [twN_2]; exact (by omega : c + 1 + m = zn z1)) S3 i3 (fun σ' l S4 => hQ σ' l ?_)
      rw [show twF z1 c (m + 1) = twF (twN z1 c) (c + 1) m from rfl, ez]; exact S4
    by_cases g34 : z1.1 1 c 3 = 3 ∨ z1.1 1 c 3 = 4
    · have g2 : ¬ z1.1 1 c 3 = 2 := by
        rcases g34 with e | e <;> (rw [e]; decide)
      have ez : twN z1 c = z1 := by unfold twN; rw [if_neg (fun q => g2 q.1), if_pos g34]
      have := nx z1 σ2 ez T hi2
      rcases g34 with e | e
      · simp (config := {decide := true}) only [vRf_r, vRf_n, vI_i, vL_l, vD_d, pI_i, pR_r, pR_n, vZ_0, vZ_1, ct_i, ct_r, ct_n, ct_l, ct_d, csum_n, csum_c, kt_v, kt_n, kt_e, oc_n, oc_i, oc_r, oc_l, oc_u, oc_d, true_and, and_true, Bool.and_true, Bool.true_and, ne_eq, not_false_eq_true, not_true_eq_false, implies_true, false_imp, true_imp_iff, hsz_put, hsl_put, hln_put, hty_put, hsz_new, hsl_new, hln_new, hty_new, Nat.zero_add, Nat.add_zero, eq_self, decide_true, t32_0, t32_1, t32_2, t32_3, t32_4, t32_5, t32_6, hv_same, hv_kne, hv_tne, hv_ntne, hv_nsame, hv_ctne, hty_cpy, hln_cpy, hsz_cpy, hsl_cpy, vrn, vnr, vrr, A115_19, A115_24, A115_27, A115_28, A115_33, A115_33r, A115_36, A115_37, A115_38, A115_41, A115_42, A115_45, A115_46, A115_49, A115_52, A115_53, A115_54, A115_57, A115_58, A115_59, A115_62, A115_63, A115_64, A115_67, A115_70, A197_0, A197_1, A197_4, A197_5, A197_8, A197_9, A197_12, A197_13, A198_0, A198_1, A198_4, A198_5, A198_8, A198_9, A198_12, A198_13, A198_16, A198_17, A198_18, A198_19, A198_22, A198_23, A198_24, A198_27, hi1, e1, e2, e3, e7, r5tb h2 hcn, r5gb h2 hcn, r5nb h2 hcn, r5mb h2 hcn, r5eb h2 hcn, r5db h2 hcn, r5vb h2 hcn, r5lb h2 hcn, r5pb h2 hcn, r6tb h2 hcn, r60b h2 hcn, r61b h2 hcn, r62b h2 hcn, r63b h2 hcn, r7tb h2 hcn, r7lb h2 hcn, r8tb h2 hcn, r8lb h2 hcn, r9tb h2 hcn, r9lb h2 hcn, r10tb h2 hcn, r10lb h2 hcn, rgBA h2, r1tb h2, r10_b h2, r11_b h2, r13_b h2, r14_b h2, r1sb h2, rgBA h2, e, if_true]
        exact this
      · simp (config := {decide := true}) only [vRf_r, vRf_n, vI_i, vL_l, vD_d, pI_i, pR_r, pR_n, vZ_0, vZ_1, ct_i, ct_r, ct_n, ct_l, ct_d, csum_n, csum_c, kt_v, kt_n, kt_e, oc_n, oc_i, oc_r, oc_l, oc_u, oc_d, true_and, and_true, Bool.and_true, Bool.true_and, ne_eq, not_false_eq_true, not_true_eq_false, implies_true, false_imp, true_imp_iff, hsz_put, hsl_put, hln_put, hty_put, hsz_new, hsl_new, hln_new, hty_new, Nat.zero_add, Nat.add_zero, eq_self, decide_true, t32_0, t32_1, t32_2, t32_3, t32_4, t32_5, t32_6, hv_same, hv_kne, hv_tne, hv_ntne, hv_nsame, hv_ctne, hty_cpy, hln_cpy, hsz_cpy, hsl_cpy, vrn, vnr, vrr, A115_19, A115_24, A115_27, A115_28, A115_33, A115_33r, A115_36, A115_37, A115_38, A115_41, A115_42, A115_45, A115_46, A115_49, A115_52, A115_53, A115_54, A115_57, A115_58, A115_59, A115_62, A115_63, A115_64, A115_67, A115_70, A197_0, A197_1, A197_4, A197_5, A197_8, A197_9, A197_12, A197_13, A198_0, A198_1, A198_4, A198_5, A198_8, A198_9, A198_12, A198_13, A198_16, A198_17, A198_18, A198_19, A198_22, A198_23, A198_24, A198_27, hi1, e1, e2, e3, e7, r5tb h2 hcn, r5gb h2 hcn, r5nb h2 hcn, r5mb h2 hcn, r5eb h2 hcn, r5db h2 hcn, r5vb h2 hcn, r5lb h2 hcn, r5pb h2 hcn, r6tb h2 hcn, r60b h2 hcn, r61b h2 hcn, r62b h2 hcn, r63b h2 hcn, r7tb h2 hcn, r7lb h2 hcn, r8tb h2 hcn, r8lb h2 hcn, r9tb h2 hcn, r9lb h2 hcn, r10tb h2 hcn, r10lb h2 hcn, rgBA h2, r1tb h2, r10_b h2, r11_b h2, r13_b h2, r14_b h2, r1sb h2, rgBA h2, e, if_true]
        exact this
    · have g3 : ¬ z1.1 1 c 3 = 3 := fun e => g34 (Or.inl e)
      have g4 : ¬ z1.1 1 c 3 = 4 := fun e => g34 (Or.inr e)
      have R1 := rb_g (j := 7) (v := z1.1 1 c 7 + 1) h2 hcn (by decide)
      have T1 := St_put T 4 (by decide) R1
      have i1 := isI_put (t := 5) (x := A 4 c) (j := 7) (v := .int (z1.1 1 c 7 + 1)) hi2 (by decide) (by decide)
      by_cases g2 : z1.1 1 c 3 = 2
      · by_cases g5 : ¬ z1.1 1 c 6 ≤ z1.1 0 0 2
        · have ez : twN z1 c = zs z1 1 c 7 (z1.1 1 c 7 + 1) := by unfold twN; rw [if_neg (fun q => g5 q.2), if_neg g34]
          have := nx _ _ ez T1 i1
          simp (config := {decide := true}) only [vRf_r, vRf_n, vI_i, vL_l, vD_d, pI_i, pR_r, pR_n, vZ_0, vZ_1, ct_i, ct_r, ct_n, ct_l, ct_d, csum_n, csum_c, kt_v, kt_n, kt_e, oc_n, oc_i, oc_r, oc_l, oc_u, oc_d, true_and, and_true, Bool.and_true, Bool.true_and, ne_eq, not_false_eq_true, not_true_eq_false, implies_true, false_imp, true_imp_iff, hsz_put, hsl_put, hln_put, hty_put, hsz_new, hsl_new, hln_new, hty_new, Nat.zero_add, Nat.add_zero, eq_self, decide_true, t32_0, t32_1, t32_2, t32_3, t32_4, t32_5, t32_6, hv_same, hv_kne, hv_tne, hv_ntne, hv_nsame, hv_ctne, hty_cpy, hln_cpy, hsz_cpy, hsl_cpy, vrn, vnr, vrr, A115_19, A115_24, A115_27, A115_28, A115_33, A115_33r, A115_36, A115_37, A115_38, A115_41, A115_42, A115_45, A115_46, A115_49, A115_52, A115_53, A115_54, A115_57, A115_58, A115_59, A115_62, A115_63, A115_64, A115_67, A115_70, A197_0, A197_1, A197_4, A197_5, A197_8, A197_9, A197_12, A197_13, A198_0, A198_1, A198_4, A198_5, A198_8, A198_9, A198_12, A198_13, A198_16, A198_17, A198_18, A198_19, A198_22, A198_23, A198_24, A198_27, hi1, e1, e2, e3, e7, r5tb h2 hcn, r5gb h2 hcn, r5nb h2 hcn, r5mb h2 hcn, r5eb h2 hcn, r5db h2 hcn, r5vb h2 hcn, r5lb h2 hcn, r5pb h2 hcn, r6tb h2 hcn, r60b h2 hcn, r61b h2 hcn, r62b h2 hcn, r63b h2 hcn, r7tb h2 hcn, r7lb h2 hcn, r8tb h2 hcn, r8lb h2 hcn, r9tb h2 hcn, r9lb h2 hcn, r10tb h2 hcn, r10lb h2 hcn, rgBA h2, r1tb h2, r10_b h2, r11_b h2, r13_b h2, r14_b h2, r1sb h2, rgBA h2, g2, g5, if_true]
          exact this
        · have g5 := Classical.not_not.mp g5
          have ez : twN z1 c = zs (zs (zs z1 1 c 7 (z1.1 1 c 7 + 1)) 1 c 3 0) 1 c 6 (-1) := by unfold twN; rw [if_pos ⟨g2, g5⟩, if_neg g34]
          have R2 := rb_g (j := 3) (v := 0) R1 hcn (by decide)
          have T2 := St_put T1 4 (by decide) R2
          have R3 := rb_g (j := 6) (v := -1) R2 hcn (by decide)
          have T3 := St_put T2 4 (by decide) R3
          have := nx _ _ ez T3 (isI_put (isI_put i1 (by decide) (by decide)) (by decide) (by decide))
          simp (config := {decide := true}) only [vRf_r, vRf_n, vI_i, vL_l, vD_d, pI_i, pR_r, pR_n, vZ_0, vZ_1, ct_i, ct_r, ct_n, ct_l, ct_d, csum_n, csum_c, kt_v, kt_n, kt_e, oc_n, oc_i, oc_r, oc_l, oc_u, oc_d, true_and, and_true, Bool.and_true, Bool.true_and, ne_eq, not_false_eq_true, not_true_eq_false, implies_true, false_imp, true_imp_iff, hsz_put, hsl_put, hln_put, hty_put, hsz_new, hsl_new, hln_new, hty_new, Nat.zero_add, Nat.add_zero, eq_self, decide_true, t32_0, t32_1, t32_2, t32_3, t32_4, t32_5, t32_6, hv_same, hv_kne, hv_tne, hv_ntne, hv_nsame, hv_ctne, hty_cpy, hln_cpy, hsz_cpy, hsl_cpy, vrn, vnr, vrr, A115_19, A115_24, A115_27, A115_28, A115_33, A115_33r, A115_36, A115_37, A115_38, A115_41, A115_42, A115_45, A115_46, A115_49, A115_52, A115_53, A115_54, A115_57, A115_58, A115_59, A115_62, A115_63, A115_64, A115_67, A115_70, A197_0, A197_1, A197_4, A197_5, A197_8, A197_9, A197_12, A197_13, A198_0, A198_1, A198_4, A198_5, A198_8, A198_9, A198_12, A198_13, A198_16, A198_17, A198_18, A198_19, A198_22, A198_23, A198_24, A198_27, hi1, e1, e2, e3, e7, r5tb h2 hcn, r5gb h2 hcn, r5nb h2 hcn, r5mb h2 hcn, r5eb h2 hcn, r5db h2 hcn, r5vb h2 hcn, r5lb h2 hcn, r5pb h2 hcn, r6tb h2 hcn, r60b h2 hcn, r61b h2 hcn, r62b h2 hcn, r63b h2 hcn, r7tb h2 hcn, r7lb h2 hcn, r8tb h2 hcn, r8lb h2 hcn, r9tb h2 hcn, r9lb h2 hcn, r10tb h2 hcn, r10lb h2 hcn, rgBA h2, r1tb h2, r10_b h2, r11_b h2, r13_b h2, r14_b h2, r1sb h2, rgBA h2, g2, g5, if_true]
          exact this
      · have ez : twN z1 c = zs z1 1 c 7 (z1.1 1 c 7 + 1) := by unfold twN; rw [if_neg (fun q => g2 q.1), if_neg g34]
        have := nx _ _ ez T1 i1
        simp (config := {decide := true}) only [vRf_r, vRf_n, vI_i, vL_l, vD_d, pI_i, pR_r, pR_n, vZ_0, vZ_1, ct_i, ct_r, ct_n, ct_l, ct_d, csum_n, csum_c, kt_v, kt_n, kt_e, oc_n, oc_i, oc_r, oc_l, oc_u, oc_d, true_and, and_true, Bool.and_true, Bool.true_and, ne_eq, not_false_eq_true, not_true_eq_false, implies_true, false_imp, true_imp_iff, hsz_put, hsl_put, hln_put, hty_put, hsz_new, hsl_new, hln_new, hty_new, Nat.zero_add, Nat.add_zero, eq_self, decide_true, t32_0, t32_1, t32_2, t32_3, t32_4, t32_5, t32_6, hv_same, hv_kne, hv_tne, hv_ntne, hv_nsame, hv_ctne, hty_cpy, hln_cpy, hsz_cpy, hsl_cpy, vrn, vnr, vrr, A115_19, A115_24, A115_27, A115_28, A115_33, A115_33r, A115_36, A115_37, A115_38, A115_41, A115_42, A115_45, A115_46, A115_49, A115_52, A115_53, A115_54, A115_57, A115_58, A115_59, A115_62, A115_63, A115_64, A115_67, A115_70, A197_0, A197_1, A197_4, A197_5, A197_8, A197_9, A197_12, A197_13, A198_0, A198_1, A198_4, A198_5, A198_8, A198_9, A198_12, A198_13, A198_16, A198_17, A198_18, A198_19, A198_22, A198_23, A198_24, A198_27, hi1, e1, e2, e3, e7, r5tb h2 hcn, r5gb h2 hcn, r5nb h2 hcn, r5mb h2 hcn, r5eb h2 hcn, r5db h2 hcn, r5vb h2 hcn, r5lb h2 hcn, r5pb h2 hcn, r6tb h2 hcn, r60b h2 hcn, r61b h2 hcn, r62b h2 hcn, r63b h2 hcn, r7tb h2 hcn, r7lb h2 hcn, r8tb h2 hcn, r8lb h2 hcn, r9tb h2 hcn, r9lb h2 hcn, r10tb h2 hcn, r10lb h2 hcn, rgBA h2, r1tb h2, r10_b h2, r11_b h2, r13_b h2, r14_b h2, r1sb h2, rgBA h2, g2, g3, g4, if_true]
        exact this
theorem st_loop {σ0 : AH} {L : Nat} (hL : L < 1000) (hn : nIn A B (hsz σ0)) (hgB : gB g ≤ hsz σ0) : ∀ m c z1 σ1 l2, c + m = zn z1 → zn z1 ≤ 3 → z1.1 0 0 3 = Int32.ofNat L → St g A B B σ0 σ1 z1 1 4 → isI g σ1 (hsz σ0) (A 2 0) c → (∀ σ' l, St g A B B σ0 σ' (stF L z1 c m) 1 4 → aw g 115 163 [some (.ref (A 1 0)), some (.ref (hsz σ0)), l] [] σ' Q) → aw g 115 109 [some (.ref (A 1 0)), some (.ref (hsz σ0)), l2] [] σ1 Q := by
  intro m
  induction m with
  | zero =>
    intro c z1 σ1 l2 hc0 _ _ S hi hQ
    have e1 := fun Q' => l_hasNext (Q := Q') (rLgb S.1) hi (by omega)
    have e2 : (c < zn z1) = False := eq_false (by omega)
    have := hQ σ1 l2 S
    simp (config := {decide := true}) only [vRf_r, vRf_n, vI_i, vL_l, vD_d, pI_i, pR_r, pR_n, vZ_0, vZ_1, ct_i, ct_r, ct_n, ct_l, ct_d, csum_n, csum_c, kt_v, kt_n, kt_e, oc_n, oc_i, oc_r, oc_l, oc_u, oc_d, true_and, and_true, Bool.and_true, Bool.true_and, ne_eq, not_false_eq_true, not_true_eq_false, implies_true, false_imp, true_imp_iff, hsz_put, hsl_put, hln_put, hty_put, hsz_new, hsl_new, hln_new, hty_new, Nat.zero_add, Nat.add_zero, eq_self, decide_true, t32_0, t32_1, t32_2, t32_3, t32_4, t32_5, t32_6, hv_same, hv_kne, hv_tne, hv_ntne, hv_nsame, hv_ctne, hty_cpy, hln_cpy, hsz_cpy, hsl_cpy, vrn, vnr, vrr, A115_109, A115_110, A115_115, hi.1, e1, e2, if_false]
    exact this
  | succ m ih =>
    intro c z1 σ1 l2 hc0 n3 hl S hi hQ
    have hcn : c < zn z1 := by omega
    have e1 := fun Q' => l_hasNext (Q := Q') (rLgb S.1) hi (by omega)
    have e2 : (c < zn z1) = True := eq_true hcn
    have e3 := fun Q' => l_next (Q := Q') (rLgb S.1) hi (by omega)
    have T := St_nx S hi hn hgB
    have hi1 := hi.1
    have hi2 := nxH_isI hi
    have e7 : (∃ t, t ∈ [5] ∧ some 5 = some t) = True := eq_true ⟨5, by decide, rfl⟩
    rw [A115_109]
    generalize nxH σ1 (hsz σ0) c = σ2 at *
    have h2 := T.1
    have eG : gref A (Int32.ofNat L) = .ref (A 4 L) := gref_of (by omega)
    have eA : (A 4 c = A 4 L) = (c = L) := propext ⟨fun e => (h2.2.1.1 4 c 4 L e).2, fun e => by rw [e]⟩
    have nx : ∀ x, (x = if z1.1 1 c 3 = 0 ∧ c ≠ L then 1 else 0) → aw g 115 109 [some (.ref (A 1 0)), some (.ref (hsz σ0)), some (.ref (A 4 c))] [] (hput σ2 5 (A 4 c) 11 (.int (z1.1 1 c 11 + x))) Q := by
      intro x hx
      have R1 := rb_g (j := 11) (v := z1.1 1 c 11 + x) h2 hcn (by decide)
      have T1 := St_put T 4 (by decide) R1
      refine ih (c + 1) _ _ _ ?_ ?_ ?_ T1 (isI_put hi2 (by decide) (by decide)) (fun σ' l S4 => hQ σ' l ?_)
      · exact (by omega : c + 1 + m = zn z1)
      · exact n3
      · rw [zs_k _ (by decide)]; exact hl
      · rw [hx] at S4
        exact S4
    by_cases g0 : z1.1 1 c 3 = 0
    · by_cases g1 : c = L
      · have := nx 0 (by rw [if_neg (fun q => q.2 g1)])
        have eA1 : (A 4 c = A 4 L) = True := eA.trans (eq_true g1)
        simp (config := {decide := true}) only [vRf_r, vRf_n, vI_i, vL_l, vD_d, pI_i, pR_r, pR_n, vZ_0, vZ_1, ct_i, ct_r, ct_n, ct_l, ct_d, csum_n, csum_c, kt_v, kt_n, kt_e, oc_n, oc_i, oc_r, oc_l, oc_u, oc_d, true_and, and_true, Bool.and_true, Bool.true_and, ne_eq, not_false_eq_true, not_true_eq_false, implies_true, false_imp, true_imp_iff, hsz_put, hsl_put, hln_put, hty_put, hsz_new, hsl_new, hln_new, hty_new, Nat.zero_add, Nat.add_zero, eq_self, decide_true, t32_0, t32_1, t32_2, t32_3, t32_4, t32_5, t32_6, hv_same, hv_kne, hv_tne, hv_ntne, hv_nsame, hv_ctne, hty_cpy, hln_cpy, hsz_cpy, hsl_cpy, vrn, vnr, vrr, A115_110, A115_115, A115_118, A115_119, A115_124, A115_124r, A115_127, A115_128, A115_129, A115_130, A115_133, A115_134, A115_137, A115_140, A115_141, A115_142, A115_145, A115_148, A115_149, A115_152, A115_153, A115_156, A115_157, A115_160, A61_0, A61_1, A61_4, A61_5, A61_8, A61_9, hi1, e1, e2, e3, e7, r5tb h2 hcn, r5gb h2 hcn, r5nb h2 hcn, r5mb h2 hcn, r5eb h2 hcn, r5db h2 hcn, r5vb h2 hcn, r5lb h2 hcn, r5pb h2 hcn, r6tb h2 hcn, r60b h2 hcn, r61b h2 hcn, r62b h2 hcn, r63b h2 hcn, r7tb h2 hcn, r7lb h2 hcn, r8tb h2 hcn, r8lb h2 hcn, r9tb h2 hcn, r9lb h2 hcn, r10tb h2 hcn, r10lb h2 hcn, rgBA h2, r1tb h2, r10_b h2, r11_b h2, r13_b h2, r14_b h2, r1sb h2, rgBA h2, hl, eG, eA1, g0, if_true]
        exact this
      · have := nx 1 (by rw [if_pos ⟨g0, g1⟩])
        have eA1 : (A 4 c = A 4 L) = False := eA.trans (eq_false g1)
        simp (config := {decide := true}) only [vRf_r, vRf_n, vI_i, vL_l, vD_d, pI_i, pR_r, pR_n, vZ_0, vZ_1, ct_i, ct_r, ct_n, ct_l, ct_d, csum_n, csum_c, kt_v, kt_n, kt_e, oc_n, oc_i, oc_r, oc_l, oc_u, oc_d, true_and, and_true, Bool.and_true, Bool.true_and, ne_eq, not_false_eq_true, not_true_eq_false, implies_true, false_imp, true_imp_iff, hsz_put, hsl_put, hln_put, hty_put, hsz_new, hsl_new, hln_new, hty_new, Nat.zero_add, Nat.add_zero, eq_self, decide_true, t32_0, t32_1, t32_2, t32_3, t32_4, t32_5, t32_6, hv_same, hv_kne, hv_tne, hv_ntne, hv_nsame, hv_ctne, hty_cpy, hln_cpy, hsz_cpy, hsl_cpy, vrn, vnr, vrr, A115_110, A115_115, A115_118, A115_119, A115_124, A115_124r, A115_127, A115_128, A115_129, A115_130, A115_133, A115_134, A115_137, A115_140, A115_141, A115_142, A115_145, A115_148, A115_149, A115_152, A115_153, A115_156, A115_157, A115_160, A61_0, A61_1, A61_4, A61_5, A61_8, A61_9, hi1, e1, e2, e3, e7, r5tb h2 hcn, r5gb h2 hcn, r5nb h2 hcn, r5mb h2 hcn, r5eb h2 hcn, r5db h2 hcn, r5vb h2 hcn, r5lb h2 hcn, r5pb h2 hcn, r6tb h2 hcn, r60b h2 hcn, r61b h2 hcn, r62b h2 hcn, r63b h2 hcn, r7tb h2 hcn, r7lb h2 hcn, r8tb h2 hcn, r8lb h2 hcn, r9tb h2 hcn, r9lb h2 hcn, r10tb h2 hcn, r10lb h2 hcn, rgBA h2, r1tb h2, r10_b h2, r11_b h2, r13_b h2, r14_b h2, r1sb h2, rgBA h2, hl, eG, eA1, g0, if_true]
        exact this
    · have := nx 0 (by rw [if_neg (fun q => g0 q.1)])
      simp (config := {decide := true}) only [vRf_r, vRf_n, vI_i, vL_l, vD_d, pI_i, pR_r, pR_n, vZ_0, vZ_1, ct_i, ct_r, ct_n, ct_l, ct_d, csum_n, csum_c, kt_v, kt_n, kt_e, oc_n, oc_i, oc_r, oc_l, oc_u, oc_d, true_and, and_true, Bool.and_true, Bool.true_and, ne_eq, not_false_eq_true, not_true_eq_false, implies_true, false_imp, true_imp_iff, hsz_put, hsl_put, hln_put, hty_put, hsz_new, hsl_new, hln_new, hty_new, Nat.zero_add, Nat.add_zero, eq_self, decide_true, t32_0, t32_1, t32_2, t32_3, t32_4, t32_5, t32_6, hv_same, hv_kne, hv_tne, hv_ntne, hv_nsame, hv_ctne, hty_cpy, hln_cpy, hsz_cpy, hsl_cpy, vrn, vnr, vrr, A115_110, A115_115, A115_118, A115_119, A115_124, A115_124r, A115_127, A115_128, A115_129, A115_130, A115_133, A115_134, A115_137, A115_152, A115_153, A115_156, A115_157, A115_160, A61_0, A61_1, A61_4, A61_5, A61_8, A61_9, hi1, e1, e2, e3, e7, r5tb h2 hcn, r5gb h2 hcn, r5nb h2 hcn, r5mb h2 hcn, r5eb h2 hcn, r5db h2 hcn, r5vb h2 hcn, r5lb h2 hcn, r5pb h2 hcn, r6tb h2 hcn, r60b h2 hcn, r61b h2 hcn, r62b h2 hcn, r63b h2 hcn, r7tb h2 hcn, r7lb h2 hcn, r8tb h2 hcn, r8lb h2 hcn, r9tb h2 hcn, r9lb h2 hcn, r10tb h2 hcn, r10lb h2 hcn, rgBA h2, r1tb h2, r10_b h2, r11_b h2, r13_b h2, r14_b h2, r1sb h2, rgBA h2, hl, eG, g0, if_true]
      exact this
theorem WI_mmN (h : WI z) {c : Nat} (hk : c < zn z) : WI (mmN z c) := by
  unfold mmN
  split
  · exact WI_move h hk
  · exact h
theorem mvF_2 : ∀ m (z : ZT) c s, (mvF k z c m s).2 = z.2 := by
  intro m
  induction m with
  | zero => intro z c s; rfl
  | succ m ih =>
    intro z c s
    unfold mvF
    split
    · split
      · exact ih _ _ _
      · exact ih _ _ _
    · rfl
theorem mv1Z_2 (z : ZT) (k : Nat) : (mv1Z z k).2 = z.2 := by
  unfold mv1Z
  split
  · exact mvP_2 z k
  · split
    · rfl
    · exact mvP_2 z k
theorem leaveZ_2 (z : ZT) (k : Nat) : (leaveZ z k).2 = z.2 := by
  have e : (lvD k (lvF k (lv1Z z k) 0 (zf z)) 0 6).2 = z.2 := (lvD_2 _ _ _).trans ((lvF_2 _ _ _).trans rfl)
  unfold leaveZ
  by_cases q : z.1 0 0 4 = Int32.ofNat k
  · rw [if_pos q, zs_2, zs_2]; exact e
  · rw [if_neg q]; exact e
theorem moveZ_2 (z : ZT) (k : Nat) : (moveZ z k).2 = z.2 := by
  unfold moveZ
  split
  · exact (mvF_2 _ _ _ _).trans (mv1Z_2 z k)
  · exact leaveZ_2 z k
theorem mmN_2 (z : ZT) (c : Nat) : (mmN z c).2 = z.2 := by
  unfold mmN
  split
  · exact moveZ_2 z c
  · rfl
theorem mm_loop {σ0 : AH} (hn : nIn A B (hsz σ0)) (hgB : gB g ≤ hsz σ0) (hc : hsz σ0 + 4 ≤ gC g) (hs : hsl σ0 + 16 ≤ gS g) : ∀ m c z1 σ1 l2, c + m = zn z1 → WI z1 → St g A B B σ0 σ1 z1 (1 + c) (4 + 4 * c) → isI g σ1 (hsz σ0) (A 2 0) c → (∀ σ', St g A B B σ0 σ' (mmF z1 c m) 4 16 → Q (.inl none) σ') → aw g 115 196 [some (.ref (A 1 0)), some (.ref (hsz σ0)), l2] [] σ1 Q := by
  intro m
  induction m with
  | zero =>
    intro c z1 σ1 l2 hc0 hW S hi hQ
    have e1 := fun Q' => l_hasNext (Q := Q') (rLgb S.1) hi (by omega)
    have e2 : (c < zn z1) = False := eq_false (by omega)
    have n3 := hW.1.1
    simp (config := {decide := true}) only [vRf_r, vRf_n, vI_i, vL_l, vD_d, pI_i, pR_r, pR_n, vZ_0, vZ_1, ct_i, ct_r, ct_n, ct_l, ct_d, csum_n, csum_c, kt_v, kt_n, kt_e, oc_n, oc_i, oc_r, oc_l, oc_u, oc_d, true_and, and_true, Bool.and_true, Bool.true_and, ne_eq, not_false_eq_true, not_true_eq_false, implies_true, false_imp, true_imp_iff, hsz_put, hsl_put, hln_put, hty_put, hsz_new, hsl_new, hln_new, hty_new, Nat.zero_add, Nat.add_zero, eq_self, decide_true, t32_0, t32_1, t32_2, t32_3, t32_4, t32_5, t32_6, hv_same, hv_kne, hv_tne, hv_ntne, hv_nsame, hv_ctne, hty_cpy, hln_cpy, hsz_cpy, hsl_cpy, vrn, vnr, vrr, A115_196, A115_197, A115_202, A115_230, hi.1, e1, e2, if_false]
    exact hQ σ1 (St_mono S (by omega) (by omega))
  | succ m ih =>
    intro c z1 σ1 l2 hc0 hW S hi hQ
    have hcn : c < zn z1 := by omega
    have n3 := hW.1.1
    have e1 := fun Q' => l_hasNext (Q := Q') (rLgb S.1) hi (by omega)
    have e2 : (c < zn z1) = True := eq_true hcn
    have e3 := fun Q' => l_next (Q := Q') (rLgb S.1) hi (by omega)
    have T := St_nx S hi hn hgB
    have hi1 := hi.1
    have hi2 := nxH_isI hi
    have e7 : (∃ t, t ∈ [5] ∧ some 5 = some t) = True := eq_true ⟨5, by decide, rfl⟩
    rw [A115_196]
    generalize nxH σ1 (hsz σ0) c = σ2 at *
    have h2 := T.1
    by_cases g0 : z1.1 1 c 30 = 1
    · have ez : mmN z1 c = moveZ z1 c := if_pos g0
      have d1 := T.2.2.2.1
      have d2 := T.2.2.2.2.2.1
      have d3 := T.2.2.1
      simp (config := {decide := true}) only [vRf_r, vRf_n, vI_i, vL_l, vD_d, pI_i, pR_r, pR_n, vZ_0, vZ_1, ct_i, ct_r, ct_n, ct_l, ct_d, csum_n, csum_c, kt_v, kt_n, kt_e, oc_n, oc_i, oc_r, oc_l, oc_u, oc_d, true_and, and_true, Bool.and_true, Bool.true_and, ne_eq, not_false_eq_true, not_true_eq_false, implies_true, false_imp, true_imp_iff, hsz_put, hsl_put, hln_put, hty_put, hsz_new, hsl_new, hln_new, hty_new, Nat.zero_add, Nat.add_zero, eq_self, decide_true, t32_0, t32_1, t32_2, t32_3, t32_4, t32_5, t32_6, hv_same, hv_kne, hv_tne, hv_ntne, hv_nsame, hv_ctne, hty_cpy, hln_cpy, hsz_cpy, hsl_cpy, vrn, vnr, vrr, A115_197, A115_202, A115_205, A115_206, A115_211, A115_211r, A115_214, A115_215, A115_216, A115_219, A115_222, A115_223, A115_224, A194_0, A194_1, A194_4, A194_7, A194_8, A194_11, A194_12, hi1, e1, e2, e3, e7, r5tb h2 hcn, r5gb h2 hcn, r5nb h2 hcn, r5mb h2 hcn, r5eb h2 hcn, r5db h2 hcn, r5vb h2 hcn, r5lb h2 hcn, r5pb h2 hcn, r6tb h2 hcn, r60b h2 hcn, r61b h2 hcn, r62b h2 hcn, r63b h2 hcn, r7tb h2 hcn, r7lb h2 hcn, r8tb h2 hcn, r8lb h2 hcn, r9tb h2 hcn, r9lb h2 hcn, r10tb h2 hcn, r10lb h2 hcn, rgBA h2, r1tb h2, r10_b h2, r11_b h2, r13_b h2, r14_b h2, r1sb h2, rgBA h2, g0, if_true]
      refine c_move h2 hcn hW.2.1 hW.2.2.1 g0 (by omega) (by omega) ?_
      intro σ3 S3
      have i3 := isI_St (r := 2) hi2 h2 S3 hn (Or.inl rfl)
      have S4 := St_mono (c' := 1 + (c + 1)) (s' := 4 + 4 * (c + 1)) (St_trans T S3) (by omega) (by omega)
      simp (config := {decide := true}) only [vRf_r, vRf_n, vI_i, vL_l, vD_d, pI_i, pR_r, pR_n, vZ_0, vZ_1, ct_i, ct_r, ct_n, ct_l, ct_d, csum_n, csum_c, kt_v, kt_n, kt_e, oc_n, oc_i, oc_r, oc_l, oc_u, oc_d, true_and, and_true, Bool.and_true, Bool.true_and, ne_eq, not_false_eq_true, not_true_eq_false, implies_true, false_imp, true_imp_iff, hsz_put, hsl_put, hln_put, hty_put, hsz_new, hsl_new, hln_new, hty_new, Nat.zero_add, Nat.add_zero, eq_self, decide_true, t32_0, t32_1, t32_2, t32_3, t32_4, t32_5, t32_6, hv_same, hv_kne, hv_tne, hv_ntne, hv_nsame, hv_ctne, hty_cpy, hln_cpy, hsz_cpy, hsl_cpy, vrn, vnr, vrr, A115_227]
      refine ih (c + 1) (moveZ z1 c) σ3 _ ?_ (WI_move hW hcn) S4 i3 (fun σ' S5 => hQ σ' ?_)
      · unfold zn; rw [moveZ_2]; exact (by omega : c + 1 + m = zn z1)
      · rw [show mmF z1 c (m + 1) = mmF (mmN z1 c) (c + 1) m from rfl, ez]; exact S5
    · have ez : mmN z1 c = z1 := if_neg g0
      have := ih (c + 1) z1 σ2 (some (.ref (A 4 c))) (by omega) hW (St_mono T (by omega) (by omega)) hi2 (fun σ' S5 => hQ σ' (by
        rw [show mmF z1 c (m + 1) = mmF (mmN z1 c) (c + 1) m from rfl, ez]; exact S5))
      simp (config := {decide := true}) only [vRf_r, vRf_n, vI_i, vL_l, vD_d, pI_i, pR_r, pR_n, vZ_0, vZ_1, ct_i, ct_r, ct_n, ct_l, ct_d, csum_n, csum_c, kt_v, kt_n, kt_e, oc_n, oc_i, oc_r, oc_l, oc_u, oc_d, true_and, and_true, Bool.and_true, Bool.true_and, ne_eq, not_false_eq_true, not_true_eq_false, implies_true, false_imp, true_imp_iff, hsz_put, hsl_put, hln_put, hty_put, hsz_new, hsl_new, hln_new, hty_new, Nat.zero_add, Nat.add_zero, eq_self, decide_true, t32_0, t32_1, t32_2, t32_3, t32_4, t32_5, t32_6, hv_same, hv_kne, hv_tne, hv_ntne, hv_nsame, hv_ctne, hty_cpy, hln_cpy, hsz_cpy, hsl_cpy, vrn, vnr, vrr, A115_197, A115_202, A115_205, A115_206, A115_211, A115_211r, A115_214, A115_215, A115_216, A115_219, A115_227, A194_0, A194_1, A194_4, A194_7, A194_8, A194_11, A194_12, hi1, e1, e2, e3, e7, r5tb h2 hcn, r5gb h2 hcn, r5nb h2 hcn, r5mb h2 hcn, r5eb h2 hcn, r5db h2 hcn, r5vb h2 hcn, r5lb h2 hcn, r5pb h2 hcn, r6tb h2 hcn, r60b h2 hcn, r61b h2 hcn, r62b h2 hcn, r63b h2 hcn, r7tb h2 hcn, r7lb h2 hcn, r8tb h2 hcn, r8lb h2 hcn, r9tb h2 hcn, r9lb h2 hcn, r10tb h2 hcn, r10lb h2 hcn, rgBA h2, r1tb h2, r10_b h2, r11_b h2, r13_b h2, r14_b h2, r1sb h2, rgBA h2, g0, if_true, if_false]
      exact this
end TICK
