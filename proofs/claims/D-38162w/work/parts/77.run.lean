/-! a whole tick, and runs -/
def tk1Z (z : ZT) : ZT := twF (zs z 0 0 2 (z.1 0 0 2 + 1)) 0 (zn z)
def lt1Z (z : ZT) (L : Nat) : ZT := stF L (zs z 0 0 3 (Int32.ofNat L)) 0 (zn z)
def lt2Z (z : ZT) (L : Nat) : ZT := zs (lt1Z z L) 1 L 9 ((lt1Z z L).1 1 L 9 - 1)
def pickZ (z : ZT) : Option Nat → ZT
  | none => zs (zs z 0 0 3 (-1)) 0 0 7 (z.1 0 0 7 + 1)
  | some L => goZ (lt2Z z L) L
noncomputable def tickZ (z : ZT) : ZT := mmF (deviceZ (pickZ (chosenZ (tk1Z z)).1 (chosenZ (tk1Z z)).2)) 0 (zn z)
noncomputable def tkF : ZT → Nat → ZT
  | z, 0 => z
  | z, n + 1 => tkF (tickZ z) n
def doF (z : ZT) : Nat → Nat → Int32 → Int32
  | _, 0, a => a
  | c, m + 1, a => doF z (c + 1) m (a + z.1 1 c 10)
def doZ (z : ZT) : Int32 := doF z 0 (zn z) 0
section RUN
variable {g : GC} {A B : Nat → Nat → Nat} {σ σ' : AH} {z : ZT} {k p : Nat} {Q : AQ}
theorem mcF_0 {z : ZT} : ∀ m c b, (∀ x, b = some x → z.1 1 x 3 = 0) → ∀ x, mcF z c m b = some x → z.1 1 x 3 = 0 := by
  intro m
  induction m with
  | zero => intro c b hb x hx; exact hb x hx
  | succ m ih =>
    intro c b hb x hx
    refine ih (c + 1) (mcN z c b) ?_ x hx
    intro y hy
    cases b with
    | none =>
      unfold mcN at hy
      simp only at hy
      split at hy
      · rename_i q; rw [← Option.some.inj hy]; exact q
      · cases hy
    | some b =>
      unfold mcN at hy
      simp only at hy
      split at hy
      · rename_i q; rw [← Option.some.inj hy]; exact q.1
      · exact hb y hy
theorem chosenZ_2 (z : ZT) : (chosenZ z).1.2 = z.2 := by
  unfold chosenZ
  split
  · rfl
  · split
    · rfl
    · exact rfF_2 _ _ _
theorem chosenZ_ok {z : ZT} {L : Nat} (h : (chosenZ z).2 = some L) : L < zn z ∧ (chosenZ z).1.1 1 L 3 = 0 := by
  unfold chosenZ at h ⊢
  cases hm : mcZ z with
  | none => rw [hm] at h; cases h
  | some b =>
    rw [hm] at h
    dsimp only at h ⊢
    by_cases q : 0 < z.1 1 b 9
    · rw [if_pos q] at h ⊢
      have e : b = L := Option.some.inj h
      subst e
      exact ⟨mcF_lt _ _ _ (by omega) (fun x hx => by cases hx) _ hm, mcF_0 _ _ _ (fun x hx => by cases hx) _ hm⟩
    · rw [if_neg q] at h ⊢
      have h2 : mcZ (refillZ z) = some L := h
      have n2 : zn (refillZ z) = zn z := by unfold zn refillZ; rw [rfF_2]
      refine ⟨?_, mcF_0 _ _ _ (fun x hx => by cases hx) _ h2⟩
      have := mcF_lt (n := zn (refillZ z)) _ _ _ (by unfold mcZ at h2; omega) (fun x hx => by cases hx) _ h2
      omega
theorem stF_o (L : Nat) : ∀ m (z : ZT) c a b j, a ≠ 1 ∨ j ≠ 11 → (stF L z c m).1 a b j = z.1 a b j := by
  intro m
  induction m with
  | zero => intro z c a b j _; rfl
  | succ m ih =>
    intro z c a b j h
    refine (ih _ _ a b j h).trans ?_
    unfold stN
    rcases h with h | h
    · rw [zs_k _ h]
    · rw [zs_j _ h]
theorem lt2Z_2 (z : ZT) (L : Nat) : (lt2Z z L).2 = z.2 := by
  unfold lt2Z lt1Z; rw [zs_2, stF_2]; rfl
theorem WI_lt2 (h : WI z) {L : Nat} (hL : L < zn z) : WI (lt2Z z L) := WI_zs (WI_stF L _ _ _ (WI_la h (Or.inr ⟨L, hL, rfl⟩))) rfl
theorem workZ_n2 (z : ZT) (k : Nat) (t : Int32) : (finishZ z k t).2 = z.2 := workZ_2 z k t
theorem touchZ_2 (z : ZT) (k : Nat) : (touchZ z k).2 = z.2 := by
  unfold touchZ
  split
  · rw [workZ_n2]; split <;> rfl
  · split
    · unfold fetchZ
      dsimp only
      split
      · rw [zs_2, zs_2, zs_2, zs_2, zs_2, zs_2, takenZ_2]; rfl
      · rw [zs_2, zs_2, zs_2, zs_2, zs_2, zs_2, zs_2, zs_2, zs_2, zs_2, takenZ_2]; rfl
    · rfl
theorem logZ_n' (z : ZT) (k : Nat) (t : Int32) : zn (logZ z k t) = zn z ∧ zf (logZ z k t) = zf z ∧ (logZ z k t).2 2 = z.2 2 ∧ (logZ z k t).2 4 = z.2 4 := by
  unfold logZ
  split
  · split
    · exact ⟨rfl, rfl, rfl, rfl⟩
    · exact ⟨by unfold zn; rw [zl_k _ (by decide)]; rfl, by unfold zf; rw [zl_k _ (by decide)]; rfl, by rw [zl_k _ (by decide)]; rfl, by rw [zl_k _ (by decide)]; rfl⟩
  · exact ⟨rfl, rfl, rfl, rfl⟩
theorem goZ_n (z : ZT) (k : Nat) : zn (goZ z k) = zn z ∧ zf (goZ z k) = zf z ∧ (goZ z k).2 2 = z.2 2 ∧ (goZ z k).2 4 = z.2 4 := by
  have e : ∀ z1 : ZT, z1.2 = z.2 → zn z1 = zn z ∧ zf z1 = zf z ∧ z1.2 2 = z.2 2 ∧ z1.2 4 = z.2 4 := fun z1 h => by unfold zn zf; rw [h]; exact ⟨rfl, rfl, rfl, rfl⟩
  have tr : ∀ z1 z2 : ZT, z2.2 = z1.2 → (zn z1 = zn z ∧ zf z1 = zf z ∧ z1.2 2 = z.2 2 ∧ z1.2 4 = z.2 4) → zn z2 = zn z ∧ zf z2 = zf z ∧ z2.2 2 = z.2 2 ∧ z2.2 4 = z.2 4 := fun z1 z2 h q => by unfold zn zf at q ⊢; rw [h]; exact q
  unfold goZ
  split
  · exact e _ (touchZ_2 z k)
  · split
    · refine e _ ?_
      unfold sendZ
      split
      · rfl
      · rw [workZ_n2, zs_2]; split <;> rfl
    · split
      · unfold awaitZ
        split
        · exact e _ rfl
        · exact tr _ _ (workZ_n2 _ _ _) (logZ_n' _ _ _)
      · split
        · exact tr _ _ (workZ_n2 _ _ _) (logZ_n' _ _ _)
        · split
          · exact e _ (workZ_n2 _ _ _)
          · exact e _ (workZ_n2 _ _ _)
theorem dvF_2 : ∀ m (z : ZT) c, (dvF z c m).2 = z.2 := by
  intro m
  induction m with
  | zero => intro z c; rfl
  | succ m ih =>
    intro z c
    unfold dvF
    split
    · rfl
    · exact ih _ _
theorem deviceZ_2 (z : ZT) : (deviceZ z).2 = z.2 := by
  have e : (if z.1 0 0 4 ≠ -1 ∧ ¬ (z.1 0 0 2 - z.1 0 0 5 < 3) then dv1Z z (z.1 0 0 4).toNatClampNeg else z).2 = z.2 := by
    split
    · exact dv1Z_2 _ _
    · rfl
  unfold deviceZ
  generalize (if z.1 0 0 4 ≠ -1 ∧ ¬ (z.1 0 0 2 - z.1 0 0 5 < 3) then dv1Z z (z.1 0 0 4).toNatClampNeg else z) = z1 at e ⊢
  unfold dv2Z
  split
  · rw [dvF_2]; exact e
  · exact e
theorem mmF_2 : ∀ m (z : ZT) c, (mmF z c m).2 = z.2 := by
  intro m
  induction m with
  | zero => intro z c; rfl
  | succ m ih => intro z c; exact (ih _ _).trans (mmN_2 z c)
theorem WI_mmF : ∀ m (z : ZT) c, WI z → c + m ≤ zn z → WI (mmF z c m) := by
  intro m
  induction m with
  | zero => intro z c h _; exact h
  | succ m ih => intro z c h hc; exact ih _ _ (WI_mmN h (by omega)) (by unfold zn; rw [mmN_2]; exact (by omega : c + 1 + m ≤ zn z))
theorem tk1Z_2 (z : ZT) : (tk1Z z).2 = z.2 := by unfold tk1Z; rw [twF_2]; rfl
theorem WI_tk1 (h : WI z) : WI (tk1Z z) := WI_twF _ _ _ (WI_zs h rfl) (by show 0 + zn z ≤ zn z; omega)
theorem pickZ_n (z : ZT) (o : Option Nat) : zn (pickZ z o) = zn z ∧ zf (pickZ z o) = zf z ∧ (pickZ z o).2 2 = z.2 2 ∧ (pickZ z o).2 4 = z.2 4 := by
  cases o with
  | none => exact ⟨rfl, rfl, rfl, rfl⟩
  | some L =>
    have q := goZ_n (lt2Z z L) L
    unfold zn zf at q ⊢
    rw [lt2Z_2] at q
    exact q
theorem WI_pick (h : WI z) {o : Option Nat} (ho : ∀ L, o = some L → L < zn z ∧ z.1 1 L 3 = 0) : WI (pickZ z o) := by
  cases o with
  | none => exact WI_zs (WI_la h (Or.inl rfl)) rfl
  | some L =>
    obtain ⟨h1, h2⟩ := ho L rfl
    have w := WI_lt2 h h1
    have hk : L < zn (lt2Z z L) := by unfold zn; rw [lt2Z_2]; exact h1
    have e : (lt2Z z L).1 1 L 3 = 0 := by
      unfold lt2Z lt1Z; rw [zs_j _ (by decide), stF_o _ _ _ _ _ _ _ (Or.inr (by decide)), zs_k _ (by decide)]; exact h2
    exact WI_go w hk (WI_G w hk e).2
theorem WI_tick (h : WI z) : WI (tickZ z) := by
  have h1 := WI_tk1 h
  have h2 := WI_chosen h1
  have n1 : zn (tk1Z z) = zn z := by unfold zn; rw [tk1Z_2]
  have n2 : zn (chosenZ (tk1Z z)).1 = zn z := by rw [← n1]; unfold zn; rw [chosenZ_2]
  have h3 := WI_pick h2 (o := (chosenZ (tk1Z z)).2) (fun L hL => by
    have := chosenZ_ok hL
    exact ⟨by omega, this.2⟩)
  have h4 := WI_device h3
  refine WI_mmF _ _ _ h4 ?_
  have n3 : zn (deviceZ (pickZ (chosenZ (tk1Z z)).1 (chosenZ (tk1Z z)).2)) = zn z := by
    unfold zn; rw [deviceZ_2]; exact (pickZ_n _ _).1.trans n2
  omega
theorem tickZ_n (z : ZT) : zn (tickZ z) = zn z ∧ zf (tickZ z) = zf z ∧ (tickZ z).2 2 = z.2 2 ∧ (tickZ z).2 4 = z.2 4 := by
  have q := pickZ_n (chosenZ (tk1Z z)).1 (chosenZ (tk1Z z)).2
  unfold tickZ zn zf
  rw [mmF_2, deviceZ_2]
  unfold zn zf at q
  rw [chosenZ_2, tk1Z_2] at q
  exact q
theorem c_tick (h : RepB g A B σ z) (hW : WI z) (hc : hsz σ + 11 ≤ gC g) (hs : hsl σ + 137 ≤ gS g) (hQ : ∀ B' σ', St g A B B' σ σ' (tickZ z) 11 137 → Q (.inl none) σ') : aw g 115 0 [some (.ref (A 1 0)), none, none] [] σ Q := by
  have hn3 := hW.1.1
  have tail : ∀ z3 B3 σ3, St g A B B3 σ σ3 z3 7 121 → WI z3 → zn z3 = zn z → tickZ z = mmF (deviceZ z3) 0 (zn z) → ∀ l1 l2, aw g 115 184 [some (.ref (A 1 0)), l1, l2] [] σ3 Q := by
    intro z3 B3 σ3 S3 W3 n3 ez l1 l2
    simp (config := {decide := true}) only [vRf_r, vRf_n, vI_i, vL_l, vD_d, pI_i, pR_r, pR_n, vZ_0, vZ_1, ct_i, ct_r, ct_n, ct_l, ct_d, csum_n, csum_c, kt_v, kt_n, kt_e, oc_n, oc_i, oc_r, oc_l, oc_u, oc_d, true_and, and_true, Bool.and_true, Bool.true_and, ne_eq, not_false_eq_true, not_true_eq_false, implies_true, false_imp, true_imp_iff, hsz_put, hsl_put, hln_put, hty_put, hsz_new, hsl_new, hln_new, hty_new, Nat.zero_add, Nat.add_zero, eq_self, decide_true, t32_0, t32_1, t32_2, t32_3, t32_4, t32_5, t32_6, hv_same, hv_kne, hv_tne, hv_ntne, hv_nsame, hv_ctne, hty_cpy, hln_cpy, hsz_cpy, hsl_cpy, vrn, vnr, vrr, A115_184, A115_185, r1tb S3.1, r10_b S3.1, r11_b S3.1, r13_b S3.1, r14_b S3.1, r1sb S3.1, rgBA S3.1]
    refine c_device S3.1 (by omega) W3.2.2.1 W3.2.2.2.1 ?_
    intro σ4 S4
    have S5 := St_trans S3 S4
    have d1 := S5.2.2.2.1
    have d2 := S5.2.2.2.2.2.1
    have hgB4 := rgsb S4.1
    have t3 := (rLgb S4.1).1
    have e1 := fun Q' => l_iter (Q := Q') (rLgb S4.1) hgB4
    have hc1 : hsz σ4 + 1 ≤ gC g := by omega
    have hs1 : hsl σ4 + 4 ≤ gS g := by omega
    simp (config := {decide := true}) only [vRf_r, vRf_n, vI_i, vL_l, vD_d, pI_i, pR_r, pR_n, vZ_0, vZ_1, ct_i, ct_r, ct_n, ct_l, ct_d, csum_n, csum_c, kt_v, kt_n, kt_e, oc_n, oc_i, oc_r, oc_l, oc_u, oc_d, true_and, and_true, Bool.and_true, Bool.true_and, ne_eq, not_false_eq_true, not_true_eq_false, implies_true, false_imp, true_imp_iff, hsz_put, hsl_put, hln_put, hty_put, hsz_new, hsl_new, hln_new, hty_new, Nat.zero_add, Nat.add_zero, eq_self, decide_true, t32_0, t32_1, t32_2, t32_3, t32_4, t32_5, t32_6, hv_same, hv_kne, hv_tne, hv_ntne, hv_nsame, hv_ctne, hty_cpy, hln_cpy, hsz_cpy, hsl_cpy, vrn, vnr, vrr, A115_188, A115_189, A115_192, A115_195, r1tb S4.1, r10_b S4.1, r11_b S4.1, r13_b S4.1, r14_b S4.1, r1sb S4.1, rgBA S4.1, e1, hc1, hs1, t3]
    refine mm_loop (σ0 := σ4) (nIn_new S4.1 hc1) hgB4 (by omega) (by omega) (zn z) 0 (deviceZ z3) _ _ ?_ (WI_device W3) (St_0 S4.1 (itH_kp _ _)) (itH_isI hgB4 (hty_lt t3)) ?_
    · have : zn (deviceZ z3) = zn z3 := by unfold zn; rw [deviceZ_2]
      omega
    · intro σ6 S6
      exact hQ B3 σ6 (by rw [ez]; exact St_mono (St_trans S5 S6) (by omega) (by omega))
  have hgB := rgsb h
  have hc0 : hsz σ + 1 ≤ gC g := by omega
  have hs0 : hsl σ + 4 ≤ gS g := by omega
  have R0 := rb_m (j := 2) (v := z.1 0 0 2 + 1) h (by decide)
  have T0 := St_put (St_refl h) 1 (by decide) R0
  have t3 := (rLgb h).1
  have e1 := fun Q' => l_iter (Q := Q') (rLgb T0.1) hgB
  simp (config := {decide := true}) only [vRf_r, vRf_n, vI_i, vL_l, vD_d, pI_i, pR_r, pR_n, vZ_0, vZ_1, ct_i, ct_r, ct_n, ct_l, ct_d, csum_n, csum_c, kt_v, kt_n, kt_e, oc_n, oc_i, oc_r, oc_l, oc_u, oc_d, true_and, and_true, Bool.and_true, Bool.true_and, ne_eq, not_false_eq_true, not_true_eq_false, implies_true, false_imp, true_imp_iff, hsz_put, hsl_put, hln_put, hty_put, hsz_new, hsl_new, hln_new, hty_new, Nat.zero_add, Nat.add_zero, eq_self, decide_true, t32_0, t32_1, t32_2, t32_3, t32_4, t32_5, t32_6, hv_same, hv_kne, hv_tne, hv_ntne, hv_nsame, hv_ctne, hty_cpy, hln_cpy, hsz_cpy, hsl_cpy, vrn, vnr, vrr, A115_0, A115_1, A115_2, A115_5, A115_6, A115_7, A115_10, A115_11, A115_14, A115_17, r1tb h, r10_b h, r11_b h, r13_b h, r14_b h, r1sb h, rgBA h, e1, hc0, hs0, t3]
  refine tw_loop (σ0 := σ) (nIn_new h hc0) hgB (zn z) 0 (zs z 0 0 2 (z.1 0 0 2 + 1)) _ _ (by show 0 + zn z = zn z; omega) (St_mono (St_trans T0 (St_0 T0.1 (itH_kp _ _))) (by omega) (by omega)) (itH_isI hgB (hty_lt t3)) ?_
  intro σ1 l S1
  have S1 : St g A B B σ σ1 (tk1Z z) 1 4 := S1
  have W1 := WI_tk1 hW
  have n1 : zn (tk1Z z) = zn z := by unfold zn; rw [tk1Z_2]
  have W2 := WI_chosen W1
  have n2 : zn (chosenZ (tk1Z z)).1 = zn z := by rw [← n1]; unfold zn; rw [chosenZ_2]
  have d1 := S1.2.2.2.1
  have d2 := S1.2.2.2.2.2.1
  simp (config := {decide := true}) only [vRf_r, vRf_n, vI_i, vL_l, vD_d, pI_i, pR_r, pR_n, vZ_0, vZ_1, ct_i, ct_r, ct_n, ct_l, ct_d, csum_n, csum_c, kt_v, kt_n, kt_e, oc_n, oc_i, oc_r, oc_l, oc_u, oc_d, true_and, and_true, Bool.and_true, Bool.true_and, ne_eq, not_false_eq_true, not_true_eq_false, implies_true, false_imp, true_imp_iff, hsz_put, hsl_put, hln_put, hty_put, hsz_new, hsl_new, hln_new, hty_new, Nat.zero_add, Nat.add_zero, eq_self, decide_true, t32_0, t32_1, t32_2, t32_3, t32_4, t32_5, t32_6, hv_same, hv_kne, hv_tne, hv_ntne, hv_nsame, hv_ctne, hty_cpy, hln_cpy, hsz_cpy, hsl_cpy, vrn, vnr, vrr, A115_73, A115_74, A115_75, r1tb S1.1, r10_b S1.1, r11_b S1.1, r13_b S1.1, r14_b S1.1, r1sb S1.1, rgBA S1.1]
  refine c_chosen S1.1 (by omega) (by omega) ?_
  intro σ2 S2
  have U2 := St_trans S1 S2
  have d3 := U2.2.2.2.1
  have d4 := U2.2.2.2.2.2.1
  cases hch : (chosenZ (tk1Z z)).2 with
  | none =>
    have R3 := rb_r (j := 3) (v := -1) (w := .null) S2.1 (Or.inl rfl) gref_m.symm
    have T3 := St_put U2 1 (by decide) R3
    have R4 := rb_m (j := 7) (v := (chosenZ (tk1Z z)).1.1 0 0 7 + 1) R3 (by decide)
    have T4 := St_put T3 1 (by decide) R4
    rw [vgu_n]
    simp (config := {decide := true}) only [vRf_r, vRf_n, vI_i, vL_l, vD_d, pI_i, pR_r, pR_n, vZ_0, vZ_1, ct_i, ct_r, ct_n, ct_l, ct_d, csum_n, csum_c, kt_v, kt_n, kt_e, oc_n, oc_i, oc_r, oc_l, oc_u, oc_d, true_and, and_true, Bool.and_true, Bool.true_and, ne_eq, not_false_eq_true, not_true_eq_false, implies_true, false_imp, true_imp_iff, hsz_put, hsl_put, hln_put, hty_put, hsz_new, hsl_new, hln_new, hty_new, Nat.zero_add, Nat.add_zero, eq_self, decide_true, t32_0, t32_1, t32_2, t32_3, t32_4, t32_5, t32_6, hv_same, hv_kne, hv_tne, hv_ntne, hv_nsame, hv_ctne, hty_cpy, hln_cpy, hsz_cpy, hsl_cpy, vrn, vnr, vrr, A115_78, A115_81, A115_82, A115_85, A115_88, A115_89, A115_90, A115_93, A115_94, A115_95, A115_98, r1tb S2.1, r10_b S2.1, r11_b S2.1, r13_b S2.1, r14_b S2.1, r1sb S2.1, rgBA S2.1]
    refine tail _ _ _ (St_mono T4 (by omega) (by omega)) (WI_zs (WI_la W2 (Or.inl rfl)) rfl) n2 ?_ _ _
    unfold tickZ
    rw [hch]
    rfl
  | some L =>
    obtain ⟨L1, L2⟩ := chosenZ_ok hch
    have L3 : L < zn (chosenZ (tk1Z z)).1 := by omega
    have R3 := rb_r (j := 3) (v := Int32.ofNat L) (w := .ref (A 4 L)) S2.1 (Or.inl rfl) (gref_of (A := mix A B) (by omega)).symm
    have T3 := St_put (St_refl S2.1) 1 (by decide) R3
    have t4 := (rLgb S2.1).1
    have hgB2 := rgsb S2.1
    have e2 := fun Q' => l_iter (Q := Q') (rLgb T3.1) hgB2
    have hc2 : hsz σ2 + 1 ≤ gC g := by omega
    have hs2 : hsl σ2 + 4 ≤ gS g := by omega
    rw [vgu_s]
    simp (config := {decide := true}) only [vRf_r, vRf_n, vI_i, vL_l, vD_d, pI_i, pR_r, pR_n, vZ_0, vZ_1, ct_i, ct_r, ct_n, ct_l, ct_d, csum_n, csum_c, kt_v, kt_n, kt_e, oc_n, oc_i, oc_r, oc_l, oc_u, oc_d, true_and, and_true, Bool.and_true, Bool.true_and, ne_eq, not_false_eq_true, not_true_eq_false, implies_true, false_imp, true_imp_iff, hsz_put, hsl_put, hln_put, hty_put, hsz_new, hsl_new, hln_new, hty_new, Nat.zero_add, Nat.add_zero, eq_self, decide_true, t32_0, t32_1, t32_2, t32_3, t32_4, t32_5, t32_6, hv_same, hv_kne, hv_tne, hv_ntne, hv_nsame, hv_ctne, hty_cpy, hln_cpy, hsz_cpy, hsl_cpy, vrn, vnr, vrr, A115_78, A115_81, A115_82, A115_85, A115_101, A115_102, A115_105, A115_108, r1tb S2.1, r10_b S2.1, r11_b S2.1, r13_b S2.1, r14_b S2.1, r1sb S2.1, rgBA S2.1, e2, hc2, hs2, t4]
    refine st_loop (σ0 := σ2) (L := L) (by omega) (nIn_new S2.1 hc2) hgB2 (zn (chosenZ (tk1Z z)).1) 0 (zs (chosenZ (tk1Z z)).1 0 0 3 (Int32.ofNat L)) _ _ (by show 0 + zn (chosenZ (tk1Z z)).1 = zn (chosenZ (tk1Z z)).1; omega) (by show zn (chosenZ (tk1Z z)).1 ≤ 3; omega) (zs_at _ _ _ _ _) (St_mono (St_trans T3 (St_0 T3.1 (itH_kp _ _))) (by omega) (by omega)) (itH_isI hgB2 (hty_lt t4)) ?_
    intro σ3 l3 S3
    have S3 : St g A B B σ2 σ3 (lt1Z (chosenZ (tk1Z z)).1 L) 1 4 := S3
    have n3 : zn (lt1Z (chosenZ (tk1Z z)).1 L) = zn (chosenZ (tk1Z z)).1 := by unfold lt1Z zn; rw [stF_2]; rfl
    have L4 : L < zn (lt1Z (chosenZ (tk1Z z)).1 L) := by omega
    have e3 : (lt1Z (chosenZ (tk1Z z)).1 L).1 0 0 3 = Int32.ofNat L := by unfold lt1Z; rw [stF_o _ _ _ _ _ _ _ (Or.inl (by decide)), zs_at]
    have e4 : gref A (Int32.ofNat L) = .ref (A 4 L) := gref_of (by omega)
    have R4 := rb_g (j := 9) (v := (lt1Z (chosenZ (tk1Z z)).1 L).1 1 L 9 - 1) S3.1 L4 (by decide)
    have T4 := St_put S3 4 (by decide) R4
    have T4 : St g A B B σ2 _ (lt2Z (chosenZ (tk1Z z)).1 L) 1 4 := T4
    have W4 := WI_lt2 W2 L3
    have L5 : L < zn (lt2Z (chosenZ (tk1Z z)).1 L) := L4
    have e5 : (lt2Z (chosenZ (tk1Z z)).1 L).1 1 L 3 = 0 := by
      unfold lt2Z lt1Z; rw [zs_j _ (by decide), stF_o _ _ _ _ _ _ _ (Or.inr (by decide)), zs_k _ (by decide)]; exact L2
    have d5 := T4.2.2.2.1
    have d6 := T4.2.2.2.2.2.1
    simp (config := {decide := true}) only [vRf_r, vRf_n, vI_i, vL_l, vD_d, pI_i, pR_r, pR_n, vZ_0, vZ_1, ct_i, ct_r, ct_n, ct_l, ct_d, csum_n, csum_c, kt_v, kt_n, kt_e, oc_n, oc_i, oc_r, oc_l, oc_u, oc_d, true_and, and_true, Bool.and_true, Bool.true_and, ne_eq, not_false_eq_true, not_true_eq_false, implies_true, false_imp, true_imp_iff, hsz_put, hsl_put, hln_put, hty_put, hsz_new, hsl_new, hln_new, hty_new, Nat.zero_add, Nat.add_zero, eq_self, decide_true, t32_0, t32_1, t32_2, t32_3, t32_4, t32_5, t32_6, hv_same, hv_kne, hv_tne, hv_ntne, hv_nsame, hv_ctne, hty_cpy, hln_cpy, hsz_cpy, hsl_cpy, vrn, vnr, vrr, A115_163, A115_164, A115_167, A115_168, A115_171, A115_172, A115_173, A115_176, A115_177, A115_178, A115_181, r1tb S3.1, r10_b S3.1, r11_b S3.1, r13_b S3.1, r14_b S3.1, r1sb S3.1, rgBA S3.1, r5tb S3.1 L4, r5gb S3.1 L4, r5nb S3.1 L4, r5mb S3.1 L4, r5eb S3.1 L4, r5db S3.1 L4, r5vb S3.1 L4, r5lb S3.1 L4, r5pb S3.1 L4, r6tb S3.1 L4, r60b S3.1 L4, r61b S3.1 L4, r62b S3.1 L4, r63b S3.1 L4, r7tb S3.1 L4, r7lb S3.1 L4, r8tb S3.1 L4, r8lb S3.1 L4, r9tb S3.1 L4, r9lb S3.1 L4, r10tb S3.1 L4, r10lb S3.1 L4, rgBA S3.1, e3, e4]
    refine c_go T4.1 L5 (WI_G W4 L5 e5) (WI_g0 W4 L5).2 W4.2.1 W4.1.2.1 W4.2.2.1 (by omega) (by omega) ?_
    intro B5 σ5 S5
    simp (config := {decide := true}) only [vRf_r, vRf_n, vI_i, vL_l, vD_d, pI_i, pR_r, pR_n, vZ_0, vZ_1, ct_i, ct_r, ct_n, ct_l, ct_d, csum_n, csum_c, kt_v, kt_n, kt_e, oc_n, oc_i, oc_r, oc_l, oc_u, oc_d, true_and, and_true, Bool.and_true, Bool.true_and, ne_eq, not_false_eq_true, not_true_eq_false, implies_true, false_imp, true_imp_iff, hsz_put, hsl_put, hln_put, hty_put, hsz_new, hsl_new, hln_new, hty_new, Nat.zero_add, Nat.add_zero, eq_self, decide_true, t32_0, t32_1, t32_2, t32_3, t32_4, t32_5, t32_6, hv_same, hv_kne, hv_tne, hv_ntne, hv_nsame, hv_ctne, hty_cpy, hln_cpy, hsz_cpy, hsl_cpy, vrn, vnr, vrr]
    refine tail _ B5 σ5 (St_mono (St_trans U2 (St_trans T4 S5)) (by omega) (by omega)) (WI_go W4 L5 (WI_G W4 L5 e5).2) ?_ ?_ _ _
    · rw [(goZ_n _ _).1]; unfold zn; rw [lt2Z_2]; exact n2
    · unfold tickZ
      rw [hch]
      rfl
theorem c_doneOfAll (h : RepB g A B σ z) (hc : hsz σ + 1 ≤ gC g) (hs : hsl σ + 4 ≤ gS g) (hQ : ∀ σ', kp (fun _ => False) 1 4 σ σ' → Q (.inl (some (.int (doZ z)))) σ') : aw g 114 0 [some (.ref (A 1 0)), none, none, none] [] σ Q := by
  have hgB := rgsb h
  have loop : ∀ m c, c + m = zn z → ∀ σ1 a l3, kp (fun _ => False) 1 4 σ σ1 → isI g σ1 (hsz σ) (A 2 0) c → (∀ σ', kp (fun _ => False) 1 4 σ σ' → Q (.inl (some (.int (doF z c m a)))) σ') → aw g 114 10 [some (.ref (A 1 0)), some (.int a), some (.ref (hsz σ)), l3] [] σ1 Q := by
    intro m
    induction m with
    | zero =>
      intro c hc0 σ1 a l3 q hi hQ1
      have h1 : RepB g A B σ1 z := (St_0 h q).1
      have e1 := fun Q' => l_hasNext (Q := Q') (rLgb h1) hi (by omega)
      have e2 : (c < zn z) = False := eq_false (by omega)
      simp (config := {decide := true}) only [vRf_r, vRf_n, vI_i, vL_l, vD_d, pI_i, pR_r, pR_n, vZ_0, vZ_1, ct_i, ct_r, ct_n, ct_l, ct_d, csum_n, csum_c, kt_v, kt_n, kt_e, oc_n, oc_i, oc_r, oc_l, oc_u, oc_d, true_and, and_true, Bool.and_true, Bool.true_and, ne_eq, not_false_eq_true, not_true_eq_false, implies_true, false_imp, true_imp_iff, hsz_put, hsl_put, hln_put, hty_put, hsz_new, hsl_new, hln_new, hty_new, Nat.zero_add, Nat.add_zero, eq_self, decide_true, t32_0, t32_1, t32_2, t32_3, t32_4, t32_5, t32_6, hv_same, hv_kne, hv_tne, hv_ntne, hv_nsame, hv_ctne, hty_cpy, hln_cpy, hsz_cpy, hsl_cpy, vrn, vnr, vrr, A114_10, A114_11, A114_16, A114_39, A114_40, hi.1, e1, e2, if_false]
      exact hQ1 _ q
    | succ m ih =>
      intro c hc0 σ1 a l3 q hi hQ1
      have h1 : RepB g A B σ1 z := (St_0 h q).1
      have hcn : c < zn z := by omega
      have e1 := fun Q' => l_hasNext (Q := Q') (rLgb h1) hi (by omega)
      have e2 : (c < zn z) = True := eq_true hcn
      have e3 := fun Q' => l_next (Q := Q') (rLgb h1) hi (by omega)
      have q2 : kp (fun _ => False) 1 4 σ (nxH σ1 (hsz σ) c) := kpF_nx q (Nat.le_refl _)
      have h2 : RepB g A B (nxH σ1 (hsz σ) c) z := (St_0 h q2).1
      have hi2 := nxH_isI hi
      have hi1 := hi.1
      have e7 : (∃ t, t ∈ [5] ∧ some 5 = some t) = True := eq_true ⟨5, by decide, rfl⟩
      rw [A114_10]
      generalize nxH σ1 (hsz σ) c = σ2 at *
      have nx := ih (c + 1) (by omega) σ2 (a + z.1 1 c 10) (some (.ref (A 4 c))) q2 hi2 hQ1
      simp (config := {decide := true}) only [vRf_r, vRf_n, vI_i, vL_l, vD_d, pI_i, pR_r, pR_n, vZ_0, vZ_1, ct_i, ct_r, ct_n, ct_l, ct_d, csum_n, csum_c, kt_v, kt_n, kt_e, oc_n, oc_i, oc_r, oc_l, oc_u, oc_d, true_and, and_true, Bool.and_true, Bool.true_and, ne_eq, not_false_eq_true, not_true_eq_false, implies_true, false_imp, true_imp_iff, hsz_put, hsl_put, hln_put, hty_put, hsz_new, hsl_new, hln_new, hty_new, Nat.zero_add, Nat.add_zero, eq_self, decide_true, t32_0, t32_1, t32_2, t32_3, t32_4, t32_5, t32_6, hv_same, hv_kne, hv_tne, hv_ntne, hv_nsame, hv_ctne, hty_cpy, hln_cpy, hsz_cpy, hsl_cpy, vrn, vnr, vrr, A114_11, A114_16, A114_19, A114_20, A114_25, A114_25r, A114_28, A114_29, A114_30, A114_31, A114_34, A114_35, A114_36, hi1, e1, e2, e3, e7, r5tb h2 hcn, r5gb h2 hcn, r5nb h2 hcn, r5mb h2 hcn, r5eb h2 hcn, r5db h2 hcn, r5vb h2 hcn, r5lb h2 hcn, r5pb h2 hcn, r6tb h2 hcn, r60b h2 hcn, r61b h2 hcn, r62b h2 hcn, r63b h2 hcn, r7tb h2 hcn, r7lb h2 hcn, r8tb h2 hcn, r8lb h2 hcn, r9tb h2 hcn, r9lb h2 hcn, r10tb h2 hcn, r10lb h2 hcn, rgBA h2, if_true]
      exact nx
  have e1 := fun Q' => l_iter (Q := Q') (rLgb h) hgB
  have t3 := (rLgb h).1
  simp (config := {decide := true}) only [vRf_r, vRf_n, vI_i, vL_l, vD_d, pI_i, pR_r, pR_n, vZ_0, vZ_1, ct_i, ct_r, ct_n, ct_l, ct_d, csum_n, csum_c, kt_v, kt_n, kt_e, oc_n, oc_i, oc_r, oc_l, oc_u, oc_d, true_and, and_true, Bool.and_true, Bool.true_and, ne_eq, not_false_eq_true, not_true_eq_false, implies_true, false_imp, true_imp_iff, hsz_put, hsl_put, hln_put, hty_put, hsz_new, hsl_new, hln_new, hty_new, Nat.zero_add, Nat.add_zero, eq_self, decide_true, t32_0, t32_1, t32_2, t32_3, t32_4, t32_5, t32_6, hv_same, hv_kne, hv_tne, hv_ntne, hv_nsame, hv_ctne, hty_cpy, hln_cpy, hsz_cpy, hsl_cpy, vrn, vnr, vrr, A114_0, A114_1, A114_2, A114_3, A114_6, A114_9, r1tb h, r10_b h, r11_b h, r13_b h, r14_b h, r1sb h, rgBA h, e1, hc, hs, t3]
  exact loop (zn z) 0 (by omega) _ 0 _ (itH_kp _ _) (itH_isI hgB (hty_lt t3)) hQ
theorem WI_tkF : ∀ n (z : ZT), WI z → WI (tkF z n) := by
  intro n
  induction n with
  | zero => intro z h; exact h
  | succ n ih => intro z h; exact ih _ (WI_tick h)
theorem tkF_n : ∀ n (z : ZT), zn (tkF z n) = zn z ∧ zf (tkF z n) = zf z ∧ (tkF z n).2 2 = z.2 2 ∧ (tkF z n).2 4 = z.2 4 := by
  intro n
  induction n with
  | zero => intro z; exact ⟨rfl, rfl, rfl, rfl⟩
  | succ n ih =>
    intro z
    obtain ⟨a1, a2, a3, a4⟩ := ih (tickZ z)
    obtain ⟨b1, b2, b3, b4⟩ := tickZ_n z
    exact ⟨a1.trans b1, a2.trans b2, a3.trans b3, a4.trans b4⟩
theorem tkF_s : ∀ n (z : ZT), tkF z (n + 1) = tickZ (tkF z n) := by
  intro n
  induction n with
  | zero => intro z; rfl
  | succ n ih => intro z; exact ih (tickZ z)
/-- ticks, one behind another -/
theorem tk_loop {σ0 : AH} {n : Nat} (hn : n ≤ 100) (x : Int32) (hc : hsz σ0 + 11 * n + 1 ≤ gC g) (hs : hsl σ0 + 137 * n + 4 ≤ gS g) (hQ : ∀ B' σ', St g A B B' σ0 σ' (tkF z n) (11 * n) (137 * n) → ∀ l, aw g 113 22 [some (.ref (A 1 0)), l, some (.int x), some (.int (Int32.ofNat n))] [] σ' Q) : ∀ m c B1 σ1, c + m = n → WI (tkF z c) → St g A B B1 σ0 σ1 (tkF z c) (11 * c) (137 * c) → aw g 113 7 [some (.ref (A 1 0)), some (.int (Int32.ofNat n)), some (.int x), some (.int (Int32.ofNat c))] [] σ1 Q := by
  intro m
  induction m with
  | zero =>
    intro c B1 σ1 hcm hW S
    have ec : c = n := by omega
    subst ec
    have e1 : (Int32.ofNat c ≤ Int32.ofNat c) = True := by rw [n32_le (by omega) (by omega)]; exact eq_true (Nat.le_refl _)
    have := hQ B1 σ1 S (some (.int (Int32.ofNat c)))
    simp (config := {decide := true}) only [vRf_r, vRf_n, vI_i, vL_l, vD_d, pI_i, pR_r, pR_n, vZ_0, vZ_1, ct_i, ct_r, ct_n, ct_l, ct_d, csum_n, csum_c, kt_v, kt_n, kt_e, oc_n, oc_i, oc_r, oc_l, oc_u, oc_d, true_and, and_true, Bool.and_true, Bool.true_and, ne_eq, not_false_eq_true, not_true_eq_false, implies_true, false_imp, true_imp_iff, hsz_put, hsl_put, hln_put, hty_put, hsz_new, hsl_new, hln_new, hty_new, Nat.zero_add, Nat.add_zero, eq_self, decide_true, t32_0, t32_1, t32_2, t32_3, t32_4, t32_5, t32_6, hv_same, hv_kne, hv_tne, hv_ntne, hv_nsame, hv_ctne, hty_cpy, hln_cpy, hsz_cpy, hsl_cpy, vrn, vnr, vrr, A113_7, A113_8, A113_9, e1]
    exact this
  | succ m ih =>
    intro c B1 σ1 hcm hW S
    have e1 : (Int32.ofNat n ≤ Int32.ofNat c) = False := by rw [n32_le (by omega) (by omega)]; exact eq_false (by omega)
    have d1 := S.2.2.2.1
    have d2 := S.2.2.2.2.2.1
    rw [A113_7]
    simp (config := {decide := true}) only [vRf_r, vRf_n, vI_i, vL_l, vD_d, pI_i, pR_r, pR_n, vZ_0, vZ_1, ct_i, ct_r, ct_n, ct_l, ct_d, csum_n, csum_c, kt_v, kt_n, kt_e, oc_n, oc_i, oc_r, oc_l, oc_u, oc_d, true_and, and_true, Bool.and_true, Bool.true_and, ne_eq, not_false_eq_true, not_true_eq_false, implies_true, false_imp, true_imp_iff, hsz_put, hsl_put, hln_put, hty_put, hsz_new, hsl_new, hln_new, hty_new, Nat.zero_add, Nat.add_zero, eq_self, decide_true, t32_0, t32_1, t32_2, t32_3, t32_4, t32_5, t32_6, hv_same, hv_kne, hv_tne, hv_ntne, hv_nsame, hv_ctne, hty_cpy, hln_cpy, hsz_cpy, hsl_cpy, vrn, vnr, vrr, A113_8, A113_9, A113_12, A113_13, r1tb S.1, r10_b S.1, r11_b S.1, r13_b S.1, r14_b S.1, r1sb S.1, rgBA S.1, e1]
    refine c_tick S.1 hW (by omega) (by omega) ?_
    intro B2 σ2 S2
    have e2 := n32_inc c
    simp (config := {decide := true}) only [vRf_r, vRf_n, vI_i, vL_l, vD_d, pI_i, pR_r, pR_n, vZ_0, vZ_1, ct_i, ct_r, ct_n, ct_l, ct_d, csum_n, csum_c, kt_v, kt_n, kt_e, oc_n, oc_i, oc_r, oc_l, oc_u, oc_d, true_and, and_true, Bool.and_true, Bool.true_and, ne_eq, not_false_eq_true, not_true_eq_false, implies_true, false_imp, true_imp_iff, hsz_put, hsl_put, hln_put, hty_put, hsz_new, hsl_new, hln_new, hty_new, Nat.zero_add, Nat.add_zero, eq_self, decide_true, t32_0, t32_1, t32_2, t32_3, t32_4, t32_5, t32_6, hv_same, hv_kne, hv_tne, hv_ntne, hv_nsame, hv_ctne, hty_cpy, hln_cpy, hsz_cpy, hsl_cpy, vrn, vnr, vrr, A113_16, A113_19, e2]
    refine ih (c + 1) B2 σ2 (by omega) ?_ ?_
    · rw [tkF_s]; exact WI_tick hW
    · rw [tkF_s]; exact St_mono (St_trans S S2) (by omega) (by omega)
theorem c_run (h : RepB g A B σ z) (hW : WI z) {n : Nat} (hn : n ≤ 100) (hc : hsz σ + (11 * n + 2) ≤ gC g) (hs : hsl σ + (137 * n + 8) ≤ gS g) (hQ : ∀ B' σ', St g A B B' σ σ' (tkF z n) (11 * n + 2) (137 * n + 8) → Q (.inl (some (.int (doZ (tkF z n) - doZ z)))) σ') : aw g 113 0 [some (.ref (A 1 0)), some (.int (Int32.ofNat n)), none, none] [] σ Q := by
  simp (config := {decide := true}) only [vRf_r, vRf_n, vI_i, vL_l, vD_d, pI_i, pR_r, pR_n, vZ_0, vZ_1, ct_i, ct_r, ct_n, ct_l, ct_d, csum_n, csum_c, kt_v, kt_n, kt_e, oc_n, oc_i, oc_r, oc_l, oc_u, oc_d, true_and, and_true, Bool.and_true, Bool.true_and, ne_eq, not_false_eq_true, not_true_eq_false, implies_true, false_imp, true_imp_iff, hsz_put, hsl_put, hln_put, hty_put, hsz_new, hsl_new, hln_new, hty_new, Nat.zero_add, Nat.add_zero, eq_self, decide_true, t32_0, t32_1, t32_2, t32_3, t32_4, t32_5, t32_6, hv_same, hv_kne, hv_tne, hv_ntne, hv_nsame, hv_ctne, hty_cpy, hln_cpy, hsz_cpy, hsl_cpy, vrn, vnr, vrr, A113_0, A113_1, r1tb h, r10_b h, r11_b h, r13_b h, r14_b h, r1sb h, rgBA h]
  refine c_doneOfAll h (by omega) (by omega) ?_
  intro σ1 w1
  have S1 := St_0 h w1
  have d1 := S1.2.2.2.1
  have d2 := S1.2.2.2.2.2.1
  simp (config := {decide := true}) only [vRf_r, vRf_n, vI_i, vL_l, vD_d, pI_i, pR_r, pR_n, vZ_0, vZ_1, ct_i, ct_r, ct_n, ct_l, ct_d, csum_n, csum_c, kt_v, kt_n, kt_e, oc_n, oc_i, oc_r, oc_l, oc_u, oc_d, true_and, and_true, Bool.and_true, Bool.true_and, ne_eq, not_false_eq_true, not_true_eq_false, implies_true, false_imp, true_imp_iff, hsz_put, hsl_put, hln_put, hty_put, hsz_new, hsl_new, hln_new, hty_new, Nat.zero_add, Nat.add_zero, eq_self, decide_true, t32_0, t32_1, t32_2, t32_3, t32_4, t32_5, t32_6, hv_same, hv_kne, hv_tne, hv_ntne, hv_nsame, hv_ctne, hty_cpy, hln_cpy, hsz_cpy, hsl_cpy, vrn, vnr, vrr, A113_4, A113_5, A113_6]
  refine tk_loop (σ0 := σ1) (z := z) (n := n) hn (doZ z) (by omega) (by omega) ?_ n 0 B σ1 (by omega) hW (St_mono (St_refl S1.1) (by omega) (by omega))
  intro B' σ2 S2 l
  have d3 := S2.2.2.2.1
  have d4 := S2.2.2.2.2.2.1
  simp (config := {decide := true}) only [vRf_r, vRf_n, vI_i, vL_l, vD_d, pI_i, pR_r, pR_n, vZ_0, vZ_1, ct_i, ct_r, ct_n, ct_l, ct_d, csum_n, csum_c, kt_v, kt_n, kt_e, oc_n, oc_i, oc_r, oc_l, oc_u, oc_d, true_and, and_true, Bool.and_true, Bool.true_and, ne_eq, not_false_eq_true, not_true_eq_false, implies_true, false_imp, true_imp_iff, hsz_put, hsl_put, hln_put, hty_put, hsz_new, hsl_new, hln_new, hty_new, Nat.zero_add, Nat.add_zero, eq_self, decide_true, t32_0, t32_1, t32_2, t32_3, t32_4, t32_5, t32_6, hv_same, hv_kne, hv_tne, hv_ntne, hv_nsame, hv_ctne, hty_cpy, hln_cpy, hsz_cpy, hsl_cpy, vrn, vnr, vrr, A113_22, A113_23, r1tb S2.1, r10_b S2.1, r11_b S2.1, r13_b S2.1, r14_b S2.1, r1sb S2.1, rgBA S2.1]
  refine c_doneOfAll S2.1 (by omega) (by omega) ?_
  intro σ3 w3
  have S3 := St_0 S2.1 w3
  simp (config := {decide := true}) only [vRf_r, vRf_n, vI_i, vL_l, vD_d, pI_i, pR_r, pR_n, vZ_0, vZ_1, ct_i, ct_r, ct_n, ct_l, ct_d, csum_n, csum_c, kt_v, kt_n, kt_e, oc_n, oc_i, oc_r, oc_l, oc_u, oc_d, true_and, and_true, Bool.and_true, Bool.true_and, ne_eq, not_false_eq_true, not_true_eq_false, implies_true, false_imp, true_imp_iff, hsz_put, hsl_put, hln_put, hty_put, hsz_new, hsl_new, hln_new, hty_new, Nat.zero_add, Nat.add_zero, eq_self, decide_true, t32_0, t32_1, t32_2, t32_3, t32_4, t32_5, t32_6, hv_same, hv_kne, hv_tne, hv_ntne, hv_nsame, hv_ctne, hty_cpy, hln_cpy, hsz_cpy, hsl_cpy, vrn, vnr, vrr, A113_26, A113_27, A113_28]
  exact hQ B' σ3 (St_mono (St_trans S1 (St_trans S2 S3)) (by omega) (by omega))
end RUN
