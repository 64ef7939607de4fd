/-! moves -/
def mlF (z : ZT) (k : Nat) : Nat → Nat → Int32 → Int32
  | _, 0, a => a
  | c, m + 1, a => mlF z k (c + 1) m (a + if z.1 6 k c = 0 then 0 else 1)
def manyLeftZ (z : ZT) (k : Nat) : Int32 := if z.1 1 k 30 = 1 then mlF z k 0 6 0 else -1
def freeZ (z : ZT) (i : Nat) : ZT := zs (zs (zs z 8 i 0 (-1)) 8 i 1 (-1)) 8 i 2 (-1)
def lvF (k : Nat) : ZT → Nat → Nat → ZT
  | z, _, 0 => z
  | z, c, m + 1 => lvF k (if z.1 8 c 0 = Int32.ofNat k then freeZ z c else z) (c + 1) m
def lvD (k : Nat) : ZT → Nat → Nat → ZT
  | z, _, 0 => z
  | z, c, m + 1 => lvD k (zs (if z.1 14 k c = 2 then z else zs z 14 k c 3) 4 k c 0) (c + 1) m
def lv1Z (z : ZT) (k : Nat) : ZT := zs (zs (zs (zs z 1 k 3 4) 1 k 30 0) 1 k 12 0) 1 k 6 (-1)
def leaveZ (z : ZT) (k : Nat) : ZT := if z.1 0 0 4 = Int32.ofNat k then zs (zs (lvD k (lvF k (lv1Z z k) 0 (zf z)) 0 6) 0 0 4 (-1)) 0 0 5 (-1) else lvD k (lvF k (lv1Z z k) 0 (zf z)) 0 6
section MOVE
variable {g : GC} {A B : Nat → Nat → Nat} {σ σ' : AH} {z : ZT} {k p : Nat} {Q : AQ}
theorem c_manyLeft (h : RepB g A B σ z) (hk : k < zn z) : aw g 193 0 [some (.ref (A 4 k)), none, none] [] σ Q = Q (.inl (some (.int (manyLeftZ z k)))) σ := by
  by_cases hm : z.1 1 k 30 = 1
  · have l1 := r11tb h hk hm
    have l2 := r11lb h hk hm
    have loop : ∀ m c, c + m = 6 → ∀ a, aw g 193 4 [some (.ref (A 4 k)), some (.int a), some (.int (Int32.ofNat c))] [] σ Q = Q (.inl (some (.int (mlF z k c m a)))) σ := by
      intro m
      induction m with
      | zero =>
        intro c hc a
        have hc6 : c = 6 := by omega
        subst hc6
        have e1 : ((6 : Int32) ≤ Int32.ofNat 6) = True := eq_true (by decide)
        simp (config := {decide := true}) only [vRf_r, vRf_n, vI_i, vL_l, vD_d, pI_i, pR_r, pR_n, vZ_0, vZ_1, ct_i, ct_r, ct_n, ct_l, ct_d, csum_n, csum_c, kt_v, kt_n, kt_e, oc_n, oc_i, oc_r, oc_l, oc_u, oc_d, true_and, and_true, Bool.and_true, Bool.true_and, ne_eq, not_false_eq_true, not_true_eq_false, implies_true, false_imp, true_imp_iff, hsz_put, hsl_put, hln_put, hty_put, hsz_new, hsl_new, hln_new, hty_new, Nat.zero_add, Nat.add_zero, eq_self, decide_true, t32_0, t32_1, t32_2, t32_3, t32_4, t32_5, t32_6, hv_same, hv_kne, hv_tne, hv_ntne, hv_nsame, hv_ctne, hty_cpy, hln_cpy, hsz_cpy, hsl_cpy, vrn, vnr, vrr, A193_4, A193_5, A193_8, A193_11, A193_12, A193_14, A193_35, A193_36, A193_39, A193_42, A193_43, A193_46, A193_47, A194_0, A194_1, A194_4, A194_7, A194_8, A194_11, A194_12, r5tb h hk, r5gb h hk, r5nb h hk, r5mb h hk, r5eb h hk, r5db h hk, r5vb h hk, r5lb h hk, r5pb h hk, r6tb h hk, r60b h hk, r61b h hk, r62b h hk, r63b h hk, r7tb h hk, r7lb h hk, r8tb h hk, r8lb h hk, r9tb h hk, r9lb h hk, r10tb h hk, r10lb h hk, rgBA h, hm, e1, if_true, mlF]
      | succ m ih =>
        intro c hc a
        have e1 : ((6 : Int32) ≤ Int32.ofNat c) = False := by rw [show (6 : Int32) = Int32.ofNat 6 from rfl, n32_le (by omega) (by omega)]; exact eq_false (by omega)
        have b1 : (Int32.ofNat c < 0) = False := n32_neg (by omega)
        have b2 : (Int32.ofNat c).toNatClampNeg = c := n32_nat (by omega)
        have b3 : (c < 6) = True := eq_true (by omega)
        have b4 := n32_inc c
        have f := r11vb h hk hm (p := c) (by omega)
        rw [A193_4]
        by_cases g0 : z.1 6 k c = 0
        · have nx := ih (c + 1) (by omega) (a + 0)
          have e2 : mlF z k c (m + 1) a = mlF z k (c + 1) m (a + 0) := by rw [mlF, if_pos g0]
          rw [e2]
          simp (config := {decide := true}) only [vRf_r, vRf_n, vI_i, vL_l, vD_d, pI_i, pR_r, pR_n, vZ_0, vZ_1, ct_i, ct_r, ct_n, ct_l, ct_d, csum_n, csum_c, kt_v, kt_n, kt_e, oc_n, oc_i, oc_r, oc_l, oc_u, oc_d, true_and, and_true, Bool.and_true, Bool.true_and, ne_eq, not_false_eq_true, not_true_eq_false, implies_true, false_imp, true_imp_iff, hsz_put, hsl_put, hln_put, hty_put, hsz_new, hsl_new, hln_new, hty_new, Nat.zero_add, Nat.add_zero, eq_self, decide_true, t32_0, t32_1, t32_2, t32_3, t32_4, t32_5, t32_6, hv_same, hv_kne, hv_tne, hv_ntne, hv_nsame, hv_ctne, hty_cpy, hln_cpy, hsz_cpy, hsl_cpy, vrn, vnr, vrr, A193_5, A193_8, A193_11, A193_12, A193_14, A193_17, A193_18, A193_19, A193_22, A193_23, A193_24, A193_27, A193_28, A193_29, A193_32, A194_0, A194_1, A194_4, A194_7, A194_8, A194_11, A194_12, A61_0, A61_1, A61_4, A61_5, A61_8, A61_9, r5tb h hk, r5gb h hk, r5nb h hk, r5mb h hk, r5eb h hk, r5db h hk, r5vb h hk, r5lb h hk, r5pb h hk, r6tb h hk, r60b h hk, r61b h hk, r62b h hk, r63b h hk, r7tb h hk, r7lb h hk, r8tb h hk, r8lb h hk, r9tb h hk, r9lb h hk, r10tb h hk, r10lb h hk, rgBA h, hm, l1, l2, e1, b1, b2, b3, b4, f, g0, if_true]
          exact nx
        · have nx := ih (c + 1) (by omega) (a + 1)
          have e2 : mlF z k c (m + 1) a = mlF z k (c + 1) m (a + 1) := by rw [mlF, if_neg g0]
          rw [e2]
          simp (config := {decide := true}) only [vRf_r, vRf_n, vI_i, vL_l, vD_d, pI_i, pR_r, pR_n, vZ_0, vZ_1, ct_i, ct_r, ct_n, ct_l, ct_d, csum_n, csum_c, kt_v, kt_n, kt_e, oc_n, oc_i, oc_r, oc_l, oc_u, oc_d, true_and, and_true, Bool.and_true, Bool.true_and, ne_eq, not_false_eq_true, not_true_eq_false, implies_true, false_imp, true_imp_iff, hsz_put, hsl_put, hln_put, hty_put, hsz_new, hsl_new, hln_new, hty_new, Nat.zero_add, Nat.add_zero, eq_self, decide_true, t32_0, t32_1, t32_2, t32_3, t32_4, t32_5, t32_6, hv_same, hv_kne, hv_tne, hv_ntne, hv_nsame, hv_ctne, hty_cpy, hln_cpy, hsz_cpy, hsl_cpy, vrn, vnr, vrr, A193_5, A193_8, A193_11, A193_12, A193_14, A193_17, A193_18, A193_19, A193_22, A193_23, A193_24, A193_27, A193_28, A193_29, A193_32, A194_0, A194_1, A194_4, A194_7, A194_8, A194_11, A194_12, A61_0, A61_1, A61_4, A61_5, A61_8, A61_9, r5tb h hk, r5gb h hk, r5nb h hk, r5mb h hk, r5eb h hk, r5db h hk, r5vb h hk, r5lb h hk, r5pb h hk, r6tb h hk, r60b h hk, r61b h hk, r62b h hk, r63b h hk, r7tb h hk, r7lb h hk, r8tb h hk, r8lb h hk, r9tb h hk, r9lb h hk, r10tb h hk, r10lb h hk, rgBA h, hm, l1, l2, e1, b1, b2, b3, b4, f, g0, if_true]
          exact nx
    have nx := loop 6 0 (by omega) 0
    rw [z32_0] at nx
    have e9 : manyLeftZ z k = mlF z k 0 6 0 := if_pos hm
    rw [e9]
    simp (config := {decide := true}) only [vRf_r, vRf_n, vI_i, vL_l, vD_d, pI_i, pR_r, pR_n, vZ_0, vZ_1, ct_i, ct_r, ct_n, ct_l, ct_d, csum_n, csum_c, kt_v, kt_n, kt_e, oc_n, oc_i, oc_r, oc_l, oc_u, oc_d, true_and, and_true, Bool.and_true, Bool.true_and, ne_eq, not_false_eq_true, not_true_eq_false, implies_true, false_imp, true_imp_iff, hsz_put, hsl_put, hln_put, hty_put, hsz_new, hsl_new, hln_new, hty_new, Nat.zero_add, Nat.add_zero, eq_self, decide_true, t32_0, t32_1, t32_2, t32_3, t32_4, t32_5, t32_6, hv_same, hv_kne, hv_tne, hv_ntne, hv_nsame, hv_ctne, hty_cpy, hln_cpy, hsz_cpy, hsl_cpy, vrn, vnr, vrr, A193_0, A193_1, A193_2, A193_3]
    exact nx
  · have e9 : manyLeftZ z k = -1 := if_neg hm
    rw [e9]
    simp (config := {decide := true}) only [vRf_r, vRf_n, vI_i, vL_l, vD_d, pI_i, pR_r, pR_n, vZ_0, vZ_1, ct_i, ct_r, ct_n, ct_l, ct_d, csum_n, csum_c, kt_v, kt_n, kt_e, oc_n, oc_i, oc_r, oc_l, oc_u, oc_d, true_and, and_true, Bool.and_true, Bool.true_and, ne_eq, not_false_eq_true, not_true_eq_false, implies_true, false_imp, true_imp_iff, hsz_put, hsl_put, hln_put, hty_put, hsz_new, hsl_new, hln_new, hty_new, Nat.zero_add, Nat.add_zero, eq_self, decide_true, t32_0, t32_1, t32_2, t32_3, t32_4, t32_5, t32_6, hv_same, hv_kne, hv_tne, hv_ntne, hv_nsame, hv_ctne, hty_cpy, hln_cpy, hsz_cpy, hsl_cpy, vrn, vnr, vrr, A193_0, A193_1, A193_2, A193_3, A193_4, A193_5, A193_8, A193_35, A193_36, A193_39, A193_42, A193_43, A193_46, A193_47, A194_0, A194_1, A194_4, A194_7, A194_8, A194_11, A194_12, r5tb h hk, r5gb h hk, r5nb h hk, r5mb h hk, r5eb h hk, r5db h hk, r5vb h hk, r5lb h hk, r5pb h hk, r6tb h hk, r60b h hk, r61b h hk, r62b h hk, r63b h hk, r7tb h hk, r7lb h hk, r8tb h hk, r8lb h hk, r9tb h hk, r9lb h hk, r10tb h hk, r10lb h hk, rgBA h, hm, if_false]
theorem lvF_2 : ∀ m (z : ZT) c, (lvF k z c m).2 = z.2 := by
  intro m
  induction m with
  | zero => intro z c; rfl
  | succ m ih =>
    intro z c
    refine (ih _ _).trans ?_
    split <;> rfl
theorem lvD_2 : ∀ m (z : ZT) c, (lvD k z c m).2 = z.2 := by
  intro m
  induction m with
  | zero => intro z c; rfl
  | succ m ih =>
    intro z c
    refine (ih _ _).trans ?_
    rw [zs_2]
    split <;> rfl
theorem lvF_o : ∀ m (z : ZT) c a b j, a ≠ 8 → (lvF k z c m).1 a b j = z.1 a b j := by
  intro m
  induction m with
  | zero => intro z c a b j _; rfl
  | succ m ih =>
    intro z c a b j ha
    refine (ih _ _ a b j ha).trans ?_
    split
    · unfold freeZ; rw [zs_k _ ha, zs_k _ ha, zs_k _ ha]
    · rfl
theorem lvD_o : ∀ m (z : ZT) c a b j, a ≠ 4 → a ≠ 14 → (lvD k z c m).1 a b j = z.1 a b j := by
  intro m
  induction m with
  | zero => intro z c a b j _ _; rfl
  | succ m ih =>
    intro z c a b j ha hb
    refine (ih _ _ a b j ha hb).trans ?_
    rw [zs_k _ ha]
    split
    · rfl
    · rw [zs_k _ hb]
theorem lvF_R : ∀ m (z : ZT) c, okFr z → okFr (lvF k z c m) := by
  intro m
  induction m with
  | zero => intro z c h; exact h
  | succ m ih =>
    intro z c h
    refine ih _ _ ?_
    split
    · refine ⟨h.1, h.2.1, fun i hi => ?_⟩
      unfold freeZ okFi
      by_cases e : i = c
      · left; subst e; rw [zs_j _ (by decide), zs_j _ (by decide), zs_at]
      · rw [zs_i _ e, zs_i _ e, zs_i _ e, zs_i _ e, zs_i _ e, zs_i _ e]
        exact h.2.2 i hi
    · exact h
theorem c_leave (h : RepB g A B σ z) (hk : k < zn z) (hF : okFr z) (hR : okR z (z.1 0 0 4)) (hc : hsz σ + 1 ≤ gC g) (hs : hsl σ + 4 ≤ gS g) (hQ : ∀ σ', St g A B B σ σ' (leaveZ z k) 1 4 → Q (.inl none) σ') : aw g 130 0 [some (.ref (A 1 0)), some (.ref (A 4 k)), none, none] [] σ Q := by
  have R1 := rb_g (j := 3) (v := 4) h hk (by decide)
  have T1 := St_put (St_refl h) 4 (by decide) R1
  have R2 := rb_left0 R1 hk
  have T2 := St_put T1 4 (by decide) R2
  have R3 := rb_g (j := 12) (v := 0) R2 hk (by decide)
  have T3 := St_put T2 4 (by decide) R3
  have R4 := rb_g (j := 6) (v := -1) R3 hk (by decide)
  have T4 : St g A B B σ _ (lv1Z z k) 0 0 := St_put T3 4 (by decide) R4
  have hF1 : okFr (lv1Z z k) := okFr_zs (okFr_zs (okFr_zs (okFr_zs hF (by decide)) (by decide)) (by decide)) (by decide)
  have n1 : zn (lv1Z z k) = zn z := rfl
  have f1 : zf (lv1Z z k) = zf z := rfl
  have w4 : (lv1Z z k).1 0 0 4 = z.1 0 0 4 := by unfold lv1Z; rw [zs_k _ (by decide), zs_k _ (by decide), zs_k _ (by decide), zs_k _ (by decide)]
  have hgB := rgsb T4.1
  have hc1 : hsz (hput (hput (hput (hput σ 5 (A 4 k) 3 (.int 4)) 5 (A 4 k) 16 .null) 5 (A 4 k) 12 (.int 0)) 5 (A 4 k) 6 (.int (-1))) = hsz σ := rfl
  have hs1 : hsl (hput (hput (hput (hput σ 5 (A 4 k) 3 (.int 4)) 5 (A 4 k) 16 .null) 5 (A 4 k) 12 (.int 0)) 5 (A 4 k) 6 (.int (-1))) = hsl σ := rfl
  have e5 := fun Q' => l_iter (Q := Q') (rLfb T4.1) hgB
  have t3 := (rLfb T4.1).1
  have t3' := (rLfb h).1
  have e11_ := r11_b T4.1
  have loopD : ∀ m c, c + m = 6 → ∀ z1 σ1 l3, St g A B B σ σ1 z1 1 4 → zn z1 = zn z → z1.1 0 0 4 = z.1 0 0 4 → leaveZ z k = (if z.1 0 0 4 = Int32.ofNat k then zs (zs (lvD k z1 c m) 0 0 4 (-1)) 0 0 5 (-1) else lvD k z1 c m) → aw g 130 64 [some (.ref (A 1 0)), some (.ref (A 4 k)), some (.int (Int32.ofNat c)), l3] [] σ1 Q := by
    intro m
    induction m with
    | zero =>
      intro c hc0 z1 σ1 l3 S1 n2 w2 ez
      have hc6 : c = 6 := by omega
      subst hc6
      have e1 : ((6 : Int32) ≤ Int32.ofNat 6) = True := eq_true (by decide)
      have hR1 : okR z1 (z1.1 0 0 4) := by unfold okR zn; rw [w2]; unfold zn at n2; rw [n2]; exact hR
      have e2 := gref_r hR1 (j := k) (by omega) (by have := hF.2.1; omega) S1.1.2.1
      by_cases g0 : z.1 0 0 4 = Int32.ofNat k
      · have e3 : (gref A (z1.1 0 0 4) = .ref (A 4 k)) = True := e2.trans (eq_true (w2.trans g0))
        have R6 := rb_r (j := 4) (v := -1) (w := .null) S1.1 (Or.inr rfl) gref_m.symm
        have T6 := St_put S1 1 (by decide) R6
        have R7 := rb_m (j := 5) (v := -1) R6 (by decide)
        have T7 := St_put T6 1 (by decide) R7
        simp (config := {decide := true}) only [vRf_r, vRf_n, vI_i, vL_l, vD_d, pI_i, pR_r, pR_n, vZ_0, vZ_1, ct_i, ct_r, ct_n, ct_l, ct_d, csum_n, csum_c, kt_v, kt_n, kt_e, oc_n, oc_i, oc_r, oc_l, oc_u, oc_d, true_and, and_true, Bool.and_true, Bool.true_and, ne_eq, not_false_eq_true, not_true_eq_false, implies_true, false_imp, true_imp_iff, hsz_put, hsl_put, hln_put, hty_put, hsz_new, hsl_new, hln_new, hty_new, Nat.zero_add, Nat.add_zero, eq_self, decide_true, t32_0, t32_1, t32_2, t32_3, t32_4, t32_5, t32_6, hv_same, hv_kne, hv_tne, hv_ntne, hv_nsame, hv_ctne, hty_cpy, hln_cpy, hsz_cpy, hsl_cpy, vrn, vnr, vrr, A130_64, A130_65, A130_67, A130_83, A130_84, A130_87, A130_88, A130_91, A130_92, A130_95, A127_0, A127_1, A127_2, A127_5, A127_6, A127_7, A127_10, r1tb S1.1, r10_b S1.1, r11_b S1.1, r13_b S1.1, r14_b S1.1, r1sb S1.1, rgBA S1.1, e1, e3, gref_v, gref_c]
        exact hQ _ (by rw [ez, if_pos g0]; exact T7)
      · have e3 : (gref A (z1.1 0 0 4) = .ref (A 4 k)) = False := e2.trans (eq_false (fun e => g0 (w2.symm.trans e)))
        simp (config := {decide := true}) only [vRf_r, vRf_n, vI_i, vL_l, vD_d, pI_i, pR_r, pR_n, vZ_0, vZ_1, ct_i, ct_r, ct_n, ct_l, ct_d, csum_n, csum_c, kt_v, kt_n, kt_e, oc_n, oc_i, oc_r, oc_l, oc_u, oc_d, true_and, and_true, Bool.and_true, Bool.true_and, ne_eq, not_false_eq_true, not_true_eq_false, implies_true, false_imp, true_imp_iff, hsz_put, hsl_put, hln_put, hty_put, hsz_new, hsl_new, hln_new, hty_new, Nat.zero_add, Nat.add_zero, eq_self, decide_true, t32_0, t32_1, t32_2, t32_3, t32_4, t32_5, t32_6, hv_same, hv_kne, hv_tne, hv_ntne, hv_nsame, hv_ctne, hty_cpy, hln_cpy, hsz_cpy, hsl_cpy, vrn, vnr, vrr, A130_64, A130_65, A130_67, A130_83, A130_84, A130_87, A130_88, A130_91, A130_92, A130_95, r1tb S1.1, r10_b S1.1, r11_b S1.1, r13_b S1.1, r14_b S1.1, r1sb S1.1, rgBA S1.1, e1, e3, gref_v, gref_c]
        exact hQ _ (by rw [ez, if_neg g0]; exact S1)
    | succ m ih =>
      intro c hc0 z1 σ1 l3 S1 n2 w2 ez
      have e1 : ((6 : Int32) ≤ Int32.ofNat c) = False := by rw [show (6 : Int32) = Int32.ofNat 6 from rfl, n32_le (by omega) (by omega)]; exact eq_false (by omega)
      have b1 : (Int32.ofNat c < 0) = False := n32_neg (by omega)
      have b2 : (Int32.ofNat c).toNatClampNeg = c := n32_nat (by omega)
      have b3 : (c < 6) = True := eq_true (by omega)
      have b4 := n32_inc c
      have hk1 : k < zn z1 := by omega
      have R0 : RepB g A B σ1 (if z1.1 14 k c = 2 then z1 else zs z1 14 k c 3) := by
        split
        · exact S1.1
        · exact rb_mod S1.1 rfl
      have n0 : zn (if z1.1 14 k c = 2 then z1 else zs z1 14 k c 3) = zn z1 := by split <;> rfl
      have w0 : (if z1.1 14 k c = 2 then z1 else zs z1 14 k c 3).1 0 0 4 = z1.1 0 0 4 := by
        split
        · rfl
        · rw [zs_k _ (by decide)]
      have R1 := rb_dsk (k := k) (p := c) (v := 0) R0 (by omega) (by omega)
      have T1 := St_put (St_z S1 R0) 9 (by decide) R1
      have nx := ih (c + 1) (by omega) _ _ l3 T1 (by show zn (zs _ 4 k c 0) = _; exact n0.trans n2) (by rw [zs_k _ (by decide), w0, w2]) ez
      rw [A130_64]
      simp (config := {decide := true}) only [vRf_r, vRf_n, vI_i, vL_l, vD_d, pI_i, pR_r, pR_n, vZ_0, vZ_1, ct_i, ct_r, ct_n, ct_l, ct_d, csum_n, csum_c, kt_v, kt_n, kt_e, oc_n, oc_i, oc_r, oc_l, oc_u, oc_d, true_and, and_true, Bool.and_true, Bool.true_and, ne_eq, not_false_eq_true, not_true_eq_false, implies_true, false_imp, true_imp_iff, hsz_put, hsl_put, hln_put, hty_put, hsz_new, hsl_new, hln_new, hty_new, Nat.zero_add, Nat.add_zero, eq_self, decide_true, t32_0, t32_1, t32_2, t32_3, t32_4, t32_5, t32_6, hv_same, hv_kne, hv_tne, hv_ntne, hv_nsame, hv_ctne, hty_cpy, hln_cpy, hsz_cpy, hsl_cpy, vrn, vnr, vrr, A130_65, A130_67, A130_70, A130_71, A130_74, A130_75, A130_76, A130_77, A130_80, r5tb S1.1 hk1, r5gb S1.1 hk1, r5nb S1.1 hk1, r5mb S1.1 hk1, r5eb S1.1 hk1, r5db S1.1 hk1, r5vb S1.1 hk1, r5lb S1.1 hk1, r5pb S1.1 hk1, r6tb S1.1 hk1, r60b S1.1 hk1, r61b S1.1 hk1, r62b S1.1 hk1, r63b S1.1 hk1, r7tb S1.1 hk1, r7lb S1.1 hk1, r8tb S1.1 hk1, r8lb S1.1 hk1, r9tb S1.1 hk1, r9lb S1.1 hk1, r10tb S1.1 hk1, r10lb S1.1 hk1, rgBA S1.1, e1, b1, b2, b3, b4]
      exact nx
  have hnI := nIn_new T4.1 (by omega)
  have loopF : ∀ m c z1 σ1 l3, c + m = zf z → zn z1 = zn z → zf z1 = zf z → okFr z1 → z1.1 0 0 4 = z.1 0 0 4 → St g A B B σ σ1 z1 1 4 → isI g σ1 (hsz σ) (A 3 0) c → lvF k (lv1Z z k) 0 (zf z) = lvF k z1 c m → aw g 130 28 [some (.ref (A 1 0)), some (.ref (A 4 k)), some (.ref (hsz σ)), l3] [] σ1 Q := by
    intro m
    induction m with
    | zero =>
      intro c z1 σ1 l3 hc0 n2 f2 o2 w2 S1 hi ez
      have e1 := fun Q' => l_hasNext (Q := Q') (rLfb S1.1) hi (by omega)
      have e2 : (c < zf z1) = False := eq_false (by omega)
      have nx := loopD 6 0 (by omega) z1 σ1 l3 S1 n2 w2 (by unfold leaveZ; rw [ez]; rfl)
      rw [z32_0] at nx
      simp (config := {decide := true}) only [vRf_r, vRf_n, vI_i, vL_l, vD_d, pI_i, pR_r, pR_n, vZ_0, vZ_1, ct_i, ct_r, ct_n, ct_l, ct_d, csum_n, csum_c, kt_v, kt_n, kt_e, oc_n, oc_i, oc_r, oc_l, oc_u, oc_d, true_and, and_true, Bool.and_true, Bool.true_and, ne_eq, not_false_eq_true, not_true_eq_false, implies_true, false_imp, true_imp_iff, hsz_put, hsl_put, hln_put, hty_put, hsz_new, hsl_new, hln_new, hty_new, Nat.zero_add, Nat.add_zero, eq_self, decide_true, t32_0, t32_1, t32_2, t32_3, t32_4, t32_5, t32_6, hv_same, hv_kne, hv_tne, hv_ntne, hv_nsame, hv_ctne, hty_cpy, hln_cpy, hsz_cpy, hsl_cpy, vrn, vnr, vrr, A130_28, A130_29, A130_34, A130_62, A130_63, hi.1, e1, e2, if_false]
      exact nx
    | succ m ih =>
      intro c z1 σ1 l3 hc0 n2 f2 o2 w2 S1 hi ez
      have hcn : c < zf z1 := by omega
      have e1 := fun Q' => l_hasNext (Q := Q') (rLfb S1.1) hi (by omega)
      have e2 : (c < zf z1) = True := eq_true hcn
      have e3 := fun Q' => l_next (Q := Q') (rLfb S1.1) hi (by omega)
      have hit := hty_lt hi.1
      have hi1 := hi.1
      have T2 : St g A B B σ (nxH σ1 (hsz σ) c) z1 1 4 := ⟨RepC_kp1 (A := mix A B) S1.1 nxH_kp hgB hnI (fun _ => hi1), S1.2.1, by
        have := kp_then S1.2.2 (nxH_kp (σ := σ1) (it := hsz σ) (c := c)) (fun a ha e => by omega)
        rwa [Nat.add_zero, Nat.add_zero] at this⟩
      have hi2 := nxH_isI hi
      have e7 : (∃ t, t ∈ [2] ∧ some 2 = some t) = True := eq_true ⟨2, by decide, rfl⟩
      rw [A130_28]
      generalize nxH σ1 (hsz σ) c = σ3 at *
      have h3 := T2.1
      have q0 := r20_b h3 hcn
      have qt := r18tb h3 hcn
      have e0 := gref_r (okFr_R o2 hcn) (j := k) (by omega) o2.2.1 h3.2.1
      by_cases g0 : z1.1 8 c 0 = Int32.ofNat k
      · have e4 : (gref A (z1.1 8 c 0) = .ref (A 4 k)) = True := e0.trans (eq_true g0)
        have R5 := rb_f0 (v := -1) (w := .null) h3 hcn gref_m.symm
        have T5 := St_put T2 18 (by decide) R5
        have R6 := rb_f1 (v := -1) R5 hcn
        have T6 := St_put T5 18 (by decide) R6
        have R7 := rb_f2 (v := -1) R6 hcn
        have T7 := St_put T6 18 (by decide) R7
        have ez2 : lvF k z1 c (m + 1) = lvF k (freeZ z1 c) (c + 1) m := by rw [lvF, if_pos g0]
        have o3 : okFr (freeZ z1 c) := by
          have := lvF_R (k := k) 1 z1 c o2
          have e : lvF k z1 c 1 = freeZ z1 c := by rw [lvF, if_pos g0]; rfl
          rwa [e] at this
        have w5 : (freeZ z1 c).1 0 0 4 = z.1 0 0 4 := by
          unfold freeZ; rw [zs_k _ (by decide), zs_k _ (by decide), zs_k _ (by decide)]; exact w2
        have nx := ih (c + 1) (freeZ z1 c) _ (some (.ref (A 18 c))) (by omega) n2 f2 o3 w5 T7 (isI_put (isI_put (isI_put hi2 (by decide) (by decide)) (by decide) (by decide)) (by decide) (by decide)) (ez.trans ez2)
        simp (config := {decide := true}) only [vRf_r, vRf_n, vI_i, vL_l, vD_d, pI_i, pR_r, pR_n, vZ_0, vZ_1, ct_i, ct_r, ct_n, ct_l, ct_d, csum_n, csum_c, kt_v, kt_n, kt_e, oc_n, oc_i, oc_r, oc_l, oc_u, oc_d, true_and, and_true, Bool.and_true, Bool.true_and, ne_eq, not_false_eq_true, not_true_eq_false, implies_true, false_imp, true_imp_iff, hsz_put, hsl_put, hln_put, hty_put, hsz_new, hsl_new, hln_new, hty_new, Nat.zero_add, Nat.add_zero, eq_self, decide_true, t32_0, t32_1, t32_2, t32_3, t32_4, t32_5, t32_6, hv_same, hv_kne, hv_tne, hv_ntne, hv_nsame, hv_ctne, hty_cpy, hln_cpy, hsz_cpy, hsl_cpy, vrn, vnr, vrr, A130_29, A130_34, A130_37, A130_38, A130_43, A130_43r, A130_46, A130_47, A130_48, A130_51, A130_52, A130_55, A130_56, A130_59, A134_0, A134_1, A134_2, A134_3, A134_4, A134_7, A135_0, A135_1, A135_2, A135_5, A135_6, A135_7, A135_10, A135_11, A135_12, A135_15, hi1, e1, e2, e3, e4, e7, q0, qt, gref_v, gref_c, rgBA h3, if_true]
        exact nx
      · have e4 : (gref A (z1.1 8 c 0) = .ref (A 4 k)) = False := e0.trans (eq_false g0)
        have ez2 : lvF k z1 c (m + 1) = lvF k z1 (c + 1) m := by rw [lvF, if_neg g0]
        have nx := ih (c + 1) z1 _ (some (.ref (A 18 c))) (by omega) n2 f2 o2 w2 T2 hi2 (ez.trans ez2)
        simp (config := {decide := true}) only [vRf_r, vRf_n, vI_i, vL_l, vD_d, pI_i, pR_r, pR_n, vZ_0, vZ_1, ct_i, ct_r, ct_n, ct_l, ct_d, csum_n, csum_c, kt_v, kt_n, kt_e, oc_n, oc_i, oc_r, oc_l, oc_u, oc_d, true_and, and_true, Bool.and_true, Bool.true_and, ne_eq, not_false_eq_true, not_true_eq_false, implies_true, false_imp, true_imp_iff, hsz_put, hsl_put, hln_put, hty_put, hsz_new, hsl_new, hln_new, hty_new, Nat.zero_add, Nat.add_zero, eq_self, decide_true, t32_0, t32_1, t32_2, t32_3, t32_4, t32_5, t32_6, hv_same, hv_kne, hv_tne, hv_ntne, hv_nsame, hv_ctne, hty_cpy, hln_cpy, hsz_cpy, hsl_cpy, vrn, vnr, vrr, A130_29, A130_34, A130_37, A130_38, A130_43, A130_43r, A130_46, A130_47, A130_48, A130_51, A130_52, A130_59, hi1, e1, e2, e3, e4, e7, q0, qt, gref_v, gref_c, if_true]
        exact nx
  simp (config := {decide := true}) only [vRf_r, vRf_n, vI_i, vL_l, vD_d, pI_i, pR_r, pR_n, vZ_0, vZ_1, ct_i, ct_r, ct_n, ct_l, ct_d, csum_n, csum_c, kt_v, kt_n, kt_e, oc_n, oc_i, oc_r, oc_l, oc_u, oc_d, true_and, and_true, Bool.and_true, Bool.true_and, ne_eq, not_false_eq_true, not_true_eq_false, implies_true, false_imp, true_imp_iff, hsz_put, hsl_put, hln_put, hty_put, hsz_new, hsl_new, hln_new, hty_new, Nat.zero_add, Nat.add_zero, eq_self, decide_true, t32_0, t32_1, t32_2, t32_3, t32_4, t32_5, t32_6, hv_same, hv_kne, hv_tne, hv_ntne, hv_nsame, hv_ctne, hty_cpy, hln_cpy, hsz_cpy, hsl_cpy, vrn, vnr, vrr, A130_0, A130_1, A130_2, A130_5, A130_6, A130_7, A130_10, A130_11, A130_12, A130_15, A130_16, A130_17, A130_20, A130_21, A130_24, A130_27, r1tb h, r10_b h, r11_b h, r13_b h, r14_b h, r1sb h, rgBA h, r5tb h hk, r5gb h hk, r5nb h hk, r5mb h hk, r5eb h hk, r5db h hk, r5vb h hk, r5lb h hk, r5pb h hk, r6tb h hk, r60b h hk, r61b h hk, r62b h hk, r63b h hk, r7tb h hk, r7lb h hk, r8tb h hk, r8lb h hk, r9tb h hk, r9lb h hk, r10tb h hk, r10lb h hk, rgBA h, e5, e11_, hc1, hs1, hc, hs, t3, t3']
  exact loopF (zf z) 0 (lv1Z z k) _ _ (by omega) n1 f1 hF1 w4 (St_mono (St_trans T4 (St_0 T4.1 (itH_kp _ _))) (by omega) (by omega)) (itH_isI hgB (hty_lt t3)) rfl
def mvF (k : Nat) : ZT → Nat → Nat → Int32 → ZT
  | z, _, 0, _ => z
  | z, c, m + 1, s => if 0 < s then (if z.1 6 k c = 0 then mvF k z (c + 1) m s else mvF k (zs z 6 k c 0) (c + 1) m (s - 1)) else z
def bitsN : Nat → Int32 → Int32
  | 0, x => x
  | n + 1, x => bitsN n (x &&& (x - 1))
def isFew (z : ZT) (k : Nat) : Prop := ¬ (z.1 1 k 17 < manyLeftZ z k)
noncomputable def mvP (z : ZT) (k : Nat) : ZT := if z.1 1 k 3 = 3 then z else zs (zs (zs z 1 k 36 (z.1 1 k 3)) 1 k 4 (z.1 1 k 3)) 1 k 3 3
noncomputable def mv1Z (z : ZT) (k : Nat) : ZT := if ¬ (z.1 1 k 17 < manyLeftZ z k) then zs (zs (zs (mvP z k) 1 k 5 1) 1 k 20 (z.1 1 k 20 + 1)) 1 k 19 1 else if z.1 0 0 2 - z.1 1 k 18 < 12 then z else zs (zs (zs (mvP z k) 1 k 5 1) 1 k 20 (z.1 1 k 20 + 1)) 1 k 19 0
noncomputable def moveZ (z : ZT) (k : Nat) : ZT := if z.1 1 k 19 = 0 then mvF k (zs (mv1Z z k) 1 k 34 (bitsN (z.1 1 k 17).toNatClampNeg (z.1 1 k 34))) 0 6 (z.1 1 k 17) else leaveZ z k
theorem mvP_2 (z : ZT) (k : Nat) : (mvP z k).2 = z.2 := by unfold mvP; split <;> rfl
theorem mvP_j (z : ZT) (k : Nat) {a b j : Nat} (h1 : j ≠ 3) (h2 : j ≠ 4) (h3 : j ≠ 36) : (mvP z k).1 a b j = z.1 a b j := by
  unfold mvP
  split
  · rfl
  · rw [zs_j _ h1, zs_j _ h2, zs_j _ h3]
theorem c_move (h : RepB g A B σ z) (hk : k < zn z) (hF : okFr z) (hR : okR z (z.1 0 0 4)) (hm : z.1 1 k 30 = 1) (hc : hsz σ + 1 ≤ gC g) (hs : hsl σ + 4 ≤ gS g) (hQ : ∀ σ', St g A B B σ σ' (moveZ z k) 1 4 → Q (.inl none) σ') : aw g 129 0 [some (.ref (A 1 0)), some (.ref (A 4 k)), none, none, none] [] σ Q := by
  by_cases h19 : z.1 1 k 19 = 0
  · have loop : ∀ m c, c + m = 6 → ∀ z1 σ1 s l2, zn z1 = zn z → z1.1 1 k 30 = 1 → St g A B B σ σ1 z1 0 0 → moveZ z k = mvF k z1 c m s → aw g 129 88 [some (.ref (A 1 0)), some (.ref (A 4 k)), some (.int l2), some (.int s), some (.int (Int32.ofNat c))] [] σ1 Q := by
      intro m
      induction m with
      | zero =>
        intro c hc0 z1 σ1 s l2 n1 m1 S1 ez
        have hc6 : c = 6 := by omega
        subst hc6
        have e1 : ((6 : Int32) ≤ Int32.ofNat 6) = True := eq_true (by decide)
        simp (config := {decide := true}) only [vRf_r, vRf_n, vI_i, vL_l, vD_d, pI_i, pR_r, pR_n, vZ_0, vZ_1, ct_i, ct_r, ct_n, ct_l, ct_d, csum_n, csum_c, kt_v, kt_n, kt_e, oc_n, oc_i, oc_r, oc_l, oc_u, oc_d, true_and, and_true, Bool.and_true, Bool.true_and, ne_eq, not_false_eq_true, not_true_eq_false, implies_true, false_imp, true_imp_iff, hsz_put, hsl_put, hln_put, hty_put, hsz_new, hsl_new, hln_new, hty_new, Nat.zero_add, Nat.add_zero, eq_self, decide_true, t32_0, t32_1, t32_2, t32_3, t32_4, t32_5, t32_6, hv_same, hv_kne, hv_tne, hv_ntne, hv_nsame, hv_ctne, hty_cpy, hln_cpy, hsz_cpy, hsl_cpy, vrn, vnr, vrr, A129_88, A129_90, A129_92, A129_129, e1]
        exact hQ _ (by rw [ez]; exact St_mono S1 (by omega) (by omega))
      | succ m ih =>
        intro c hc0 z1 σ1 s l2 n1 m1 S1 ez
        have e1 : ((6 : Int32) ≤ Int32.ofNat c) = False := by rw [show (6 : Int32) = Int32.ofNat 6 from rfl, n32_le (by omega) (by omega)]; exact eq_false (by omega)
        have b1 : (Int32.ofNat c < 0) = False := n32_neg (by omega)
        have b2 : (Int32.ofNat c).toNatClampNeg = c := n32_nat (by omega)
        have b3 : (c < 6) = True := eq_true (by omega)
        have b4 := n32_inc c
        have hk1 : k < zn z1 := by omega
        have f := r11vb S1.1 hk1 m1 (p := c) (by omega)
        have l1 := r11tb S1.1 hk1 m1
        have l3 := r11lb S1.1 hk1 m1
        have hsub : s + (-1) = s - 1 := by rw [Int32.sub_eq_add_neg]
        rw [A129_88]
        by_cases g0 : 0 < s
        · have g1 : (s ≤ 0) = False := eq_false (fun e => by
            rw [Int32.le_iff_toInt_le] at e
            rw [Int32.lt_iff_toInt_lt] at g0
            omega)
          by_cases g2 : z1.1 6 k c = 0
          · have ez2 : mvF k z1 c (m + 1) s = mvF k z1 (c + 1) m s := by rw [mvF, if_pos g0, if_pos g2]
            have nx := ih (c + 1) (by omega) z1 σ1 s l2 n1 m1 S1 (ez.trans ez2)
            simp (config := {decide := true}) only [vRf_r, vRf_n, vI_i, vL_l, vD_d, pI_i, pR_r, pR_n, vZ_0, vZ_1, ct_i, ct_r, ct_n, ct_l, ct_d, csum_n, csum_c, kt_v, kt_n, kt_e, oc_n, oc_i, oc_r, oc_l, oc_u, oc_d, true_and, and_true, Bool.and_true, Bool.true_and, ne_eq, not_false_eq_true, not_true_eq_false, implies_true, false_imp, true_imp_iff, hsz_put, hsl_put, hln_put, hty_put, hsz_new, hsl_new, hln_new, hty_new, Nat.zero_add, Nat.add_zero, eq_self, decide_true, t32_0, t32_1, t32_2, t32_3, t32_4, t32_5, t32_6, hv_same, hv_kne, hv_tne, hv_ntne, hv_nsame, hv_ctne, hty_cpy, hln_cpy, hsz_cpy, hsl_cpy, vrn, vnr, vrr, A129_90, A129_92, A129_95, A129_96, A129_99, A129_100, A129_103, A129_105, A129_106, A129_109, A129_112, A129_113, A129_116, A129_118, A129_119, A129_120, A129_123, A129_126, r5tb S1.1 hk1, r5gb S1.1 hk1, r5nb S1.1 hk1, r5mb S1.1 hk1, r5eb S1.1 hk1, r5db S1.1 hk1, r5vb S1.1 hk1, r5lb S1.1 hk1, r5pb S1.1 hk1, r6tb S1.1 hk1, r60b S1.1 hk1, r61b S1.1 hk1, r62b S1.1 hk1, r63b S1.1 hk1, r7tb S1.1 hk1, r7lb S1.1 hk1, r8tb S1.1 hk1, r8lb S1.1 hk1, r9tb S1.1 hk1, r9lb S1.1 hk1, r10tb S1.1 hk1, r10lb S1.1 hk1, rgBA S1.1, e1, b1, b2, b3, b4, f, l1, l3, m1, g1, g2, if_true]
            exact nx
          · have ez2 : mvF k z1 c (m + 1) s = mvF k (zs z1 6 k c 0) (c + 1) m (s - 1) := by rw [mvF, if_pos g0, if_neg g2]
            have R1 := rb_left (k := k) (p := c) (v := 0) S1.1 hk1 (by omega)
            have T1 := St_put S1 11 (by decide) R1
            have nx := ih (c + 1) (by omega) (zs z1 6 k c 0) _ (s - 1) l2 n1 (by rw [zs_k _ (by decide)]; exact m1) T1 (ez.trans ez2)
            simp (config := {decide := true}) only [vRf_r, vRf_n, vI_i, vL_l, vD_d, pI_i, pR_r, pR_n, vZ_0, vZ_1, ct_i, ct_r, ct_n, ct_l, ct_d, csum_n, csum_c, kt_v, kt_n, kt_e, oc_n, oc_i, oc_r, oc_l, oc_u, oc_d, true_and, and_true, Bool.and_true, Bool.true_and, ne_eq, not_false_eq_true, not_true_eq_false, implies_true, false_imp, true_imp_iff, hsz_put, hsl_put, hln_put, hty_put, hsz_new, hsl_new, hln_new, hty_new, Nat.zero_add, Nat.add_zero, eq_self, decide_true, t32_0, t32_1, t32_2, t32_3, t32_4, t32_5, t32_6, hv_same, hv_kne, hv_tne, hv_ntne, hv_nsame, hv_ctne, hty_cpy, hln_cpy, hsz_cpy, hsl_cpy, vrn, vnr, vrr, A129_90, A129_92, A129_95, A129_96, A129_99, A129_100, A129_103, A129_105, A129_106, A129_109, A129_112, A129_113, A129_116, A129_118, A129_119, A129_120, A129_123, A129_126, r5tb S1.1 hk1, r5gb S1.1 hk1, r5nb S1.1 hk1, r5mb S1.1 hk1, r5eb S1.1 hk1, r5db S1.1 hk1, r5vb S1.1 hk1, r5lb S1.1 hk1, r5pb S1.1 hk1, r6tb S1.1 hk1, r60b S1.1 hk1, r61b S1.1 hk1, r62b S1.1 hk1, r63b S1.1 hk1, r7tb S1.1 hk1, r7lb S1.1 hk1, r8tb S1.1 hk1, r8lb S1.1 hk1, r9tb S1.1 hk1, r9lb S1.1 hk1, r10tb S1.1 hk1, r10lb S1.1 hk1, rgBA S1.1, e1, b1, b2, b3, b4, f, l1, l3, m1, g1, g2, hsub, if_true]
            exact nx
        · have g1 : (s ≤ 0) = True := eq_true (by
            rw [Int32.le_iff_toInt_le]
            rw [Int32.lt_iff_toInt_lt] at g0
            omega)
          have ez2 : mvF k z1 c (m + 1) s = z1 := by rw [mvF, if_neg g0]
          simp (config := {decide := true}) only [vRf_r, vRf_n, vI_i, vL_l, vD_d, pI_i, pR_r, pR_n, vZ_0, vZ_1, ct_i, ct_r, ct_n, ct_l, ct_d, csum_n, csum_c, kt_v, kt_n, kt_e, oc_n, oc_i, oc_r, oc_l, oc_u, oc_d, true_and, and_true, Bool.and_true, Bool.true_and, ne_eq, not_false_eq_true, not_true_eq_false, implies_true, false_imp, true_imp_iff, hsz_put, hsl_put, hln_put, hty_put, hsz_new, hsl_new, hln_new, hty_new, Nat.zero_add, Nat.add_zero, eq_self, decide_true, t32_0, t32_1, t32_2, t32_3, t32_4, t32_5, t32_6, hv_same, hv_kne, hv_tne, hv_ntne, hv_nsame, hv_ctne, hty_cpy, hln_cpy, hsz_cpy, hsl_cpy, vrn, vnr, vrr, A129_90, A129_92, A129_95, A129_96, A129_129, e1, g1]
          exact hQ _ (by rw [ez, ez2]; exact St_mono S1 (by omega) (by omega))
    have ez : moveZ z k = mvF k (zs (mv1Z z k) 1 k 34 (bitsN (z.1 1 k 17).toNatClampNeg (z.1 1 k 34))) 0 6 (z.1 1 k 17) := if_pos h19
    have tail : ∀ l2 σ1, St g A B B σ σ1 (mv1Z z k) 0 0 → zn (mv1Z z k) = zn z → (mv1Z z k).1 1 k 30 = 1 → (mv1Z z k).1 1 k 17 = z.1 1 k 17 → aw g 129 80 [some (.ref (A 1 0)), some (.ref (A 4 k)), some (.int l2), none, none] [] σ1 Q := by
      intro l2 σ1 S1 n1 m1 w1
      have hk1 : k < zn (mv1Z z k) := by omega
      have nx := loop 6 0 (by omega) (zs (mv1Z z k) 1 k 34 (bitsN (z.1 1 k 17).toNatClampNeg (z.1 1 k 34))) σ1 (z.1 1 k 17) l2 n1 (by rw [zs_j _ (by decide)]; exact m1) (St_z S1 (rb_mod (κ := 1) (i := k) (j := 34) (v := bitsN (z.1 1 k 17).toNatClampNeg (z.1 1 k 34)) S1.1 rfl)) ez
      rw [z32_0] at nx
      simp (config := {decide := true}) only [vRf_r, vRf_n, vI_i, vL_l, vD_d, pI_i, pR_r, pR_n, vZ_0, vZ_1, ct_i, ct_r, ct_n, ct_l, ct_d, csum_n, csum_c, kt_v, kt_n, kt_e, oc_n, oc_i, oc_r, oc_l, oc_u, oc_d, true_and, and_true, Bool.and_true, Bool.true_and, ne_eq, not_false_eq_true, not_true_eq_false, implies_true, false_imp, true_imp_iff, hsz_put, hsl_put, hln_put, hty_put, hsz_new, hsl_new, hln_new, hty_new, Nat.zero_add, Nat.add_zero, eq_self, decide_true, t32_0, t32_1, t32_2, t32_3, t32_4, t32_5, t32_6, hv_same, hv_kne, hv_tne, hv_ntne, hv_nsame, hv_ctne, hty_cpy, hln_cpy, hsz_cpy, hsl_cpy, vrn, vnr, vrr, A129_80, A129_81, A129_84, A129_85, A129_86, r5tb S1.1 hk1, r5gb S1.1 hk1, r5nb S1.1 hk1, r5mb S1.1 hk1, r5eb S1.1 hk1, r5db S1.1 hk1, r5vb S1.1 hk1, r5lb S1.1 hk1, r5pb S1.1 hk1, r6tb S1.1 hk1, r60b S1.1 hk1, r61b S1.1 hk1, r62b S1.1 hk1, r63b S1.1 hk1, r7tb S1.1 hk1, r7lb S1.1 hk1, r8tb S1.1 hk1, r8lb S1.1 hk1, r9tb S1.1 hk1, r9lb S1.1 hk1, r10tb S1.1 hk1, r10lb S1.1 hk1, rgBA S1.1, w1]
      exact nx
    have mlE := fun Q' => c_manyLeft (Q := Q') h hk
    have pz : ∀ (b : Int32) (l2 : Int32), (b = 0 ∨ b = 1) → l2 = b → mv1Z z k = zs (zs (zs (mvP z k) 1 k 5 1) 1 k 20 (z.1 1 k 20 + 1)) 1 k 19 b → aw g 129 48 [some (.ref (A 1 0)), some (.ref (A 4 k)), some (.int l2), none, none] [] σ Q := by
      intro b l2 hb hl2 e1
      have n1 : zn (mv1Z z k) = zn z := by rw [e1]; unfold zn; rw [zs_2, zs_2, zs_2, mvP_2]
      have m1 : (mv1Z z k).1 1 k 30 = 1 := by rw [e1, zs_j _ (by decide), zs_j _ (by decide), zs_j _ (by decide), mvP_j _ _ (by decide) (by decide) (by decide)]; exact hm
      have w1 : (mv1Z z k).1 1 k 17 = z.1 1 k 17 := by rw [e1, zs_j _ (by decide), zs_j _ (by decide), zs_j _ (by decide), mvP_j _ _ (by decide) (by decide) (by decide)]
      have vb : vZ (.int b) = True := eq_true hb
      have go2 : ∀ σ1, St g A B B σ σ1 (mvP z k) 0 0 → aw g 129 80 [some (.ref (A 1 0)), some (.ref (A 4 k)), some (.int l2), none, none] [] (hput (hput (hput σ1 5 (A 4 k) 5 (.int 1)) 5 (A 4 k) 20 (.int (z.1 1 k 20 + 1))) 5 (A 4 k) 19 (.int b)) Q := by
        intro σ1 S1
        have hk1 : k < zn (mvP z k) := by unfold zn; rw [mvP_2]; exact hk
        have R1 := rb_g (j := 5) (v := 1) S1.1 hk1 (by decide)
        have T1 := St_put S1 4 (by decide) R1
        have R2 := rb_g (j := 20) (v := z.1 1 k 20 + 1) R1 hk1 (by decide)
        have T2 := St_put T1 4 (by decide) R2
        have R3 := rb_g (j := 19) (v := b) R2 hk1 (by decide)
        have T3 := St_put T2 4 (by decide) R3
        exact tail l2 _ (by rw [e1]; exact T3) n1 m1 w1
      subst hl2
      by_cases g3 : z.1 1 k 3 = 3
      · have e2 : mvP z k = z := if_pos g3
        have nx := go2 σ (by rw [e2]; exact St_refl h)
        simp (config := {decide := true}) only [vRf_r, vRf_n, vI_i, vL_l, vD_d, pI_i, pR_r, pR_n, vZ_0, vZ_1, ct_i, ct_r, ct_n, ct_l, ct_d, csum_n, csum_c, kt_v, kt_n, kt_e, oc_n, oc_i, oc_r, oc_l, oc_u, oc_d, true_and, and_true, Bool.and_true, Bool.true_and, ne_eq, not_false_eq_true, not_true_eq_false, implies_true, false_imp, true_imp_iff, hsz_put, hsl_put, hln_put, hty_put, hsz_new, hsl_new, hln_new, hty_new, Nat.zero_add, Nat.add_zero, eq_self, decide_true, t32_0, t32_1, t32_2, t32_3, t32_4, t32_5, t32_6, hv_same, hv_kne, hv_tne, hv_ntne, hv_nsame, hv_ctne, hty_cpy, hln_cpy, hsz_cpy, hsl_cpy, vrn, vnr, vrr, A129_48, A129_49, A129_52, A129_53, A129_56, A129_57, A129_60, A129_61, A129_62, A129_65, A129_66, A129_67, A129_70, A129_71, A129_72, A129_75, A129_76, A129_77, r5tb h hk, r5gb h hk, r5nb h hk, r5mb h hk, r5eb h hk, r5db h hk, r5vb h hk, r5lb h hk, r5pb h hk, r6tb h hk, r60b h hk, r61b h hk, r62b h hk, r63b h hk, r7tb h hk, r7lb h hk, r8tb h hk, r8lb h hk, r9tb h hk, r9lb h hk, r10tb h hk, r10lb h hk, rgBA h, g3, vb]
        exact nx
      · have e2 : mvP z k = zs (zs (zs z 1 k 36 (z.1 1 k 3)) 1 k 4 (z.1 1 k 3)) 1 k 3 3 := if_neg g3
        have R0 := rb_mod (κ := 1) (i := k) (j := 36) (v := z.1 1 k 3) h rfl
        have R1 := rb_g (j := 4) (v := z.1 1 k 3) R0 hk (by decide)
        have T1 := St_put (St_z (St_refl h) R0) 4 (by decide) R1
        have R2 := rb_g (j := 3) (v := 3) R1 hk (by decide)
        have T2 := St_put T1 4 (by decide) R2
        have nx := go2 _ (by rw [e2]; exact T2)
        simp (config := {decide := true}) only [vRf_r, vRf_n, vI_i, vL_l, vD_d, pI_i, pR_r, pR_n, vZ_0, vZ_1, ct_i, ct_r, ct_n, ct_l, ct_d, csum_n, csum_c, kt_v, kt_n, kt_e, oc_n, oc_i, oc_r, oc_l, oc_u, oc_d, true_and, and_true, Bool.and_true, Bool.true_and, ne_eq, not_false_eq_true, not_true_eq_false, implies_true, false_imp, true_imp_iff, hsz_put, hsl_put, hln_put, hty_put, hsz_new, hsl_new, hln_new, hty_new, Nat.zero_add, Nat.add_zero, eq_self, decide_true, t32_0, t32_1, t32_2, t32_3, t32_4, t32_5, t32_6, hv_same, hv_kne, hv_tne, hv_ntne, hv_nsame, hv_ctne, hty_cpy, hln_cpy, hsz_cpy, hsl_cpy, vrn, vnr, vrr, A129_48, A129_49, A129_52, A129_53, A129_56, A129_57, A129_60, A129_61, A129_62, A129_65, A129_66, A129_67, A129_70, A129_71, A129_72, A129_75, A129_76, A129_77, A199_0, A199_1, A199_2, A199_5, A199_8, A199_9, A199_10, A199_13, r5tb h hk, r5gb h hk, r5nb h hk, r5mb h hk, r5eb h hk, r5db h hk, r5vb h hk, r5lb h hk, r5pb h hk, r6tb h hk, r60b h hk, r61b h hk, r62b h hk, r63b h hk, r7tb h hk, r7lb h hk, r8tb h hk, r8lb h hk, r9tb h hk, r9lb h hk, r10tb h hk, r10lb h hk, rgBA h, g3, vb]
        exact nx
    by_cases hf : z.1 1 k 17 < manyLeftZ z k
    · by_cases hb : z.1 0 0 2 - z.1 1 k 18 < 12
      · have e1 : mv1Z z k = z := by unfold mv1Z; rw [if_neg (fun q => q hf), if_pos hb]
        have nx := tail 0 σ (by rw [e1]; exact St_refl h) (by rw [e1]) (by rw [e1]; exact hm) (by rw [e1])
        simp (config := {decide := true}) only [vRf_r, vRf_n, vI_i, vL_l, vD_d, pI_i, pR_r, pR_n, vZ_0, vZ_1, ct_i, ct_r, ct_n, ct_l, ct_d, csum_n, csum_c, kt_v, kt_n, kt_e, oc_n, oc_i, oc_r, oc_l, oc_u, oc_d, true_and, and_true, Bool.and_true, Bool.true_and, ne_eq, not_false_eq_true, not_true_eq_false, implies_true, false_imp, true_imp_iff, hsz_put, hsl_put, hln_put, hty_put, hsz_new, hsl_new, hln_new, hty_new, Nat.zero_add, Nat.add_zero, eq_self, decide_true, t32_0, t32_1, t32_2, t32_3, t32_4, t32_5, t32_6, hv_same, hv_kne, hv_tne, hv_ntne, hv_nsame, hv_ctne, hty_cpy, hln_cpy, hsz_cpy, hsl_cpy, vrn, vnr, vrr, A129_0, A129_1, A129_4, A129_7, A129_8, A129_9, A129_12, A129_13, A129_14, A129_17, A129_18, A129_21, A129_24, A129_25, A129_28, A129_29, A129_30, A129_31, A129_34, A129_35, A129_38, A129_39, A129_42, A129_43, A129_45, r1tb h, r10_b h, r11_b h, r13_b h, r14_b h, r1sb h, rgBA h, r5tb h hk, r5gb h hk, r5nb h hk, r5mb h hk, r5eb h hk, r5db h hk, r5vb h hk, r5lb h hk, r5pb h hk, r6tb h hk, r60b h hk, r61b h hk, r62b h hk, r63b h hk, r7tb h hk, r7lb h hk, r8tb h hk, r8lb h hk, r9tb h hk, r9lb h hk, r10tb h hk, r10lb h hk, rgBA h, h19, mlE, hf, hb]
        exact nx
      · have nx := pz 0 0 (Or.inl rfl) rfl (by unfold mv1Z; rw [if_neg (fun q => q hf), if_neg hb])
        simp (config := {decide := true}) only [vRf_r, vRf_n, vI_i, vL_l, vD_d, pI_i, pR_r, pR_n, vZ_0, vZ_1, ct_i, ct_r, ct_n, ct_l, ct_d, csum_n, csum_c, kt_v, kt_n, kt_e, oc_n, oc_i, oc_r, oc_l, oc_u, oc_d, true_and, and_true, Bool.and_true, Bool.true_and, ne_eq, not_false_eq_true, not_true_eq_false, implies_true, false_imp, true_imp_iff, hsz_put, hsl_put, hln_put, hty_put, hsz_new, hsl_new, hln_new, hty_new, Nat.zero_add, Nat.add_zero, eq_self, decide_true, t32_0, t32_1, t32_2, t32_3, t32_4, t32_5, t32_6, hv_same, hv_kne, hv_tne, hv_ntne, hv_nsame, hv_ctne, hty_cpy, hln_cpy, hsz_cpy, hsl_cpy, vrn, vnr, vrr, A129_0, A129_1, A129_4, A129_7, A129_8, A129_9, A129_12, A129_13, A129_14, A129_17, A129_18, A129_21, A129_24, A129_25, A129_28, A129_29, A129_30, A129_31, A129_34, A129_35, A129_38, A129_39, A129_42, A129_43, A129_45, r1tb h, r10_b h, r11_b h, r13_b h, r14_b h, r1sb h, rgBA h, r5tb h hk, r5gb h hk, r5nb h hk, r5mb h hk, r5eb h hk, r5db h hk, r5vb h hk, r5lb h hk, r5pb h hk, r6tb h hk, r60b h hk, r61b h hk, r62b h hk, r63b h hk, r7tb h hk, r7lb h hk, r8tb h hk, r8lb h hk, r9tb h hk, r9lb h hk, r10tb h hk, r10lb h hk, rgBA h, h19, mlE, hf, hb]
        exact nx
    · have nx := pz 1 1 (Or.inr rfl) rfl (by unfold mv1Z; rw [if_pos hf])
      simp (config := {decide := true}) only [vRf_r, vRf_n, vI_i, vL_l, vD_d, pI_i, pR_r, pR_n, vZ_0, vZ_1, ct_i, ct_r, ct_n, ct_l, ct_d, csum_n, csum_c, kt_v, kt_n, kt_e, oc_n, oc_i, oc_r, oc_l, oc_u, oc_d, true_and, and_true, Bool.and_true, Bool.true_and, ne_eq, not_false_eq_true, not_true_eq_false, implies_true, false_imp, true_imp_iff, hsz_put, hsl_put, hln_put, hty_put, hsz_new, hsl_new, hln_new, hty_new, Nat.zero_add, Nat.add_zero, eq_self, decide_true, t32_0, t32_1, t32_2, t32_3, t32_4, t32_5, t32_6, hv_same, hv_kne, hv_tne, hv_ntne, hv_nsame, hv_ctne, hty_cpy, hln_cpy, hsz_cpy, hsl_cpy, vrn, vnr, vrr, A129_0, A129_1, A129_4, A129_7, A129_8, A129_9, A129_12, A129_13, A129_14, A129_17, A129_18, A129_21, A129_24, A129_25, A129_28, A129_29, A129_30, A129_31, A129_34, A129_35, A129_38, A129_39, A129_42, A129_43, A129_45, r1tb h, r10_b h, r11_b h, r13_b h, r14_b h, r1sb h, rgBA h, r5tb h hk, r5gb h hk, r5nb h hk, r5mb h hk, r5eb h hk, r5db h hk, r5vb h hk, r5lb h hk, r5pb h hk, r6tb h hk, r60b h hk, r61b h hk, r62b h hk, r63b h hk, r7tb h hk, r7lb h hk, r8tb h hk, r8lb h hk, r9tb h hk, r9lb h hk, r10tb h hk, r10lb h hk, rgBA h, h19, mlE, hf]
      exact nx
  · have ez : moveZ z k = leaveZ z k := if_neg h19
    simp (config := {decide := true}) only [vRf_r, vRf_n, vI_i, vL_l, vD_d, pI_i, pR_r, pR_n, vZ_0, vZ_1, ct_i, ct_r, ct_n, ct_l, ct_d, csum_n, csum_c, kt_v, kt_n, kt_e, oc_n, oc_i, oc_r, oc_l, oc_u, oc_d, true_and, and_true, Bool.and_true, Bool.true_and, ne_eq, not_false_eq_true, not_true_eq_false, implies_true, false_imp, true_imp_iff, hsz_put, hsl_put, hln_put, hty_put, hsz_new, hsl_new, hln_new, hty_new, Nat.zero_add, Nat.add_zero, eq_self, decide_true, t32_0, t32_1, t32_2, t32_3, t32_4, t32_5, t32_6, hv_same, hv_kne, hv_tne, hv_ntne, hv_nsame, hv_ctne, hty_cpy, hln_cpy, hsz_cpy, hsl_cpy, vrn, vnr, vrr, A129_0, A129_1, A129_4, A129_7, A129_8, A129_9, A129_12, r1tb h, r10_b h, r11_b h, r13_b h, r14_b h, r1sb h, rgBA h, r5tb h hk, r5gb h hk, r5nb h hk, r5mb h hk, r5eb h hk, r5db h hk, r5vb h hk, r5lb h hk, r5pb h hk, r6tb h hk, r60b h hk, r61b h hk, r62b h hk, r63b h hk, r7tb h hk, r7lb h hk, r8tb h hk, r8lb h hk, r9tb h hk, r9lb h hk, r10tb h hk, r10lb h hk, rgBA h, h19]
    refine c_leave h hk hF hR hc hs ?_
    intro σ1 S1
    simp (config := {decide := true}) only [vRf_r, vRf_n, vI_i, vL_l, vD_d, pI_i, pR_r, pR_n, vZ_0, vZ_1, ct_i, ct_r, ct_n, ct_l, ct_d, csum_n, csum_c, kt_v, kt_n, kt_e, oc_n, oc_i, oc_r, oc_l, oc_u, oc_d, true_and, and_true, Bool.and_true, Bool.true_and, ne_eq, not_false_eq_true, not_true_eq_false, implies_true, false_imp, true_imp_iff, hsz_put, hsl_put, hln_put, hty_put, hsz_new, hsl_new, hln_new, hty_new, Nat.zero_add, Nat.add_zero, eq_self, decide_true, t32_0, t32_1, t32_2, t32_3, t32_4, t32_5, t32_6, hv_same, hv_kne, hv_tne, hv_ntne, hv_nsame, hv_ctne, hty_cpy, hln_cpy, hsz_cpy, hsl_cpy, vrn, vnr, vrr, A129_12]
    exact hQ _ (by rw [ez]; exact S1)
end MOVE
