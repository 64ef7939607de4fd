/-! what one asks, on: pages, logs, frames, counts -/
def topZ (z : ZT) (k p : Nat) : Nat → Int32
  | 0 => z.1 2 k p
  | 1 => match frOf z k (Int32.ofNat p) with
    | none => -1
    | some i => Int32.ofNat i
  | 2 => whZ z k p
  | _ => if z.1 1 k 30 = 1 ∧ z.1 6 k p ≠ 0 then 1 else 0
def lgZ (z : ZT) (k i : Nat) : Int32 := if z.1 1 k 31 = 1 ∧ i < z.2 3 k then z.1 11 k i else -1
def tfZ (z : ZT) (i : Nat) : Nat → Int32
  | 0 => z.1 8 i 0
  | 1 => z.1 8 i 1
  | _ => z.1 8 i 2
def cmZ (z : ZT) (k : Nat) : Prop := z.1 1 k 3 ≠ 4 ∧ z.1 1 k 30 ≠ 1
def fcF (z : ZT) : Nat → Nat → Int32 → Int32
  | _, 0, a => a
  | c, m + 1, a => fcF z (c + 1) m (a + if z.1 8 c 0 = -1 then 1 else 0)
def exK (z : ZT) (k : Nat) : Nat → Nat → Int32 → Int32
  | _, 0, a => a
  | p, m + 1, a => exK z k (p + 1) m (a + z.1 3 k p)
def exF (z : ZT) : Nat → Nat → Int32 → Int32
  | _, 0, a => a
  | c, m + 1, a => exF z (c + 1) m (exK z c 0 5 a)
def ctZ (z : ZT) : Nat → Int32
  | 0 => Int32.ofNat (zn z)
  | 1 => z.1 0 0 2
  | 2 => Int32.ofNat (zf z)
  | 3 => fcF z 0 (zf z) 0
  | 4 => z.1 0 0 3
  | 5 => z.1 0 0 4
  | 6 => z.1 0 0 5
  | 7 => z.1 0 0 7
  | 8 => exF z 0 (zn z) 0
  | 9 => z.1 0 0 8
  | _ => z.1 0 0 9
section TOLD2
variable {g : GC} {A A' B B' : Nat → Nat → Nat} {σ σ' : AH} {z : ZT} {k p : Nat} {Q : AQ}
theorem kp_refl' (σ : AH) (c s : Nat) : kp (fun _ => False) c s σ σ := kp_mono (kp_refl _ _) (Nat.zero_le _) (Nat.zero_le _) (fun _ _ e => e)
theorem c_toldOfPage {w : Nat} (h : RepH g A B σ z) (hk : k < zn z) (hF : okFr z) (hp : p < 6) (hw : w < 4) (hc : hsz σ + 1 ≤ gC g) (hs : hsl σ + 4 ≤ gS g) (hQ : ∀ σ', kp (fun _ => False) 1 4 σ σ' → Q (.inl (some (.int (topZ z k p w)))) σ') : aw g 68 0 [some (.ref (A 0 0)), some (.ref (A 4 k)), some (.int (Int32.ofNat p)), some (.int (Int32.ofNat w))] [] σ Q := by
  have hH := h
  obtain ⟨h0, h1, h2⟩ := h
  have b1 : (Int32.ofNat p < 0) = False := n32_neg (by omega)
  have b2 : (Int32.ofNat p).toNatClampNeg = p := n32_nat (by omega)
  have b3 : (p < 6) = True := eq_true hp
  have hw4 : w = 0 ∨ w = 1 ∨ w = 2 ∨ w = 3 := by omega
  rcases hw4 with e | e | e | e
  · subst e
    have f := r7vb h0 hk hp
    have e0 : Int32.ofNat 0 = 0 := rfl
    have : Q (.inl (some (.int (z.1 2 k p)))) σ := hQ σ (kp_refl' σ 1 4)
    simp (config := {decide := true}) only [vRf_r, vRf_n, vI_i, vL_l, vD_d, pI_i, pR_r, pR_n, vZ_0, vZ_1, ct_i, ct_r, ct_n, ct_l, ct_d, csum_n, csum_c, kt_v, kt_n, kt_e, oc_n, oc_i, oc_r, oc_l, oc_u, oc_d, true_and, and_true, Bool.and_true, Bool.true_and, ne_eq, not_false_eq_true, not_true_eq_false, implies_true, false_imp, true_imp_iff, hsz_put, hsl_put, hln_put, hty_put, hsz_new, hsl_new, hln_new, hty_new, Nat.zero_add, Nat.add_zero, eq_self, decide_true, t32_0, t32_1, t32_2, t32_3, t32_4, t32_5, t32_6, hv_same, hv_kne, hv_tne, hv_ntne, hv_nsame, hv_ctne, hty_cpy, hln_cpy, hsz_cpy, hsl_cpy, vrn, vnr, vrr, A68_0, A68_1, A68_4, A68_5, A68_8, A68_11, A68_12, A68_13, r5tb h0 hk, r5gb h0 hk, r5nb h0 hk, r5mb h0 hk, r5eb h0 hk, r5db h0 hk, r5vb h0 hk, r5lb h0 hk, r5pb h0 hk, r6tb h0 hk, r60b h0 hk, r61b h0 hk, r62b h0 hk, r63b h0 hk, r7tb h0 hk, r7lb h0 hk, r8tb h0 hk, r8lb h0 hk, r9tb h0 hk, r9lb h0 hk, r10tb h0 hk, r10lb h0 hk, rgBA h0, e0, f, b1, b2, b3]
    exact this
  · subst e
    have e0 : Int32.ofNat 1 = 1 := rfl
    have m1 := r1tb h0
    have m2 := r11_b h0
    simp (config := {decide := true}) only [vRf_r, vRf_n, vI_i, vL_l, vD_d, pI_i, pR_r, pR_n, vZ_0, vZ_1, ct_i, ct_r, ct_n, ct_l, ct_d, csum_n, csum_c, kt_v, kt_n, kt_e, oc_n, oc_i, oc_r, oc_l, oc_u, oc_d, true_and, and_true, Bool.and_true, Bool.true_and, ne_eq, not_false_eq_true, not_true_eq_false, implies_true, false_imp, true_imp_iff, hsz_put, hsl_put, hln_put, hty_put, hsz_new, hsl_new, hln_new, hty_new, Nat.zero_add, Nat.add_zero, eq_self, decide_true, t32_0, t32_1, t32_2, t32_3, t32_4, t32_5, t32_6, hv_same, hv_kne, hv_tne, hv_ntne, hv_nsame, hv_ctne, hty_cpy, hln_cpy, hsz_cpy, hsl_cpy, vrn, vnr, vrr, A68_0, A68_1, A68_14, A68_15, A68_16, A68_19, A68_20, A68_23, A68_26, A68_27, A68_30, A68_31, A68_32, e0, h1, h2, m1, m2]
    refine c_frameOf h0 hk hF hc hs ?_
    intro σ1 w1
    have h3 := (St_0 h0 w1).1
    have L := rLfb h3
    have tL := L.1
    cases hf : frOf z k (Int32.ofNat p) with
    | none =>
      have ez : topZ z k p 1 = -1 := by
        show (match frOf z k (Int32.ofNat p) with
          | none => (-1 : Int32)
          | some i => Int32.ofNat i) = -1
        rw [hf]
      have := hQ σ1 w1
      rw [ez] at this
      have e1 := fun Q' => l_indexNull (Q := Q') L (fun i _ e => by cases e)
      rw [vfr_n]
      simp (config := {decide := true}) only [vRf_r, vRf_n, vI_i, vL_l, vD_d, pI_i, pR_r, pR_n, vZ_0, vZ_1, ct_i, ct_r, ct_n, ct_l, ct_d, csum_n, csum_c, kt_v, kt_n, kt_e, oc_n, oc_i, oc_r, oc_l, oc_u, oc_d, true_and, and_true, Bool.and_true, Bool.true_and, ne_eq, not_false_eq_true, not_true_eq_false, implies_true, false_imp, true_imp_iff, hsz_put, hsl_put, hln_put, hty_put, hsz_new, hsl_new, hln_new, hty_new, Nat.zero_add, Nat.add_zero, eq_self, decide_true, t32_0, t32_1, t32_2, t32_3, t32_4, t32_5, t32_6, hv_same, hv_kne, hv_tne, hv_ntne, hv_nsame, hv_ctne, hty_cpy, hln_cpy, hsz_cpy, hsl_cpy, vrn, vnr, vrr, A68_35, A68_38, e1, tL]
      exact this
    | some i =>
      have ez : topZ z k p 1 = Int32.ofNat i := by
        show (match frOf z k (Int32.ofNat p) with
          | none => (-1 : Int32)
          | some i => Int32.ofNat i) = Int32.ofNat i
        rw [hf]
      have hi := (frF_lt _ _ _ (by omega) hf).1
      have := hQ σ1 w1
      rw [ez] at this
      have e1 := fun Q' => l_indexRef (Q := Q') L (r18tb h3 hi) hi rfl (fun i' _ => ⟨_, rfl⟩) (fun i' hi' e => by
        have := h3.2.1.1 18 i' 18 i (Value.ref.inj e)
        omega)
      rw [vfr_s]
      simp (config := {decide := true}) only [vRf_r, vRf_n, vI_i, vL_l, vD_d, pI_i, pR_r, pR_n, vZ_0, vZ_1, ct_i, ct_r, ct_n, ct_l, ct_d, csum_n, csum_c, kt_v, kt_n, kt_e, oc_n, oc_i, oc_r, oc_l, oc_u, oc_d, true_and, and_true, Bool.and_true, Bool.true_and, ne_eq, not_false_eq_true, not_true_eq_false, implies_true, false_imp, true_imp_iff, hsz_put, hsl_put, hln_put, hty_put, hsz_new, hsl_new, hln_new, hty_new, Nat.zero_add, Nat.add_zero, eq_self, decide_true, t32_0, t32_1, t32_2, t32_3, t32_4, t32_5, t32_6, hv_same, hv_kne, hv_tne, hv_ntne, hv_nsame, hv_ctne, hty_cpy, hln_cpy, hsz_cpy, hsl_cpy, vrn, vnr, vrr, A68_35, A68_38, e1, tL]
      exact this
  · subst e
    have e0 : Int32.ofNat 2 = 2 := rfl
    simp (config := {decide := true}) only [vRf_r, vRf_n, vI_i, vL_l, vD_d, pI_i, pR_r, pR_n, vZ_0, vZ_1, ct_i, ct_r, ct_n, ct_l, ct_d, csum_n, csum_c, kt_v, kt_n, kt_e, oc_n, oc_i, oc_r, oc_l, oc_u, oc_d, true_and, and_true, Bool.and_true, Bool.true_and, ne_eq, not_false_eq_true, not_true_eq_false, implies_true, false_imp, true_imp_iff, hsz_put, hsl_put, hln_put, hty_put, hsz_new, hsl_new, hln_new, hty_new, Nat.zero_add, Nat.add_zero, eq_self, decide_true, t32_0, t32_1, t32_2, t32_3, t32_4, t32_5, t32_6, hv_same, hv_kne, hv_tne, hv_ntne, hv_nsame, hv_ctne, hty_cpy, hln_cpy, hsz_cpy, hsl_cpy, vrn, vnr, vrr, A68_0, A68_1, A68_14, A68_15, A68_16, A68_39, A68_40, A68_41, A68_44, A68_45, A68_46, A68_47, e0, h1]
    refine c_where hH hk hF hp hc hs ?_
    intro σ1 w1
    have : Q (.inl (some (.int (whZ z k p)))) σ1 := hQ σ1 w1
    simp (config := {decide := true}) only [vRf_r, vRf_n, vI_i, vL_l, vD_d, pI_i, pR_r, pR_n, vZ_0, vZ_1, ct_i, ct_r, ct_n, ct_l, ct_d, csum_n, csum_c, kt_v, kt_n, kt_e, oc_n, oc_i, oc_r, oc_l, oc_u, oc_d, true_and, and_true, Bool.and_true, Bool.true_and, ne_eq, not_false_eq_true, not_true_eq_false, implies_true, false_imp, true_imp_iff, hsz_put, hsl_put, hln_put, hty_put, hsz_new, hsl_new, hln_new, hty_new, Nat.zero_add, Nat.add_zero, eq_self, decide_true, t32_0, t32_1, t32_2, t32_3, t32_4, t32_5, t32_6, hv_same, hv_kne, hv_tne, hv_ntne, hv_nsame, hv_ctne, hty_cpy, hln_cpy, hsz_cpy, hsl_cpy, vrn, vnr, vrr, A68_50, A68_77]
    exact this
  · subst e
    have e0 : Int32.ofNat 3 = 3 := rfl
    by_cases hm : z.1 1 k 30 = 1
    · have f := r11vb h0 hk hm hp
      have l1 := r11tb h0 hk hm
      have l2 := r11lb h0 hk hm
      by_cases g6 : z.1 6 k p = 0
      · have ez : topZ z k p 3 = 0 := if_neg (fun e => e.2 g6)
        have := hQ σ (kp_refl' σ 1 4)
        rw [ez] at this
        simp (config := {decide := true}) only [vRf_r, vRf_n, vI_i, vL_l, vD_d, pI_i, pR_r, pR_n, vZ_0, vZ_1, ct_i, ct_r, ct_n, ct_l, ct_d, csum_n, csum_c, kt_v, kt_n, kt_e, oc_n, oc_i, oc_r, oc_l, oc_u, oc_d, true_and, and_true, Bool.and_true, Bool.true_and, ne_eq, not_false_eq_true, not_true_eq_false, implies_true, false_imp, true_imp_iff, hsz_put, hsl_put, hln_put, hty_put, hsz_new, hsl_new, hln_new, hty_new, Nat.zero_add, Nat.add_zero, eq_self, decide_true, t32_0, t32_1, t32_2, t32_3, t32_4, t32_5, t32_6, hv_same, hv_kne, hv_tne, hv_ntne, hv_nsame, hv_ctne, hty_cpy, hln_cpy, hsz_cpy, hsl_cpy, vrn, vnr, vrr, A68_0, A68_1, A68_14, A68_15, A68_16, A68_39, A68_40, A68_41, A68_53, A68_54, A68_57, A68_60, A68_61, A68_64, A68_65, A68_66, A68_69, A68_70, A68_73, A68_74, A68_77, A194_0, A194_1, A194_4, A194_7, A194_8, A194_11, A194_12, A61_0, A61_1, A61_4, A61_5, A61_8, A61_9, r5tb h0 hk, r5gb h0 hk, r5nb h0 hk, r5mb h0 hk, r5eb h0 hk, r5db h0 hk, r5vb h0 hk, r5lb h0 hk, r5pb h0 hk, r6tb h0 hk, r60b h0 hk, r61b h0 hk, r62b h0 hk, r63b h0 hk, r7tb h0 hk, r7lb h0 hk, r8tb h0 hk, r8lb h0 hk, r9tb h0 hk, r9lb h0 hk, r10tb h0 hk, r10lb h0 hk, rgBA h0, e0, hm, f, l1, l2, g6, b1, b2, b3, if_true]
        exact this
      · have ez : topZ z k p 3 = 1 := if_pos ⟨hm, g6⟩
        have := hQ σ (kp_refl' σ 1 4)
        rw [ez] at this
        simp (config := {decide := true}) only [vRf_r, vRf_n, vI_i, vL_l, vD_d, pI_i, pR_r, pR_n, vZ_0, vZ_1, ct_i, ct_r, ct_n, ct_l, ct_d, csum_n, csum_c, kt_v, kt_n, kt_e, oc_n, oc_i, oc_r, oc_l, oc_u, oc_d, true_and, and_true, Bool.and_true, Bool.true_and, ne_eq, not_false_eq_true, not_true_eq_false, implies_true, false_imp, true_imp_iff, hsz_put, hsl_put, hln_put, hty_put, hsz_new, hsl_new, hln_new, hty_new, Nat.zero_add, Nat.add_zero, eq_self, decide_true, t32_0, t32_1, t32_2, t32_3, t32_4, t32_5, t32_6, hv_same, hv_kne, hv_tne, hv_ntne, hv_nsame, hv_ctne, hty_cpy, hln_cpy, hsz_cpy, hsl_cpy, vrn, vnr, vrr, A68_0, A68_1, A68_14, A68_15, A68_16, A68_39, A68_40, A68_41, A68_53, A68_54, A68_57, A68_60, A68_61, A68_64, A68_65, A68_66, A68_69, A68_70, A68_73, A68_74, A68_77, A194_0, A194_1, A194_4, A194_7, A194_8, A194_11, A194_12, A61_0, A61_1, A61_4, A61_5, A61_8, A61_9, r5tb h0 hk, r5gb h0 hk, r5nb h0 hk, r5mb h0 hk, r5eb h0 hk, r5db h0 hk, r5vb h0 hk, r5lb h0 hk, r5pb h0 hk, r6tb h0 hk, r60b h0 hk, r61b h0 hk, r62b h0 hk, r63b h0 hk, r7tb h0 hk, r7lb h0 hk, r8tb h0 hk, r8lb h0 hk, r9tb h0 hk, r9lb h0 hk, r10tb h0 hk, r10lb h0 hk, rgBA h0, e0, hm, f, l1, l2, g6, b1, b2, b3, if_true]
        exact this
    · have ez : topZ z k p 3 = 0 := if_neg (fun e => hm e.1)
      have := hQ σ (kp_refl' σ 1 4)
      rw [ez] at this
      simp (config := {decide := true}) only [vRf_r, vRf_n, vI_i, vL_l, vD_d, pI_i, pR_r, pR_n, vZ_0, vZ_1, ct_i, ct_r, ct_n, ct_l, ct_d, csum_n, csum_c, kt_v, kt_n, kt_e, oc_n, oc_i, oc_r, oc_l, oc_u, oc_d, true_and, and_true, Bool.and_true, Bool.true_and, ne_eq, not_false_eq_true, not_true_eq_false, implies_true, false_imp, true_imp_iff, hsz_put, hsl_put, hln_put, hty_put, hsz_new, hsl_new, hln_new, hty_new, Nat.zero_add, Nat.add_zero, eq_self, decide_true, t32_0, t32_1, t32_2, t32_3, t32_4, t32_5, t32_6, hv_same, hv_kne, hv_tne, hv_ntne, hv_nsame, hv_ctne, hty_cpy, hln_cpy, hsz_cpy, hsl_cpy, vrn, vnr, vrr, A68_0, A68_1, A68_14, A68_15, A68_16, A68_39, A68_40, A68_41, A68_53, A68_54, A68_57, A68_73, A68_74, A68_77, A194_0, A194_1, A194_4, A194_7, A194_8, A194_11, A194_12, A61_0, A61_1, A61_4, A61_5, A61_8, A61_9, r5tb h0 hk, r5gb h0 hk, r5nb h0 hk, r5mb h0 hk, r5eb h0 hk, r5db h0 hk, r5vb h0 hk, r5lb h0 hk, r5pb h0 hk, r6tb h0 hk, r60b h0 hk, r61b h0 hk, r62b h0 hk, r63b h0 hk, r7tb h0 hk, r7lb h0 hk, r8tb h0 hk, r8lb h0 hk, r9tb h0 hk, r9lb h0 hk, r10tb h0 hk, r10lb h0 hk, rgBA h0, e0, hm, if_false]
      exact this
theorem c_loggedOf {i : Nat} (h : RepB g A B σ z) (hk : k < zn z) (h60 : z.2 3 k ≤ 60) (hi : i < 2147483648) : aw g 69 0 [some (.ref (A 4 k)), some (.int (Int32.ofNat i))] [] σ Q = Q (.inl (some (.int (lgZ z k i)))) σ := by
  by_cases hs : z.1 1 k 31 = 1
  · have p12 := r12tb h hk hs
    have p9 := r9_b h hk hs
    obtain ⟨_, ⟨f2, u3, u4⟩, _⟩ := rLp (A := mix A B) h hk hs
    have u3 : isL g σ (A 13 k) (B 33 k) (z.2 3 k) f2 := u3
    have e1 := fun Q' => l_size (Q := Q') u3
    have t13 := u3.1
    have el := n32_lt (i := i) (n := z.2 3 k) hi (by omega)
    by_cases hl : i < z.2 3 k
    · have ez : lgZ z k i = z.1 11 k i := if_pos ⟨hs, hl⟩
      have el2 : (Int32.ofNat i < Int32.ofNat (z.2 3 k)) = True := el.trans (eq_true hl)
      have eg := fun Q' => l_get (Q := Q') u3 hl
      obtain ⟨qi, i1, i2, i3, i4⟩ := u4 i hl
      rw [i1] at eg
      have ei := fun Q' => l_intValue (g := g) (Q := Q') i2 i3
      have e712 : (∃ t, t ∈ [12] ∧ some 12 = some t) = True := eq_true ⟨12, by decide, rfl⟩
      rw [ez]
      simp (config := {decide := true}) only [vRf_r, vRf_n, vI_i, vL_l, vD_d, pI_i, pR_r, pR_n, vZ_0, vZ_1, ct_i, ct_r, ct_n, ct_l, ct_d, csum_n, csum_c, kt_v, kt_n, kt_e, oc_n, oc_i, oc_r, oc_l, oc_u, oc_d, true_and, and_true, Bool.and_true, Bool.true_and, ne_eq, not_false_eq_true, not_true_eq_false, implies_true, false_imp, true_imp_iff, hsz_put, hsl_put, hln_put, hty_put, hsz_new, hsl_new, hln_new, hty_new, Nat.zero_add, Nat.add_zero, eq_self, decide_true, t32_0, t32_1, t32_2, t32_3, t32_4, t32_5, t32_6, hv_same, hv_kne, hv_tne, hv_ntne, hv_nsame, hv_ctne, hty_cpy, hln_cpy, hsz_cpy, hsl_cpy, vrn, vnr, vrr, A69_0, A69_1, A69_4, A69_7, A69_8, A69_9, A69_12, A69_15, A69_18, A69_25, A69_26, A69_29, A69_32, A69_33, A69_36, A69_36r, A69_39, A69_42, r5tb h hk, r5gb h hk, r5nb h hk, r5mb h hk, r5eb h hk, r5db h hk, r5vb h hk, r5lb h hk, r5pb h hk, r6tb h hk, r60b h hk, r61b h hk, r62b h hk, r63b h hk, r7tb h hk, r7lb h hk, r8tb h hk, r8lb h hk, r9tb h hk, r9lb h hk, r10tb h hk, r10lb h hk, rgBA h, hs, p12, p9, e1, t13, el2, eg, i2, ei, e712, if_true]
    · have ez : lgZ z k i = -1 := if_neg (fun e => hl e.2)
      have el2 : (Int32.ofNat i < Int32.ofNat (z.2 3 k)) = False := el.trans (eq_false hl)
      rw [ez]
      simp (config := {decide := true}) only [vRf_r, vRf_n, vI_i, vL_l, vD_d, pI_i, pR_r, pR_n, vZ_0, vZ_1, ct_i, ct_r, ct_n, ct_l, ct_d, csum_n, csum_c, kt_v, kt_n, kt_e, oc_n, oc_i, oc_r, oc_l, oc_u, oc_d, true_and, and_true, Bool.and_true, Bool.true_and, ne_eq, not_false_eq_true, not_true_eq_false, implies_true, false_imp, true_imp_iff, hsz_put, hsl_put, hln_put, hty_put, hsz_new, hsl_new, hln_new, hty_new, Nat.zero_add, Nat.add_zero, eq_self, decide_true, t32_0, t32_1, t32_2, t32_3, t32_4, t32_5, t32_6, hv_same, hv_kne, hv_tne, hv_ntne, hv_nsame, hv_ctne, hty_cpy, hln_cpy, hsz_cpy, hsl_cpy, vrn, vnr, vrr, A69_0, A69_1, A69_4, A69_7, A69_8, A69_9, A69_12, A69_15, A69_18, A69_21, A69_22, A69_42, r5tb h hk, r5gb h hk, r5nb h hk, r5mb h hk, r5eb h hk, r5db h hk, r5vb h hk, r5lb h hk, r5pb h hk, r6tb h hk, r60b h hk, r61b h hk, r62b h hk, r63b h hk, r7tb h hk, r7lb h hk, r8tb h hk, r8lb h hk, r9tb h hk, r9lb h hk, r10tb h hk, r10lb h hk, rgBA h, hs, p12, p9, e1, t13, el2, if_true]
  · have ez : lgZ z k i = -1 := if_neg (fun e => hs e.1)
    rw [ez]
    simp (config := {decide := true}) only [vRf_r, vRf_n, vI_i, vL_l, vD_d, pI_i, pR_r, pR_n, vZ_0, vZ_1, ct_i, ct_r, ct_n, ct_l, ct_d, csum_n, csum_c, kt_v, kt_n, kt_e, oc_n, oc_i, oc_r, oc_l, oc_u, oc_d, true_and, and_true, Bool.and_true, Bool.true_and, ne_eq, not_false_eq_true, not_true_eq_false, implies_true, false_imp, true_imp_iff, hsz_put, hsl_put, hln_put, hty_put, hsz_new, hsl_new, hln_new, hty_new, Nat.zero_add, Nat.add_zero, eq_self, decide_true, t32_0, t32_1, t32_2, t32_3, t32_4, t32_5, t32_6, hv_same, hv_kne, hv_tne, hv_ntne, hv_nsame, hv_ctne, hty_cpy, hln_cpy, hsz_cpy, hsl_cpy, vrn, vnr, vrr, A69_0, A69_1, A69_4, A69_21, A69_22, A69_42, r5tb h hk, r5gb h hk, r5nb h hk, r5mb h hk, r5eb h hk, r5db h hk, r5vb h hk, r5lb h hk, r5pb h hk, r6tb h hk, r60b h hk, r61b h hk, r62b h hk, r63b h hk, r7tb h hk, r7lb h hk, r8tb h hk, r8lb h hk, r9tb h hk, r9lb h hk, r10tb h hk, r10lb h hk, rgBA h, hs, if_false]
theorem c_toldF {i w : Nat} (h : RepB g A B σ z) (hF : okFr z) (hi : i < zf z) (hw : w < 3) : aw g 74 0 [some (.ref (A 18 i)), some (.int (Int32.ofNat w))] [] σ Q = Q (.inl (some (.int (tfZ z i w)))) σ := by
  have f0 := r20_b h hi
  have f1 := r21_b h hi
  have f2 := r22_b h hi
  have ft := r18tb h hi
  have hw3 : w = 0 ∨ w = 1 ∨ w = 2 := by omega
  rcases hw3 with e | e | e
  · subst e
    have e0 : Int32.ofNat 0 = 0 := rfl
    have ez : tfZ z i 0 = z.1 8 i 0 := rfl
    rw [ez]
    rcases okFr_R hF hi with e1 | ⟨j, j1, e1⟩
    · have e2 : gref A (z.1 8 i 0) = .null := by rw [e1, gref_m]
      rw [e1] at f0 ⊢
      rw [gref_m] at f0
      simp (config := {decide := true}) only [vRf_r, vRf_n, vI_i, vL_l, vD_d, pI_i, pR_r, pR_n, vZ_0, vZ_1, ct_i, ct_r, ct_n, ct_l, ct_d, csum_n, csum_c, kt_v, kt_n, kt_e, oc_n, oc_i, oc_r, oc_l, oc_u, oc_d, true_and, and_true, Bool.and_true, Bool.true_and, ne_eq, not_false_eq_true, not_true_eq_false, implies_true, false_imp, true_imp_iff, hsz_put, hsl_put, hln_put, hty_put, hsz_new, hsl_new, hln_new, hty_new, Nat.zero_add, Nat.add_zero, eq_self, decide_true, t32_0, t32_1, t32_2, t32_3, t32_4, t32_5, t32_6, hv_same, hv_kne, hv_tne, hv_ntne, hv_nsame, hv_ctne, hty_cpy, hln_cpy, hsz_cpy, hsl_cpy, vrn, vnr, vrr, A74_0, A74_1, A74_4, A74_5, A74_8, A74_11, A74_12, A74_15, A74_16, A74_19, A74_22, A74_25, A74_26, A74_27, A74_30, A74_31, A74_34, A74_37, A74_38, A74_41, e0, f0, ft]
    · have e2 : gref A (z.1 8 i 0) = .ref (A 4 j) := by rw [e1, gref_of (by have := hF.2.1; omega)]
      rw [e2] at f0
      rw [e1]
      have g4 := r5tb h j1
      have g5 := r5nb h j1
      simp (config := {decide := true}) only [vRf_r, vRf_n, vI_i, vL_l, vD_d, pI_i, pR_r, pR_n, vZ_0, vZ_1, ct_i, ct_r, ct_n, ct_l, ct_d, csum_n, csum_c, kt_v, kt_n, kt_e, oc_n, oc_i, oc_r, oc_l, oc_u, oc_d, true_and, and_true, Bool.and_true, Bool.true_and, ne_eq, not_false_eq_true, not_true_eq_false, implies_true, false_imp, true_imp_iff, hsz_put, hsl_put, hln_put, hty_put, hsz_new, hsl_new, hln_new, hty_new, Nat.zero_add, Nat.add_zero, eq_self, decide_true, t32_0, t32_1, t32_2, t32_3, t32_4, t32_5, t32_6, hv_same, hv_kne, hv_tne, hv_ntne, hv_nsame, hv_ctne, hty_cpy, hln_cpy, hsz_cpy, hsl_cpy, vrn, vnr, vrr, A74_0, A74_1, A74_4, A74_5, A74_8, A74_11, A74_12, A74_15, A74_16, A74_19, A74_22, A74_25, A74_26, A74_27, A74_30, A74_31, A74_34, A74_37, A74_38, A74_41, e0, f0, ft, g4, g5]
  · subst e
    have e0 : Int32.ofNat 1 = 1 := rfl
    have ez : tfZ z i 1 = z.1 8 i 1 := rfl
    rw [ez]
    simp (config := {decide := true}) only [vRf_r, vRf_n, vI_i, vL_l, vD_d, pI_i, pR_r, pR_n, vZ_0, vZ_1, ct_i, ct_r, ct_n, ct_l, ct_d, csum_n, csum_c, kt_v, kt_n, kt_e, oc_n, oc_i, oc_r, oc_l, oc_u, oc_d, true_and, and_true, Bool.and_true, Bool.true_and, ne_eq, not_false_eq_true, not_true_eq_false, implies_true, false_imp, true_imp_iff, hsz_put, hsl_put, hln_put, hty_put, hsz_new, hsl_new, hln_new, hty_new, Nat.zero_add, Nat.add_zero, eq_self, decide_true, t32_0, t32_1, t32_2, t32_3, t32_4, t32_5, t32_6, hv_same, hv_kne, hv_tne, hv_ntne, hv_nsame, hv_ctne, hty_cpy, hln_cpy, hsz_cpy, hsl_cpy, vrn, vnr, vrr, A74_0, A74_1, A74_25, A74_26, A74_27, A74_30, A74_31, A74_34, A74_37, A74_38, A74_41, e0, f1, ft]
  · subst e
    have e0 : Int32.ofNat 2 = 2 := rfl
    have ez : tfZ z i 2 = z.1 8 i 2 := rfl
    rw [ez]
    simp (config := {decide := true}) only [vRf_r, vRf_n, vI_i, vL_l, vD_d, pI_i, pR_r, pR_n, vZ_0, vZ_1, ct_i, ct_r, ct_n, ct_l, ct_d, csum_n, csum_c, kt_v, kt_n, kt_e, oc_n, oc_i, oc_r, oc_l, oc_u, oc_d, true_and, and_true, Bool.and_true, Bool.true_and, ne_eq, not_false_eq_true, not_true_eq_false, implies_true, false_imp, true_imp_iff, hsz_put, hsl_put, hln_put, hty_put, hsz_new, hsl_new, hln_new, hty_new, Nat.zero_add, Nat.add_zero, eq_self, decide_true, t32_0, t32_1, t32_2, t32_3, t32_4, t32_5, t32_6, hv_same, hv_kne, hv_tne, hv_ntne, hv_nsame, hv_ctne, hty_cpy, hln_cpy, hsz_cpy, hsl_cpy, vrn, vnr, vrr, A74_0, A74_1, A74_25, A74_26, A74_27, A74_30, A74_31, A74_34, A74_37, A74_38, A74_41, e0, f2, ft]
theorem c_canMove (h : RepB g A B σ z) (hk : k < zn z) : aw g 72 0 [some (.ref (A 4 k))] [] σ Q = ((cmZ z k → Q (.inl (some (.int 1))) σ) ∧ (¬ cmZ z k → Q (.inl (some (.int 0))) σ)) := by
  by_cases g4 : z.1 1 k 3 = 4
  · have e1 : cmZ z k = False := eq_false (fun e => e.1 g4)
    simp (config := {decide := true}) only [vRf_r, vRf_n, vI_i, vL_l, vD_d, pI_i, pR_r, pR_n, vZ_0, vZ_1, ct_i, ct_r, ct_n, ct_l, ct_d, csum_n, csum_c, kt_v, kt_n, kt_e, oc_n, oc_i, oc_r, oc_l, oc_u, oc_d, true_and, and_true, Bool.and_true, Bool.true_and, ne_eq, not_false_eq_true, not_true_eq_false, implies_true, false_imp, true_imp_iff, hsz_put, hsl_put, hln_put, hty_put, hsz_new, hsl_new, hln_new, hty_new, Nat.zero_add, Nat.add_zero, eq_self, decide_true, t32_0, t32_1, t32_2, t32_3, t32_4, t32_5, t32_6, hv_same, hv_kne, hv_tne, hv_ntne, hv_nsame, hv_ctne, hty_cpy, hln_cpy, hsz_cpy, hsl_cpy, vrn, vnr, vrr, A72_0, A72_1, A72_4, A72_7, A72_8, A72_11, A72_14, A72_15, A72_18, A72_19, A197_0, A197_1, A197_4, A197_5, A197_8, A197_9, A197_12, A197_13, A194_0, A194_1, A194_4, A194_7, A194_8, A194_11, A194_12, r5tb h hk, r5gb h hk, r5nb h hk, r5mb h hk, r5eb h hk, r5db h hk, r5vb h hk, r5lb h hk, r5pb h hk, r6tb h hk, r60b h hk, r61b h hk, r62b h hk, r63b h hk, r7tb h hk, r7lb h hk, r8tb h hk, r8lb h hk, r9tb h hk, r9lb h hk, r10tb h hk, r10lb h hk, rgBA h, g4, e1]
  · by_cases hm : z.1 1 k 30 = 1
    · have e1 : cmZ z k = False := eq_false (fun e => e.2 hm)
      simp (config := {decide := true}) only [vRf_r, vRf_n, vI_i, vL_l, vD_d, pI_i, pR_r, pR_n, vZ_0, vZ_1, ct_i, ct_r, ct_n, ct_l, ct_d, csum_n, csum_c, kt_v, kt_n, kt_e, oc_n, oc_i, oc_r, oc_l, oc_u, oc_d, true_and, and_true, Bool.and_true, Bool.true_and, ne_eq, not_false_eq_true, not_true_eq_false, implies_true, false_imp, true_imp_iff, hsz_put, hsl_put, hln_put, hty_put, hsz_new, hsl_new, hln_new, hty_new, Nat.zero_add, Nat.add_zero, eq_self, decide_true, t32_0, t32_1, t32_2, t32_3, t32_4, t32_5, t32_6, hv_same, hv_kne, hv_tne, hv_ntne, hv_nsame, hv_ctne, hty_cpy, hln_cpy, hsz_cpy, hsl_cpy, vrn, vnr, vrr, A72_0, A72_1, A72_4, A72_7, A72_8, A72_11, A72_14, A72_15, A72_18, A72_19, A197_0, A197_1, A197_4, A197_5, A197_8, A197_9, A197_12, A197_13, A194_0, A194_1, A194_4, A194_7, A194_8, A194_11, A194_12, r5tb h hk, r5gb h hk, r5nb h hk, r5mb h hk, r5eb h hk, r5db h hk, r5vb h hk, r5lb h hk, r5pb h hk, r6tb h hk, r60b h hk, r61b h hk, r62b h hk, r63b h hk, r7tb h hk, r7lb h hk, r8tb h hk, r8lb h hk, r9tb h hk, r9lb h hk, r10tb h hk, r10lb h hk, rgBA h, g4, hm, e1, if_true]
    · have e1 : cmZ z k = True := eq_true ⟨g4, hm⟩
      simp (config := {decide := true}) only [vRf_r, vRf_n, vI_i, vL_l, vD_d, pI_i, pR_r, pR_n, vZ_0, vZ_1, ct_i, ct_r, ct_n, ct_l, ct_d, csum_n, csum_c, kt_v, kt_n, kt_e, oc_n, oc_i, oc_r, oc_l, oc_u, oc_d, true_and, and_true, Bool.and_true, Bool.true_and, ne_eq, not_false_eq_true, not_true_eq_false, implies_true, false_imp, true_imp_iff, hsz_put, hsl_put, hln_put, hty_put, hsz_new, hsl_new, hln_new, hty_new, Nat.zero_add, Nat.add_zero, eq_self, decide_true, t32_0, t32_1, t32_2, t32_3, t32_4, t32_5, t32_6, hv_same, hv_kne, hv_tne, hv_ntne, hv_nsame, hv_ctne, hty_cpy, hln_cpy, hsz_cpy, hsl_cpy, vrn, vnr, vrr, A72_0, A72_1, A72_4, A72_7, A72_8, A72_11, A72_14, A72_15, A72_18, A72_19, A197_0, A197_1, A197_4, A197_5, A197_8, A197_9, A197_12, A197_13, A194_0, A194_1, A194_4, A194_7, A194_8, A194_11, A194_12, r5tb h hk, r5gb h hk, r5nb h hk, r5mb h hk, r5eb h hk, r5db h hk, r5vb h hk, r5lb h hk, r5pb h hk, r6tb h hk, r60b h hk, r61b h hk, r62b h hk, r63b h hk, r7tb h hk, r7lb h hk, r8tb h hk, r8lb h hk, r9tb h hk, r9lb h hk, r10tb h hk, r10lb h hk, rgBA h, g4, hm, e1, if_false]
theorem c_numberOf {x : Int32} (h : RepB g A B σ z) (h3 : zn z ≤ 1000) (hR : okR z x) : aw g 62 0 [some (gref A x)] [] σ Q = Q (.inl (some (.int x))) σ := by
  rcases hR with e | ⟨j, j1, e⟩
  · subst e
    rw [gref_m]
    simp (config := {decide := true}) only [vRf_r, vRf_n, vI_i, vL_l, vD_d, pI_i, pR_r, pR_n, vZ_0, vZ_1, ct_i, ct_r, ct_n, ct_l, ct_d, csum_n, csum_c, kt_v, kt_n, kt_e, oc_n, oc_i, oc_r, oc_l, oc_u, oc_d, true_and, and_true, Bool.and_true, Bool.true_and, ne_eq, not_false_eq_true, not_true_eq_false, implies_true, false_imp, true_imp_iff, hsz_put, hsl_put, hln_put, hty_put, hsz_new, hsl_new, hln_new, hty_new, Nat.zero_add, Nat.add_zero, eq_self, decide_true, t32_0, t32_1, t32_2, t32_3, t32_4, t32_5, t32_6, hv_same, hv_kne, hv_tne, hv_ntne, hv_nsame, hv_ctne, hty_cpy, hln_cpy, hsz_cpy, hsl_cpy, vrn, vnr, vrr, A62_0, A62_1, A62_4, A62_5, A62_8, A62_9, A62_12]
  · subst e
    rw [gref_of (by omega)]
    have g4 := r5tb h j1
    have g5 := r5nb h j1
    simp (config := {decide := true}) only [vRf_r, vRf_n, vI_i, vL_l, vD_d, pI_i, pR_r, pR_n, vZ_0, vZ_1, ct_i, ct_r, ct_n, ct_l, ct_d, csum_n, csum_c, kt_v, kt_n, kt_e, oc_n, oc_i, oc_r, oc_l, oc_u, oc_d, true_and, and_true, Bool.and_true, Bool.true_and, ne_eq, not_false_eq_true, not_true_eq_false, implies_true, false_imp, true_imp_iff, hsz_put, hsl_put, hln_put, hty_put, hsz_new, hsl_new, hln_new, hty_new, Nat.zero_add, Nat.add_zero, eq_self, decide_true, t32_0, t32_1, t32_2, t32_3, t32_4, t32_5, t32_6, hv_same, hv_kne, hv_tne, hv_ntne, hv_nsame, hv_ctne, hty_cpy, hln_cpy, hsz_cpy, hsl_cpy, vrn, vnr, vrr, A62_0, A62_1, A62_4, A62_5, A62_8, A62_9, A62_12, g4, g5]
end TOLD2
