/-! the device -/
def dv1Z (z : ZT) (k : Nat) : ZT := zs (zs (zs (if z.1 1 k 3 = 1 then zs (zs z 1 k 8 (z.1 1 k 8 + 1)) 1 k 3 0 else zs z 1 k 8 (z.1 1 k 8 + 1)) 0 0 9 (z.1 0 0 9 + 1)) 0 0 4 (-1)) 0 0 5 (-1)
def beginZ (z : ZT) (k : Nat) : ZT := zs (zs (zs (zs (zs (zs z 1 k 12 (z.1 1 k 12 - 1)) 0 0 4 (Int32.ofNat k)) 0 0 5 (z.1 0 0 2)) 0 0 6 (Int32.ofNat k)) 0 0 10 (z.1 0 0 2)) 0 0 11 (Int32.ofNat k)
def dvI (z : ZT) (c : Nat) : Nat := (irm (z.1 0 0 6 + Int32.ofNat c) (Int32.ofNat (zn z))).toNatClampNeg
def dvF (z : ZT) : Nat → Nat → ZT
  | _, 0 => z
  | c, m + 1 => if 0 < z.1 1 (dvI z c) 12 then beginZ z (dvI z c) else dvF z (c + 1) m
def dv2Z (z : ZT) : ZT := if z.1 0 0 4 = -1 then dvF z 1 (zn z) else z
def deviceZ (z : ZT) : ZT := dv2Z (if z.1 0 0 4 ≠ -1 ∧ ¬ (z.1 0 0 2 - z.1 0 0 5 < 3) then dv1Z z (z.1 0 0 4).toNatClampNeg else z)
section DEVICE
variable {g : GC} {A B : Nat → Nat → Nat} {σ σ' : AH} {z : ZT} {k p : Nat} {Q : AQ}
theorem gref_of {n : Nat} (h : n < 2147483648) : gref A (Int32.ofNat n) = .ref (A 4 n) := by
  rw [gref_k _ (fun e => by rw [n32_m1 h] at e; exact e), n32_nat h]
theorem gref_m : gref A (-1) = .null := by unfold gref; rw [if_pos rfl]
theorem dvI_of (h3 : zn z ≤ 1000) (hl : okR z (z.1 0 0 6)) {c : Nat} (h1 : 1 ≤ c) (h2 : c ≤ zn z) : irm (z.1 0 0 6 + Int32.ofNat c) (Int32.ofNat (zn z)) = Int32.ofNat (dvI z c) ∧ dvI z c < zn z := by
  have key : ∃ i, i < zn z ∧ irm (z.1 0 0 6 + Int32.ofNat c) (Int32.ofNat (zn z)) = Int32.ofNat i := by
    rcases hl with e | ⟨j, j1, e⟩
    · refine ⟨(c - 1) % zn z, Nat.mod_lt _ (by omega), ?_⟩
      have e2 : z.1 0 0 6 + Int32.ofNat c = Int32.ofNat (c - 1) := by
        rw [e]
        have : Int32.ofNat c = Int32.ofNat (c - 1) + 1 := by rw [n32_inc]; congr 1; omega
        rw [this, Int32.add_comm (Int32.ofNat (c - 1)) 1, ← Int32.add_assoc]
        rw [show (-1 : Int32) + 1 = 0 from rfl, Int32.zero_add]
      rw [e2, n32_rem (by omega) (by omega)]
    · refine ⟨(j + c) % zn z, Nat.mod_lt _ (by omega), ?_⟩
      rw [e, n32_add, n32_rem (by omega) (by omega)]
  obtain ⟨i, i1, i2⟩ := key
  have : dvI z c = i := by unfold dvI; rw [i2, n32_nat (by omega)]
  exact ⟨by rw [this]; exact i2, by omega⟩
theorem c_begin (h : RepB g A B σ z) (hk : k < zn z) (h3 : zn z ≤ 1000) (hQ : ∀ σ', St g A B B σ σ' (beginZ z k) 0 0 → Q (.inl none) σ') : aw g 128 0 [some (.ref (A 1 0)), some (.ref (A 4 k))] [] σ Q := by
  have R1 := rb_g (j := 12) (v := z.1 1 k 12 - 1) h hk (by decide)
  have T1 := St_put (St_refl h) 4 (by decide) R1
  have R2 := rb_r (j := 4) (v := Int32.ofNat k) (w := .ref (A 4 k)) R1 (Or.inr rfl) (gref_of (A := mix A B) (by omega)).symm
  have T2 := St_put T1 1 (by decide) R2
  have R3 := rb_m (j := 5) (v := z.1 0 0 2) R2 (by decide)
  have T3 := St_put T2 1 (by decide) R3
  have R4 := rb_m (j := 6) (v := Int32.ofNat k) R3 (by decide)
  have T4 := St_put T3 1 (by decide) R4
  have R5 := rb_mod (κ := 0) (i := 0) (j := 11) (v := Int32.ofNat k) (rb_mod (κ := 0) (i := 0) (j := 10) (v := z.1 0 0 2) R4 rfl) rfl
  simp (config := {decide := true}) only [vRf_r, vRf_n, vI_i, vL_l, vD_d, pI_i, pR_r, pR_n, vZ_0, vZ_1, ct_i, ct_r, ct_n, ct_l, ct_d, csum_n, csum_c, kt_v, kt_n, kt_e, oc_n, oc_i, oc_r, oc_l, oc_u, oc_d, true_and, and_true, Bool.and_true, Bool.true_and, ne_eq, not_false_eq_true, not_true_eq_false, implies_true, false_imp, true_imp_iff, hsz_put, hsl_put, hln_put, hty_put, hsz_new, hsl_new, hln_new, hty_new, Nat.zero_add, Nat.add_zero, eq_self, decide_true, t32_0, t32_1, t32_2, t32_3, t32_4, t32_5, t32_6, hv_same, hv_kne, hv_tne, hv_ntne, hv_nsame, hv_ctne, hty_cpy, hln_cpy, hsz_cpy, hsl_cpy, vrn, vnr, vrr, A128_0, A128_1, A128_2, A128_5, A128_6, A128_7, A128_10, A128_11, A128_12, A128_15, A128_16, A128_17, A128_20, A128_23, A128_24, A128_25, A128_28, A128_31, r1tb h, r10_b h, r11_b h, r13_b h, r14_b h, r1sb h, rgBA h, r5tb h hk, r5gb h hk, r5nb h hk, r5mb h hk, r5eb h hk, r5db h hk, r5vb h hk, r5lb h hk, r5pb h hk, r6tb h hk, r60b h hk, r61b h hk, r62b h hk, r63b h hk, r7tb h hk, r7lb h hk, r8tb h hk, r8lb h hk, r9tb h hk, r9lb h hk, r10tb h hk, r10lb h hk, rgBA h]
  exact hQ _ (St_z T4 R5)
theorem dv1Z_2 (z : ZT) (k : Nat) : (dv1Z z k).2 = z.2 := by unfold dv1Z; split <;> rfl
theorem c_device (h : RepB g A B σ z) (h3 : zn z ≤ 1000) (hR : okR z (z.1 0 0 4)) (hl : okR z (z.1 0 0 6)) (hQ : ∀ σ', St g A B B σ σ' (deviceZ z) 0 0 → Q (.inl none) σ') : aw g 126 0 [some (.ref (A 1 0)), none, none] [] σ Q := by
  have rest : ∀ z1 σ1, St g A B B σ σ1 z1 0 0 → zn z1 = zn z → okR z1 (z1.1 0 0 6) → okR z1 (z1.1 0 0 4) → deviceZ z = dv2Z z1 → aw g 126 66 [some (.ref (A 1 0)), none, none] [] σ1 Q := by
    intro z1 σ1 S1 n1 hl1 hR1 ez
    have loop : ∀ m c, c + m = zn z1 + 1 → 1 ≤ c → z1.1 0 0 4 = -1 → deviceZ z = dvF z1 c m → ∀ l2, aw g 126 68 [some (.ref (A 1 0)), some (.int (Int32.ofNat c)), l2] [] σ1 Q := by
      intro m
      induction m with
      | zero =>
        intro c hc0 _ _ ez2 l2
        have e1 := fun Q' => l_size (Q := Q') (rLgb S1.1)
        have e2 : (Int32.ofNat (zn z1) < Int32.ofNat c) = True := by rw [n32_lt (by omega) (by omega)]; exact eq_true (by omega)
        have t3 := (rLgb S1.1).1
        simp (config := {decide := true}) only [vRf_r, vRf_n, vI_i, vL_l, vD_d, pI_i, pR_r, pR_n, vZ_0, vZ_1, ct_i, ct_r, ct_n, ct_l, ct_d, csum_n, csum_c, kt_v, kt_n, kt_e, oc_n, oc_i, oc_r, oc_l, oc_u, oc_d, true_and, and_true, Bool.and_true, Bool.true_and, ne_eq, not_false_eq_true, not_true_eq_false, implies_true, false_imp, true_imp_iff, hsz_put, hsl_put, hln_put, hty_put, hsz_new, hsl_new, hln_new, hty_new, Nat.zero_add, Nat.add_zero, eq_self, decide_true, t32_0, t32_1, t32_2, t32_3, t32_4, t32_5, t32_6, hv_same, hv_kne, hv_tne, hv_ntne, hv_nsame, hv_ctne, hty_cpy, hln_cpy, hsz_cpy, hsl_cpy, vrn, vnr, vrr, A126_68, A126_69, A126_70, A126_73, A126_76, A126_129, r1tb S1.1, r10_b S1.1, r11_b S1.1, r13_b S1.1, r14_b S1.1, r1sb S1.1, rgBA S1.1, e1, e2, t3]
        exact hQ _ (by rw [ez2]; exact S1)
      | succ m ih =>
        intro c hc0 hc1 e4 ez2 l2
        have e1 := fun Q' => l_size (Q := Q') (rLgb S1.1)
        have e2 : (Int32.ofNat (zn z1) < Int32.ofNat c) = False := by rw [n32_lt (by omega) (by omega)]; exact eq_false (by omega)
        have t3 := (rLgb S1.1).1
        have e5 : gref A (z1.1 0 0 4) = .null := by rw [e4]; exact gref_m
        obtain ⟨e6, e7⟩ := dvI_of (z := z1) (by omega) hl1 hc1 (by omega)
        unfold irm at e6
        have e8 := fun Q' => l_get (Q := Q') (rLgb S1.1) e7
        have e9 : (Int32.ofNat (zn z1) = 0) = False := n32_ne0 (by omega) (by omega)
        have e10 : (∃ t, t ∈ [5] ∧ some 5 = some t) = True := eq_true ⟨5, by decide, rfl⟩
        have e11 := n32_inc c
        rw [A126_68]
        by_cases hq : 0 < z1.1 1 (dvI z1 c) 12
        · have ez3 : deviceZ z = beginZ z1 (dvI z1 c) := ez2.trans (if_pos hq)
          have e12 : (z1.1 1 (dvI z1 c) 12 ≤ 0) = False := eq_false (fun e => by
            rw [Int32.le_iff_toInt_le] at e
            rw [Int32.lt_iff_toInt_lt] at hq
            omega)
          simp (config := {decide := true}) only [vRf_r, vRf_n, vI_i, vL_l, vD_d, pI_i, pR_r, pR_n, vZ_0, vZ_1, ct_i, ct_r, ct_n, ct_l, ct_d, csum_n, csum_c, kt_v, kt_n, kt_e, oc_n, oc_i, oc_r, oc_l, oc_u, oc_d, true_and, and_true, Bool.and_true, Bool.true_and, ne_eq, not_false_eq_true, not_true_eq_false, implies_true, false_imp, true_imp_iff, hsz_put, hsl_put, hln_put, hty_put, hsz_new, hsl_new, hln_new, hty_new, Nat.zero_add, Nat.add_zero, eq_self, decide_true, t32_0, t32_1, t32_2, t32_3, t32_4, t32_5, t32_6, hv_same, hv_kne, hv_tne, hv_ntne, hv_nsame, hv_ctne, hty_cpy, hln_cpy, hsz_cpy, hsl_cpy, vrn, vnr, vrr, A126_69, A126_70, A126_73, A126_76, A126_79, A126_80, A126_83, A126_86, A126_87, A126_90, A126_91, A126_94, A126_95, A126_96, A126_97, A126_100, A126_103, A126_104, A126_107, A126_107r, A126_110, A126_111, A126_112, A126_115, A126_118, A126_119, A126_120, r1tb S1.1, r10_b S1.1, r11_b S1.1, r13_b S1.1, r14_b S1.1, r1sb S1.1, rgBA S1.1, r5tb S1.1 e7, r5gb S1.1 e7, r5nb S1.1 e7, r5mb S1.1 e7, r5eb S1.1 e7, r5db S1.1 e7, r5vb S1.1 e7, r5lb S1.1 e7, r5pb S1.1 e7, r6tb S1.1 e7, r60b S1.1 e7, r61b S1.1 e7, r62b S1.1 e7, r63b S1.1 e7, r7tb S1.1 e7, r7lb S1.1 e7, r8tb S1.1 e7, r8lb S1.1 e7, r9tb S1.1 e7, r9lb S1.1 e7, r10tb S1.1 e7, r10lb S1.1 e7, rgBA S1.1, e1, e2, e5, e6, e8, e9, e10, e12, t3]
          refine c_begin S1.1 e7 (by omega) ?_
          intro σ2 S2
          have e13 := fun Q' => l_size (Q := Q') (rLgb S2.1)
          have t4 := (rLgb S2.1).1
          have e14 : gref A ((beginZ z1 (dvI z1 c)).1 0 0 4) = .ref (A 4 (dvI z1 c)) := by
            unfold beginZ
            rw [zs_j _ (by decide), zs_j _ (by decide), zs_j _ (by decide), zs_j _ (by decide), zs_at, gref_of (by omega)]
          have ex : aw g 126 129 [some (.ref (A 1 0)), some (.int (Int32.ofNat (c + 1))), some (.ref (A 4 (dvI z1 c)))] [] σ2 Q := by
            simp (config := {decide := true}) only [vRf_r, vRf_n, vI_i, vL_l, vD_d, pI_i, pR_r, pR_n, vZ_0, vZ_1, ct_i, ct_r, ct_n, ct_l, ct_d, csum_n, csum_c, kt_v, kt_n, kt_e, oc_n, oc_i, oc_r, oc_l, oc_u, oc_d, true_and, and_true, Bool.and_true, Bool.true_and, ne_eq, not_false_eq_true, not_true_eq_false, implies_true, false_imp, true_imp_iff, hsz_put, hsl_put, hln_put, hty_put, hsz_new, hsl_new, hln_new, hty_new, Nat.zero_add, Nat.add_zero, eq_self, decide_true, t32_0, t32_1, t32_2, t32_3, t32_4, t32_5, t32_6, hv_same, hv_kne, hv_tne, hv_ntne, hv_nsame, hv_ctne, hty_cpy, hln_cpy, hsz_cpy, hsl_cpy, vrn, vnr, vrr, A126_129]
            exact hQ _ (by rw [ez3]; exact St_trans S1 S2)
          by_cases q2 : Int32.ofNat (zn (beginZ z1 (dvI z1 c))) < Int32.ofNat (c + 1)
          · simp (config := {decide := true}) only [vRf_r, vRf_n, vI_i, vL_l, vD_d, pI_i, pR_r, pR_n, vZ_0, vZ_1, ct_i, ct_r, ct_n, ct_l, ct_d, csum_n, csum_c, kt_v, kt_n, kt_e, oc_n, oc_i, oc_r, oc_l, oc_u, oc_d, true_and, and_true, Bool.and_true, Bool.true_and, ne_eq, not_false_eq_true, not_true_eq_false, implies_true, false_imp, true_imp_iff, hsz_put, hsl_put, hln_put, hty_put, hsz_new, hsl_new, hln_new, hty_new, Nat.zero_add, Nat.add_zero, eq_self, decide_true, t32_0, t32_1, t32_2, t32_3, t32_4, t32_5, t32_6, hv_same, hv_kne, hv_tne, hv_ntne, hv_nsame, hv_ctne, hty_cpy, hln_cpy, hsz_cpy, hsl_cpy, vrn, vnr, vrr, A126_68, A126_69, A126_70, A126_73, A126_76, A126_123, A126_126, r1tb S2.1, r10_b S2.1, r11_b S2.1, r13_b S2.1, r14_b S2.1, r1sb S2.1, rgBA S2.1, e11, e13, t4, q2]
            exact ex
          · simp (config := {decide := true}) only [vRf_r, vRf_n, vI_i, vL_l, vD_d, pI_i, pR_r, pR_n, vZ_0, vZ_1, ct_i, ct_r, ct_n, ct_l, ct_d, csum_n, csum_c, kt_v, kt_n, kt_e, oc_n, oc_i, oc_r, oc_l, oc_u, oc_d, true_and, and_true, Bool.and_true, Bool.true_and, ne_eq, not_false_eq_true, not_true_eq_false, implies_true, false_imp, true_imp_iff, hsz_put, hsl_put, hln_put, hty_put, hsz_new, hsl_new, hln_new, hty_new, Nat.zero_add, Nat.add_zero, eq_self, decide_true, t32_0, t32_1, t32_2, t32_3, t32_4, t32_5, t32_6, hv_same, hv_kne, hv_tne, hv_ntne, hv_nsame, hv_ctne, hty_cpy, hln_cpy, hsz_cpy, hsl_cpy, vrn, vnr, vrr, A126_68, A126_69, A126_70, A126_73, A126_76, A126_79, A126_80, A126_83, A126_123, A126_126, r1tb S2.1, r10_b S2.1, r11_b S2.1, r13_b S2.1, r14_b S2.1, r1sb S2.1, rgBA S2.1, e11, e13, e14, t4, q2]
            exact ex
        · have ez3 : deviceZ z = dvF z1 (c + 1) m := ez2.trans (if_neg hq)
          have e12 : (z1.1 1 (dvI z1 c) 12 ≤ 0) = True := eq_true (by
            rw [Int32.le_iff_toInt_le]
            rw [Int32.lt_iff_toInt_lt] at hq
            omega)
          have nx := ih (c + 1) (by omega) (by omega) e4 ez3 (some (.ref (A 4 (dvI z1 c))))
          simp (config := {decide := true}) only [vRf_r, vRf_n, vI_i, vL_l, vD_d, pI_i, pR_r, pR_n, vZ_0, vZ_1, ct_i, ct_r, ct_n, ct_l, ct_d, csum_n, csum_c, kt_v, kt_n, kt_e, oc_n, oc_i, oc_r, oc_l, oc_u, oc_d, true_and, and_true, Bool.and_true, Bool.true_and, ne_eq, not_false_eq_true, not_true_eq_false, implies_true, false_imp, true_imp_iff, hsz_put, hsl_put, hln_put, hty_put, hsz_new, hsl_new, hln_new, hty_new, Nat.zero_add, Nat.add_zero, eq_self, decide_true, t32_0, t32_1, t32_2, t32_3, t32_4, t32_5, t32_6, hv_same, hv_kne, hv_tne, hv_ntne, hv_nsame, hv_ctne, hty_cpy, hln_cpy, hsz_cpy, hsl_cpy, vrn, vnr, vrr, A126_69, A126_70, A126_73, A126_76, A126_79, A126_80, A126_83, A126_86, A126_87, A126_90, A126_91, A126_94, A126_95, A126_96, A126_97, A126_100, A126_103, A126_104, A126_107, A126_107r, A126_110, A126_111, A126_112, A126_115, A126_118, A126_119, A126_120, A126_123, A126_126, r1tb S1.1, r10_b S1.1, r11_b S1.1, r13_b S1.1, r14_b S1.1, r1sb S1.1, rgBA S1.1, r5tb S1.1 e7, r5gb S1.1 e7, r5nb S1.1 e7, r5mb S1.1 e7, r5eb S1.1 e7, r5db S1.1 e7, r5vb S1.1 e7, r5lb S1.1 e7, r5pb S1.1 e7, r6tb S1.1 e7, r60b S1.1 e7, r61b S1.1 e7, r62b S1.1 e7, r63b S1.1 e7, r7tb S1.1 e7, r7lb S1.1 e7, r8tb S1.1 e7, r8lb S1.1 e7, r9tb S1.1 e7, r9lb S1.1 e7, r10tb S1.1 e7, r10lb S1.1 e7, rgBA S1.1, e1, e2, e5, e6, e8, e9, e10, e11, e12, t3]
          exact nx
    by_cases e4 : z1.1 0 0 4 = -1
    · have nx := loop (zn z1) 1 (by omega) (by omega) e4 (by rw [ez]; exact if_pos e4) none
      rw [show Int32.ofNat 1 = 1 from rfl] at nx
      simp (config := {decide := true}) only [vRf_r, vRf_n, vI_i, vL_l, vD_d, pI_i, pR_r, pR_n, vZ_0, vZ_1, ct_i, ct_r, ct_n, ct_l, ct_d, csum_n, csum_c, kt_v, kt_n, kt_e, oc_n, oc_i, oc_r, oc_l, oc_u, oc_d, true_and, and_true, Bool.and_true, Bool.true_and, ne_eq, not_false_eq_true, not_true_eq_false, implies_true, false_imp, true_imp_iff, hsz_put, hsl_put, hln_put, hty_put, hsz_new, hsl_new, hln_new, hty_new, Nat.zero_add, Nat.add_zero, eq_self, decide_true, t32_0, t32_1, t32_2, t32_3, t32_4, t32_5, t32_6, hv_same, hv_kne, hv_tne, hv_ntne, hv_nsame, hv_ctne, hty_cpy, hln_cpy, hsz_cpy, hsl_cpy, vrn, vnr, vrr, A126_66, A126_67]
      exact nx
    · have e1 := fun Q' => l_size (Q := Q') (rLgb S1.1)
      have t3 := (rLgb S1.1).1
      have ez2 : deviceZ z = z1 := ez.trans (if_neg e4)
      have e5 := gref_k (A := A) _ e4
      have ex : aw g 126 129 [some (.ref (A 1 0)), some (.int 1), none] [] σ1 Q := by
        simp (config := {decide := true}) only [vRf_r, vRf_n, vI_i, vL_l, vD_d, pI_i, pR_r, pR_n, vZ_0, vZ_1, ct_i, ct_r, ct_n, ct_l, ct_d, csum_n, csum_c, kt_v, kt_n, kt_e, oc_n, oc_i, oc_r, oc_l, oc_u, oc_d, true_and, and_true, Bool.and_true, Bool.true_and, ne_eq, not_false_eq_true, not_true_eq_false, implies_true, false_imp, true_imp_iff, hsz_put, hsl_put, hln_put, hty_put, hsz_new, hsl_new, hln_new, hty_new, Nat.zero_add, Nat.add_zero, eq_self, decide_true, t32_0, t32_1, t32_2, t32_3, t32_4, t32_5, t32_6, hv_same, hv_kne, hv_tne, hv_ntne, hv_nsame, hv_ctne, hty_cpy, hln_cpy, hsz_cpy, hsl_cpy, vrn, vnr, vrr, A126_129]
        exact hQ _ (by rw [ez2]; exact S1)
      by_cases q2 : Int32.ofNat (zn z1) < 1
      · simp (config := {decide := true}) only [vRf_r, vRf_n, vI_i, vL_l, vD_d, pI_i, pR_r, pR_n, vZ_0, vZ_1, ct_i, ct_r, ct_n, ct_l, ct_d, csum_n, csum_c, kt_v, kt_n, kt_e, oc_n, oc_i, oc_r, oc_l, oc_u, oc_d, true_and, and_true, Bool.and_true, Bool.true_and, ne_eq, not_false_eq_true, not_true_eq_false, implies_true, false_imp, true_imp_iff, hsz_put, hsl_put, hln_put, hty_put, hsz_new, hsl_new, hln_new, hty_new, Nat.zero_add, Nat.add_zero, eq_self, decide_true, t32_0, t32_1, t32_2, t32_3, t32_4, t32_5, t32_6, hv_same, hv_kne, hv_tne, hv_ntne, hv_nsame, hv_ctne, hty_cpy, hln_cpy, hsz_cpy, hsl_cpy, vrn, vnr, vrr, A126_66, A126_67, A126_68, A126_69, A126_70, A126_73, A126_76, r1tb S1.1, r10_b S1.1, r11_b S1.1, r13_b S1.1, r14_b S1.1, r1sb S1.1, rgBA S1.1, e1, t3, q2]
        exact ex
      · simp (config := {decide := true}) only [vRf_r, vRf_n, vI_i, vL_l, vD_d, pI_i, pR_r, pR_n, vZ_0, vZ_1, ct_i, ct_r, ct_n, ct_l, ct_d, csum_n, csum_c, kt_v, kt_n, kt_e, oc_n, oc_i, oc_r, oc_l, oc_u, oc_d, true_and, and_true, Bool.and_true, Bool.true_and, ne_eq, not_false_eq_true, not_true_eq_false, implies_true, false_imp, true_imp_iff, hsz_put, hsl_put, hln_put, hty_put, hsz_new, hsl_new, hln_new, hty_new, Nat.zero_add, Nat.add_zero, eq_self, decide_true, t32_0, t32_1, t32_2, t32_3, t32_4, t32_5, t32_6, hv_same, hv_kne, hv_tne, hv_ntne, hv_nsame, hv_ctne, hty_cpy, hln_cpy, hsz_cpy, hsl_cpy, vrn, vnr, vrr, A126_66, A126_67, A126_68, A126_69, A126_70, A126_73, A126_76, A126_79, A126_80, A126_83, r1tb S1.1, r10_b S1.1, r11_b S1.1, r13_b S1.1, r14_b S1.1, r1sb S1.1, rgBA S1.1, e1, e5, t3, q2]
        exact ex
  by_cases h4 : z.1 0 0 4 = -1
  · have ez : deviceZ z = dv2Z z := by unfold deviceZ; rw [if_neg (fun e => e.1 h4)]
    have e5 : gref A (z.1 0 0 4) = .null := by rw [h4]; exact gref_m
    have nx := rest z σ (St_refl h) rfl hl hR ez
    simp (config := {decide := true}) only [vRf_r, vRf_n, vI_i, vL_l, vD_d, pI_i, pR_r, pR_n, vZ_0, vZ_1, ct_i, ct_r, ct_n, ct_l, ct_d, csum_n, csum_c, kt_v, kt_n, kt_e, oc_n, oc_i, oc_r, oc_l, oc_u, oc_d, true_and, and_true, Bool.and_true, Bool.true_and, ne_eq, not_false_eq_true, not_true_eq_false, implies_true, false_imp, true_imp_iff, hsz_put, hsl_put, hln_put, hty_put, hsz_new, hsl_new, hln_new, hty_new, Nat.zero_add, Nat.add_zero, eq_self, decide_true, t32_0, t32_1, t32_2, t32_3, t32_4, t32_5, t32_6, hv_same, hv_kne, hv_tne, hv_ntne, hv_nsame, hv_ctne, hty_cpy, hln_cpy, hsz_cpy, hsl_cpy, vrn, vnr, vrr, A126_0, A126_1, A126_4, r1tb h, r10_b h, r11_b h, r13_b h, r14_b h, r1sb h, rgBA h, e5]
    exact nx
  · obtain ⟨k, k1, ek⟩ := hR.resolve_left h4
    have e5 := gref_k (A := A) _ h4
    rw [ek, n32_nat (by omega)] at e5
    by_cases h5 : z.1 0 0 2 - z.1 0 0 5 < 3
    · have ez : deviceZ z = dv2Z z := by unfold deviceZ; rw [if_neg (fun e => e.2 h5)]
      have nx := rest z σ (St_refl h) rfl hl hR ez
      simp (config := {decide := true}) only [vRf_r, vRf_n, vI_i, vL_l, vD_d, pI_i, pR_r, pR_n, vZ_0, vZ_1, ct_i, ct_r, ct_n, ct_l, ct_d, csum_n, csum_c, kt_v, kt_n, kt_e, oc_n, oc_i, oc_r, oc_l, oc_u, oc_d, true_and, and_true, Bool.and_true, Bool.true_and, ne_eq, not_false_eq_true, not_true_eq_false, implies_true, false_imp, true_imp_iff, hsz_put, hsl_put, hln_put, hty_put, hsz_new, hsl_new, hln_new, hty_new, Nat.zero_add, Nat.add_zero, eq_self, decide_true, t32_0, t32_1, t32_2, t32_3, t32_4, t32_5, t32_6, hv_same, hv_kne, hv_tne, hv_ntne, hv_nsame, hv_ctne, hty_cpy, hln_cpy, hsz_cpy, hsl_cpy, vrn, vnr, vrr, A126_0, A126_1, A126_4, A126_7, A126_8, A126_11, A126_12, A126_15, A126_16, A126_17, r1tb h, r10_b h, r11_b h, r13_b h, r14_b h, r1sb h, rgBA h, ek, e5, h5]
      exact nx
    · have ez : deviceZ z = dv2Z (dv1Z z k) := by unfold deviceZ; rw [if_pos ⟨h4, h5⟩, ek, n32_nat (by omega)]
      have hl1 : okR (dv1Z z k) ((dv1Z z k).1 0 0 6) := by
        have e6 : (dv1Z z k).1 0 0 6 = z.1 0 0 6 := by
          unfold dv1Z
          rw [zs_j _ (by decide), zs_j _ (by decide), zs_j _ (by decide)]
          split
          · rw [zs_k _ (by decide), zs_k _ (by decide)]
          · rw [zs_k _ (by decide)]
        unfold okR zn
        rw [e6, dv1Z_2]; exact hl
      have hR1 : okR (dv1Z z k) ((dv1Z z k).1 0 0 4) := by
        left; unfold dv1Z; rw [zs_j _ (by decide), zs_at]
      have R1 := rb_g (j := 8) (v := z.1 1 k 8 + 1) h k1 (by decide)
      have T1 := St_put (St_refl h) 4 (by decide) R1
      have tail : ∀ z1 σ1, St g A B B σ σ1 z1 0 0 → zs (zs (zs z1 0 0 9 (z.1 0 0 9 + 1)) 0 0 4 (-1)) 0 0 5 (-1) = dv1Z z k → aw g 126 66 [some (.ref (A 1 0)), none, none] [] (hput (hput (hput σ1 1 (A 1 0) 9 (.int (z.1 0 0 9 + 1))) 1 (A 1 0) 4 .null) 1 (A 1 0) 5 (.int (-1))) Q := by
        intro z1 σ1 S1 ez1
        have R3 := rb_m (j := 9) (v := z.1 0 0 9 + 1) S1.1 (by decide)
        have T3 := St_put S1 1 (by decide) R3
        have R4 := rb_r (j := 4) (v := -1) (w := .null) R3 (Or.inr rfl) gref_m.symm
        have T4 := St_put T3 1 (by decide) R4
        have R5 := rb_m (j := 5) (v := -1) R4 (by decide)
        have T5 := St_put T4 1 (by decide) R5
        rw [ez1] at T5
        exact rest _ _ T5 (by unfold zn; rw [dv1Z_2]) hl1 hR1 ez
      by_cases h6 : z.1 1 k 3 = 1
      · have R2 := rb_g (j := 3) (v := 0) R1 k1 (by decide)
        have T2 := St_put T1 4 (by decide) R2
        have nx := tail _ _ T2 (by unfold dv1Z; rw [if_pos h6])
        simp (config := {decide := true}) only [vRf_r, vRf_n, vI_i, vL_l, vD_d, pI_i, pR_r, pR_n, vZ_0, vZ_1, ct_i, ct_r, ct_n, ct_l, ct_d, csum_n, csum_c, kt_v, kt_n, kt_e, oc_n, oc_i, oc_r, oc_l, oc_u, oc_d, true_and, and_true, Bool.and_true, Bool.true_and, ne_eq, not_false_eq_true, not_true_eq_false, implies_true, false_imp, true_imp_iff, hsz_put, hsl_put, hln_put, hty_put, hsz_new, hsl_new, hln_new, hty_new, Nat.zero_add, Nat.add_zero, eq_self, decide_true, t32_0, t32_1, t32_2, t32_3, t32_4, t32_5, t32_6, hv_same, hv_kne, hv_tne, hv_ntne, hv_nsame, hv_ctne, hty_cpy, hln_cpy, hsz_cpy, hsl_cpy, vrn, vnr, vrr, A126_0, A126_1, A126_4, A126_7, A126_8, A126_11, A126_12, A126_15, A126_16, A126_17, A126_20, A126_21, A126_24, A126_25, A126_28, A126_29, A126_30, A126_33, A126_34, A126_37, A126_40, A126_41, A126_44, A126_45, A126_48, A126_49, A126_52, A126_53, A126_54, A126_57, A126_58, A126_59, A126_62, A126_63, A127_0, A127_1, A127_2, A127_5, A127_6, A127_7, A127_10, r1tb h, r10_b h, r11_b h, r13_b h, r14_b h, r1sb h, rgBA h, r5tb h k1, r5gb h k1, r5nb h k1, r5mb h k1, r5eb h k1, r5db h k1, r5vb h k1, r5lb h k1, r5pb h k1, r6tb h k1, r60b h k1, r61b h k1, r62b h k1, r63b h k1, r7tb h k1, r7lb h k1, r8tb h k1, r8lb h k1, r9tb h k1, r9lb h k1, r10tb h k1, r10lb h k1, rgBA h, ek, e5, h5, h6]
        exact nx
      · have nx := tail _ _ T1 (by unfold dv1Z; rw [if_neg h6])
        simp (config := {decide := true}) only [vRf_r, vRf_n, vI_i, vL_l, vD_d, pI_i, pR_r, pR_n, vZ_0, vZ_1, ct_i, ct_r, ct_n, ct_l, ct_d, csum_n, csum_c, kt_v, kt_n, kt_e, oc_n, oc_i, oc_r, oc_l, oc_u, oc_d, true_and, and_true, Bool.and_true, Bool.true_and, ne_eq, not_false_eq_true, not_true_eq_false, implies_true, false_imp, true_imp_iff, hsz_put, hsl_put, hln_put, hty_put, hsz_new, hsl_new, hln_new, hty_new, Nat.zero_add, Nat.add_zero, eq_self, decide_true, t32_0, t32_1, t32_2, t32_3, t32_4, t32_5, t32_6, hv_same, hv_kne, hv_tne, hv_ntne, hv_nsame, hv_ctne, hty_cpy, hln_cpy, hsz_cpy, hsl_cpy, vrn, vnr, vrr, A126_0, A126_1, A126_4, A126_7, A126_8, A126_11, A126_12, A126_15, A126_16, A126_17, A126_20, A126_21, A126_24, A126_25, A126_28, A126_29, A126_30, A126_33, A126_34, A126_37, A126_40, A126_41, A126_44, A126_45, A126_48, A126_49, A126_52, A126_53, A126_54, A126_57, A126_58, A126_59, A126_62, A126_63, A127_0, A127_1, A127_2, A127_5, A127_6, A127_7, A127_10, r1tb h, r10_b h, r11_b h, r13_b h, r14_b h, r1sb h, rgBA h, r5tb h k1, r5gb h k1, r5nb h k1, r5mb h k1, r5eb h k1, r5db h k1, r5vb h k1, r5lb h k1, r5pb h k1, r6tb h k1, r60b h k1, r61b h k1, r62b h k1, r63b h k1, r7tb h k1, r7lb h k1, r8tb h k1, r8lb h k1, r9tb h k1, r9lb h k1, r10tb h k1, r10lb h k1, rgBA h, ek, e5, h5, h6]
        exact nx
end DEVICE
