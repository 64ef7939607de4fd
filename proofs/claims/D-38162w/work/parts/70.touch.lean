/-! fetch, touch, go -/
def fetchZ (z : ZT) (k p : Nat) : ZT :=
  let i := takenI z
  let z1 := takenZ z
  let z3 := zs (zs (zs (zs (zs (zs z1 8 i 0 (Int32.ofNat k)) 8 i 1 (Int32.ofNat p)) 8 i 2 (z.1 0 0 2)) 14 k p 0) 15 k p (Int32.ofNat i)) 16 k p (z.1 0 0 2)
  if z1.1 4 k p = 0 then z3 else zs (zs (zs (zs z3 4 k p 0) 1 k 3 2) 1 k 6 (z.1 0 0 2 + 2)) 1 k 35 (z.1 0 0 2 + 2)
def touchZ (z : ZT) (k : Nat) : ZT := match frOf z k (Int32.ofNat (zar z k)) with
  | some i => finishZ (if zkd z k = 2 ∧ z.1 1 k 30 = 1 then zs (zs (zs (zs z 16 k (zar z k) (z.1 0 0 2)) 8 i 2 (z.1 0 0 2)) 1 k 34 (z.1 1 k 34 ||| (1 <<< (Int32.ofNat (zar z k) &&& 31)))) 6 k (zar z k) 1 else zs (zs z 16 k (zar z k) (z.1 0 0 2)) 8 i 2 (z.1 0 0 2)) k 0
  | none => if z.1 5 k (zar z k) = 0 then fetchZ (zs z 3 k 0 (z.1 3 k 0 + 1)) k (zar z k) else zs (zs (zs z 14 k (zar z k) 3) 3 k 3 (z.1 3 k 3 + 1)) 5 k (zar z k) 0
section TOUCH
variable {g : GC} {A B : Nat → Nat → Nat} {σ σ' : AH} {z : ZT} {k p : Nat} {Q : AQ}
theorem takenZ_2 (z : ZT) : (takenZ z).2 = z.2 := by unfold takenZ; split <;> rfl
theorem c_fetch (h : RepB g A B σ z) (hk : k < zn z) (hp : p < 6) (hF : okFr z) (hn : 0 < zf z) (hc : hsz σ + 1 ≤ gC g) (hs : hsl σ + 4 ≤ gS g) (hQ : ∀ σ', St g A B B σ σ' (fetchZ z k p) 1 4 → Q (.inl none) σ') : aw g 121 0 [some (.ref (A 1 0)), some (.ref (A 4 k)), some (.int (Int32.ofNat p))] [] σ Q := by
  simp (config := {decide := true}) only [vRf_r, vRf_n, vI_i, vL_l, vD_d, pI_i, pR_r, pR_n, vZ_0, vZ_1, ct_i, ct_r, ct_n, ct_l, ct_d, csum_n, csum_c, kt_v, kt_n, kt_e, oc_n, oc_i, oc_r, oc_l, oc_u, oc_d, true_and, and_true, Bool.and_true, Bool.true_and, ne_eq, not_false_eq_true, not_true_eq_false, implies_true, false_imp, true_imp_iff, hsz_put, hsl_put, hln_put, hty_put, hsz_new, hsl_new, hln_new, hty_new, Nat.zero_add, Nat.add_zero, eq_self, decide_true, t32_0, t32_1, t32_2, t32_3, t32_4, t32_5, t32_6, hv_same, hv_kne, hv_tne, hv_ntne, hv_nsame, hv_ctne, hty_cpy, hln_cpy, hsz_cpy, hsl_cpy, vrn, vnr, vrr, A121_0, A121_1, r1tb h, r10_b h, r11_b h, r13_b h, r14_b h, r1sb h, rgBA h]
  refine c_taken h hF hn hc hs ?_
  intro σ1 S1 hi
  have hk1 : k < zn (takenZ z) := by unfold zn; rw [takenZ_2]; exact hk
  have hi1 : takenI z < zf (takenZ z) := by unfold zf; rw [takenZ_2]; exact hi
  have n1 : (takenZ z).1 0 0 2 = z.1 0 0 2 := by
    unfold takenZ
    split
    · unfold toDiskZ
      rw [zs_j _ (by decide), zs_k _ (by decide), zs_k _ (by decide), zs_k _ (by decide), zs_k _ (by decide), zs_k _ (by decide)]
    · rfl
  have R1 := rb_f0 (v := Int32.ofNat k) (w := .ref (A 4 k)) S1.1 hi1 (by
    unfold gref; rw [if_neg (fun e => by rw [n32_m1 (by have := hF.2.1; omega)] at e; exact e), n32_nat (by have := hF.2.1; omega)])
  have T1 := St_put S1 18 (by decide) R1
  have R2 := rb_f1 (v := Int32.ofNat p) R1 hi1
  have T2 := St_put T1 18 (by decide) R2
  have R3 := rb_f2 (v := z.1 0 0 2) R2 hi1
  have T3 := St_put T2 18 (by decide) R3
  have R4 := rb_mod (κ := 16) (i := k) (j := p) (v := z.1 0 0 2) (rb_mod (κ := 15) (i := k) (j := p) (v := Int32.ofNat (takenI z)) (rb_mod (κ := 14) (i := k) (j := p) (v := 0) R3 rfl) rfl) rfl
  have T4 := St_z T3 R4
  have b1 : (Int32.ofNat p < 0) = False := n32_neg (by omega)
  have b2 : (Int32.ofNat p).toNatClampNeg = p := n32_nat (by omega)
  have b3 : (p < 6) = True := eq_true hp
  have f9 := r9vb S1.1 hk1 hp
  have ft := r18tb S1.1 hi1
  by_cases hd : (takenZ z).1 4 k p = 0
  · rw [hd] at f9
    have e1 : fetchZ z k p = zs (zs (zs (zs (zs (zs (takenZ z) 8 (takenI z) 0 (Int32.ofNat k)) 8 (takenI z) 1 (Int32.ofNat p)) 8 (takenI z) 2 (z.1 0 0 2)) 14 k p 0) 15 k p (Int32.ofNat (takenI z))) 16 k p (z.1 0 0 2) := by
      unfold fetchZ; rw [if_pos hd]
    simp (config := {decide := true}) only [vRf_r, vRf_n, vI_i, vL_l, vD_d, pI_i, pR_r, pR_n, vZ_0, vZ_1, ct_i, ct_r, ct_n, ct_l, ct_d, csum_n, csum_c, kt_v, kt_n, kt_e, oc_n, oc_i, oc_r, oc_l, oc_u, oc_d, true_and, and_true, Bool.and_true, Bool.true_and, ne_eq, not_false_eq_true, not_true_eq_false, implies_true, false_imp, true_imp_iff, hsz_put, hsl_put, hln_put, hty_put, hsz_new, hsl_new, hln_new, hty_new, Nat.zero_add, Nat.add_zero, eq_self, decide_true, t32_0, t32_1, t32_2, t32_3, t32_4, t32_5, t32_6, hv_same, hv_kne, hv_tne, hv_ntne, hv_nsame, hv_ctne, hty_cpy, hln_cpy, hsz_cpy, hsl_cpy, vrn, vnr, vrr, A121_0, A121_1, A121_4, A121_5, A121_6, A121_7, A121_10, A121_13, A121_14, A121_17, A121_18, A121_19, A121_22, A121_23, A121_24, A121_27, A121_28, A121_29, A121_30, A121_31, A121_32, A121_35, A121_36, A121_37, A121_40, A121_41, A121_42, A121_45, A135_0, A135_1, A135_2, A135_5, A135_6, A135_7, A135_10, A135_11, A135_12, A135_15, r1tb S1.1, r10_b S1.1, r11_b S1.1, r13_b S1.1, r14_b S1.1, r1sb S1.1, rgBA S1.1, r5tb S1.1 hk1, r5gb S1.1 hk1, r5nb S1.1 hk1, r5mb S1.1 hk1, r5eb S1.1 hk1, r5db S1.1 hk1, r5vb S1.1 hk1, r5lb S1.1 hk1, r5pb S1.1 hk1, r6tb S1.1 hk1, r60b S1.1 hk1, r61b S1.1 hk1, r62b S1.1 hk1, r63b S1.1 hk1, r7tb S1.1 hk1, r7lb S1.1 hk1, r8tb S1.1 hk1, r8lb S1.1 hk1, r9tb S1.1 hk1, r9lb S1.1 hk1, r10tb S1.1 hk1, r10lb S1.1 hk1, rgBA S1.1, n1, ft, b1, b2, b3, f9]
    exact hQ _ (by rw [e1]; exact T4)
  · have e1 : fetchZ z k p = zs (zs (zs (zs (zs (zs (zs (zs (zs (zs (takenZ z) 8 (takenI z) 0 (Int32.ofNat k)) 8 (takenI z) 1 (Int32.ofNat p)) 8 (takenI z) 2 (z.1 0 0 2)) 14 k p 0) 15 k p (Int32.ofNat (takenI z))) 16 k p (z.1 0 0 2)) 4 k p 0) 1 k 3 2) 1 k 6 (z.1 0 0 2 + 2)) 1 k 35 (z.1 0 0 2 + 2) := by
      unfold fetchZ; rw [if_neg hd]
    have R5 := rb_dsk (v := 0) R4 hk1 hp
    have T5 := St_put T4 9 (by decide) R5
    have R6 := rb_g (j := 3) (v := 2) R5 hk1 (by decide)
    have T6 := St_put T5 4 (by decide) R6
    have R7 := rb_g (j := 6) (v := z.1 0 0 2 + 2) R6 hk1 (by decide)
    have T7 := St_put T6 4 (by decide) R7
    have R8 := rb_mod (κ := 1) (i := k) (j := 35) (v := z.1 0 0 2 + 2) R7 rfl
    have T8 := St_z T7 R8
    simp (config := {decide := true}) only [vRf_r, vRf_n, vI_i, vL_l, vD_d, pI_i, pR_r, pR_n, vZ_0, vZ_1, ct_i, ct_r, ct_n, ct_l, ct_d, csum_n, csum_c, kt_v, kt_n, kt_e, oc_n, oc_i, oc_r, oc_l, oc_u, oc_d, true_and, and_true, Bool.and_true, Bool.true_and, ne_eq, not_false_eq_true, not_true_eq_false, implies_true, false_imp, true_imp_iff, hsz_put, hsl_put, hln_put, hty_put, hsz_new, hsl_new, hln_new, hty_new, Nat.zero_add, Nat.add_zero, eq_self, decide_true, t32_0, t32_1, t32_2, t32_3, t32_4, t32_5, t32_6, hv_same, hv_kne, hv_tne, hv_ntne, hv_nsame, hv_ctne, hty_cpy, hln_cpy, hsz_cpy, hsl_cpy, vrn, vnr, vrr, A121_0, A121_1, A121_4, A121_5, A121_6, A121_7, A121_10, A121_13, A121_14, A121_17, A121_18, A121_19, A121_22, A121_23, A121_24, A121_27, A121_28, A121_29, A121_30, A121_31, A121_32, A121_35, A121_36, A121_37, A121_40, A121_41, A121_42, A121_45, A135_0, A135_1, A135_2, A135_5, A135_6, A135_7, A135_10, A135_11, A135_12, A135_15, r1tb S1.1, r10_b S1.1, r11_b S1.1, r13_b S1.1, r14_b S1.1, r1sb S1.1, rgBA S1.1, r5tb S1.1 hk1, r5gb S1.1 hk1, r5nb S1.1 hk1, r5mb S1.1 hk1, r5eb S1.1 hk1, r5db S1.1 hk1, r5vb S1.1 hk1, r5lb S1.1 hk1, r5pb S1.1 hk1, r6tb S1.1 hk1, r60b S1.1 hk1, r61b S1.1 hk1, r62b S1.1 hk1, r63b S1.1 hk1, r7tb S1.1 hk1, r7lb S1.1 hk1, r8tb S1.1 hk1, r8lb S1.1 hk1, r9tb S1.1 hk1, r9lb S1.1 hk1, r10tb S1.1 hk1, r10lb S1.1 hk1, rgBA S1.1, n1, ft, b1, b2, b3, f9, hd]
    exact hQ _ (by rw [e1]; exact T8)
theorem frF_lt {z : ZT} {x y : Int32} : ∀ m c i, c + m ≤ zf z → frF z x y c m = some i → i < zf z ∧ z.1 8 i 0 = x ∧ z.1 8 i 1 = y := by
  intro m
  induction m with
  | zero => intro c i _ h; cases h
  | succ m ih =>
    intro c i hc h
    unfold frF at h
    by_cases e : z.1 8 c 0 = x ∧ z.1 8 c 1 = y
    · rw [if_pos e] at h
      rw [← Option.some.inj h]
      exact ⟨by omega, e⟩
    · rw [if_neg e] at h
      exact ih (c + 1) i (by omega) h
theorem okFr_zs (h : okFr z) {κ i j : Nat} {v : Int32} (hκ : κ ≠ 8) : okFr (zs z κ i j v) := by
  unfold okFr okFi
  rw [zs_k _ (Ne.symm hκ)]
  exact h
theorem touchZ_s {i : Nat} (hf : frOf z k (Int32.ofNat (zar z k)) = some i) : touchZ z k = finishZ (if zkd z k = 2 ∧ z.1 1 k 30 = 1 then zs (zs (zs (zs z 16 k (zar z k) (z.1 0 0 2)) 8 i 2 (z.1 0 0 2)) 1 k 34 (z.1 1 k 34 ||| (1 <<< (Int32.ofNat (zar z k) &&& 31)))) 6 k (zar z k) 1 else zs (zs z 16 k (zar z k) (z.1 0 0 2)) 8 i 2 (z.1 0 0 2)) k 0 := by
  unfold touchZ; rw [hf]
theorem touchZ_n (hf : frOf z k (Int32.ofNat (zar z k)) = none) : touchZ z k = if z.1 5 k (zar z k) = 0 then fetchZ (zs z 3 k 0 (z.1 3 k 0 + 1)) k (zar z k) else zs (zs (zs z 14 k (zar z k) 3) 3 k 3 (z.1 3 k 3 + 1)) 5 k (zar z k) 0 := by
  unfold touchZ; rw [hf]
theorem c_touch (h : RepB g A B σ z) (hk : k < zn z) (ht : okG z k) (hF : okFr z) (hn : 0 < zf z) (hc : hsz σ + 2 ≤ gC g) (hs : hsl σ + 8 ≤ gS g) {q : Nat} (q2 : hty σ q = some 8) (q3 : hv σ 8 q 0 = .int (zkd z k)) (q4 : hv σ 8 q 1 = .int (Int32.ofNat (zar z k))) (hp : zar z k < 6) (hQ : ∀ σ', St g A B B σ σ' (touchZ z k) 2 8 → Q (.inl none) σ') : aw g 119 0 [some (.ref (A 1 0)), some (.ref (A 4 k)), some (.ref q), none] [] σ Q := by
  simp (config := {decide := true}) only [vRf_r, vRf_n, vI_i, vL_l, vD_d, pI_i, pR_r, pR_n, vZ_0, vZ_1, ct_i, ct_r, ct_n, ct_l, ct_d, csum_n, csum_c, kt_v, kt_n, kt_e, oc_n, oc_i, oc_r, oc_l, oc_u, oc_d, true_and, and_true, Bool.and_true, Bool.true_and, ne_eq, not_false_eq_true, not_true_eq_false, implies_true, false_imp, true_imp_iff, hsz_put, hsl_put, hln_put, hty_put, hsz_new, hsl_new, hln_new, hty_new, Nat.zero_add, Nat.add_zero, eq_self, decide_true, t32_0, t32_1, t32_2, t32_3, t32_4, t32_5, t32_6, hv_same, hv_kne, hv_tne, hv_ntne, hv_nsame, hv_ctne, hty_cpy, hln_cpy, hsz_cpy, hsl_cpy, vrn, vnr, vrr, A119_0, A119_1, A119_2, A119_3, A119_6, r1tb h, r10_b h, r11_b h, r13_b h, r14_b h, r1sb h, rgBA h, q2, q4]
  refine c_frameOf h hk hF (by omega) (by omega) ?_
  intro σ1 w1
  have S1 := St_0 h w1
  have h1 := S1.1
  have q2' := kp_ty w1 q2
  have qv := (w1.2.2.2.2 q (hty_lt q2)).2.2 (fun e => e) 8
  have q3' : hv σ1 8 q 0 = .int (zkd z k) := by rw [qv]; exact q3
  have q4' : hv σ1 8 q 1 = .int (Int32.ofNat (zar z k)) := by rw [qv]; exact q4
  have b1 : (Int32.ofNat (zar z k) < 0) = False := n32_neg (by omega)
  have b2 : (Int32.ofNat (zar z k)).toNatClampNeg = zar z k := n32_nat (by omega)
  have b3 : (zar z k < 6) = True := eq_true hp
  cases hfr : frOf z k (Int32.ofNat (zar z k)) with
  | some i =>
    have hi : i < zf z := (frF_lt _ _ _ (by omega) hfr).1
    have ft := r18tb h1 hi
    have R0 := rb_mod (κ := 16) (i := k) (j := zar z k) (v := z.1 0 0 2) h1 rfl
    have R1 := rb_f2 (v := z.1 0 0 2) R0 hi
    have T1 := St_put (St_z S1 R0) 18 (by decide) R1
    have g1 := okG_zs (κ := 8) (i := i) (j := 2) (v := z.1 0 0 2) (okG_zs (κ := 16) (i := k) (j := zar z k) (v := z.1 0 0 2) ht (by decide) (by decide) (Or.inl (by decide))) (by decide) (by decide) (by decide)
    by_cases hw : zkd z k = 2 ∧ z.1 1 k 30 = 1
    · have e1 : touchZ z k = finishZ (zs (zs (zs (zs z 16 k (zar z k) (z.1 0 0 2)) 8 i 2 (z.1 0 0 2)) 1 k 34 (z.1 1 k 34 ||| (1 <<< (Int32.ofNat (zar z k) &&& 31)))) 6 k (zar z k) 1) k 0 := by
        rw [touchZ_s hfr, if_pos hw]
      obtain ⟨hw1, hw2⟩ := hw
      have R2 := rb_mod (κ := 1) (i := k) (j := 34) (v := z.1 1 k 34 ||| (1 <<< (Int32.ofNat (zar z k) &&& 31))) R1 rfl
      have R3 := rb_left (v := 1) R2 hk hp
      have T3 := St_put (St_z T1 R2) 11 (by decide) R3
      have g3 := okG_zs (κ := 6) (i := k) (j := zar z k) (v := 1) (okG_zs (κ := 1) (i := k) (j := 34) (v := z.1 1 k 34 ||| (1 <<< (Int32.ofNat (zar z k) &&& 31))) g1 (by decide) (by decide) (by decide)) (by decide) (by decide) (Or.inl (by decide))
      have l1 := r11tb h1 hk hw2
      have l2 := r11lb h1 hk hw2
      rw [vfr_s]
      simp (config := {decide := true}) only [vRf_r, vRf_n, vI_i, vL_l, vD_d, pI_i, pR_r, pR_n, vZ_0, vZ_1, ct_i, ct_r, ct_n, ct_l, ct_d, csum_n, csum_c, kt_v, kt_n, kt_e, oc_n, oc_i, oc_r, oc_l, oc_u, oc_d, true_and, and_true, Bool.and_true, Bool.true_and, ne_eq, not_false_eq_true, not_true_eq_false, implies_true, false_imp, true_imp_iff, hsz_put, hsl_put, hln_put, hty_put, hsz_new, hsl_new, hln_new, hty_new, Nat.zero_add, Nat.add_zero, eq_self, decide_true, t32_0, t32_1, t32_2, t32_3, t32_4, t32_5, t32_6, hv_same, hv_kne, hv_tne, hv_ntne, hv_nsame, hv_ctne, hty_cpy, hln_cpy, hsz_cpy, hsl_cpy, vrn, vnr, vrr, A119_0, A119_1, A119_2, A119_3, A119_6, A119_9, A119_10, A119_11, A119_14, A119_15, A119_16, A119_19, A119_22, A119_23, A119_26, A119_27, A119_30, A119_31, A119_34, A119_37, A119_38, A119_41, A119_42, A119_45, A119_46, A119_47, A119_48, A119_49, A119_52, A119_55, A119_56, A119_59, A119_60, A119_63, A119_64, A119_67, A119_68, A119_71, A119_72, A119_73, A119_74, A119_75, A119_76, A119_77, A119_78, A119_81, A119_82, A119_85, A119_86, A119_87, A119_90, A119_91, A119_94, A119_95, A119_96, A119_97, A119_98, A119_99, A119_100, A119_101, A119_102, A119_103, A119_106, A119_109, A194_0, A194_1, A194_4, A194_7, A194_8, A194_11, A194_12, r1tb h1, r10_b h1, r11_b h1, r13_b h1, r14_b h1, r1sb h1, rgBA h1, r5tb h1 hk, r5gb h1 hk, r5nb h1 hk, r5mb h1 hk, r5eb h1 hk, r5db h1 hk, r5vb h1 hk, r5lb h1 hk, r5pb h1 hk, r6tb h1 hk, r60b h1 hk, r61b h1 hk, r62b h1 hk, r63b h1 hk, r7tb h1 hk, r7lb h1 hk, r8tb h1 hk, r8lb h1 hk, r9tb h1 hk, r9lb h1 hk, r10tb h1 hk, r10lb h1 hk, rgBA h1, q2', q3', q4', ft, hw1, hw2, b1, b2, b3, l1, l2, if_true]
      refine cb_finish T3.1 hk g3.1 g3.2 ?_
      intro σ2 S2
      simp (config := {decide := true}) only [vRf_r, vRf_n, vI_i, vL_l, vD_d, pI_i, pR_r, pR_n, vZ_0, vZ_1, ct_i, ct_r, ct_n, ct_l, ct_d, csum_n, csum_c, kt_v, kt_n, kt_e, oc_n, oc_i, oc_r, oc_l, oc_u, oc_d, true_and, and_true, Bool.and_true, Bool.true_and, ne_eq, not_false_eq_true, not_true_eq_false, implies_true, false_imp, true_imp_iff, hsz_put, hsl_put, hln_put, hty_put, hsz_new, hsl_new, hln_new, hty_new, Nat.zero_add, Nat.add_zero, eq_self, decide_true, t32_0, t32_1, t32_2, t32_3, t32_4, t32_5, t32_6, hv_same, hv_kne, hv_tne, hv_ntne, hv_nsame, hv_ctne, hty_cpy, hln_cpy, hsz_cpy, hsl_cpy, vrn, vnr, vrr, A119_0, A119_1, A119_2, A119_3, A119_6, A119_9, A119_10, A119_11, A119_14, A119_15, A119_16, A119_19, A119_22, A119_23, A119_26, A119_27, A119_30, A119_31, A119_34, A119_37, A119_38, A119_41, A119_42, A119_45, A119_46, A119_47, A119_48, A119_49, A119_52, A119_55, A119_56, A119_59, A119_60, A119_63, A119_64, A119_67, A119_68, A119_71, A119_72, A119_73, A119_74, A119_75, A119_76, A119_77, A119_78, A119_81, A119_82, A119_85, A119_86, A119_87, A119_90, A119_91, A119_94, A119_95, A119_96, A119_97, A119_98, A119_99, A119_100, A119_101, A119_102, A119_103, A119_106, A119_109]
      exact hQ _ (by rw [e1]; exact St_mono (St_trans T3 S2) (by omega) (by omega))
    · have e1 : touchZ z k = finishZ (zs (zs z 16 k (zar z k) (z.1 0 0 2)) 8 i 2 (z.1 0 0 2)) k 0 := by
        rw [touchZ_s hfr, if_neg hw]
      have fin : ∀ Q', (∀ σ', St g A B B σ σ' (touchZ z k) 2 8 → Q' (.inl none) σ') → aw g 120 0 [some (.ref (A 4 k)), some (.int 0)] [] (hput σ1 2 (A 18 i) 2 (.int (z.1 0 0 2))) Q' := by
        intro Q' hQ'
        refine cb_finish T1.1 hk g1.1 g1.2 ?_
        intro σ2 S2
        exact hQ' _ (by rw [e1]; exact St_mono (St_trans T1 S2) (by omega) (by omega))
      rw [vfr_s]
      by_cases hw1 : zkd z k = 2
      · have hw2 : ¬ z.1 1 k 30 = 1 := fun e => hw ⟨hw1, e⟩
        simp (config := {decide := true}) only [vRf_r, vRf_n, vI_i, vL_l, vD_d, pI_i, pR_r, pR_n, vZ_0, vZ_1, ct_i, ct_r, ct_n, ct_l, ct_d, csum_n, csum_c, kt_v, kt_n, kt_e, oc_n, oc_i, oc_r, oc_l, oc_u, oc_d, true_and, and_true, Bool.and_true, Bool.true_and, ne_eq, not_false_eq_true, not_true_eq_false, implies_true, false_imp, true_imp_iff, hsz_put, hsl_put, hln_put, hty_put, hsz_new, hsl_new, hln_new, hty_new, Nat.zero_add, Nat.add_zero, eq_self, decide_true, t32_0, t32_1, t32_2, t32_3, t32_4, t32_5, t32_6, hv_same, hv_kne, hv_tne, hv_ntne, hv_nsame, hv_ctne, hty_cpy, hln_cpy, hsz_cpy, hsl_cpy, vrn, vnr, vrr, A119_9, A119_10, A119_11, A119_14, A119_15, A119_16, A119_19, A119_22, A119_23, A119_26, A119_27, A119_30, A119_31, A119_34, A119_47, A119_48, A119_49, A119_52, A119_109, A194_0, A194_1, A194_4, A194_7, A194_8, A194_11, A194_12, r1tb h1, r10_b h1, r11_b h1, r13_b h1, r14_b h1, r1sb h1, rgBA h1, r5tb h1 hk, r5gb h1 hk, r5nb h1 hk, r5mb h1 hk, r5eb h1 hk, r5db h1 hk, r5vb h1 hk, r5lb h1 hk, r5pb h1 hk, r6tb h1 hk, r60b h1 hk, r61b h1 hk, r62b h1 hk, r63b h1 hk, r7tb h1 hk, r7lb h1 hk, r8tb h1 hk, r8lb h1 hk, r9tb h1 hk, r9lb h1 hk, r10tb h1 hk, r10lb h1 hk, rgBA h1, q2', q3', q4', ft, hw1, hw2, if_false]
        refine fin _ ?_
        intro σ2 S2
        simp (config := {decide := true}) only [vRf_r, vRf_n, vI_i, vL_l, vD_d, pI_i, pR_r, pR_n, vZ_0, vZ_1, ct_i, ct_r, ct_n, ct_l, ct_d, csum_n, csum_c, kt_v, kt_n, kt_e, oc_n, oc_i, oc_r, oc_l, oc_u, oc_d, true_and, and_true, Bool.and_true, Bool.true_and, ne_eq, not_false_eq_true, not_true_eq_false, implies_true, false_imp, true_imp_iff, hsz_put, hsl_put, hln_put, hty_put, hsz_new, hsl_new, hln_new, hty_new, Nat.zero_add, Nat.add_zero, eq_self, decide_true, t32_0, t32_1, t32_2, t32_3, t32_4, t32_5, t32_6, hv_same, hv_kne, hv_tne, hv_ntne, hv_nsame, hv_ctne, hty_cpy, hln_cpy, hsz_cpy, hsl_cpy, vrn, vnr, vrr, A119_0, A119_1, A119_2, A119_3, A119_6, A119_9, A119_10, A119_11, A119_14, A119_15, A119_16, A119_19, A119_22, A119_23, A119_26, A119_27, A119_30, A119_31, A119_34, A119_37, A119_38, A119_41, A119_42, A119_45, A119_46, A119_47, A119_48, A119_49, A119_52, A119_55, A119_56, A119_59, A119_60, A119_63, A119_64, A119_67, A119_68, A119_71, A119_72, A119_73, A119_74, A119_75, A119_76, A119_77, A119_78, A119_81, A119_82, A119_85, A119_86, A119_87, A119_90, A119_91, A119_94, A119_95, A119_96, A119_97, A119_98, A119_99, A119_100, A119_101, A119_102, A119_103, A119_106, A119_109]
        exact hQ _ S2
      · simp (config := {decide := true}) only [vRf_r, vRf_n, vI_i, vL_l, vD_d, pI_i, pR_r, pR_n, vZ_0, vZ_1, ct_i, ct_r, ct_n, ct_l, ct_d, csum_n, csum_c, kt_v, kt_n, kt_e, oc_n, oc_i, oc_r, oc_l, oc_u, oc_d, true_and, and_true, Bool.and_true, Bool.true_and, ne_eq, not_false_eq_true, not_true_eq_false, implies_true, false_imp, true_imp_iff, hsz_put, hsl_put, hln_put, hty_put, hsz_new, hsl_new, hln_new, hty_new, Nat.zero_add, Nat.add_zero, eq_self, decide_true, t32_0, t32_1, t32_2, t32_3, t32_4, t32_5, t32_6, hv_same, hv_kne, hv_tne, hv_ntne, hv_nsame, hv_ctne, hty_cpy, hln_cpy, hsz_cpy, hsl_cpy, vrn, vnr, vrr, A119_9, A119_10, A119_11, A119_14, A119_15, A119_16, A119_19, A119_22, A119_23, A119_26, A119_27, A119_47, A119_48, A119_49, A119_52, A119_109, r1tb h1, r10_b h1, r11_b h1, r13_b h1, r14_b h1, r1sb h1, rgBA h1, r5tb h1 hk, r5gb h1 hk, r5nb h1 hk, r5mb h1 hk, r5eb h1 hk, r5db h1 hk, r5vb h1 hk, r5lb h1 hk, r5pb h1 hk, r6tb h1 hk, r60b h1 hk, r61b h1 hk, r62b h1 hk, r63b h1 hk, r7tb h1 hk, r7lb h1 hk, r8tb h1 hk, r8lb h1 hk, r9tb h1 hk, r9lb h1 hk, r10tb h1 hk, r10lb h1 hk, rgBA h1, q2', q3', q4', ft, hw1]
        refine fin _ ?_
        intro σ2 S2
        simp (config := {decide := true}) only [vRf_r, vRf_n, vI_i, vL_l, vD_d, pI_i, pR_r, pR_n, vZ_0, vZ_1, ct_i, ct_r, ct_n, ct_l, ct_d, csum_n, csum_c, kt_v, kt_n, kt_e, oc_n, oc_i, oc_r, oc_l, oc_u, oc_d, true_and, and_true, Bool.and_true, Bool.true_and, ne_eq, not_false_eq_true, not_true_eq_false, implies_true, false_imp, true_imp_iff, hsz_put, hsl_put, hln_put, hty_put, hsz_new, hsl_new, hln_new, hty_new, Nat.zero_add, Nat.add_zero, eq_self, decide_true, t32_0, t32_1, t32_2, t32_3, t32_4, t32_5, t32_6, hv_same, hv_kne, hv_tne, hv_ntne, hv_nsame, hv_ctne, hty_cpy, hln_cpy, hsz_cpy, hsl_cpy, vrn, vnr, vrr, A119_0, A119_1, A119_2, A119_3, A119_6, A119_9, A119_10, A119_11, A119_14, A119_15, A119_16, A119_19, A119_22, A119_23, A119_26, A119_27, A119_30, A119_31, A119_34, A119_37, A119_38, A119_41, A119_42, A119_45, A119_46, A119_47, A119_48, A119_49, A119_52, A119_55, A119_56, A119_59, A119_60, A119_63, A119_64, A119_67, A119_68, A119_71, A119_72, A119_73, A119_74, A119_75, A119_76, A119_77, A119_78, A119_81, A119_82, A119_85, A119_86, A119_87, A119_90, A119_91, A119_94, A119_95, A119_96, A119_97, A119_98, A119_99, A119_100, A119_101, A119_102, A119_103, A119_106, A119_109]
        exact hQ _ S2
  | none =>
    rw [vfr_n]
    have f10 := r10vb h1 hk hp
    have f3 := r8vb h1 hk (p := 3) (by decide)
    have f0 := r8vb h1 hk (p := 0) (by decide)
    by_cases hg : z.1 5 k (zar z k) = 0
    · have e1 : touchZ z k = fetchZ (zs z 3 k 0 (z.1 3 k 0 + 1)) k (zar z k) := by
        rw [touchZ_n hfr, if_pos hg]
      have R1 := rb_ex (p := 0) (v := z.1 3 k 0 + 1) h1 hk (by decide)
      have T1 := St_put S1 8 (by decide) R1
      have d1 := T1.2.2.2.1
      have d2 := T1.2.2.2.2.2.1
      rw [hg] at f10
      simp (config := {decide := true}) only [vRf_r, vRf_n, vI_i, vL_l, vD_d, pI_i, pR_r, pR_n, vZ_0, vZ_1, ct_i, ct_r, ct_n, ct_l, ct_d, csum_n, csum_c, kt_v, kt_n, kt_e, oc_n, oc_i, oc_r, oc_l, oc_u, oc_d, true_and, and_true, Bool.and_true, Bool.true_and, ne_eq, not_false_eq_true, not_true_eq_false, implies_true, false_imp, true_imp_iff, hsz_put, hsl_put, hln_put, hty_put, hsz_new, hsl_new, hln_new, hty_new, Nat.zero_add, Nat.add_zero, eq_self, decide_true, t32_0, t32_1, t32_2, t32_3, t32_4, t32_5, t32_6, hv_same, hv_kne, hv_tne, hv_ntne, hv_nsame, hv_ctne, hty_cpy, hln_cpy, hsz_cpy, hsl_cpy, vrn, vnr, vrr, A119_9, A119_10, A119_11, A119_55, A119_56, A119_59, A119_60, A119_63, A119_64, A119_67, A119_68, A119_71, A119_72, A119_73, A119_74, A119_75, A119_76, A119_77, A119_78, A119_81, A119_82, A119_85, A119_86, A119_87, A119_90, A119_91, A119_94, A119_95, A119_96, A119_97, A119_98, A119_99, A119_100, A119_101, A119_102, A119_103, A119_106, A119_109, r1tb h1, r10_b h1, r11_b h1, r13_b h1, r14_b h1, r1sb h1, rgBA h1, r5tb h1 hk, r5gb h1 hk, r5nb h1 hk, r5mb h1 hk, r5eb h1 hk, r5db h1 hk, r5vb h1 hk, r5lb h1 hk, r5pb h1 hk, r6tb h1 hk, r60b h1 hk, r61b h1 hk, r62b h1 hk, r63b h1 hk, r7tb h1 hk, r7lb h1 hk, r8tb h1 hk, r8lb h1 hk, r9tb h1 hk, r9lb h1 hk, r10tb h1 hk, r10lb h1 hk, rgBA h1, q2', q3', q4', f10, f0, b1, b2, b3]
      refine c_fetch T1.1 hk hp (okFr_zs hF (by decide)) hn (by omega) (by omega) ?_
      intro σ2 S2
      simp (config := {decide := true}) only [vRf_r, vRf_n, vI_i, vL_l, vD_d, pI_i, pR_r, pR_n, vZ_0, vZ_1, ct_i, ct_r, ct_n, ct_l, ct_d, csum_n, csum_c, kt_v, kt_n, kt_e, oc_n, oc_i, oc_r, oc_l, oc_u, oc_d, true_and, and_true, Bool.and_true, Bool.true_and, ne_eq, not_false_eq_true, not_true_eq_false, implies_true, false_imp, true_imp_iff, hsz_put, hsl_put, hln_put, hty_put, hsz_new, hsl_new, hln_new, hty_new, Nat.zero_add, Nat.add_zero, eq_self, decide_true, t32_0, t32_1, t32_2, t32_3, t32_4, t32_5, t32_6, hv_same, hv_kne, hv_tne, hv_ntne, hv_nsame, hv_ctne, hty_cpy, hln_cpy, hsz_cpy, hsl_cpy, vrn, vnr, vrr, A119_0, A119_1, A119_2, A119_3, A119_6, A119_9, A119_10, A119_11, A119_14, A119_15, A119_16, A119_19, A119_22, A119_23, A119_26, A119_27, A119_30, A119_31, A119_34, A119_37, A119_38, A119_41, A119_42, A119_45, A119_46, A119_47, A119_48, A119_49, A119_52, A119_55, A119_56, A119_59, A119_60, A119_63, A119_64, A119_67, A119_68, A119_71, A119_72, A119_73, A119_74, A119_75, A119_76, A119_77, A119_78, A119_81, A119_82, A119_85, A119_86, A119_87, A119_90, A119_91, A119_94, A119_95, A119_96, A119_97, A119_98, A119_99, A119_100, A119_101, A119_102, A119_103, A119_106, A119_109]
      exact hQ _ (by rw [e1]; exact St_trans T1 S2)
    · have e1 : touchZ z k = zs (zs (zs z 14 k (zar z k) 3) 3 k 3 (z.1 3 k 3 + 1)) 5 k (zar z k) 0 := by
        rw [touchZ_n hfr, if_neg hg]
      have R0 := rb_mod (κ := 14) (i := k) (j := zar z k) (v := 3) h1 rfl
      have R1 := rb_ex (p := 3) (v := z.1 3 k 3 + 1) R0 hk (by decide)
      have T1 := St_put (St_z S1 R0) 8 (by decide) R1
      have R2 := rb_giv (v := 0) R1 hk hp
      have T2 := St_put T1 10 (by decide) R2
      simp (config := {decide := true}) only [vRf_r, vRf_n, vI_i, vL_l, vD_d, pI_i, pR_r, pR_n, vZ_0, vZ_1, ct_i, ct_r, ct_n, ct_l, ct_d, csum_n, csum_c, kt_v, kt_n, kt_e, oc_n, oc_i, oc_r, oc_l, oc_u, oc_d, true_and, and_true, Bool.and_true, Bool.true_and, ne_eq, not_false_eq_true, not_true_eq_false, implies_true, false_imp, true_imp_iff, hsz_put, hsl_put, hln_put, hty_put, hsz_new, hsl_new, hln_new, hty_new, Nat.zero_add, Nat.add_zero, eq_self, decide_true, t32_0, t32_1, t32_2, t32_3, t32_4, t32_5, t32_6, hv_same, hv_kne, hv_tne, hv_ntne, hv_nsame, hv_ctne, hty_cpy, hln_cpy, hsz_cpy, hsl_cpy, vrn, vnr, vrr, A119_9, A119_10, A119_11, A119_55, A119_56, A119_59, A119_60, A119_63, A119_64, A119_67, A119_68, A119_71, A119_72, A119_73, A119_74, A119_75, A119_76, A119_77, A119_78, A119_81, A119_82, A119_85, A119_86, A119_87, A119_90, A119_91, A119_94, A119_95, A119_96, A119_97, A119_98, A119_99, A119_100, A119_101, A119_102, A119_103, A119_106, A119_109, r1tb h1, r10_b h1, r11_b h1, r13_b h1, r14_b h1, r1sb h1, rgBA h1, r5tb h1 hk, r5gb h1 hk, r5nb h1 hk, r5mb h1 hk, r5eb h1 hk, r5db h1 hk, r5vb h1 hk, r5lb h1 hk, r5pb h1 hk, r6tb h1 hk, r60b h1 hk, r61b h1 hk, r62b h1 hk, r63b h1 hk, r7tb h1 hk, r7lb h1 hk, r8tb h1 hk, r8lb h1 hk, r9tb h1 hk, r9lb h1 hk, r10tb h1 hk, r10lb h1 hk, rgBA h1, q2', q3', q4', f10, f3, hg, b1, b2, b3]
      exact hQ _ (by rw [e1]; exact St_mono T2 (by omega) (by omega))
def goZ (z : ZT) (k : Nat) : ZT := if zkd z k = 1 ∨ zkd z k = 2 then touchZ z k else if zkd z k = 3 then sendZ z k else if zkd z k = 4 then awaitZ z k else if zkd z k = 5 then finishZ (logZ z k (irm (z.1 1 k 7) 1000)) k (irm (z.1 1 k 7) 1000) else if zkd z k = 6 then finishZ (zs z 1 k 9 (mn0 (z.1 1 k 9))) k 0 else finishZ z k 0
/-- the log's length, and its flag -/
def okLg (z : ZT) (k : Nat) : Prop := z.2 3 k ≤ 60 ∧ (z.1 1 k 31 = 1 → z.2 3 k ≠ 60 → z.1 1 k 25 = 0)
theorem c_go (h : RepB g A B σ z) (hk : k < zn z) (ht : okG z k) (hL : okLg z k) (hF : okFr z) (hn : 0 < zf z) (hR : okR z (z.1 0 0 4)) (hc : hsz σ + 2 ≤ gC g) (hs : hsl σ + 101 ≤ gS g) (hQ : ∀ B' σ', St g A B B' σ σ' (goZ z k) 2 101 → Q (.inl none) σ') : aw g 118 0 [some (.ref (A 1 0)), some (.ref (A 4 k)), none] [] σ Q := by
  obtain ⟨f, f1, f2⟩ := rLt (A := mix A B) h hk
  have f1 : isL g σ (A 6 k) (B 26 k) (z.2 2 k) f := f1
  obtain ⟨q, x1, x2, x3, x4, x5⟩ := c_op (r6tb h hk) (r60b h hk) f1 (by rw [r62b h hk, ht.1.2.2]) ht.2 (f2 _ ht.2)
  have x3 : hv σ 8 q 0 = .int (zkd z k) := x3
  obtain ⟨kk, ka⟩ := ht.1.2.1 _ ht.2
  have kk : zkd z k = 0 ∨ zkd z k = 1 ∨ zkd z k = 2 ∨ zkd z k = 3 ∨ zkd z k = 4 ∨ zkd z k = 5 ∨ zkd z k = 6 := kk
  have t0 : ∀ (x : Int32) (w : Nat), tswf 1 124 [52, 52, 61, 69, 77, 104] x = w → tswf 1 124 [52, 52, 61, 69, 77, 104] x = w := fun _ _ h => h
  have fin : ∀ (σ1 : AH) (z1 : ZT) (t : Int32), St g A B B σ σ1 z1 0 0 → zn z1 = zn z → okG z1 k → goZ z k = finishZ z1 k t → ∀ Q', (∀ σ', St g A B B σ σ' (goZ z k) 2 101 → Q' (.inl none) σ') → aw g 120 0 [some (.ref (A 4 k)), some (.int t)] [] σ1 Q' := by
    intro σ1 z1 t S1 n1 o1 e1 Q' hQ'
    refine cb_finish S1.1 (by omega) o1.1 o1.2 ?_
    intro σ2 S2
    exact hQ' _ (by rw [e1]; exact St_mono (St_trans S1 S2) (by omega) (by omega))
  rcases kk with e | e | e | e | e | e | e
  · have e1 : goZ z k = finishZ z k 0 := by unfold goZ; rw [e]; rfl
    have t1 := t0 0 124 rfl
    rw [e] at x3
    simp (config := {decide := true}) only [vRf_r, vRf_n, vI_i, vL_l, vD_d, pI_i, pR_r, pR_n, vZ_0, vZ_1, ct_i, ct_r, ct_n, ct_l, ct_d, csum_n, csum_c, kt_v, kt_n, kt_e, oc_n, oc_i, oc_r, oc_l, oc_u, oc_d, true_and, and_true, Bool.and_true, Bool.true_and, ne_eq, not_false_eq_true, not_true_eq_false, implies_true, false_imp, true_imp_iff, hsz_put, hsl_put, hln_put, hty_put, hsz_new, hsl_new, hln_new, hty_new, Nat.zero_add, Nat.add_zero, eq_self, decide_true, t32_0, t32_1, t32_2, t32_3, t32_4, t32_5, t32_6, hv_same, hv_kne, hv_tne, hv_ntne, hv_nsame, hv_ctne, hty_cpy, hln_cpy, hsz_cpy, hsl_cpy, vrn, vnr, vrr, A118_0, A118_1, A118_4, A118_7, A118_8, A118_9, A118_12, A118_52, A118_53, A118_54, A118_55, A118_58, A118_61, A118_62, A118_63, A118_66, A118_69, A118_70, A118_71, A118_74, A118_77, A118_78, A118_79, A118_82, A118_85, A118_86, A118_89, A118_90, A118_91, A118_94, A118_97, A118_98, A118_101, A118_104, A118_105, A118_106, A118_107, A118_110, A118_113, A118_116, A118_117, A118_118, A118_121, A118_124, A118_125, A118_126, A118_129, r1tb h, r10_b h, r11_b h, r13_b h, r14_b h, r1sb h, rgBA h, r5tb h hk, r5gb h hk, r5nb h hk, r5mb h hk, r5eb h hk, r5db h hk, r5vb h hk, r5lb h hk, r5pb h hk, r6tb h hk, r60b h hk, r61b h hk, r62b h hk, r63b h hk, r7tb h hk, r7lb h hk, r8tb h hk, r8lb h hk, r9tb h hk, r9lb h hk, r10tb h hk, r10lb h hk, rgBA h, x2, x3, x5, t1]
    refine fin σ z 0 (St_refl h) rfl ht e1 _ ?_
    intro σ2 S2
    simp (config := {decide := true}) only [vRf_r, vRf_n, vI_i, vL_l, vD_d, pI_i, pR_r, pR_n, vZ_0, vZ_1, ct_i, ct_r, ct_n, ct_l, ct_d, csum_n, csum_c, kt_v, kt_n, kt_e, oc_n, oc_i, oc_r, oc_l, oc_u, oc_d, true_and, and_true, Bool.and_true, Bool.true_and, ne_eq, not_false_eq_true, not_true_eq_false, implies_true, false_imp, true_imp_iff, hsz_put, hsl_put, hln_put, hty_put, hsz_new, hsl_new, hln_new, hty_new, Nat.zero_add, Nat.add_zero, eq_self, decide_true, t32_0, t32_1, t32_2, t32_3, t32_4, t32_5, t32_6, hv_same, hv_kne, hv_tne, hv_ntne, hv_nsame, hv_ctne, hty_cpy, hln_cpy, hsz_cpy, hsl_cpy, vrn, vnr, vrr, A118_0, A118_1, A118_4, A118_7, A118_8, A118_9, A118_12, A118_52, A118_53, A118_54, A118_55, A118_58, A118_61, A118_62, A118_63, A118_66, A118_69, A118_70, A118_71, A118_74, A118_77, A118_78, A118_79, A118_82, A118_85, A118_86, A118_89, A118_90, A118_91, A118_94, A118_97, A118_98, A118_101, A118_104, A118_105, A118_106, A118_107, A118_110, A118_113, A118_116, A118_117, A118_118, A118_121, A118_124, A118_125, A118_126, A118_129]
    exact hQ _ _ S2
  · have e1 : goZ z k = touchZ z k := by unfold goZ; rw [e]; rfl
    have t1 := t0 1 52 rfl
    have x3' : hv σ 8 q 0 = .int 1 := by rw [x3, e]
    obtain ⟨a, a1, a2⟩ := ka (Or.inl e)
    have ea : zar z k = a := by unfold zar; rw [a1, n32_nat (by omega)]
    have x4' : hv σ 8 q 1 = .int (Int32.ofNat (zar z k)) := by rw [x4, a1, ea]
    simp (config := {decide := true}) only [vRf_r, vRf_n, vI_i, vL_l, vD_d, pI_i, pR_r, pR_n, vZ_0, vZ_1, ct_i, ct_r, ct_n, ct_l, ct_d, csum_n, csum_c, kt_v, kt_n, kt_e, oc_n, oc_i, oc_r, oc_l, oc_u, oc_d, true_and, and_true, Bool.and_true, Bool.true_and, ne_eq, not_false_eq_true, not_true_eq_false, implies_true, false_imp, true_imp_iff, hsz_put, hsl_put, hln_put, hty_put, hsz_new, hsl_new, hln_new, hty_new, Nat.zero_add, Nat.add_zero, eq_self, decide_true, t32_0, t32_1, t32_2, t32_3, t32_4, t32_5, t32_6, hv_same, hv_kne, hv_tne, hv_ntne, hv_nsame, hv_ctne, hty_cpy, hln_cpy, hsz_cpy, hsl_cpy, vrn, vnr, vrr, A118_0, A118_1, A118_4, A118_7, A118_8, A118_9, A118_12, A118_52, A118_53, A118_54, A118_55, r1tb h, r10_b h, r11_b h, r13_b h, r14_b h, r1sb h, rgBA h, r5tb h hk, r5gb h hk, r5nb h hk, r5mb h hk, r5eb h hk, r5db h hk, r5vb h hk, r5lb h hk, r5pb h hk, r6tb h hk, r60b h hk, r61b h hk, r62b h hk, r63b h hk, r7tb h hk, r7lb h hk, r8tb h hk, r8lb h hk, r9tb h hk, r9lb h hk, r10tb h hk, r10lb h hk, rgBA h, x2, x3', x5, t1]
    refine c_touch h hk ht hF hn (by omega) (by omega) x2 x3 x4' (by omega) ?_
    intro σ2 S2
    simp (config := {decide := true}) only [vRf_r, vRf_n, vI_i, vL_l, vD_d, pI_i, pR_r, pR_n, vZ_0, vZ_1, ct_i, ct_r, ct_n, ct_l, ct_d, csum_n, csum_c, kt_v, kt_n, kt_e, oc_n, oc_i, oc_r, oc_l, oc_u, oc_d, true_and, and_true, Bool.and_true, Bool.true_and, ne_eq, not_false_eq_true, not_true_eq_false, implies_true, false_imp, true_imp_iff, hsz_put, hsl_put, hln_put, hty_put, hsz_new, hsl_new, hln_new, hty_new, Nat.zero_add, Nat.add_zero, eq_self, decide_true, t32_0, t32_1, t32_2, t32_3, t32_4, t32_5, t32_6, hv_same, hv_kne, hv_tne, hv_ntne, hv_nsame, hv_ctne, hty_cpy, hln_cpy, hsz_cpy, hsl_cpy, vrn, vnr, vrr, A118_0, A118_1, A118_4, A118_7, A118_8, A118_9, A118_12, A118_52, A118_53, A118_54, A118_55, A118_58, A118_61, A118_62, A118_63, A118_66, A118_69, A118_70, A118_71, A118_74, A118_77, A118_78, A118_79, A118_82, A118_85, A118_86, A118_89, A118_90, A118_91, A118_94, A118_97, A118_98, A118_101, A118_104, A118_105, A118_106, A118_107, A118_110, A118_113, A118_116, A118_117, A118_118, A118_121, A118_124, A118_125, A118_126, A118_129]
    exact hQ _ _ (by rw [e1]; exact St_mono S2 (by omega) (by omega))
  · have e1 : goZ z k = touchZ z k := by unfold goZ; rw [e]; rfl
    have t1 := t0 2 52 rfl
    have x3' : hv σ 8 q 0 = .int 2 := by rw [x3, e]
    obtain ⟨a, a1, a2⟩ := ka (Or.inr e)
    have ea : zar z k = a := by unfold zar; rw [a1, n32_nat (by omega)]
    have x4' : hv σ 8 q 1 = .int (Int32.ofNat (zar z k)) := by rw [x4, a1, ea]
    simp (config := {decide := true}) only [vRf_r, vRf_n, vI_i, vL_l, vD_d, pI_i, pR_r, pR_n, vZ_0, vZ_1, ct_i, ct_r, ct_n, ct_l, ct_d, csum_n, csum_c, kt_v, kt_n, kt_e, oc_n, oc_i, oc_r, oc_l, oc_u, oc_d, true_and, and_true, Bool.and_true, Bool.true_and, ne_eq, not_false_eq_true, not_true_eq_false, implies_true, false_imp, true_imp_iff, hsz_put, hsl_put, hln_put, hty_put, hsz_new, hsl_new, hln_new, hty_new, Nat.zero_add, Nat.add_zero, eq_self, decide_true, t32_0, t32_1, t32_2, t32_3, t32_4, t32_5, t32_6, hv_same, hv_kne, hv_tne, hv_ntne, hv_nsame, hv_ctne, hty_cpy, hln_cpy, hsz_cpy, hsl_cpy, vrn, vnr, vrr, A118_0, A118_1, A118_4, A118_7, A118_8, A118_9, A118_12, A118_52, A118_53, A118_54, A118_55, r1tb h, r10_b h, r11_b h, r13_b h, r14_b h, r1sb h, rgBA h, r5tb h hk, r5gb h hk, r5nb h hk, r5mb h hk, r5eb h hk, r5db h hk, r5vb h hk, r5lb h hk, r5pb h hk, r6tb h hk, r60b h hk, r61b h hk, r62b h hk, r63b h hk, r7tb h hk, r7lb h hk, r8tb h hk, r8lb h hk, r9tb h hk, r9lb h hk, r10tb h hk, r10lb h hk, rgBA h, x2, x3', x5, t1]
    refine c_touch h hk ht hF hn (by omega) (by omega) x2 x3 x4' (by omega) ?_
    intro σ2 S2
    simp (config := {decide := true}) only [vRf_r, vRf_n, vI_i, vL_l, vD_d, pI_i, pR_r, pR_n, vZ_0, vZ_1, ct_i, ct_r, ct_n, ct_l, ct_d, csum_n, csum_c, kt_v, kt_n, kt_e, oc_n, oc_i, oc_r, oc_l, oc_u, oc_d, true_and, and_true, Bool.and_true, Bool.true_and, ne_eq, not_false_eq_true, not_true_eq_false, implies_true, false_imp, true_imp_iff, hsz_put, hsl_put, hln_put, hty_put, hsz_new, hsl_new, hln_new, hty_new, Nat.zero_add, Nat.add_zero, eq_self, decide_true, t32_0, t32_1, t32_2, t32_3, t32_4, t32_5, t32_6, hv_same, hv_kne, hv_tne, hv_ntne, hv_nsame, hv_ctne, hty_cpy, hln_cpy, hsz_cpy, hsl_cpy, vrn, vnr, vrr, A118_0, A118_1, A118_4, A118_7, A118_8, A118_9, A118_12, A118_52, A118_53, A118_54, A118_55, A118_58, A118_61, A118_62, A118_63, A118_66, A118_69, A118_70, A118_71, A118_74, A118_77, A118_78, A118_79, A118_82, A118_85, A118_86, A118_89, A118_90, A118_91, A118_94, A118_97, A118_98, A118_101, A118_104, A118_105, A118_106, A118_107, A118_110, A118_113, A118_116, A118_117, A118_118, A118_121, A118_124, A118_125, A118_126, A118_129]
    exact hQ _ _ (by rw [e1]; exact St_mono S2 (by omega) (by omega))
  · have e1 : goZ z k = sendZ z k := by unfold goZ; rw [e]; rfl
    have t1 := t0 3 61 rfl
    rw [e] at x3
    simp (config := {decide := true}) only [vRf_r, vRf_n, vI_i, vL_l, vD_d, pI_i, pR_r, pR_n, vZ_0, vZ_1, ct_i, ct_r, ct_n, ct_l, ct_d, csum_n, csum_c, kt_v, kt_n, kt_e, oc_n, oc_i, oc_r, oc_l, oc_u, oc_d, true_and, and_true, Bool.and_true, Bool.true_and, ne_eq, not_false_eq_true, not_true_eq_false, implies_true, false_imp, true_imp_iff, hsz_put, hsl_put, hln_put, hty_put, hsz_new, hsl_new, hln_new, hty_new, Nat.zero_add, Nat.add_zero, eq_self, decide_true, t32_0, t32_1, t32_2, t32_3, t32_4, t32_5, t32_6, hv_same, hv_kne, hv_tne, hv_ntne, hv_nsame, hv_ctne, hty_cpy, hln_cpy, hsz_cpy, hsl_cpy, vrn, vnr, vrr, A118_0, A118_1, A118_4, A118_7, A118_8, A118_9, A118_12, A118_52, A118_53, A118_54, A118_55, A118_58, A118_61, A118_62, A118_63, r1tb h, r10_b h, r11_b h, r13_b h, r14_b h, r1sb h, rgBA h, r5tb h hk, r5gb h hk, r5nb h hk, r5mb h hk, r5eb h hk, r5db h hk, r5vb h hk, r5lb h hk, r5pb h hk, r6tb h hk, r60b h hk, r61b h hk, r62b h hk, r63b h hk, r7tb h hk, r7lb h hk, r8tb h hk, r8lb h hk, r9tb h hk, r9lb h hk, r10tb h hk, r10lb h hk, rgBA h, x2, x3, x5, t1]
    refine c_send h hk hF.2.1 ht hR ?_
    intro σ2 S2
    simp (config := {decide := true}) only [vRf_r, vRf_n, vI_i, vL_l, vD_d, pI_i, pR_r, pR_n, vZ_0, vZ_1, ct_i, ct_r, ct_n, ct_l, ct_d, csum_n, csum_c, kt_v, kt_n, kt_e, oc_n, oc_i, oc_r, oc_l, oc_u, oc_d, true_and, and_true, Bool.and_true, Bool.true_and, ne_eq, not_false_eq_true, not_true_eq_false, implies_true, false_imp, true_imp_iff, hsz_put, hsl_put, hln_put, hty_put, hsz_new, hsl_new, hln_new, hty_new, Nat.zero_add, Nat.add_zero, eq_self, decide_true, t32_0, t32_1, t32_2, t32_3, t32_4, t32_5, t32_6, hv_same, hv_kne, hv_tne, hv_ntne, hv_nsame, hv_ctne, hty_cpy, hln_cpy, hsz_cpy, hsl_cpy, vrn, vnr, vrr, A118_0, A118_1, A118_4, A118_7, A118_8, A118_9, A118_12, A118_52, A118_53, A118_54, A118_55, A118_58, A118_61, A118_62, A118_63, A118_66, A118_69, A118_70, A118_71, A118_74, A118_77, A118_78, A118_79, A118_82, A118_85, A118_86, A118_89, A118_90, A118_91, A118_94, A118_97, A118_98, A118_101, A118_104, A118_105, A118_106, A118_107, A118_110, A118_113, A118_116, A118_117, A118_118, A118_121, A118_124, A118_125, A118_126, A118_129]
    exact hQ _ _ (by rw [e1]; exact St_mono S2 (by omega) (by omega))
  · have e1 : goZ z k = awaitZ z k := by unfold goZ; rw [e]; rfl
    have t1 := t0 4 69 rfl
    rw [e] at x3
    simp (config := {decide := true}) only [vRf_r, vRf_n, vI_i, vL_l, vD_d, pI_i, pR_r, pR_n, vZ_0, vZ_1, ct_i, ct_r, ct_n, ct_l, ct_d, csum_n, csum_c, kt_v, kt_n, kt_e, oc_n, oc_i, oc_r, oc_l, oc_u, oc_d, true_and, and_true, Bool.and_true, Bool.true_and, ne_eq, not_false_eq_true, not_true_eq_false, implies_true, false_imp, true_imp_iff, hsz_put, hsl_put, hln_put, hty_put, hsz_new, hsl_new, hln_new, hty_new, Nat.zero_add, Nat.add_zero, eq_self, decide_true, t32_0, t32_1, t32_2, t32_3, t32_4, t32_5, t32_6, hv_same, hv_kne, hv_tne, hv_ntne, hv_nsame, hv_ctne, hty_cpy, hln_cpy, hsz_cpy, hsl_cpy, vrn, vnr, vrr, A118_0, A118_1, A118_4, A118_7, A118_8, A118_9, A118_12, A118_52, A118_53, A118_54, A118_55, A118_58, A118_61, A118_62, A118_63, A118_66, A118_69, A118_70, A118_71, r1tb h, r10_b h, r11_b h, r13_b h, r14_b h, r1sb h, rgBA h, r5tb h hk, r5gb h hk, r5nb h hk, r5mb h hk, r5eb h hk, r5db h hk, r5vb h hk, r5lb h hk, r5pb h hk, r6tb h hk, r60b h hk, r61b h hk, r62b h hk, r63b h hk, r7tb h hk, r7lb h hk, r8tb h hk, r8lb h hk, r9tb h hk, r9lb h hk, r10tb h hk, r10lb h hk, rgBA h, x2, x3, x5, t1]
    refine c_await h hk ht hL.1 hL.2 hc hs ?_
    intro B2 σ2 S2
    simp (config := {decide := true}) only [vRf_r, vRf_n, vI_i, vL_l, vD_d, pI_i, pR_r, pR_n, vZ_0, vZ_1, ct_i, ct_r, ct_n, ct_l, ct_d, csum_n, csum_c, kt_v, kt_n, kt_e, oc_n, oc_i, oc_r, oc_l, oc_u, oc_d, true_and, and_true, Bool.and_true, Bool.true_and, ne_eq, not_false_eq_true, not_true_eq_false, implies_true, false_imp, true_imp_iff, hsz_put, hsl_put, hln_put, hty_put, hsz_new, hsl_new, hln_new, hty_new, Nat.zero_add, Nat.add_zero, eq_self, decide_true, t32_0, t32_1, t32_2, t32_3, t32_4, t32_5, t32_6, hv_same, hv_kne, hv_tne, hv_ntne, hv_nsame, hv_ctne, hty_cpy, hln_cpy, hsz_cpy, hsl_cpy, vrn, vnr, vrr, A118_0, A118_1, A118_4, A118_7, A118_8, A118_9, A118_12, A118_52, A118_53, A118_54, A118_55, A118_58, A118_61, A118_62, A118_63, A118_66, A118_69, A118_70, A118_71, A118_74, A118_77, A118_78, A118_79, A118_82, A118_85, A118_86, A118_89, A118_90, A118_91, A118_94, A118_97, A118_98, A118_101, A118_104, A118_105, A118_106, A118_107, A118_110, A118_113, A118_116, A118_117, A118_118, A118_121, A118_124, A118_125, A118_126, A118_129]
    exact hQ _ _ (by rw [e1]; exact S2)
  · have e1 : goZ z k = finishZ (logZ z k (irm (z.1 1 k 7) 1000)) k (irm (z.1 1 k 7) 1000) := by unfold goZ; rw [e]; rfl
    have t1 := t0 5 77 rfl
    rw [e] at x3
    simp (config := {decide := true}) only [vRf_r, vRf_n, vI_i, vL_l, vD_d, pI_i, pR_r, pR_n, vZ_0, vZ_1, ct_i, ct_r, ct_n, ct_l, ct_d, csum_n, csum_c, kt_v, kt_n, kt_e, oc_n, oc_i, oc_r, oc_l, oc_u, oc_d, true_and, and_true, Bool.and_true, Bool.true_and, ne_eq, not_false_eq_true, not_true_eq_false, implies_true, false_imp, true_imp_iff, hsz_put, hsl_put, hln_put, hty_put, hsz_new, hsl_new, hln_new, hty_new, Nat.zero_add, Nat.add_zero, eq_self, decide_true, t32_0, t32_1, t32_2, t32_3, t32_4, t32_5, t32_6, hv_same, hv_kne, hv_tne, hv_ntne, hv_nsame, hv_ctne, hty_cpy, hln_cpy, hsz_cpy, hsl_cpy, vrn, vnr, vrr, A118_0, A118_1, A118_4, A118_7, A118_8, A118_9, A118_12, A118_52, A118_53, A118_54, A118_55, A118_58, A118_61, A118_62, A118_63, A118_66, A118_69, A118_70, A118_71, A118_74, A118_77, A118_78, A118_79, A118_82, A118_85, A118_86, r1tb h, r10_b h, r11_b h, r13_b h, r14_b h, r1sb h, rgBA h, r5tb h hk, r5gb h hk, r5nb h hk, r5mb h hk, r5eb h hk, r5db h hk, r5vb h hk, r5lb h hk, r5pb h hk, r6tb h hk, r60b h hk, r61b h hk, r62b h hk, r63b h hk, r7tb h hk, r7lb h hk, r8tb h hk, r8lb h hk, r9tb h hk, r9lb h hk, r10tb h hk, r10lb h hk, rgBA h, x2, x3, x5, t1]
    refine c_log (told := irm (z.1 1 k 7) 1000) h hk hL.1 hL.2 hc hs ?_
    intro B2 σ2 S2
    have n2 : zn (logZ z k (irm (z.1 1 k 7) 1000)) = zn z := (logZ_n _ _ _).1
    have hk2 : k < zn (logZ z k (irm (z.1 1 k 7) 1000)) := by omega
    have g2 := okG_log (told := irm (z.1 1 k 7) 1000) ht k
    have v7 : (logZ z k (irm (z.1 1 k 7) 1000)).1 1 k 7 = z.1 1 k 7 := by
      unfold logZ
      split
      · split
        · rw [zs_j _ (by decide)]
        · rw [zl_1, zs_k _ (by decide)]
      · rfl
    simp (config := {decide := true}) only [vRf_r, vRf_n, vI_i, vL_l, vD_d, pI_i, pR_r, pR_n, vZ_0, vZ_1, ct_i, ct_r, ct_n, ct_l, ct_d, csum_n, csum_c, kt_v, kt_n, kt_e, oc_n, oc_i, oc_r, oc_l, oc_u, oc_d, true_and, and_true, Bool.and_true, Bool.true_and, ne_eq, not_false_eq_true, not_true_eq_false, implies_true, false_imp, true_imp_iff, hsz_put, hsl_put, hln_put, hty_put, hsz_new, hsl_new, hln_new, hty_new, Nat.zero_add, Nat.add_zero, eq_self, decide_true, t32_0, t32_1, t32_2, t32_3, t32_4, t32_5, t32_6, hv_same, hv_kne, hv_tne, hv_ntne, hv_nsame, hv_ctne, hty_cpy, hln_cpy, hsz_cpy, hsl_cpy, vrn, vnr, vrr, A118_89, A118_90, A118_91, A118_94, A118_97, A118_98, r1tb S2.1, r10_b S2.1, r11_b S2.1, r13_b S2.1, r14_b S2.1, r1sb S2.1, rgBA S2.1, r5tb S2.1 hk2, r5gb S2.1 hk2, r5nb S2.1 hk2, r5mb S2.1 hk2, r5eb S2.1 hk2, r5db S2.1 hk2, r5vb S2.1 hk2, r5lb S2.1 hk2, r5pb S2.1 hk2, r6tb S2.1 hk2, r60b S2.1 hk2, r61b S2.1 hk2, r62b S2.1 hk2, r63b S2.1 hk2, r7tb S2.1 hk2, r7lb S2.1 hk2, r8tb S2.1 hk2, r8lb S2.1 hk2, r9tb S2.1 hk2, r9lb S2.1 hk2, r10tb S2.1 hk2, r10lb S2.1 hk2, rgBA S2.1, v7]
    refine cb_finish (told := irm (z.1 1 k 7) 1000) S2.1 hk2 g2.1 g2.2 ?_
    intro σ3 S3
    simp (config := {decide := true}) only [vRf_r, vRf_n, vI_i, vL_l, vD_d, pI_i, pR_r, pR_n, vZ_0, vZ_1, ct_i, ct_r, ct_n, ct_l, ct_d, csum_n, csum_c, kt_v, kt_n, kt_e, oc_n, oc_i, oc_r, oc_l, oc_u, oc_d, true_and, and_true, Bool.and_true, Bool.true_and, ne_eq, not_false_eq_true, not_true_eq_false, implies_true, false_imp, true_imp_iff, hsz_put, hsl_put, hln_put, hty_put, hsz_new, hsl_new, hln_new, hty_new, Nat.zero_add, Nat.add_zero, eq_self, decide_true, t32_0, t32_1, t32_2, t32_3, t32_4, t32_5, t32_6, hv_same, hv_kne, hv_tne, hv_ntne, hv_nsame, hv_ctne, hty_cpy, hln_cpy, hsz_cpy, hsl_cpy, vrn, vnr, vrr, A118_0, A118_1, A118_4, A118_7, A118_8, A118_9, A118_12, A118_52, A118_53, A118_54, A118_55, A118_58, A118_61, A118_62, A118_63, A118_66, A118_69, A118_70, A118_71, A118_74, A118_77, A118_78, A118_79, A118_82, A118_85, A118_86, A118_89, A118_90, A118_91, A118_94, A118_97, A118_98, A118_101, A118_104, A118_105, A118_106, A118_107, A118_110, A118_113, A118_116, A118_117, A118_118, A118_121, A118_124, A118_125, A118_126, A118_129]
    exact hQ _ _ (by rw [e1]; exact St_mono (St_trans S2 S3) (by omega) (by omega))
  · have e1 : goZ z k = finishZ (zs z 1 k 9 (mn0 (z.1 1 k 9))) k 0 := by unfold goZ; rw [e]; rfl
    have t1 := t0 6 104 rfl
    rw [e] at x3
    simp (config := {decide := true}) only [vRf_r, vRf_n, vI_i, vL_l, vD_d, pI_i, pR_r, pR_n, vZ_0, vZ_1, ct_i, ct_r, ct_n, ct_l, ct_d, csum_n, csum_c, kt_v, kt_n, kt_e, oc_n, oc_i, oc_r, oc_l, oc_u, oc_d, true_and, and_true, Bool.and_true, Bool.true_and, ne_eq, not_false_eq_true, not_true_eq_false, implies_true, false_imp, true_imp_iff, hsz_put, hsl_put, hln_put, hty_put, hsz_new, hsl_new, hln_new, hty_new, Nat.zero_add, Nat.add_zero, eq_self, decide_true, t32_0, t32_1, t32_2, t32_3, t32_4, t32_5, t32_6, hv_same, hv_kne, hv_tne, hv_ntne, hv_nsame, hv_ctne, hty_cpy, hln_cpy, hsz_cpy, hsl_cpy, vrn, vnr, vrr, A118_0, A118_1, A118_4, A118_7, A118_8, A118_9, A118_12, A118_52, A118_53, A118_54, A118_55, A118_58, A118_61, A118_62, A118_63, A118_66, A118_69, A118_70, A118_71, A118_74, A118_77, A118_78, A118_79, A118_82, A118_85, A118_86, A118_89, A118_90, A118_91, A118_94, A118_97, A118_98, A118_101, A118_104, A118_105, A118_106, A118_107, A118_110, A118_113, A118_116, A118_117, A118_118, r1tb h, r10_b h, r11_b h, r13_b h, r14_b h, r1sb h, rgBA h, r5tb h hk, r5gb h hk, r5nb h hk, r5mb h hk, r5eb h hk, r5db h hk, r5vb h hk, r5lb h hk, r5pb h hk, r6tb h hk, r60b h hk, r61b h hk, r62b h hk, r63b h hk, r7tb h hk, r7lb h hk, r8tb h hk, r8lb h hk, r9tb h hk, r9lb h hk, r10tb h hk, r10lb h hk, rgBA h, x2, x3, x5, t1, l_min]
    refine fin _ (zs z 1 k 9 (mn0 (z.1 1 k 9))) 0 (St_put (St_refl h) 4 (by decide) (rb_g (j := 9) (v := mn0 (z.1 1 k 9)) h hk (by decide))) rfl (okG_zs ht (by decide) (by decide) (by decide)) e1 _ ?_
    intro σ2 S2
    simp (config := {decide := true}) only [vRf_r, vRf_n, vI_i, vL_l, vD_d, pI_i, pR_r, pR_n, vZ_0, vZ_1, ct_i, ct_r, ct_n, ct_l, ct_d, csum_n, csum_c, kt_v, kt_n, kt_e, oc_n, oc_i, oc_r, oc_l, oc_u, oc_d, true_and, and_true, Bool.and_true, Bool.true_and, ne_eq, not_false_eq_true, not_true_eq_false, implies_true, false_imp, true_imp_iff, hsz_put, hsl_put, hln_put, hty_put, hsz_new, hsl_new, hln_new, hty_new, Nat.zero_add, Nat.add_zero, eq_self, decide_true, t32_0, t32_1, t32_2, t32_3, t32_4, t32_5, t32_6, hv_same, hv_kne, hv_tne, hv_ntne, hv_nsame, hv_ctne, hty_cpy, hln_cpy, hsz_cpy, hsl_cpy, vrn, vnr, vrr, A118_0, A118_1, A118_4, A118_7, A118_8, A118_9, A118_12, A118_52, A118_53, A118_54, A118_55, A118_58, A118_61, A118_62, A118_63, A118_66, A118_69, A118_70, A118_71, A118_74, A118_77, A118_78, A118_79, A118_82, A118_85, A118_86, A118_89, A118_90, A118_91, A118_94, A118_97, A118_98, A118_101, A118_104, A118_105, A118_106, A118_107, A118_110, A118_113, A118_116, A118_117, A118_118, A118_121, A118_124, A118_125, A118_126, A118_129]
    exact hQ _ _ S2
end TOUCH
