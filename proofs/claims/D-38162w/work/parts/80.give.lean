/-! pages are given up -/
def gv1Z (z : ZT) (k i p : Nat) : ZT := zs (zs (zs (zs (freeZ z i) 14 k p 2) 5 k p 1) 2 k p 0) 1 k 34 (z.1 1 k 34 &&& ((1 <<< (Int32.ofNat p &&& 31)) ^^^ (-1)))
def gv2Z (z : ZT) (k i p : Nat) : ZT := if z.1 1 k 30 = 1 then zs (gv1Z z k i p) 6 k p 0 else gv1Z z k i p
def gvZ (z : ZT) (k i p : Nat) : ZT := if z.1 1 k 31 = 1 then zl (zs (zs (gv2Z z k i p) 12 k (z.2 4 k) (z.1 1 k 24)) 13 k (z.2 4 k) (Int32.ofNat p)) 4 k (z.2 4 k + 1) else gv2Z z k i p
/-- the page that goes next: its frame -/
def gbN (z : ZT) (k p : Nat) (b : Option Nat) : Option Nat := match frOf z k (Int32.ofNat p) with
  | none => b
  | some f => match b with
    | none => some f
    | some y => if z.1 8 f 2 < z.1 8 y 2 then some f else some y
def gbF (z : ZT) (k : Nat) : Nat → Nat → Option Nat → Option Nat
  | _, 0, b => b
  | p, m + 1, b => gbF z k (p + 1) m (gbN z k p b)
def guF (k : Nat) : ZT → Nat → ZT × Int32
  | z, 0 => (z, 0)
  | z, n + 1 => match gbF z k 0 6 none with
    | none => (z, 0)
    | some i => ((guF k (gvZ z k i (z.1 8 i 1).toNatClampNeg) n).1, (guF k (gvZ z k i (z.1 8 i 1).toNatClampNeg) n).2 + 1)
section GIVE
variable {g : GC} {A A' B B' : Nat → Nat → Nat} {σ σ' : AH} {z : ZT} {k p i j : Nat} {v : Int32} {Q : AQ}
theorem rb_row {W : Nat → Prop} {c s b' : Nat} {f' : Nat → Value} {x y : Int32} (h : RepB g A B σ z) (hk : k < zn z) (hs : z.1 1 k 31 = 1) (q : kp W c s σ σ') (hC : hsz σ' ≤ gC g) (hW : ∀ a, W a → a = A 14 k ∨ a = B 34 k) (hl : isL g σ' (A 14 k) b' (z.2 4 k + 1) f') (hb : b' = B 34 k ∨ hsz σ ≤ b' ∧ b' < hsz σ') (hf : ∀ i, i < z.2 4 k → RwAt (mix A (Bup B 34 k b')) σ' (f' i) (z.1 12 k i) (z.1 13 k i)) (hf2 : RwAt (mix A (Bup B 34 k b')) σ' (f' (z.2 4 k)) x y) : RepB g A (Bup B 34 k b') σ' (zl (zs (zs z 12 k (z.2 4 k) x) 13 k (z.2 4 k) y) 4 k (z.2 4 k + 1)) := by
  have G := (RepC_out (A := mix A B) h).2.2.2.2 k hk
  have hcA : cA g (mix A B) σ := h.2.1
  have hgB := rgsb h
  have m1 : mix A (Bup B 34 k b') = nm (mix A B) 34 k b' := mix_Bup (by decide)
  have hWg : ∀ a, W a → ∃ r, a = mix A B r k ∧ gwr r = true := by
    intro a w
    rcases hW a w with e | e
    · exact ⟨14, e, rfl⟩
    · exact ⟨34, e, rfl⟩
  have nW : ∀ r, r ≠ 14 → r ≠ 34 → ¬ W (mix A B r k) := by
    intro r h1 h2 w
    rcases hW _ w with e | e
    · exact h1 (hcA.1 r k 14 k e).1
    · exact h2 (hcA.1 r k 34 k e).1
  have hLf : Lf (mix A B) σ W := fun a w _ => Or.inr (by
    obtain ⟨r, e, _⟩ := hWg a w
    exact ⟨r, k, e⟩)
  have hAK : AK (mix A B) (mix A (Bup B 34 k b')) σ k := by rw [m1]; exact AK_nm rfl (hb.imp_right (fun e => e.1))
  have hAN := AK_AN hAK
  have ne : ∀ r, r ≠ 34 → mix A (Bup B 34 k b') r k = mix A B r k := fun r hr => by rw [m1, nm_ne (by omega)]
  have at34 : mix A (Bup B 34 k b') 34 k = b' := by rw [m1, nm_at]
  refine RepC_one (A := mix A B) (A' := mix A (Bup B 34 k b')) h q hk hWg hAK (by rw [m1]; exact cA_nm' hcA q.1 hC hgB hb) (fun i hi => zsame_zl (zsame_zs (zsame_zs (zsame_refl z i) hi) hi) hi) (by rw [zl_1, zs_k _ (by decide), zs_k _ (by decide)]) (by rw [zl_1, zs_k _ (by decide), zs_k _ (by decide)]) (by unfold zn; rw [zl_k _ (by decide)]; rfl) (by unfold zf; rw [zl_k _ (by decide)]; rfl) ⟨?_, ?_, fun _ => ?_⟩
  · refine gcH_a (gcH_z (gcH_kp G.1 q (fun r e _ => nW r (by omega) (by omega))) (fun κ hκ => by rw [zl_1, zs_k _ (by omega), zs_k _ (by omega)])) (fun r e => ne r (by omega))
  · obtain ⟨f, u1, u2⟩ := gcT_kp G.2.1 q (nW 6 (by decide) (by decide)) (fun _ => nW 26 (by decide) (by decide)) hLf hAN
    exact ⟨f, u1, u2⟩
  · obtain ⟨P1, P2, _⟩ : P16 g (mix A B) (fun r => mix A B r k) σ z k ∧ P13 g (mix A B) (fun r => mix A B r k) σ z k ∧ P14 g (mix A B) (fun r => mix A B r k) σ z k := G.2.2 hs
    obtain ⟨f1, u1, u2⟩ := P16_kp P1 q (nW 16 (by decide) (by decide)) (fun _ => nW 36 (by decide) (by decide)) hLf hAN
    obtain ⟨f2, u3, u4⟩ := P13_kp P2 q (nW 13 (by decide) (by decide)) (fun _ => nW 33 (by decide) (by decide)) hLf hAN
    refine ⟨⟨f1, u1, u2⟩, ⟨f2, u3, u4⟩, f', ?_, fun i hi => ?_⟩
    · show isL g σ' (mix A (Bup B 34 k b') 14 k) (mix A (Bup B 34 k b') 34 k) _ f'
      rw [ne 14 (by decide), at34, zl_at]
      exact hl
    · rw [zl_at] at hi
      rw [zl_1]
      by_cases e : i = z.2 4 k
      · rw [e, zs_at, zs_k _ (by decide), zs_at]; exact hf2
      · have a1 : ∀ κ, (zs (zs z 12 k (z.2 4 k) x) 13 k (z.2 4 k) y).1 κ k i = z.1 κ k i := fun κ => by rw [zs_j _ e, zs_j _ e]
        rw [a1, a1]
        exact hf i (by omega)
theorem c_giveUp2 (h : RepB g A B σ z) (hk : k < zn z) (h3 : zn z ≤ 1000) (hi : i < zf z) (hf0 : z.1 8 i 0 = Int32.ofNat k) (hf1 : z.1 8 i 1 = Int32.ofNat p) (hp : p < 6) (hn : z.2 4 k ≤ 400) (hc : hsz σ + 2 ≤ gC g) (hs : hsl σ + 612 ≤ gS g) (hQ : ∀ B' σ', St g A B B' σ σ' (gvZ z k i p) 2 612 → Q (.inl none) σ') : aw g 133 0 [some (.ref (A 4 k)), some (.ref (A 18 i)), none] [] σ Q := by
  have f0 := r20_b h hi
  have f1 := r21_b h hi
  have ft := r18tb h hi
  rw [hf1] at f1
  have b1 : (Int32.ofNat p < 0) = False := n32_neg (by omega)
  have b2 : (Int32.ofNat p).toNatClampNeg = p := n32_nat (by omega)
  have b3 : (p < 6) = True := eq_true hp
  have R1 := rb_f0 (v := -1) (w := .null) h hi gref_m.symm
  have S1 := St_put (St_refl h) 18 (by decide) R1
  have R2 := rb_f1 (v := -1) R1 hi
  have S2 := St_put S1 18 (by decide) R2
  have R3 := rb_f2 (v := -1) R2 hi
  have S3 := St_put S2 18 (by decide) R3
  have R4 := rb_mod (κ := 14) (i := k) (j := p) (v := 2) R3 rfl
  have R5 := rb_giv (v := 1) R4 hk hp
  have S5 := St_put (St_z S3 R4) 10 (by decide) R5
  have R6 := rb_val (v := 0) R5 hk hp
  have S6 := St_put S5 7 (by decide) R6
  have R7 := rb_mod (κ := 1) (i := k) (j := 34) (v := z.1 1 k 34 &&& ((1 <<< (Int32.ofNat p &&& 31)) ^^^ (-1))) R6 rfl
  have S7 : St g A B B σ _ (gv1Z z k i p) 0 0 := St_z S6 R7
  have e30 : (gv1Z z k i p).1 1 k 30 = z.1 1 k 30 := by
    unfold gv1Z freeZ
    rw [zs_j _ (by decide), zs_k _ (by decide), zs_k _ (by decide), zs_k _ (by decide), zs_k _ (by decide), zs_k _ (by decide), zs_k _ (by decide)]
  have e1j : ∀ j, j ≠ 34 → (gv2Z z k i p).1 1 k j = z.1 1 k j := by
    intro j hj
    unfold gv2Z
    split
    · unfold gv1Z freeZ
      rw [zs_k _ (by decide), zs_j _ hj, zs_k _ (by decide), zs_k _ (by decide), zs_k _ (by decide), zs_k _ (by decide), zs_k _ (by decide), zs_k _ (by decide)]
    · unfold gv1Z freeZ
      rw [zs_j _ hj, zs_k _ (by decide), zs_k _ (by decide), zs_k _ (by decide), zs_k _ (by decide), zs_k _ (by decide), zs_k _ (by decide)]
  have e2n : (gv2Z z k i p).2 = z.2 := by
    unfold gv2Z
    split <;> rfl
  have tail : ∀ σ1, St g A B B σ σ1 (gv2Z z k i p) 0 0 → aw g 133 40 [some (.ref (A 4 k)), some (.ref (A 18 i)), some (.int (Int32.ofNat p))] [] σ1 Q := by
    intro σ1 T
    have hk1 : k < zn (gv2Z z k i p) := by unfold zn; rw [e2n]; exact hk
    have d1 := T.2.2.2.1
    have d2 := T.2.2.2.2.2.1
    have p21 := r5pb T.1 hk1
    rw [e1j 31 (by decide)] at p21
    have t4 := r5tb T.1 hk1
    by_cases hs1 : z.1 1 k 31 = 1
    · have ez : gvZ z k i p = zl (zs (zs (gv2Z z k i p) 12 k (z.2 4 k) (z.1 1 k 24)) 13 k (z.2 4 k) (Int32.ofNat p)) 4 k (z.2 4 k + 1) := if_pos hs1
      have hs2 : (gv2Z z k i p).1 1 k 31 = 1 := by rw [e1j 31 (by decide)]; exact hs1
      rw [if_pos hs1] at p21
      have p12 := r12tb T.1 hk1 hs2
      have p9 := r9_b T.1 hk1 hs2
      rw [e1j 24 (by decide)] at p9
      obtain ⟨p90, p91, p92, p93, p94⟩ := p9
      obtain ⟨_, _, ⟨f3, u5, u6⟩⟩ := rLp (A := mix A B) T.1 hk1 hs2
      have u5 : isL g σ1 (A 14 k) (B 34 k) ((gv2Z z k i p).2 4 k) f3 := u5
      have hgB := rgsb T.1
      have t14 := u5.1
      have c0 : hsz σ1 + 1 ≤ gC g := by omega
      have s0 : hsl σ1 + 2 ≤ gS g := by omega
      have x1 : (A 4 k = hsz σ1) = False := eq_false (fun e => by have := hty_lt t4; omega)
      have x2 : (A 12 k = hsz σ1) = False := eq_false (fun e => by have := hty_lt p12; omega)
      have x3 : (A 14 k = hsz σ1) = False := eq_false (fun e => by have := hty_lt t14; omega)
      have w1 : kp (fun _ => False) 1 2 σ1 (hput (hput (hnew σ1 20 2 (fun _ => .int 0) 2) 20 (hsz σ1) 0 (.int (z.1 1 k 24))) 20 (hsz σ1) 1 (.int (Int32.ofNat p))) := kp_then (kp_new (W := fun _ => False)) (kp_trans (kp_put (W := fun x => x = hsz σ1) (fun _ => rfl)) (kp_put (W := fun x => x = hsz σ1) (fun _ => rfl))) (fun x hx e => by omega)
      have L1 := isL_kp u5 w1 (fun e => e) (fun e => e)
      have nt : hty (hput (hput (hnew σ1 20 2 (fun _ => .int 0) 2) 20 (hsz σ1) 0 (.int (z.1 1 k 24))) 20 (hsz σ1) 1 (.int (Int32.ofNat p))) (hsz σ1) = some 20 := by rw [hty_put, hty_put, hty_new, if_pos rfl]
      have nl : hln (hput (hput (hnew σ1 20 2 (fun _ => .int 0) 2) 20 (hsz σ1) 0 (.int (z.1 1 k 24))) 20 (hsz σ1) 1 (.int (Int32.ofNat p))) (hsz σ1) = 2 := by rw [hln_put, hln_put, hln_new, if_pos rfl]
      have n0 : hv (hput (hput (hnew σ1 20 2 (fun _ => .int 0) 2) 20 (hsz σ1) 0 (.int (z.1 1 k 24))) 20 (hsz σ1) 1 (.int (Int32.ofNat p))) 20 (hsz σ1) 0 = .int (z.1 1 k 24) := by rw [hv_kne _ (by decide), hv_same]
      have n1 : hv (hput (hput (hnew σ1 20 2 (fun _ => .int 0) 2) 20 (hsz σ1) 0 (.int (z.1 1 k 24))) 20 (hsz σ1) 1 (.int (Int32.ofNat p))) 20 (hsz σ1) 1 = .int (Int32.ofNat p) := by rw [hv_same]
      have sz1 : hsz (hput (hput (hnew σ1 20 2 (fun _ => .int 0) 2) 20 (hsz σ1) 0 (.int (z.1 1 k 24))) 20 (hsz σ1) 1 (.int (Int32.ofNat p))) = hsz σ1 + 1 := rfl
      have sl1 : hsl (hput (hput (hnew σ1 20 2 (fun _ => .int 0) 2) 20 (hsz σ1) 0 (.int (z.1 1 k 24))) 20 (hsz σ1) 1 (.int (Int32.ofNat p))) = hsl σ1 + 2 := rfl
      simp (config := {decide := true}) only [vRf_r, vRf_n, vI_i, vL_l, vD_d, pI_i, pR_r, pR_n, vZ_0, vZ_1, ct_i, ct_r, ct_n, ct_l, ct_d, csum_n, csum_c, kt_v, kt_n, kt_e, oc_n, oc_i, oc_r, oc_l, oc_u, oc_d, true_and, and_true, Bool.and_true, Bool.true_and, ne_eq, not_false_eq_true, not_true_eq_false, implies_true, false_imp, true_imp_iff, hsz_put, hsl_put, hln_put, hty_put, hsz_new, hsl_new, hln_new, hty_new, Nat.zero_add, Nat.add_zero, eq_self, decide_true, t32_0, t32_1, t32_2, t32_3, t32_4, t32_5, t32_6, hv_same, hv_kne, hv_tne, hv_ntne, hv_nsame, hv_ctne, hty_cpy, hln_cpy, hsz_cpy, hsl_cpy, vrn, vnr, vrr, A133_40, A133_41, A133_44, A133_47, A133_48, A133_51, A133_54, A133_55, A133_57, A133_58, A133_59, A133_60, A133_63, A133_66, A133_67, A133_68, A133_69, A133_70, A133_71, t4, p21, p12, p90, p91, p92, p93, p94, t14, c0, s0, x1, x2, x3, hgB, if_true, if_false]
      generalize hput (hput (hnew σ1 20 2 (fun _ => .int 0) 2) 20 (hsz σ1) 0 (.int (z.1 1 k 24))) 20 (hsz σ1) 1 (.int (Int32.ofNat p)) = σ2 at *
      have e4n : (gv2Z z k i p).2 4 k = z.2 4 k := by rw [e2n]
      have hgw : gw ((gv2Z z k i p).2 4 k) ≤ 610 := by unfold gw; omega
      refine l_add (v := .ref (hsz σ1)) L1 (by omega) (by omega) (by omega) (by omega) ⟨20, nt, Or.inr rfl⟩ ?_
      intro σ3 b' l1 k2 l2
      have q := kp_then (W := fun x => x = A 14 k ∨ x = B 34 k) (kp_mono w1 (Nat.le_refl _) (Nat.le_refl _) (fun _ _ e => e.elim)) k2 (fun _ _ e => e)
      have hC3 : hsz σ3 ≤ gC g := by have := q.2.1; omega
      have k21 := k2.1
      have hcA1 : cA g (mix A B) σ1 := T.1.2.1
      have nx : ∀ r j, hsz σ1 ≠ mix A B r j := fun r j e => by
        rcases (hcA1.2 r j).2 with w | w <;> omega
      have hAN : AN (mix A B) (mix A (Bup B 34 k b')) σ2 := AN_up (l2.imp_right (fun e => by omega))
      have hLf : Lf (mix A B) σ2 (fun x => x = A 14 k ∨ x = B 34 k) := fun x w _ => Or.inr (by
        rcases w with e | e
        · exact ⟨14, k, e⟩
        · exact ⟨34, k, e⟩)
      have R := rb_row (x := z.1 1 k 24) (y := Int32.ofNat p) T.1 hk1 hs2 q hC3 (fun _ e => e) l1 (l2.imp_right (fun e => by omega)) (fun i' hi' => ?_) ?_
      · simp (config := {decide := true}) only [vRf_r, vRf_n, vI_i, vL_l, vD_d, pI_i, pR_r, pR_n, vZ_0, vZ_1, ct_i, ct_r, ct_n, ct_l, ct_d, csum_n, csum_c, kt_v, kt_n, kt_e, oc_n, oc_i, oc_r, oc_l, oc_u, oc_d, true_and, and_true, Bool.and_true, Bool.true_and, ne_eq, not_false_eq_true, not_true_eq_false, implies_true, false_imp, true_imp_iff, hsz_put, hsl_put, hln_put, hty_put, hsz_new, hsl_new, hln_new, hty_new, Nat.zero_add, Nat.add_zero, eq_self, decide_true, t32_0, t32_1, t32_2, t32_3, t32_4, t32_5, t32_6, hv_same, hv_kne, hv_tne, hv_ntne, hv_nsame, hv_ctne, hty_cpy, hln_cpy, hsz_cpy, hsl_cpy, vrn, vnr, vrr, A133_74, A133_75]
        rw [e4n] at R
        refine hQ (Bup B 34 k b') σ3 (St_mono (St_trans T ⟨by rw [ez]; exact R, BK_up (by decide) (l2.imp_right (fun e => by omega)), kp_mono (c' := 2) (s' := 612) q (by omega) (by omega) (fun a _ e => ?_)⟩) (by omega) (by omega))
        rcases e with e | e
        · rw [e]; exact FB_i 14 (by decide)
        · rw [e]; exact FB_b 34 (by decide)
      · show RwAt _ σ3 (if i' = (gv2Z z k i p).2 4 k then .ref (hsz σ1) else f3 i') _ _
        rw [if_neg (by omega)]
        exact RwAt_kp (RwAt_kp (u6 i' hi') w1 (AN_refl _ _) (fun _ e => e.elim)) k2 hAN (fun x w l => (hLf x w l).imp_left (fun e => e.2.2))
      · show RwAt _ σ3 (if (gv2Z z k i p).2 4 k = (gv2Z z k i p).2 4 k then .ref (hsz σ1) else f3 _) _ _
        rw [if_pos rfl]
        exact RwAt_kp (A := mix A B) ⟨hsz σ1, rfl, nt, nl, n0, n1, nx⟩ k2 hAN (fun x w l => (hLf x w l).imp_left (fun e => e.2.2))
    · have ez : gvZ z k i p = gv2Z z k i p := if_neg hs1
      rw [if_neg hs1] at p21
      simp (config := {decide := true}) only [vRf_r, vRf_n, vI_i, vL_l, vD_d, pI_i, pR_r, pR_n, vZ_0, vZ_1, ct_i, ct_r, ct_n, ct_l, ct_d, csum_n, csum_c, kt_v, kt_n, kt_e, oc_n, oc_i, oc_r, oc_l, oc_u, oc_d, true_and, and_true, Bool.and_true, Bool.true_and, ne_eq, not_false_eq_true, not_true_eq_false, implies_true, false_imp, true_imp_iff, hsz_put, hsl_put, hln_put, hty_put, hsz_new, hsl_new, hln_new, hty_new, Nat.zero_add, Nat.add_zero, eq_self, decide_true, t32_0, t32_1, t32_2, t32_3, t32_4, t32_5, t32_6, hv_same, hv_kne, hv_tne, hv_ntne, hv_nsame, hv_ctne, hty_cpy, hln_cpy, hsz_cpy, hsl_cpy, vrn, vnr, vrr, A133_40, A133_41, A133_44, A133_75, t4, p21]
      exact hQ B _ (by rw [ez]; exact St_mono T (by omega) (by omega))
  by_cases hm : z.1 1 k 30 = 1
  · have R8 := rb_left (v := 0) R7 hk hp
    have S8 := St_put S7 11 (by decide) R8
    have ez2 : gv2Z z k i p = zs (gv1Z z k i p) 6 k p 0 := if_pos hm
    rw [show zs (zs (zs (zs (zs (zs (zs (zs z 8 i 0 (-1)) 8 i 1 (-1)) 8 i 2 (-1)) 14 k p 2) 5 k p 1) 2 k p 0) 1 k 34 (z.1 1 k 34 &&& ((1 <<< (Int32.ofNat p &&& 31)) ^^^ (-1)))) 6 k p 0 = gv2Z z k i p from ez2.symm] at S8
    have l1 := r11tb h hk hm
    have l2 := r11lb h hk hm
    have := tail _ S8
    simp (config := {decide := true}) only [vRf_r, vRf_n, vI_i, vL_l, vD_d, pI_i, pR_r, pR_n, vZ_0, vZ_1, ct_i, ct_r, ct_n, ct_l, ct_d, csum_n, csum_c, kt_v, kt_n, kt_e, oc_n, oc_i, oc_r, oc_l, oc_u, oc_d, true_and, and_true, Bool.and_true, Bool.true_and, ne_eq, not_false_eq_true, not_true_eq_false, implies_true, false_imp, true_imp_iff, hsz_put, hsl_put, hln_put, hty_put, hsz_new, hsl_new, hln_new, hty_new, Nat.zero_add, Nat.add_zero, eq_self, decide_true, t32_0, t32_1, t32_2, t32_3, t32_4, t32_5, t32_6, hv_same, hv_kne, hv_tne, hv_ntne, hv_nsame, hv_ctne, hty_cpy, hln_cpy, hsz_cpy, hsl_cpy, vrn, vnr, vrr, A133_0, A133_1, A133_4, A133_5, A133_6, A133_9, A133_10, A133_13, A133_14, A133_15, A133_16, A133_17, A133_20, A133_23, A133_24, A133_25, A133_26, A133_27, A133_30, A133_33, A133_34, A133_37, A133_38, A133_39, A134_0, A134_1, A134_2, A134_3, A134_4, A134_7, A135_0, A135_1, A135_2, A135_5, A135_6, A135_7, A135_10, A135_11, A135_12, A135_15, A194_0, A194_1, A194_4, A194_7, A194_8, A194_11, A194_12, r5tb h hk, r5gb h hk, r5nb h hk, r5mb h hk, r5eb h hk, r5db h hk, r5vb h hk, r5lb h hk, r5pb h hk, r6tb h hk, r60b h hk, r61b h hk, r62b h hk, r63b h hk, r7tb h hk, r7lb h hk, r8tb h hk, r8lb h hk, r9tb h hk, r9lb h hk, r10tb h hk, r10lb h hk, rgBA h, ft, f0, f1, hm, b1, b2, b3, l1, l2, if_true]
    exact this
  · have ez2 : gv2Z z k i p = gv1Z z k i p := if_neg hm
    rw [← ez2] at S7
    have := tail _ S7
    simp (config := {decide := true}) only [vRf_r, vRf_n, vI_i, vL_l, vD_d, pI_i, pR_r, pR_n, vZ_0, vZ_1, ct_i, ct_r, ct_n, ct_l, ct_d, csum_n, csum_c, kt_v, kt_n, kt_e, oc_n, oc_i, oc_r, oc_l, oc_u, oc_d, true_and, and_true, Bool.and_true, Bool.true_and, ne_eq, not_false_eq_true, not_true_eq_false, implies_true, false_imp, true_imp_iff, hsz_put, hsl_put, hln_put, hty_put, hsz_new, hsl_new, hln_new, hty_new, Nat.zero_add, Nat.add_zero, eq_self, decide_true, t32_0, t32_1, t32_2, t32_3, t32_4, t32_5, t32_6, hv_same, hv_kne, hv_tne, hv_ntne, hv_nsame, hv_ctne, hty_cpy, hln_cpy, hsz_cpy, hsl_cpy, vrn, vnr, vrr, A133_0, A133_1, A133_4, A133_5, A133_6, A133_9, A133_10, A133_13, A133_14, A133_15, A133_16, A133_17, A133_20, A133_23, A133_24, A133_25, A133_26, A133_27, A133_30, A133_33, A133_34, A133_37, A133_38, A133_39, A134_0, A134_1, A134_2, A134_3, A134_4, A134_7, A135_0, A135_1, A135_2, A135_5, A135_6, A135_7, A135_10, A135_11, A135_12, A135_15, A194_0, A194_1, A194_4, A194_7, A194_8, A194_11, A194_12, r5tb h hk, r5gb h hk, r5nb h hk, r5mb h hk, r5eb h hk, r5db h hk, r5vb h hk, r5lb h hk, r5pb h hk, r6tb h hk, r60b h hk, r61b h hk, r62b h hk, r63b h hk, r7tb h hk, r7lb h hk, r8tb h hk, r8lb h hk, r9tb h hk, r9lb h hk, r10tb h hk, r10lb h hk, rgBA h, ft, f0, f1, hm, b1, b2, b3, if_false]
    exact this
theorem WI_zl4 (h : WI z) {k v : Nat} : WI (zl z 4 k v) := by
  obtain ⟨a, b, c, d, f⟩ := h
  have n1 : zn (zl z 4 k v) = zn z := by unfold zn; rw [zl_k _ (by decide)]
  have f1 : zf (zl z 4 k v) = zf z := by unfold zf; rw [zl_k _ (by decide)]
  refine ⟨⟨by omega, by omega, by omega, okR_2 (by rw [zl_k _ (by decide)]) a.2.2.2⟩, ⟨by have := b.1; omega, by have := b.2.1; omega, fun i hi => ?_⟩, okR_2 (by rw [zl_k _ (by decide)]) c, okR_2 (by rw [zl_k _ (by decide)]) d, fun k' hk' => WG_of (f k' (by omega)) (by rw [zl_k _ (by decide)]) (by rw [zl_k _ (by decide)]) rfl rfl (fun _ _ => rfl)⟩
  unfold okFi
  rw [n1]
  exact b.2.2 i (by omega)
theorem WI_gv (h : WI z) (k i p : Nat) : WI (gvZ z k i p) := by
  have h1 : WI (gv1Z z k i p) := WI_zs (WI_zs (WI_zs (WI_zs (WI_free h i) rfl) rfl) rfl) (by decide)
  have h2 : WI (gv2Z z k i p) := by
    unfold gv2Z
    split
    · exact WI_zs h1 rfl
    · exact h1
  unfold gvZ
  split
  · exact WI_zl4 (WI_zs (WI_zs h2 rfl) rfl)
  · exact h2
theorem gvZ_n (z : ZT) (k i p : Nat) : zn (gvZ z k i p) = zn z ∧ zf (gvZ z k i p) = zf z ∧ (gvZ z k i p).2 4 k ≤ z.2 4 k + 1 := by
  have e2n : (gv2Z z k i p).2 = z.2 := by
    unfold gv2Z
    split <;> rfl
  unfold gvZ zn zf
  split
  · exact ⟨by rw [zl_k _ (by decide), zs_2, zs_2, e2n], by rw [zl_k _ (by decide), zs_2, zs_2, e2n], by rw [zl_at]; omega⟩
  · rw [e2n]; exact ⟨rfl, rfl, by omega⟩
def gbP (z : ZT) (k i : Nat) : Prop := i < zf z ∧ z.1 8 i 0 = Int32.ofNat k ∧ ∃ p, p < 6 ∧ z.1 8 i 1 = Int32.ofNat p
theorem gbN_ok {b : Option Nat} (hp : p < 6) (hb : ∀ x, b = some x → gbP z k x) : ∀ x, gbN z k p b = some x → gbP z k x := by
  intro x hx
  unfold gbN at hx
  cases hf : frOf z k (Int32.ofNat p) with
  | none => rw [hf] at hx; exact hb x hx
  | some f =>
    have q := frF_lt _ _ _ (by omega) hf
    have pf : gbP z k f := ⟨q.1, q.2.1, p, hp, q.2.2⟩
    rw [hf] at hx
    cases b with
    | none =>
      have e : f = x := Option.some.inj hx
      rw [← e]; exact pf
    | some y =>
      dsimp only at hx
      split at hx
      · have e : f = x := Option.some.inj hx
        rw [← e]; exact pf
      · exact hb x hx
theorem gbF_ok : ∀ m p b, p + m ≤ 6 → (∀ x, b = some x → gbP z k x) → ∀ x, gbF z k p m b = some x → gbP z k x := by
  intro m
  induction m with
  | zero => intro p b _ hb x hx; exact hb x hx
  | succ m ih => intro p b hp hb x hx; exact ih (p + 1) _ (by omega) (gbN_ok (by omega) hb) x hx
theorem gb_loop {σ0 : AH} (hk : k < zn z) (hF : okFr z) (hc : hsz σ0 + 6 ≤ gC g) (hs : hsl σ0 + 24 ≤ gS g) (l2 l3 l4 : Int32) : ∀ m p b σ1 l7, p + m = 6 → (∀ x, b = some x → gbP z k x) → St g A B B σ0 σ1 z p (4 * p) → (∀ σ' l6 l7, St g A B B σ0 σ' z 6 24 → aw g 132 66 [some (.ref (A 1 0)), some (.ref (A 4 k)), some (.int l2), some (.int l3), some (.int l4), some (vfr A (gbF z k p m b)), l6, l7] [] σ' Q) → aw g 132 17 [some (.ref (A 1 0)), some (.ref (A 4 k)), some (.int l2), some (.int l3), some (.int l4), some (vfr A b), some (.int (Int32.ofNat p)), l7] [] σ1 Q := by
  intro m
  induction m with
  | zero =>
    intro p b σ1 l7 hp hb S hQ
    have hp6 : p = 6 := by omega
    subst hp6
    have e1 : ((6 : Int32) ≤ Int32.ofNat 6) = True := eq_true (by decide)
    have := hQ σ1 (some (.int (Int32.ofNat 6))) l7 S
    simp (config := {decide := true}) only [vRf_r, vRf_n, vI_i, vL_l, vD_d, pI_i, pR_r, pR_n, vZ_0, vZ_1, ct_i, ct_r, ct_n, ct_l, ct_d, csum_n, csum_c, kt_v, kt_n, kt_e, oc_n, oc_i, oc_r, oc_l, oc_u, oc_d, true_and, and_true, Bool.and_true, Bool.true_and, ne_eq, not_false_eq_true, not_true_eq_false, implies_true, false_imp, true_imp_iff, hsz_put, hsl_put, hln_put, hty_put, hsz_new, hsl_new, hln_new, hty_new, Nat.zero_add, Nat.add_zero, eq_self, decide_true, t32_0, t32_1, t32_2, t32_3, t32_4, t32_5, t32_6, hv_same, hv_kne, hv_tne, hv_ntne, hv_nsame, hv_ctne, hty_cpy, hln_cpy, hsz_cpy, hsl_cpy, vrn, vnr, vrr, A132_17, A132_19, A132_21, e1]
    exact this
  | succ m ih =>
    intro p b σ1 l7 hp hb S hQ
    have e1 : ((6 : Int32) ≤ Int32.ofNat p) = False := by rw [show (6 : Int32) = Int32.ofNat 6 from rfl, n32_le (by omega) (by omega)]; exact eq_false (by omega)
    have d1 := S.2.2.2.1
    have d2 := S.2.2.2.2.2.1
    rw [A132_17]
    simp (config := {decide := true}) only [vRf_r, vRf_n, vI_i, vL_l, vD_d, pI_i, pR_r, pR_n, vZ_0, vZ_1, ct_i, ct_r, ct_n, ct_l, ct_d, csum_n, csum_c, kt_v, kt_n, kt_e, oc_n, oc_i, oc_r, oc_l, oc_u, oc_d, true_and, and_true, Bool.and_true, Bool.true_and, ne_eq, not_false_eq_true, not_true_eq_false, implies_true, false_imp, true_imp_iff, hsz_put, hsl_put, hln_put, hty_put, hsz_new, hsl_new, hln_new, hty_new, Nat.zero_add, Nat.add_zero, eq_self, decide_true, t32_0, t32_1, t32_2, t32_3, t32_4, t32_5, t32_6, hv_same, hv_kne, hv_tne, hv_ntne, hv_nsame, hv_ctne, hty_cpy, hln_cpy, hsz_cpy, hsl_cpy, vrn, vnr, vrr, A132_19, A132_21, A132_24, A132_25, A132_26, A132_28, r1tb S.1, r10_b S.1, r11_b S.1, r13_b S.1, r14_b S.1, r1sb S.1, rgBA S.1, e1]
    refine c_frameOf S.1 hk hF (by omega) (by omega) ?_
    intro σ2 w2
    have S2 := St_mono (c' := p + 1) (s' := 4 * (p + 1)) (St_trans S (St_0 S.1 w2)) (by omega) (by omega)
    have b4 := n32_inc p
    have nx : ∀ b2 l7, gbN z k p b = b2 → aw g 132 17 [some (.ref (A 1 0)), some (.ref (A 4 k)), some (.int l2), some (.int l3), some (.int l4), some (vfr A b2), some (.int (Int32.ofNat (p + 1))), l7] [] σ2 Q := by
      intro b2 l7 e2
      subst e2
      exact ih (p + 1) _ σ2 l7 (by omega) (gbN_ok (by omega) hb) S2 hQ
    have v5 : oc (some (vfr A b)) = true := by cases b <;> rfl
    cases hf : frOf z k (Int32.ofNat p) with
    | none =>
      have := nx b (some .null) (by unfold gbN; rw [hf])
      rw [vfr_n]
      simp (config := {decide := true}) only [vRf_r, vRf_n, vI_i, vL_l, vD_d, pI_i, pR_r, pR_n, vZ_0, vZ_1, ct_i, ct_r, ct_n, ct_l, ct_d, csum_n, csum_c, kt_v, kt_n, kt_e, oc_n, oc_i, oc_r, oc_l, oc_u, oc_d, true_and, and_true, Bool.and_true, Bool.true_and, ne_eq, not_false_eq_true, not_true_eq_false, implies_true, false_imp, true_imp_iff, hsz_put, hsl_put, hln_put, hty_put, hsz_new, hsl_new, hln_new, hty_new, Nat.zero_add, Nat.add_zero, eq_self, decide_true, t32_0, t32_1, t32_2, t32_3, t32_4, t32_5, t32_6, hv_same, hv_kne, hv_tne, hv_ntne, hv_nsame, hv_ctne, hty_cpy, hln_cpy, hsz_cpy, hsl_cpy, vrn, vnr, vrr, A132_31, A132_33, A132_35, A132_60, A132_63, b4, v5]
      exact this
    | some f =>
      have q := frF_lt _ _ _ (by omega) hf
      have ff2 := r22_b S2.1 q.1
      have fft := r18tb S2.1 q.1
      rw [vfr_s]
      cases b with
      | none =>
        have := nx (some f) (some (.ref (A 18 f))) (by unfold gbN; rw [hf])
        rw [vfr_s] at this
        rw [vfr_n]
        simp (config := {decide := true}) only [vRf_r, vRf_n, vI_i, vL_l, vD_d, pI_i, pR_r, pR_n, vZ_0, vZ_1, ct_i, ct_r, ct_n, ct_l, ct_d, csum_n, csum_c, kt_v, kt_n, kt_e, oc_n, oc_i, oc_r, oc_l, oc_u, oc_d, true_and, and_true, Bool.and_true, Bool.true_and, ne_eq, not_false_eq_true, not_true_eq_false, implies_true, false_imp, true_imp_iff, hsz_put, hsl_put, hln_put, hty_put, hsz_new, hsl_new, hln_new, hty_new, Nat.zero_add, Nat.add_zero, eq_self, decide_true, t32_0, t32_1, t32_2, t32_3, t32_4, t32_5, t32_6, hv_same, hv_kne, hv_tne, hv_ntne, hv_nsame, hv_ctne, hty_cpy, hln_cpy, hsz_cpy, hsl_cpy, vrn, vnr, vrr, A132_31, A132_33, A132_35, A132_38, A132_40, A132_56, A132_58, A132_60, A132_63, b4]
        exact this
      | some y =>
        have hy := (hb y rfl).1
        have fy2 := r22_b S2.1 hy
        have fyt := r18tb S2.1 hy
        rw [vfr_s]
        by_cases g1 : z.1 8 f 2 < z.1 8 y 2
        · have g2 : (z.1 8 y 2 ≤ z.1 8 f 2) = False := eq_false (fun e => by
            rw [Int32.le_iff_toInt_le] at e
            rw [Int32.lt_iff_toInt_lt] at g1
            omega)
          have := nx (some f) (some (.ref (A 18 f))) (by unfold gbN; rw [hf]; exact if_pos g1)
          rw [vfr_s] at this
          simp (config := {decide := true}) only [vRf_r, vRf_n, vI_i, vL_l, vD_d, pI_i, pR_r, pR_n, vZ_0, vZ_1, ct_i, ct_r, ct_n, ct_l, ct_d, csum_n, csum_c, kt_v, kt_n, kt_e, oc_n, oc_i, oc_r, oc_l, oc_u, oc_d, true_and, and_true, Bool.and_true, Bool.true_and, ne_eq, not_false_eq_true, not_true_eq_false, implies_true, false_imp, true_imp_iff, hsz_put, hsl_put, hln_put, hty_put, hsz_new, hsl_new, hln_new, hty_new, Nat.zero_add, Nat.add_zero, eq_self, decide_true, t32_0, t32_1, t32_2, t32_3, t32_4, t32_5, t32_6, hv_same, hv_kne, hv_tne, hv_ntne, hv_nsame, hv_ctne, hty_cpy, hln_cpy, hsz_cpy, hsl_cpy, vrn, vnr, vrr, A132_31, A132_33, A132_35, A132_38, A132_40, A132_43, A132_45, A132_48, A132_50, A132_53, A132_56, A132_58, A132_60, A132_63, b4, ff2, fft, fy2, fyt, g2]
          exact this
        · have g2 : (z.1 8 y 2 ≤ z.1 8 f 2) = True := eq_true (by
            rw [Int32.le_iff_toInt_le]
            rw [Int32.lt_iff_toInt_lt] at g1
            omega)
          have := nx (some y) (some (.ref (A 18 f))) (by unfold gbN; rw [hf]; exact if_neg g1)
          rw [vfr_s] at this
          simp (config := {decide := true}) only [vRf_r, vRf_n, vI_i, vL_l, vD_d, pI_i, pR_r, pR_n, vZ_0, vZ_1, ct_i, ct_r, ct_n, ct_l, ct_d, csum_n, csum_c, kt_v, kt_n, kt_e, oc_n, oc_i, oc_r, oc_l, oc_u, oc_d, true_and, and_true, Bool.and_true, Bool.true_and, ne_eq, not_false_eq_true, not_true_eq_false, implies_true, false_imp, true_imp_iff, hsz_put, hsl_put, hln_put, hty_put, hsz_new, hsl_new, hln_new, hty_new, Nat.zero_add, Nat.add_zero, eq_self, decide_true, t32_0, t32_1, t32_2, t32_3, t32_4, t32_5, t32_6, hv_same, hv_kne, hv_tne, hv_ntne, hv_nsame, hv_ctne, hty_cpy, hln_cpy, hsz_cpy, hsl_cpy, vrn, vnr, vrr, A132_31, A132_33, A132_35, A132_38, A132_40, A132_43, A132_45, A132_48, A132_50, A132_53, A132_56, A132_58, A132_60, A132_63, b4, ff2, fft, fy2, fyt, g2]
          exact this
theorem WI_guF : ∀ n (z : ZT), WI z → WI (guF k z n).1 := by
  intro n
  induction n with
  | zero => intro z h; exact h
  | succ n ih =>
    intro z h
    unfold guF
    split
    · exact h
    · exact ih _ (WI_gv h _ _ _)
theorem guF_n : ∀ n (z : ZT), zn (guF k z n).1 = zn z ∧ zf (guF k z n).1 = zf z := by
  intro n
  induction n with
  | zero => intro z; exact ⟨rfl, rfl⟩
  | succ n ih =>
    intro z
    unfold guF
    split
    · exact ⟨rfl, rfl⟩
    · obtain ⟨a, b⟩ := ih (gvZ z k _ (z.1 8 _ 1).toNatClampNeg)
      obtain ⟨c, d, _⟩ := gvZ_n z k _ (z.1 8 _ 1).toNatClampNeg
      exact ⟨a.trans c, b.trans d⟩
theorem c_giveUp {n : Nat} (h : RepB g A B σ z) (hk : k < zn z) (hW : WI z) (hn : n ≤ 6) (hl : z.2 4 k ≤ 390) (hc : hsz σ + 48 ≤ gC g) (hs : hsl σ + 3816 ≤ gS g) (hQ : ∀ B' σ', St g A B B' σ σ' (guF k z n).1 48 3816 → Q (.inl (some (.int (guF k z n).2))) σ') : aw g 132 0 [some (.ref (A 1 0)), some (.ref (A 4 k)), some (.int (Int32.ofNat n)), none, none, none, none, none] [] σ Q := by
  have loop : ∀ m c z1 B1 σ1 l5 l6 l7, c + m = n → zn z1 = zn z → WI z1 → z1.2 4 k ≤ 390 + c → St g A B B1 σ σ1 z1 (8 * c) (636 * c) → (∀ B' σ', St g A B B' σ σ' (guF k z1 m).1 48 3816 → Q (.inl (some (.int (Int32.ofNat c + (guF k z1 m).2)))) σ') → aw g 132 5 [some (.ref (A 1 0)), some (.ref (A 4 k)), some (.int (Int32.ofNat n)), some (.int (Int32.ofNat c)), some (.int (Int32.ofNat c)), l5, l6, l7] [] σ1 Q := by
    intro m
    induction m with
    | zero =>
      intro c z1 B1 σ1 l5 l6 l7 hcm n1 W1 hl1 S hQ1
      have ec : c = n := by omega
      subst ec
      have e1 : (Int32.ofNat c ≤ Int32.ofNat c) = True := by rw [n32_le (by omega) (by omega)]; exact eq_true (Nat.le_refl _)
      have := hQ1 B1 σ1 (St_mono S (by omega) (by omega))
      rw [show (guF k z1 0).2 = 0 from rfl, Int32.add_zero] at this
      simp (config := {decide := true}) only [vRf_r, vRf_n, vI_i, vL_l, vD_d, pI_i, pR_r, pR_n, vZ_0, vZ_1, ct_i, ct_r, ct_n, ct_l, ct_d, csum_n, csum_c, kt_v, kt_n, kt_e, oc_n, oc_i, oc_r, oc_l, oc_u, oc_d, true_and, and_true, Bool.and_true, Bool.true_and, ne_eq, not_false_eq_true, not_true_eq_false, implies_true, false_imp, true_imp_iff, hsz_put, hsl_put, hln_put, hty_put, hsz_new, hsl_new, hln_new, hty_new, Nat.zero_add, Nat.add_zero, eq_self, decide_true, t32_0, t32_1, t32_2, t32_3, t32_4, t32_5, t32_6, hv_same, hv_kne, hv_tne, hv_ntne, hv_nsame, hv_ctne, hty_cpy, hln_cpy, hsz_cpy, hsl_cpy, vrn, vnr, vrr, A132_5, A132_7, A132_8, A132_88, A132_89, e1]
      exact this
    | succ m ih =>
      intro c z1 B1 σ1 l5 l6 l7 hcm n1 W1 hl1 S hQ1
      have e1 : (Int32.ofNat n ≤ Int32.ofNat c) = False := by rw [n32_le (by omega) (by omega)]; exact eq_false (by omega)
      have d1 := S.2.2.2.1
      have d2 := S.2.2.2.2.2.1
      have hk1 : k < zn z1 := by omega
      rw [A132_5]
      simp (config := {decide := true}) only [vRf_r, vRf_n, vI_i, vL_l, vD_d, pI_i, pR_r, pR_n, vZ_0, vZ_1, ct_i, ct_r, ct_n, ct_l, ct_d, csum_n, csum_c, kt_v, kt_n, kt_e, oc_n, oc_i, oc_r, oc_l, oc_u, oc_d, true_and, and_true, Bool.and_true, Bool.true_and, ne_eq, not_false_eq_true, not_true_eq_false, implies_true, false_imp, true_imp_iff, hsz_put, hsl_put, hln_put, hty_put, hsz_new, hsl_new, hln_new, hty_new, Nat.zero_add, Nat.add_zero, eq_self, decide_true, t32_0, t32_1, t32_2, t32_3, t32_4, t32_5, t32_6, hv_same, hv_kne, hv_tne, hv_ntne, hv_nsame, hv_ctne, hty_cpy, hln_cpy, hsz_cpy, hsl_cpy, vrn, vnr, vrr, A132_7, A132_8, A132_11, A132_12, A132_14, A132_15, e1]
      refine gb_loop (z := z1) (σ0 := σ1) hk1 W1.2.1 (by omega) (by omega) (Int32.ofNat n) (Int32.ofNat c) (Int32.ofNat c) 6 0 none σ1 l7 rfl (fun x hx => by cases hx) (St_refl S.1) ?_
      intro σ2 l6 l7 S2
      have S3 := St_trans S S2
      cases hb : gbF z1 k 0 6 none with
      | none =>
        have eg : guF k z1 (m + 1) = (z1, 0) := by unfold guF; rw [hb]
        have := hQ1 B1 σ2 (by rw [eg]; exact St_mono S3 (by omega) (by omega))
        rw [eg, Int32.add_zero] at this
        rw [vfr_n]
        simp (config := {decide := true}) only [vRf_r, vRf_n, vI_i, vL_l, vD_d, pI_i, pR_r, pR_n, vZ_0, vZ_1, ct_i, ct_r, ct_n, ct_l, ct_d, csum_n, csum_c, kt_v, kt_n, kt_e, oc_n, oc_i, oc_r, oc_l, oc_u, oc_d, true_and, and_true, Bool.and_true, Bool.true_and, ne_eq, not_false_eq_true, not_true_eq_false, implies_true, false_imp, true_imp_iff, hsz_put, hsl_put, hln_put, hty_put, hsz_new, hsl_new, hln_new, hty_new, Nat.zero_add, Nat.add_zero, eq_self, decide_true, t32_0, t32_1, t32_2, t32_3, t32_4, t32_5, t32_6, hv_same, hv_kne, hv_tne, hv_ntne, hv_nsame, hv_ctne, hty_cpy, hln_cpy, hsz_cpy, hsl_cpy, vrn, vnr, vrr, A132_66, A132_68, A132_71, A132_72]
        exact this
      | some i =>
        obtain ⟨p1, p2, p, p3, p4⟩ := gbF_ok _ _ _ (by omega) (fun x hx => by cases hx) i hb
        have ep : (z1.1 8 i 1).toNatClampNeg = p := by rw [p4, n32_nat (by omega)]
        have eg : guF k z1 (m + 1) = ((guF k (gvZ z1 k i p) m).1, (guF k (gvZ z1 k i p) m).2 + 1) := by
          rw [guF, hb]
          dsimp only
          rw [ep]
        have d3 := S3.2.2.2.1
        have d4 := S3.2.2.2.2.2.1
        have b4 := n32_inc c
        rw [vfr_s]
        simp (config := {decide := true}) only [vRf_r, vRf_n, vI_i, vL_l, vD_d, pI_i, pR_r, pR_n, vZ_0, vZ_1, ct_i, ct_r, ct_n, ct_l, ct_d, csum_n, csum_c, kt_v, kt_n, kt_e, oc_n, oc_i, oc_r, oc_l, oc_u, oc_d, true_and, and_true, Bool.and_true, Bool.true_and, ne_eq, not_false_eq_true, not_true_eq_false, implies_true, false_imp, true_imp_iff, hsz_put, hsl_put, hln_put, hty_put, hsz_new, hsl_new, hln_new, hty_new, Nat.zero_add, Nat.add_zero, eq_self, decide_true, t32_0, t32_1, t32_2, t32_3, t32_4, t32_5, t32_6, hv_same, hv_kne, hv_tne, hv_ntne, hv_nsame, hv_ctne, hty_cpy, hln_cpy, hsz_cpy, hsl_cpy, vrn, vnr, vrr, A132_66, A132_68, A132_73, A132_74, A132_76]
        refine c_giveUp2 S3.1 hk1 (by have := W1.1; omega) p1 p2 p4 p3 (by omega) (by omega) (by omega) ?_
        intro B4 σ4 S4
        obtain ⟨g1, g2, g3⟩ := gvZ_n z1 k i p
        simp (config := {decide := true}) only [vRf_r, vRf_n, vI_i, vL_l, vD_d, pI_i, pR_r, pR_n, vZ_0, vZ_1, ct_i, ct_r, ct_n, ct_l, ct_d, csum_n, csum_c, kt_v, kt_n, kt_e, oc_n, oc_i, oc_r, oc_l, oc_u, oc_d, true_and, and_true, Bool.and_true, Bool.true_and, ne_eq, not_false_eq_true, not_true_eq_false, implies_true, false_imp, true_imp_iff, hsz_put, hsl_put, hln_put, hty_put, hsz_new, hsl_new, hln_new, hty_new, Nat.zero_add, Nat.add_zero, eq_self, decide_true, t32_0, t32_1, t32_2, t32_3, t32_4, t32_5, t32_6, hv_same, hv_kne, hv_tne, hv_ntne, hv_nsame, hv_ctne, hty_cpy, hln_cpy, hsz_cpy, hsl_cpy, vrn, vnr, vrr, A132_79, A132_82, A132_85, b4]
        refine ih (c + 1) (gvZ z1 k i p) B4 σ4 _ _ _ (by omega) (by omega) (WI_gv W1 _ _ _) (by omega) (St_mono (St_trans S3 S4) (by omega) (by omega)) (fun B' σ' S5 => ?_)
        have := hQ1 B' σ' (by rw [eg]; exact S5)
        rw [eg] at this
        rw [show Int32.ofNat (c + 1) + (guF k (gvZ z1 k i p) m).2 = Int32.ofNat c + ((guF k (gvZ z1 k i p) m).2 + 1) from by
          rw [← n32_inc, Int32.add_assoc, Int32.add_comm 1]]
        exact this
  have := loop n 0 z B σ none none none (by omega) rfl hW (by omega) (St_mono (St_refl h) (by omega) (by omega)) (fun B' σ' S => by
    rw [z32_0, Int32.zero_add]; exact hQ B' σ' S)
  rw [z32_0] at this
  simp (config := {decide := true}) only [vRf_r, vRf_n, vI_i, vL_l, vD_d, pI_i, pR_r, pR_n, vZ_0, vZ_1, ct_i, ct_r, ct_n, ct_l, ct_d, csum_n, csum_c, kt_v, kt_n, kt_e, oc_n, oc_i, oc_r, oc_l, oc_u, oc_d, true_and, and_true, Bool.and_true, Bool.true_and, ne_eq, not_false_eq_true, not_true_eq_false, implies_true, false_imp, true_imp_iff, hsz_put, hsl_put, hln_put, hty_put, hsz_new, hsl_new, hln_new, hty_new, Nat.zero_add, Nat.add_zero, eq_self, decide_true, t32_0, t32_1, t32_2, t32_3, t32_4, t32_5, t32_6, hv_same, hv_kne, hv_tne, hv_ntne, hv_nsame, hv_ctne, hty_cpy, hln_cpy, hsz_cpy, hsl_cpy, vrn, vnr, vrr, A132_0, A132_1, A132_2, A132_3]
  exact this
end GIVE
