/-! frames -/
def frF (z : ZT) (x y : Int32) : Nat → Nat → Option Nat
  | _, 0 => none
  | c, m + 1 => if z.1 8 c 0 = x ∧ z.1 8 c 1 = y then some c else frF z x y (c + 1) m
def frOf (z : ZT) (k : Nat) (y : Int32) : Option Nat := frF z (Int32.ofNat k) y 0 (zf z)
/-- a frame, or null -/
def vfr (A : Nat → Nat → Nat) : Option Nat → Value
  | none => .null
  | some i => .ref (A 18 i)
/-- frames hold guests, or none -/
def okFi (z : ZT) (i : Nat) : Prop := ∃ j p, j < zn z ∧ p < 6 ∧ z.1 8 i 0 = Int32.ofNat j ∧ z.1 8 i 1 = Int32.ofNat p
def okFr (z : ZT) : Prop := zf z ≤ 1000 ∧ zn z ≤ 1000 ∧ ∀ i, i < zf z → z.1 8 i 0 = -1 ∨ okFi z i
theorem okFr_R {z : ZT} (h : okFr z) {i : Nat} (hi : i < zf z) : okR z (z.1 8 i 0) := by
  rcases h.2.2 i hi with e | ⟨j, p, j1, _, j2, _⟩
  · exact Or.inl e
  · exact Or.inr ⟨j, j1, j2⟩
section FRAME
variable {g : GC} {A B : Nat → Nat → Nat} {σ σ' : AH} {z : ZT} {k : Nat} {Q : AQ}
theorem kpF_nx {it c s : Nat} {n : Nat} {σ1 : AH} (q : kp (fun _ => False) c s σ σ1) (hi : hsz σ ≤ it) : kp (fun _ => False) c s σ (nxH σ1 it n) := by
  have := kp_then q (nxH_kp (σ := σ1) (it := it) (c := n)) (fun a ha e => by omega)
  rwa [Nat.add_zero, Nat.add_zero] at this
theorem St_0 (h : RepB g A B σ z) {c s : Nat} (q : kp (fun _ => False) c s σ σ') : St g A B B σ σ' z c s := ⟨RepC_kp0 (A := mix A B) h q, BK_refl B σ, kp_mono q (Nat.le_refl _) (Nat.le_refl _) (fun _ _ e => e.elim)⟩
theorem c_frameOf (h : RepB g A B σ z) (hk : k < zn z) (hF : okFr z) {y : Int32} (hc : hsz σ + 1 ≤ gC g) (hs : hsl σ + 4 ≤ gS g)
    (hQ : ∀ σ', kp (fun _ => False) 1 4 σ σ' → Q (.inl (some (vfr A (frOf z k y)))) σ') : aw g 111 0 [some (.ref (A 1 0)), some (.ref (A 4 k)), some (.int y), none, none] [] σ Q := by
  have hgB := rgsb h
  have loop : ∀ m c, c + m = zf z → ∀ σ1 l4, kp (fun _ => False) 1 4 σ σ1 → isI g σ1 (hsz σ) (A 3 0) c → (∀ σ', kp (fun _ => False) 1 4 σ σ' → Q (.inl (some (vfr A (frF z (Int32.ofNat k) y c m)))) σ') → aw g 111 8 [some (.ref (A 1 0)), some (.ref (A 4 k)), some (.int y), some (.ref (hsz σ)), l4] [] σ1 Q := by
    intro m
    induction m with
    | zero =>
      intro c hc0 σ1 l4 q hi hQ'
      have h1 : RepB g A B σ1 z := (St_0 h q).1
      have e1 := fun Q' => l_hasNext (Q := Q') (rLfb h1) hi (by omega)
      have e2 : (c < zf z) = False := eq_false (by omega)
      simp (config := {decide := true}) only [vRf_r, vRf_n, vI_i, vL_l, vD_d, pI_i, pR_r, pR_n, vZ_0, vZ_1, ct_i, ct_r, ct_n, ct_l, ct_d, csum_n, csum_c, kt_v, kt_n, kt_e, oc_n, oc_i, oc_r, oc_l, oc_u, oc_d, true_and, and_true, Bool.and_true, Bool.true_and, ne_eq, not_false_eq_true, not_true_eq_false, implies_true, false_imp, true_imp_iff, hsz_put, hsl_put, hln_put, hty_put, hsz_new, hsl_new, hln_new, hty_new, Nat.zero_add, Nat.add_zero, eq_self, decide_true, t32_0, t32_1, t32_2, t32_3, t32_4, t32_5, t32_6, hv_same, hv_kne, hv_tne, hv_ntne, hv_nsame, hv_ctne, hty_cpy, hln_cpy, hsz_cpy, hsl_cpy, vrn, vnr, vrr, A111_8, A111_9, A111_14, A111_52, A111_53, hi.1, e1, e2, if_false]
      exact hQ' _ q
    | succ m ih =>
      intro c hc0 σ1 l4 q hi hQ'
      have h1 : RepB g A B σ1 z := (St_0 h q).1
      have hcn : c < zf z := by omega
      have e1 := fun Q' => l_hasNext (Q := Q') (rLfb h1) hi (by omega)
      have e2 : (c < zf z) = True := eq_true hcn
      have e3 := fun Q' => l_next (Q := Q') (rLfb h1) hi (by omega)
      have q2 : kp (fun _ => False) 1 4 σ (nxH σ1 (hsz σ) c) := kpF_nx q (Nat.le_refl _)
      have h2 : RepB g A B (nxH σ1 (hsz σ) c) z := (St_0 h q2).1
      have hi2 := nxH_isI hi
      have f0 := r20_b h2 hcn
      have f1 := r21_b h2 hcn
      have ft := r18tb h2 hcn
      have e0 := gref_r (okFr_R hF hcn) hk hF.2.1 h.2.1
      have e7 : (∃ t, t ∈ [2] ∧ some 2 = some t) = True := eq_true ⟨2, by decide, rfl⟩
      rw [A111_8]
      generalize nxH σ1 (hsz σ) c = σ2 at *
      by_cases g0 : z.1 8 c 0 = Int32.ofNat k
      · have e4 : (gref A (z.1 8 c 0) = .ref (A 4 k)) = True := e0.trans (eq_true g0)
        by_cases g1 : z.1 8 c 1 = y
        · have e5 : frF z (Int32.ofNat k) y c (m + 1) = some c := if_pos ⟨g0, g1⟩
          rw [e5] at hQ'
          rw [g1] at f1
          simp (config := {decide := true}) only [vRf_r, vRf_n, vI_i, vL_l, vD_d, pI_i, pR_r, pR_n, vZ_0, vZ_1, ct_i, ct_r, ct_n, ct_l, ct_d, csum_n, csum_c, kt_v, kt_n, kt_e, oc_n, oc_i, oc_r, oc_l, oc_u, oc_d, true_and, and_true, Bool.and_true, Bool.true_and, ne_eq, not_false_eq_true, not_true_eq_false, implies_true, false_imp, true_imp_iff, hsz_put, hsl_put, hln_put, hty_put, hsz_new, hsl_new, hln_new, hty_new, Nat.zero_add, Nat.add_zero, eq_self, decide_true, t32_0, t32_1, t32_2, t32_3, t32_4, t32_5, t32_6, hv_same, hv_kne, hv_tne, hv_ntne, hv_nsame, hv_ctne, hty_cpy, hln_cpy, hsz_cpy, hsl_cpy, vrn, vnr, vrr, A111_0, A111_1, A111_4, A111_7, A111_9, A111_14, A111_17, A111_18, A111_23, A111_23r, A111_26, A111_28, A111_30, A111_33, A111_34, A111_37, A111_39, A111_42, A111_43, A111_46, A111_48, A111_49, A111_52, A111_53, hi.1, e1, e2, e3, e4, e7, f0, f1, ft, gref_v, gref_c, if_true]
          exact hQ' _ q2
        · have e5 : frF z (Int32.ofNat k) y c (m + 1) = frF z (Int32.ofNat k) y (c + 1) m := if_neg (fun e => g1 e.2)
          rw [e5] at hQ'
          simp (config := {decide := true}) only [vRf_r, vRf_n, vI_i, vL_l, vD_d, pI_i, pR_r, pR_n, vZ_0, vZ_1, ct_i, ct_r, ct_n, ct_l, ct_d, csum_n, csum_c, kt_v, kt_n, kt_e, oc_n, oc_i, oc_r, oc_l, oc_u, oc_d, true_and, and_true, Bool.and_true, Bool.true_and, ne_eq, not_false_eq_true, not_true_eq_false, implies_true, false_imp, true_imp_iff, hsz_put, hsl_put, hln_put, hty_put, hsz_new, hsl_new, hln_new, hty_new, Nat.zero_add, Nat.add_zero, eq_self, decide_true, t32_0, t32_1, t32_2, t32_3, t32_4, t32_5, t32_6, hv_same, hv_kne, hv_tne, hv_ntne, hv_nsame, hv_ctne, hty_cpy, hln_cpy, hsz_cpy, hsl_cpy, vrn, vnr, vrr, A111_0, A111_1, A111_4, A111_7, A111_9, A111_14, A111_17, A111_18, A111_23, A111_23r, A111_26, A111_28, A111_30, A111_33, A111_34, A111_37, A111_39, A111_42, A111_43, A111_46, A111_48, A111_49, A111_52, A111_53, hi.1, e1, e2, e3, e4, e7, f0, f1, ft, g1, gref_v, gref_c, if_true]
          exact ih (c + 1) (by omega) σ2 _ q2 hi2 hQ'
      · have e4 : (gref A (z.1 8 c 0) = .ref (A 4 k)) = False := e0.trans (eq_false g0)
        have e5 : frF z (Int32.ofNat k) y c (m + 1) = frF z (Int32.ofNat k) y (c + 1) m := if_neg (fun e => g0 e.1)
        rw [e5] at hQ'
        simp (config := {decide := true}) only [vRf_r, vRf_n, vI_i, vL_l, vD_d, pI_i, pR_r, pR_n, vZ_0, vZ_1, ct_i, ct_r, ct_n, ct_l, ct_d, csum_n, csum_c, kt_v, kt_n, kt_e, oc_n, oc_i, oc_r, oc_l, oc_u, oc_d, true_and, and_true, Bool.and_true, Bool.true_and, ne_eq, not_false_eq_true, not_true_eq_false, implies_true, false_imp, true_imp_iff, hsz_put, hsl_put, hln_put, hty_put, hsz_new, hsl_new, hln_new, hty_new, Nat.zero_add, Nat.add_zero, eq_self, decide_true, t32_0, t32_1, t32_2, t32_3, t32_4, t32_5, t32_6, hv_same, hv_kne, hv_tne, hv_ntne, hv_nsame, hv_ctne, hty_cpy, hln_cpy, hsz_cpy, hsl_cpy, vrn, vnr, vrr, A111_0, A111_1, A111_4, A111_7, A111_9, A111_14, A111_17, A111_18, A111_23, A111_23r, A111_26, A111_28, A111_30, A111_33, A111_34, A111_37, A111_39, A111_42, A111_43, A111_46, A111_48, A111_49, A111_52, A111_53, hi.1, e1, e2, e3, e4, e7, f0, f1, ft, gref_v, gref_c, if_true]
        exact ih (c + 1) (by omega) σ2 _ q2 hi2 hQ'
  have e1 := fun Q' => l_iter (Q := Q') (rLfb h) hgB
  have t3 := (rLfb h).1
  simp (config := {decide := true}) only [vRf_r, vRf_n, vI_i, vL_l, vD_d, pI_i, pR_r, pR_n, vZ_0, vZ_1, ct_i, ct_r, ct_n, ct_l, ct_d, csum_n, csum_c, kt_v, kt_n, kt_e, oc_n, oc_i, oc_r, oc_l, oc_u, oc_d, true_and, and_true, Bool.and_true, Bool.true_and, ne_eq, not_false_eq_true, not_true_eq_false, implies_true, false_imp, true_imp_iff, hsz_put, hsl_put, hln_put, hty_put, hsz_new, hsl_new, hln_new, hty_new, Nat.zero_add, Nat.add_zero, eq_self, decide_true, t32_0, t32_1, t32_2, t32_3, t32_4, t32_5, t32_6, hv_same, hv_kne, hv_tne, hv_ntne, hv_nsame, hv_ctne, hty_cpy, hln_cpy, hsz_cpy, hsl_cpy, vrn, vnr, vrr, A111_0, A111_1, A111_4, A111_7, A111_9, A111_14, A111_17, A111_18, A111_23, A111_23r, A111_26, A111_28, A111_30, A111_33, A111_34, A111_37, A111_39, A111_42, A111_43, A111_46, A111_48, A111_49, A111_52, A111_53, r1tb h, r10_b h, r11_b h, r13_b h, r14_b h, r1sb h, rgBA h, e1, hc, hs, t3]
  exact loop (zf z) 0 (by omega) _ _ (itH_kp _ _) (itH_isI hgB (hty_lt t3)) hQ
/-- what lies in the frame i goes to the disk -/
def toDiskZ (z : ZT) (i : Nat) : ZT := zs (zs (zs (zs (zs (zs z 14 (z.1 8 i 0).toNatClampNeg (z.1 8 i 1).toNatClampNeg 1) 4 (z.1 8 i 0).toNatClampNeg (z.1 8 i 1).toNatClampNeg 1) 8 i 0 (-1)) 8 i 1 (-1)) 8 i 2 (-1)) 0 0 8 (z.1 0 0 8 + 1)
theorem c_toDisk (h : RepB g A B σ z) {i : Nat} (hi : i < zf z) (h3 : zn z ≤ 1000) (hf : okFi z i) (hQ : ∀ σ', St g A B B σ σ' (toDiskZ z i) 0 0 → Q (.inl none) σ') : aw g 110 0 [some (.ref (A 1 0)), some (.ref (A 18 i))] [] σ Q := by
  obtain ⟨j, p, j1, p1, e1, e2⟩ := hf
  have f0 := r20_b h hi
  have f1 := r21_b h hi
  have ft := r18tb h hi
  rw [e1, gref_k _ (fun e => by rw [n32_m1 (by omega)] at e; exact e), n32_nat (by omega)] at f0
  rw [e2] at f1
  have b1 : (Int32.ofNat p < 0) = False := n32_neg (by omega)
  have b2 : (Int32.ofNat p).toNatClampNeg = p := n32_nat (by omega)
  have b3 : (p < 6) = True := eq_true p1
  have b4 : (Int32.ofNat j).toNatClampNeg = j := n32_nat (by omega)
  have R1 := rb_dsk (v := 1) (rb_mod (κ := 14) (i := j) (j := p) (v := 1) h rfl) j1 p1
  have S1 := St_put (St_z (St_refl h) (rb_mod (κ := 14) (i := j) (j := p) (v := 1) h rfl)) 9 (by decide) R1
  have R2 := rb_f0 (v := -1) (w := .null) R1 hi (by unfold gref; rw [if_pos rfl])
  have S2 := St_put S1 18 (by decide) R2
  have R3 := rb_f1 (v := -1) R2 hi
  have S3 := St_put S2 18 (by decide) R3
  have R4 := rb_f2 (v := -1) R3 hi
  have S4 := St_put S3 18 (by decide) R4
  have S5 := St_put S4 1 (by decide) (rb_m (j := 8) (v := z.1 0 0 8 + 1) R4 (by decide))
  have e9 : toDiskZ z i = zs (zs (zs (zs (zs (zs z 14 j p 1) 4 j p 1) 8 i 0 (-1)) 8 i 1 (-1)) 8 i 2 (-1)) 0 0 8 (z.1 0 0 8 + 1) := by
    unfold toDiskZ; rw [e1, e2, b2, b4]
  simp (config := {decide := true}) only [vRf_r, vRf_n, vI_i, vL_l, vD_d, pI_i, pR_r, pR_n, vZ_0, vZ_1, ct_i, ct_r, ct_n, ct_l, ct_d, csum_n, csum_c, kt_v, kt_n, kt_e, oc_n, oc_i, oc_r, oc_l, oc_u, oc_d, true_and, and_true, Bool.and_true, Bool.true_and, ne_eq, not_false_eq_true, not_true_eq_false, implies_true, false_imp, true_imp_iff, hsz_put, hsl_put, hln_put, hty_put, hsz_new, hsl_new, hln_new, hty_new, Nat.zero_add, Nat.add_zero, eq_self, decide_true, t32_0, t32_1, t32_2, t32_3, t32_4, t32_5, t32_6, hv_same, hv_kne, hv_tne, hv_ntne, hv_nsame, hv_ctne, hty_cpy, hln_cpy, hsz_cpy, hsl_cpy, vrn, vnr, vrr, A110_0, A110_1, A110_4, A110_7, A110_8, A110_11, A110_12, A110_13, A110_14, A110_17, A110_18, A110_19, A110_22, A110_23, A110_24, A110_27, A134_0, A134_1, A134_2, A134_3, A134_4, A134_7, A135_0, A135_1, A135_2, A135_5, A135_6, A135_7, A135_10, A135_11, A135_12, A135_15, r5tb h j1, r5gb h j1, r5nb h j1, r5mb h j1, r5eb h j1, r5db h j1, r5vb h j1, r5lb h j1, r5pb h j1, r6tb h j1, r60b h j1, r61b h j1, r62b h j1, r63b h j1, r7tb h j1, r7lb h j1, r8tb h j1, r8lb h j1, r9tb h j1, r9lb h j1, r10tb h j1, r10lb h j1, rgBA h, r1tb h, r10_b h, r11_b h, r13_b h, r14_b h, r1sb h, rgBA h, f0, f1, ft, b1, b2, b3]
  exact hQ _ (by rw [e9]; exact S5)
/-- the frame that is taken: the first free one (false), or the one used longest ago (true) -/
def takN (z : ZT) (c : Nat) : Option Nat → Nat
  | none => c
  | some b => if z.1 8 c 2 < z.1 8 b 2 then c else b
def takF (z : ZT) : Nat → Nat → Option Nat → Option (Nat × Bool)
  | _, 0, none => none
  | _, 0, some b => some (b, true)
  | c, m + 1, b => if z.1 8 c 0 = -1 then some (c, false) else takF z (c + 1) m (some (takN z c b))
def takenI (z : ZT) : Nat := match takF z 0 (zf z) none with
  | some (i, _) => i
  | none => 0
def takenZ (z : ZT) : ZT := match takF z 0 (zf z) none with
  | some (i, true) => toDiskZ z i
  | _ => z
theorem takN_n (z : ZT) (c : Nat) : takN z c none = c := rfl
theorem takN_s (z : ZT) (c y : Nat) : takN z c (some y) = if z.1 8 c 2 < z.1 8 y 2 then c else y := rfl
theorem vfr_s (A : Nat → Nat → Nat) (i : Nat) : vfr A (some i) = .ref (A 18 i) := rfl
theorem vfr_n (A : Nat → Nat → Nat) : vfr A none = .null := rfl
theorem takF_lt {z : ZT} : ∀ m c b i v, c + m ≤ zf z → (∀ x, b = some x → x < zf z ∧ z.1 8 x 0 ≠ -1) → takF z c m b = some (i, v) → i < zf z ∧ (v = true → z.1 8 i 0 ≠ -1) := by
  intro m
  induction m with
  | zero =>
    intro c b i v h1 h2 h3
    cases b with
    | none => cases h3
    | some x =>
      have e := Prod.mk.inj (Option.some.inj (show some (x, true) = some (i, v) from h3))
      rw [← e.1]
      exact ⟨(h2 x rfl).1, fun _ => (h2 x rfl).2⟩
  | succ m ih =>
    intro c b i v h1 h2 h3
    unfold takF at h3
    by_cases e : z.1 8 c 0 = -1
    · rw [if_pos e] at h3
      cases h3
      exact ⟨by omega, fun q => by cases q⟩
    · rw [if_neg e] at h3
      refine ih (c + 1) _ i v (by omega) (fun x hx => ?_) h3
      rw [← Option.some.inj hx]
      cases b with
      | none => exact ⟨by show c < _; omega, e⟩
      | some y =>
        rw [takN_s]
        by_cases w : z.1 8 c 2 < z.1 8 y 2
        · rw [if_pos w]; exact ⟨by omega, e⟩
        · rw [if_neg w]; exact h2 y rfl
theorem takF_some {z : ZT} : ∀ m c b, (m ≠ 0 ∨ b ≠ none) → ∃ i v, takF z c m b = some (i, v) := by
  intro m
  induction m with
  | zero =>
    intro c b h
    cases b with
    | none => rcases h with h | h <;> exact absurd rfl h
    | some x => exact ⟨x, true, rfl⟩
  | succ m ih =>
    intro c b _
    unfold takF
    by_cases e : z.1 8 c 0 = -1
    · rw [if_pos e]; exact ⟨c, false, rfl⟩
    · rw [if_neg e]; exact ih (c + 1) _ (Or.inr (fun q => by cases q))
theorem c_taken (h : RepB g A B σ z) (hF : okFr z) (hn : 0 < zf z) (hc : hsz σ + 1 ≤ gC g) (hs : hsl σ + 4 ≤ gS g)
    (hQ : ∀ σ', St g A B B σ σ' (takenZ z) 1 4 → takenI z < zf z → Q (.inl (some (.ref (A 18 (takenI z))))) σ') : aw g 122 0 [some (.ref (A 1 0)), none, none, none] [] σ Q := by
  have hgB := rgsb h
  have loop : ∀ m c, c + m = zf z → ∀ σ1 b l3, (∀ x, b = some x → x < zf z) → kp (fun _ => False) 1 4 σ σ1 → isI g σ1 (hsz σ) (A 3 0) c → (m ≠ 0 ∨ b ≠ none) → (∀ σ' i, kp (fun _ => False) 1 4 σ σ' → takF z c m b = some (i, false) → Q (.inl (some (.ref (A 18 i)))) σ') → (∀ σ' i l, kp (fun _ => False) 1 4 σ σ' → takF z c m b = some (i, true) → aw g 122 58 [some (.ref (A 1 0)), some (.ref (A 18 i)), some (.ref (hsz σ)), l] [] σ' Q) → aw g 122 10 [some (.ref (A 1 0)), some (vfr A b), some (.ref (hsz σ)), l3] [] σ1 Q := by
    intro m
    induction m with
    | zero =>
      intro c hc0 σ1 b l3 hb q hi hx hQ1 hQ2
      have h1 : RepB g A B σ1 z := (St_0 h q).1
      have e1 := fun Q' => l_hasNext (Q := Q') (rLfb h1) hi (by omega)
      have e2 : (c < zf z) = False := eq_false (by omega)
      cases b with
      | none => rcases hx with e | e <;> exact absurd rfl e
      | some x =>
        have e3 := hQ2 σ1 x l3 q rfl
        unfold vfr
        simp (config := {decide := true}) only [vRf_r, vRf_n, vI_i, vL_l, vD_d, pI_i, pR_r, pR_n, vZ_0, vZ_1, ct_i, ct_r, ct_n, ct_l, ct_d, csum_n, csum_c, kt_v, kt_n, kt_e, oc_n, oc_i, oc_r, oc_l, oc_u, oc_d, true_and, and_true, Bool.and_true, Bool.true_and, ne_eq, not_false_eq_true, not_true_eq_false, implies_true, false_imp, true_imp_iff, hsz_put, hsl_put, hln_put, hty_put, hsz_new, hsl_new, hln_new, hty_new, Nat.zero_add, Nat.add_zero, eq_self, decide_true, t32_0, t32_1, t32_2, t32_3, t32_4, t32_5, t32_6, hv_same, hv_kne, hv_tne, hv_ntne, hv_nsame, hv_ctne, hty_cpy, hln_cpy, hsz_cpy, hsl_cpy, vrn, vnr, vrr, A122_10, A122_11, A122_16, hi.1, e1, e2, if_false]
        exact e3
    | succ m ih =>
      intro c hc0 σ1 b l3 hb q hi hx hQ1 hQ2
      have h1 : RepB g A B σ1 z := (St_0 h q).1
      have hcn : c < zf z := by omega
      have e1 := fun Q' => l_hasNext (Q := Q') (rLfb h1) hi (by omega)
      have e2 : (c < zf z) = True := eq_true hcn
      have e3 := fun Q' => l_next (Q := Q') (rLfb h1) hi (by omega)
      have q2 : kp (fun _ => False) 1 4 σ (nxH σ1 (hsz σ) c) := kpF_nx q (Nat.le_refl _)
      have h2 : RepB g A B (nxH σ1 (hsz σ) c) z := (St_0 h q2).1
      have hi2 := nxH_isI hi
      have f0 := r20_b h2 hcn
      have f2 := r22_b h2 hcn
      have ft := r18tb h2 hcn
      have e7 : (∃ t, t ∈ [2] ∧ some 2 = some t) = True := eq_true ⟨2, by decide, rfl⟩
      rw [A122_10]
      generalize nxH σ1 (hsz σ) c = σ2 at *
      by_cases g0 : z.1 8 c 0 = -1
      · have e4 : takF z c (m + 1) b = some (c, false) := by unfold takF; rw [if_pos g0]
        have e5 := hQ1 σ2 c q2 e4
        have f0' : gref A (z.1 8 c 0) = .null := by rw [g0]; rfl
        rw [f0'] at f0
        simp (config := {decide := true}) only [vRf_r, vRf_n, vI_i, vL_l, vD_d, pI_i, pR_r, pR_n, vZ_0, vZ_1, ct_i, ct_r, ct_n, ct_l, ct_d, csum_n, csum_c, kt_v, kt_n, kt_e, oc_n, oc_i, oc_r, oc_l, oc_u, oc_d, true_and, and_true, Bool.and_true, Bool.true_and, ne_eq, not_false_eq_true, not_true_eq_false, implies_true, false_imp, true_imp_iff, hsz_put, hsl_put, hln_put, hty_put, hsz_new, hsl_new, hln_new, hty_new, Nat.zero_add, Nat.add_zero, eq_self, decide_true, t32_0, t32_1, t32_2, t32_3, t32_4, t32_5, t32_6, hv_same, hv_kne, hv_tne, hv_ntne, hv_nsame, hv_ctne, hty_cpy, hln_cpy, hsz_cpy, hsl_cpy, vrn, vnr, vrr, A122_11, A122_16, A122_19, A122_20, A122_25, A122_25r, A122_28, A122_29, A122_30, A122_33, A122_36, A122_37, hi.1, e1, e2, e3, e7, f0, ft, if_true]
        exact e5
      · have e4 : takF z c (m + 1) b = takF z (c + 1) m (some (takN z c b)) := by rw [takF, if_neg g0]
        rw [e4] at hQ1 hQ2
        have f0' := gref_k (A := A) _ g0
        rw [f0'] at f0
        have nx := ih (c + 1) (by omega) σ2 (some (takN z c b)) (some (.ref (A 18 c))) (fun x hx => by
          rw [← Option.some.inj hx]
          cases b with
          | none => exact hcn
          | some y =>
            rw [takN_s]
            by_cases w : z.1 8 c 2 < z.1 8 y 2
            · rw [if_pos w]; exact hcn
            · rw [if_neg w]; exact hb y rfl) q2 hi2 (Or.inr (fun q => by cases q)) hQ1 hQ2
        cases b with
        | none =>
          rw [takN_n, vfr_s] at nx
          rw [vfr_n]
          simp (config := {decide := true}) only [vRf_r, vRf_n, vI_i, vL_l, vD_d, pI_i, pR_r, pR_n, vZ_0, vZ_1, ct_i, ct_r, ct_n, ct_l, ct_d, csum_n, csum_c, kt_v, kt_n, kt_e, oc_n, oc_i, oc_r, oc_l, oc_u, oc_d, true_and, and_true, Bool.and_true, Bool.true_and, ne_eq, not_false_eq_true, not_true_eq_false, implies_true, false_imp, true_imp_iff, hsz_put, hsl_put, hln_put, hty_put, hsz_new, hsl_new, hln_new, hty_new, Nat.zero_add, Nat.add_zero, eq_self, decide_true, t32_0, t32_1, t32_2, t32_3, t32_4, t32_5, t32_6, hv_same, hv_kne, hv_tne, hv_ntne, hv_nsame, hv_ctne, hty_cpy, hln_cpy, hsz_cpy, hsl_cpy, vrn, vnr, vrr, A122_11, A122_16, A122_19, A122_20, A122_25, A122_25r, A122_28, A122_29, A122_30, A122_33, A122_36, A122_37, A122_38, A122_39, A122_42, A122_43, A122_46, A122_47, A122_50, A122_53, A122_54, A122_55, hi.1, e1, e2, e3, e7, f0, ft, if_true]
          exact nx
        | some y =>
          have fy2 := r22_b h2 (hb y rfl)
          have fyt := r18tb h2 (hb y rfl)
          by_cases g1 : z.1 8 c 2 < z.1 8 y 2
          · have g2 : (z.1 8 y 2 ≤ z.1 8 c 2) = False := eq_false (fun e => by
              rw [Int32.le_iff_toInt_le] at e
              rw [Int32.lt_iff_toInt_lt] at g1
              omega)
            rw [takN_s, if_pos g1, vfr_s] at nx
            rw [vfr_s]
            simp (config := {decide := true}) only [vRf_r, vRf_n, vI_i, vL_l, vD_d, pI_i, pR_r, pR_n, vZ_0, vZ_1, ct_i, ct_r, ct_n, ct_l, ct_d, csum_n, csum_c, kt_v, kt_n, kt_e, oc_n, oc_i, oc_r, oc_l, oc_u, oc_d, true_and, and_true, Bool.and_true, Bool.true_and, ne_eq, not_false_eq_true, not_true_eq_false, implies_true, false_imp, true_imp_iff, hsz_put, hsl_put, hln_put, hty_put, hsz_new, hsl_new, hln_new, hty_new, Nat.zero_add, Nat.add_zero, eq_self, decide_true, t32_0, t32_1, t32_2, t32_3, t32_4, t32_5, t32_6, hv_same, hv_kne, hv_tne, hv_ntne, hv_nsame, hv_ctne, hty_cpy, hln_cpy, hsz_cpy, hsl_cpy, vrn, vnr, vrr, A122_11, A122_16, A122_19, A122_20, A122_25, A122_25r, A122_28, A122_29, A122_30, A122_33, A122_36, A122_37, A122_38, A122_39, A122_42, A122_43, A122_46, A122_47, A122_50, A122_53, A122_54, A122_55, hi.1, e1, e2, e3, e7, f0, f2, ft, fy2, fyt, g2, if_true]
            exact nx
          · have g2 : (z.1 8 y 2 ≤ z.1 8 c 2) = True := eq_true (by
              rw [Int32.le_iff_toInt_le]
              rw [Int32.lt_iff_toInt_lt] at g1
              omega)
            rw [takN_s, if_neg g1, vfr_s] at nx
            rw [vfr_s]
            simp (config := {decide := true}) only [vRf_r, vRf_n, vI_i, vL_l, vD_d, pI_i, pR_r, pR_n, vZ_0, vZ_1, ct_i, ct_r, ct_n, ct_l, ct_d, csum_n, csum_c, kt_v, kt_n, kt_e, oc_n, oc_i, oc_r, oc_l, oc_u, oc_d, true_and, and_true, Bool.and_true, Bool.true_and, ne_eq, not_false_eq_true, not_true_eq_false, implies_true, false_imp, true_imp_iff, hsz_put, hsl_put, hln_put, hty_put, hsz_new, hsl_new, hln_new, hty_new, Nat.zero_add, Nat.add_zero, eq_self, decide_true, t32_0, t32_1, t32_2, t32_3, t32_4, t32_5, t32_6, hv_same, hv_kne, hv_tne, hv_ntne, hv_nsame, hv_ctne, hty_cpy, hln_cpy, hsz_cpy, hsl_cpy, vrn, vnr, vrr, A122_11, A122_16, A122_19, A122_20, A122_25, A122_25r, A122_28, A122_29, A122_30, A122_33, A122_36, A122_37, A122_38, A122_39, A122_42, A122_43, A122_46, A122_47, A122_50, A122_53, A122_54, A122_55, hi.1, e1, e2, e3, e7, f0, f2, ft, fy2, fyt, g2, if_true]
            exact nx
  have e1 := fun Q' => l_iter (Q := Q') (rLfb h) hgB
  have t3 := (rLfb h).1
  simp (config := {decide := true}) only [vRf_r, vRf_n, vI_i, vL_l, vD_d, pI_i, pR_r, pR_n, vZ_0, vZ_1, ct_i, ct_r, ct_n, ct_l, ct_d, csum_n, csum_c, kt_v, kt_n, kt_e, oc_n, oc_i, oc_r, oc_l, oc_u, oc_d, true_and, and_true, Bool.and_true, Bool.true_and, ne_eq, not_false_eq_true, not_true_eq_false, implies_true, false_imp, true_imp_iff, hsz_put, hsl_put, hln_put, hty_put, hsz_new, hsl_new, hln_new, hty_new, Nat.zero_add, Nat.add_zero, eq_self, decide_true, t32_0, t32_1, t32_2, t32_3, t32_4, t32_5, t32_6, hv_same, hv_kne, hv_tne, hv_ntne, hv_nsame, hv_ctne, hty_cpy, hln_cpy, hsz_cpy, hsl_cpy, vrn, vnr, vrr, A122_0, A122_1, A122_2, A122_3, A122_6, A122_9, r1tb h, r10_b h, r11_b h, r13_b h, r14_b h, r1sb h, rgBA h, e1, hc, hs, t3]
  refine loop (zf z) 0 (by omega) _ none _ (fun x hx => by cases hx) (itH_kp _ _) (itH_isI hgB (hty_lt t3)) (Or.inl (by omega)) ?_ ?_
  · intro σ' i q e
    have e5 : takenI z = i := by unfold takenI; rw [e]
    have e6 : takenZ z = z := by unfold takenZ; rw [e]
    have := hQ σ' (by rw [e6]; exact St_0 h q) (by rw [e5]; exact (takF_lt _ _ _ _ _ (by omega) (fun x hx => by cases hx) e).1)
    rw [e5] at this
    exact this
  · intro σ' i l q e
    have e5 : takenI z = i := by unfold takenI; rw [e]
    have e6 : takenZ z = toDiskZ z i := by unfold takenZ; rw [e]
    have lt := takF_lt _ _ _ _ _ (by omega) (fun x hx => by cases hx) e
    have S1 := St_0 h q
    simp (config := {decide := true}) only [vRf_r, vRf_n, vI_i, vL_l, vD_d, pI_i, pR_r, pR_n, vZ_0, vZ_1, ct_i, ct_r, ct_n, ct_l, ct_d, csum_n, csum_c, kt_v, kt_n, kt_e, oc_n, oc_i, oc_r, oc_l, oc_u, oc_d, true_and, and_true, Bool.and_true, Bool.true_and, ne_eq, not_false_eq_true, not_true_eq_false, implies_true, false_imp, true_imp_iff, hsz_put, hsl_put, hln_put, hty_put, hsz_new, hsl_new, hln_new, hty_new, Nat.zero_add, Nat.add_zero, eq_self, decide_true, t32_0, t32_1, t32_2, t32_3, t32_4, t32_5, t32_6, hv_same, hv_kne, hv_tne, hv_ntne, hv_nsame, hv_ctne, hty_cpy, hln_cpy, hsz_cpy, hsl_cpy, vrn, vnr, vrr, A122_58, A122_59, A122_60, r1tb S1.1, r10_b S1.1, r11_b S1.1, r13_b S1.1, r14_b S1.1, r1sb S1.1, rgBA S1.1]
    refine c_toDisk S1.1 lt.1 hF.2.1 ((hF.2.2 i lt.1).resolve_left (lt.2 rfl)) ?_
    intro σ2 S2
    simp (config := {decide := true}) only [vRf_r, vRf_n, vI_i, vL_l, vD_d, pI_i, pR_r, pR_n, vZ_0, vZ_1, ct_i, ct_r, ct_n, ct_l, ct_d, csum_n, csum_c, kt_v, kt_n, kt_e, oc_n, oc_i, oc_r, oc_l, oc_u, oc_d, true_and, and_true, Bool.and_true, Bool.true_and, ne_eq, not_false_eq_true, not_true_eq_false, implies_true, false_imp, true_imp_iff, hsz_put, hsl_put, hln_put, hty_put, hsz_new, hsl_new, hln_new, hty_new, Nat.zero_add, Nat.add_zero, eq_self, decide_true, t32_0, t32_1, t32_2, t32_3, t32_4, t32_5, t32_6, hv_same, hv_kne, hv_tne, hv_ntne, hv_nsame, hv_ctne, hty_cpy, hln_cpy, hsz_cpy, hsl_cpy, vrn, vnr, vrr, A122_63, A122_64]
    have := hQ σ2 (by rw [e6]; exact St_trans S1 S2) (by rw [e5]; exact lt.1)
    rw [e5] at this
    exact this
end FRAME
