/-! what one asks -/
/-- the component as its caller holds it -/
def RepH (g : GC) (A B : Nat → Nat → Nat) (σ : AH) (z : ZT) : Prop := RepB g A B σ z ∧ hty σ (A 0 0) = some 0 ∧ hv σ 0 (A 0 0) 0 = .ref (A 1 0)
/-- an array of ints at d -/
def arrD (σ : AH) (d n : Nat) (f : Nat → Int32) : Prop := hty σ d = some 20 ∧ hln σ d = n ∧ ∀ j, j < n → hv σ 20 d j = .int (f j)
def whZ (z : ZT) (k p : Nat) : Int32 := if (frOf z k (Int32.ofNat p)).isSome = true then 0 else if z.1 4 k p = 0 then (if z.1 5 k p = 0 then 3 else 2) else 1
def miF (z : ZT) (k : Nat) (wh : Int32) : Nat → Nat → Int32 → Int32
  | _, 0, a => a
  | p, m + 1, a => miF z k wh (p + 1) m (a + if whZ z k p = wh then 1 else 0)
def manyInZ (z : ZT) (k : Nat) (wh : Int32) : Int32 := miF z k wh 0 6 0
def tdZ (z : ZT) (k : Nat) : Nat → Int32
  | 0 => z.1 1 k 3
  | 1 => z.1 1 k 22
  | 2 => z.1 1 k 23
  | 3 => z.1 1 k 7
  | 4 => z.1 1 k 8
  | 5 => z.1 1 k 9
  | 6 => z.1 1 k 10
  | 7 => z.1 1 k 11
  | 8 => z.1 1 k 12
  | 9 => manyInZ z k 0
  | 10 => manyInZ z k 1
  | 11 => manyInZ z k 2
  | 12 => manyLeftZ z k
  | 13 => z.1 1 k 20
  | 14 => z.1 1 k 6
  | _ => z.1 1 k 1
section TOLD
variable {g : GC} {A A' B B' : Nat → Nat → Nat} {σ σ' : AH} {z : ZT} {k p : Nat} {Q : AQ}
theorem t32_7 : (7 : Int32).toNatClampNeg = 7 := rfl
theorem t32_8 : (8 : Int32).toNatClampNeg = 8 := rfl
theorem t32_9 : (9 : Int32).toNatClampNeg = 9 := rfl
theorem t32_10 : (10 : Int32).toNatClampNeg = 10 := rfl
theorem t32_11 : (11 : Int32).toNatClampNeg = 11 := rfl
theorem t32_12 : (12 : Int32).toNatClampNeg = 12 := rfl
theorem t32_13 : (13 : Int32).toNatClampNeg = 13 := rfl
theorem t32_14 : (14 : Int32).toNatClampNeg = 14 := rfl
theorem t32_15 : (15 : Int32).toNatClampNeg = 15 := rfl
theorem t32_16 : (16 : Int32).toNatClampNeg = 16 := rfl
theorem arrD_new {n : Nat} : arrD (hnew σ 20 n (fun _ => .int 0) n) (hsz σ) n (fun _ => 0) := ⟨by rw [hty_new, if_pos rfl], by rw [hln_new, if_pos rfl], fun j _ => hv_nsame _ _ _ _ _ _⟩
theorem arrD_put {d n i : Nat} {f : Nat → Int32} (h : arrD σ d n f) (v : Int32) : arrD (hput σ 20 d i (.int v)) d n (wU f i v) := ⟨h.1, h.2.1, fun j hj => by
  unfold wU
  by_cases e : j = i
  · rw [if_pos e, e, hv_same]
  · rw [if_neg e, hv_kne _ e]; exact h.2.2 j hj⟩
theorem arrD_kp {d n c s : Nat} {f : Nat → Int32} {W : Nat → Prop} (h : arrD σ d n f) (q : kp W c s σ σ') (hW : ¬ W d) : arrD σ' d n f := ⟨kp_ty q h.1, by rw [(q.2.2.2.2 _ (hty_lt h.1)).2.1]; exact h.2.1, fun j hj => by rw [(q.2.2.2.2 _ (hty_lt h.1)).2.2 hW]; exact h.2.2 j hj⟩
theorem RH_0 (h : RepH g A B σ z) {c s : Nat} (q : kp (fun _ => False) c s σ σ') : RepH g A B σ' z := ⟨(St_0 h.1 q).1, kp_ty q h.2.1, by rw [(q.2.2.2.2 _ (hty_lt h.2.1)).2.2 (fun e => e)]; exact h.2.2⟩
theorem FA_0 (h : RepB g A B σ z) : ¬ FA A B (A 0 0) := by
  rintro ⟨r, k, e, _, h2⟩
  have := (h.2.1.1 0 0 r k e).1
  omega
theorem RH_SA {z' : ZT} {c s : Nat} (h : RepH g A B σ z) (q : SA g (FA A B) A A' B B' σ σ' z' c s) : RepH g A' B' σ' z' := by
  have e0 : A' 0 = A 0 := q.2.2.2.2 0 (by decide)
  have e1 : A' 1 = A 1 := q.2.2.2.2 1 (by decide)
  refine ⟨q.1, ?_, ?_⟩
  · rw [e0]; exact kp_ty q.2.2.2.1 h.2.1
  · rw [e0, e1, (q.2.2.2.1.2.2.2.2 _ (hty_lt h.2.1)).2.2 (FA_0 h.1)]; exact h.2.2
theorem c_where (h : RepH g A B σ z) (hk : k < zn z) (hF : okFr z) (hp : p < 6) (hc : hsz σ + 1 ≤ gC g) (hs : hsl σ + 4 ≤ gS g) (hQ : ∀ σ', kp (fun _ => False) 1 4 σ σ' → Q (.inl (some (.int (whZ z k p)))) σ') : aw g 67 0 [some (.ref (A 0 0)), some (.ref (A 4 k)), some (.int (Int32.ofNat p))] [] σ Q := by
  obtain ⟨h0, h1, h2⟩ := h
  have b1 : (Int32.ofNat p < 0) = False := n32_neg (by omega)
  have b2 : (Int32.ofNat p).toNatClampNeg = p := n32_nat (by omega)
  have b3 : (p < 6) = True := eq_true hp
  have m1 := r1tb h0
  simp (config := {decide := true}) only [vRf_r, vRf_n, vI_i, vL_l, vD_d, pI_i, pR_r, pR_n, vZ_0, vZ_1, ct_i, ct_r, ct_n, ct_l, ct_d, csum_n, csum_c, kt_v, kt_n, kt_e, oc_n, oc_i, oc_r, oc_l, oc_u, oc_d, true_and, and_true, Bool.and_true, Bool.true_and, ne_eq, not_false_eq_true, not_true_eq_false, implies_true, false_imp, true_imp_iff, hsz_put, hsl_put, hln_put, hty_put, hsz_new, hsl_new, hln_new, hty_new, Nat.zero_add, Nat.add_zero, eq_self, decide_true, t32_0, t32_1, t32_2, t32_3, t32_4, t32_5, t32_6, hv_same, hv_kne, hv_tne, hv_ntne, hv_nsame, hv_ctne, hty_cpy, hln_cpy, hsz_cpy, hsl_cpy, vrn, vnr, vrr, A67_0, A67_1, A67_4, A67_5, A67_6, h1, h2, m1]
  refine c_frameOf h0 hk hF hc hs ?_
  intro σ1 w1
  have h3 := (St_0 h0 w1).1
  cases hf : frOf z k (Int32.ofNat p) with
  | some i =>
    have ez : whZ z k p = 0 := by unfold whZ; rw [hf]; rfl
    have := hQ σ1 w1
    rw [ez] at this
    rw [vfr_s]
    simp (config := {decide := true}) only [vRf_r, vRf_n, vI_i, vL_l, vD_d, pI_i, pR_r, pR_n, vZ_0, vZ_1, ct_i, ct_r, ct_n, ct_l, ct_d, csum_n, csum_c, kt_v, kt_n, kt_e, oc_n, oc_i, oc_r, oc_l, oc_u, oc_d, true_and, and_true, Bool.and_true, Bool.true_and, ne_eq, not_false_eq_true, not_true_eq_false, implies_true, false_imp, true_imp_iff, hsz_put, hsl_put, hln_put, hty_put, hsz_new, hsl_new, hln_new, hty_new, Nat.zero_add, Nat.add_zero, eq_self, decide_true, t32_0, t32_1, t32_2, t32_3, t32_4, t32_5, t32_6, hv_same, hv_kne, hv_tne, hv_ntne, hv_nsame, hv_ctne, hty_cpy, hln_cpy, hsz_cpy, hsl_cpy, vrn, vnr, vrr, A67_9, A67_12, A67_13]
    exact this
  | none =>
    have f9 := r9vb h3 hk hp
    have f10 := r10vb h3 hk hp
    have := hQ σ1 w1
    rw [vfr_n]
    by_cases g4 : z.1 4 k p = 0
    · by_cases g5 : z.1 5 k p = 0
      · have ez : whZ z k p = 3 := by unfold whZ; rw [hf, if_neg (by decide), if_pos g4, if_pos g5]
        rw [ez] at this
        simp (config := {decide := true}) only [vRf_r, vRf_n, vI_i, vL_l, vD_d, pI_i, pR_r, pR_n, vZ_0, vZ_1, ct_i, ct_r, ct_n, ct_l, ct_d, csum_n, csum_c, kt_v, kt_n, kt_e, oc_n, oc_i, oc_r, oc_l, oc_u, oc_d, true_and, and_true, Bool.and_true, Bool.true_and, ne_eq, not_false_eq_true, not_true_eq_false, implies_true, false_imp, true_imp_iff, hsz_put, hsl_put, hln_put, hty_put, hsz_new, hsl_new, hln_new, hty_new, Nat.zero_add, Nat.add_zero, eq_self, decide_true, t32_0, t32_1, t32_2, t32_3, t32_4, t32_5, t32_6, hv_same, hv_kne, hv_tne, hv_ntne, hv_nsame, hv_ctne, hty_cpy, hln_cpy, hsz_cpy, hsl_cpy, vrn, vnr, vrr, A67_9, A67_14, A67_15, A67_18, A67_19, A67_20, A67_23, A67_24, A67_27, A67_28, A67_31, A67_32, A67_33, A67_36, A67_37, A67_40, A67_41, r5tb h3 hk, r5gb h3 hk, r5nb h3 hk, r5mb h3 hk, r5eb h3 hk, r5db h3 hk, r5vb h3 hk, r5lb h3 hk, r5pb h3 hk, r6tb h3 hk, r60b h3 hk, r61b h3 hk, r62b h3 hk, r63b h3 hk, r7tb h3 hk, r7lb h3 hk, r8tb h3 hk, r8lb h3 hk, r9tb h3 hk, r9lb h3 hk, r10tb h3 hk, r10lb h3 hk, rgBA h3, f9, f10, g4, g5, b1, b2, b3]
        exact this
      · have ez : whZ z k p = 2 := by unfold whZ; rw [hf, if_neg (by decide), if_pos g4, if_neg g5]
        rw [ez] at this
        simp (config := {decide := true}) only [vRf_r, vRf_n, vI_i, vL_l, vD_d, pI_i, pR_r, pR_n, vZ_0, vZ_1, ct_i, ct_r, ct_n, ct_l, ct_d, csum_n, csum_c, kt_v, kt_n, kt_e, oc_n, oc_i, oc_r, oc_l, oc_u, oc_d, true_and, and_true, Bool.and_true, Bool.true_and, ne_eq, not_false_eq_true, not_true_eq_false, implies_true, false_imp, true_imp_iff, hsz_put, hsl_put, hln_put, hty_put, hsz_new, hsl_new, hln_new, hty_new, Nat.zero_add, Nat.add_zero, eq_self, decide_true, t32_0, t32_1, t32_2, t32_3, t32_4, t32_5, t32_6, hv_same, hv_kne, hv_tne, hv_ntne, hv_nsame, hv_ctne, hty_cpy, hln_cpy, hsz_cpy, hsl_cpy, vrn, vnr, vrr, A67_9, A67_14, A67_15, A67_18, A67_19, A67_20, A67_23, A67_24, A67_27, A67_28, A67_31, A67_32, A67_33, A67_36, A67_37, A67_40, A67_41, r5tb h3 hk, r5gb h3 hk, r5nb h3 hk, r5mb h3 hk, r5eb h3 hk, r5db h3 hk, r5vb h3 hk, r5lb h3 hk, r5pb h3 hk, r6tb h3 hk, r60b h3 hk, r61b h3 hk, r62b h3 hk, r63b h3 hk, r7tb h3 hk, r7lb h3 hk, r8tb h3 hk, r8lb h3 hk, r9tb h3 hk, r9lb h3 hk, r10tb h3 hk, r10lb h3 hk, rgBA h3, f9, f10, g4, g5, b1, b2, b3]
        exact this
    · have ez : whZ z k p = 1 := by unfold whZ; rw [hf, if_neg (by decide), if_neg g4]
      rw [ez] at this
      simp (config := {decide := true}) only [vRf_r, vRf_n, vI_i, vL_l, vD_d, pI_i, pR_r, pR_n, vZ_0, vZ_1, ct_i, ct_r, ct_n, ct_l, ct_d, csum_n, csum_c, kt_v, kt_n, kt_e, oc_n, oc_i, oc_r, oc_l, oc_u, oc_d, true_and, and_true, Bool.and_true, Bool.true_and, ne_eq, not_false_eq_true, not_true_eq_false, implies_true, false_imp, true_imp_iff, hsz_put, hsl_put, hln_put, hty_put, hsz_new, hsl_new, hln_new, hty_new, Nat.zero_add, Nat.add_zero, eq_self, decide_true, t32_0, t32_1, t32_2, t32_3, t32_4, t32_5, t32_6, hv_same, hv_kne, hv_tne, hv_ntne, hv_nsame, hv_ctne, hty_cpy, hln_cpy, hsz_cpy, hsl_cpy, vrn, vnr, vrr, A67_9, A67_14, A67_15, A67_18, A67_19, A67_20, A67_23, A67_24, A67_27, A67_28, A67_31, A67_32, A67_33, A67_36, A67_37, A67_40, A67_41, r5tb h3 hk, r5gb h3 hk, r5nb h3 hk, r5mb h3 hk, r5eb h3 hk, r5db h3 hk, r5vb h3 hk, r5lb h3 hk, r5pb h3 hk, r6tb h3 hk, r60b h3 hk, r61b h3 hk, r62b h3 hk, r63b h3 hk, r7tb h3 hk, r7lb h3 hk, r8tb h3 hk, r8lb h3 hk, r9tb h3 hk, r9lb h3 hk, r10tb h3 hk, r10lb h3 hk, rgBA h3, f9, g4, b1, b2, b3]
      exact this
theorem c_manyIn (h : RepH g A B σ z) (hk : k < zn z) (hF : okFr z) (wh : Int32) (hc : hsz σ + 6 ≤ gC g) (hs : hsl σ + 24 ≤ gS g) (hQ : ∀ σ', kp (fun _ => False) 6 24 σ σ' → Q (.inl (some (.int (manyInZ z k wh)))) σ') : aw g 66 0 [some (.ref (A 0 0)), some (.ref (A 4 k)), some (.int wh), none, none] [] σ Q := by
  have loop : ∀ m p a σ1, p + m = 6 → kp (fun _ => False) p (4 * p) σ σ1 → (∀ σ', kp (fun _ => False) 6 24 σ σ' → Q (.inl (some (.int (miF z k wh p m a)))) σ') → aw g 66 5 [some (.ref (A 0 0)), some (.ref (A 4 k)), some (.int wh), some (.int a), some (.int (Int32.ofNat p))] [] σ1 Q := by
    intro m
    induction m with
    | zero =>
      intro p a σ1 hpm q hQ1
      have e6 : p = 6 := by omega
      subst e6
      have e1 : ((6 : Int32) ≤ Int32.ofNat 6) = True := eq_true (by decide)
      have := hQ1 σ1 q
      simp (config := {decide := true}) only [vRf_r, vRf_n, vI_i, vL_l, vD_d, pI_i, pR_r, pR_n, vZ_0, vZ_1, ct_i, ct_r, ct_n, ct_l, ct_d, csum_n, csum_c, kt_v, kt_n, kt_e, oc_n, oc_i, oc_r, oc_l, oc_u, oc_d, true_and, and_true, Bool.and_true, Bool.true_and, ne_eq, not_false_eq_true, not_true_eq_false, implies_true, false_imp, true_imp_iff, hsz_put, hsl_put, hln_put, hty_put, hsz_new, hsl_new, hln_new, hty_new, Nat.zero_add, Nat.add_zero, eq_self, decide_true, t32_0, t32_1, t32_2, t32_3, t32_4, t32_5, t32_6, hv_same, hv_kne, hv_tne, hv_ntne, hv_nsame, hv_ctne, hty_cpy, hln_cpy, hsz_cpy, hsl_cpy, vrn, vnr, vrr, A66_5, A66_7, A66_9, A66_40, A66_41, e1]
      exact this
    | succ m ih =>
      intro p a σ1 hpm q hQ1
      have e1 : ((6 : Int32) ≤ Int32.ofNat p) = False := by rw [show (6 : Int32) = Int32.ofNat 6 from rfl, n32_le (by omega) (by omega)]; exact eq_false (by omega)
      have h1 := RH_0 h q
      have d1 := q.2.1
      have d2 := q.2.2.2.1
      have b4 := n32_inc p
      have t0 := h1.2.1
      rw [A66_5]
      simp (config := {decide := true}) only [vRf_r, vRf_n, vI_i, vL_l, vD_d, pI_i, pR_r, pR_n, vZ_0, vZ_1, ct_i, ct_r, ct_n, ct_l, ct_d, csum_n, csum_c, kt_v, kt_n, kt_e, oc_n, oc_i, oc_r, oc_l, oc_u, oc_d, true_and, and_true, Bool.and_true, Bool.true_and, ne_eq, not_false_eq_true, not_true_eq_false, implies_true, false_imp, true_imp_iff, hsz_put, hsl_put, hln_put, hty_put, hsz_new, hsl_new, hln_new, hty_new, Nat.zero_add, Nat.add_zero, eq_self, decide_true, t32_0, t32_1, t32_2, t32_3, t32_4, t32_5, t32_6, hv_same, hv_kne, hv_tne, hv_ntne, hv_nsame, hv_ctne, hty_cpy, hln_cpy, hsz_cpy, hsl_cpy, vrn, vnr, vrr, A66_7, A66_9, A66_12, A66_13, A66_14, A66_15, A66_17, e1, t0]
      refine c_where h1 hk hF (by omega) (by omega) (by omega) ?_
      intro σ2 k2
      have q2 : kp (fun _ => False) (p + 1) (4 * (p + 1)) σ σ2 := kp_mono (kp_trans q k2) (by omega) (by omega) (fun _ _ e => e)
      by_cases g0 : whZ z k p = wh
      · have ez : miF z k wh p (m + 1) a = miF z k wh (p + 1) m (a + 1) := by rw [miF, if_pos g0]
        have := ih (p + 1) (a + 1) σ2 (by omega) q2 (fun σ' x => by rw [← ez]; exact hQ1 σ' x)
        simp (config := {decide := true}) only [vRf_r, vRf_n, vI_i, vL_l, vD_d, pI_i, pR_r, pR_n, vZ_0, vZ_1, ct_i, ct_r, ct_n, ct_l, ct_d, csum_n, csum_c, kt_v, kt_n, kt_e, oc_n, oc_i, oc_r, oc_l, oc_u, oc_d, true_and, and_true, Bool.and_true, Bool.true_and, ne_eq, not_false_eq_true, not_true_eq_false, implies_true, false_imp, true_imp_iff, hsz_put, hsl_put, hln_put, hty_put, hsz_new, hsl_new, hln_new, hty_new, Nat.zero_add, Nat.add_zero, eq_self, decide_true, t32_0, t32_1, t32_2, t32_3, t32_4, t32_5, t32_6, hv_same, hv_kne, hv_tne, hv_ntne, hv_nsame, hv_ctne, hty_cpy, hln_cpy, hsz_cpy, hsl_cpy, vrn, vnr, vrr, A66_20, A66_21, A66_24, A66_25, A66_28, A66_29, A66_32, A66_33, A66_34, A66_37, A61_0, A61_1, A61_4, A61_5, A61_8, A61_9, g0, b4]
        exact this
      · have ez : miF z k wh p (m + 1) a = miF z k wh (p + 1) m (a + 0) := by rw [miF, if_neg g0]
        have := ih (p + 1) (a + 0) σ2 (by omega) q2 (fun σ' x => by rw [← ez]; exact hQ1 σ' x)
        simp (config := {decide := true}) only [vRf_r, vRf_n, vI_i, vL_l, vD_d, pI_i, pR_r, pR_n, vZ_0, vZ_1, ct_i, ct_r, ct_n, ct_l, ct_d, csum_n, csum_c, kt_v, kt_n, kt_e, oc_n, oc_i, oc_r, oc_l, oc_u, oc_d, true_and, and_true, Bool.and_true, Bool.true_and, ne_eq, not_false_eq_true, not_true_eq_false, implies_true, false_imp, true_imp_iff, hsz_put, hsl_put, hln_put, hty_put, hsz_new, hsl_new, hln_new, hty_new, Nat.zero_add, Nat.add_zero, eq_self, decide_true, t32_0, t32_1, t32_2, t32_3, t32_4, t32_5, t32_6, hv_same, hv_kne, hv_tne, hv_ntne, hv_nsame, hv_ctne, hty_cpy, hln_cpy, hsz_cpy, hsl_cpy, vrn, vnr, vrr, A66_20, A66_21, A66_24, A66_25, A66_28, A66_29, A66_32, A66_33, A66_34, A66_37, A61_0, A61_1, A61_4, A61_5, A61_8, A61_9, g0, b4]
        exact this
  have := loop 6 0 0 σ (by omega) (kp_refl _ _) hQ
  rw [z32_0] at this
  simp (config := {decide := true}) only [vRf_r, vRf_n, vI_i, vL_l, vD_d, pI_i, pR_r, pR_n, vZ_0, vZ_1, ct_i, ct_r, ct_n, ct_l, ct_d, csum_n, csum_c, kt_v, kt_n, kt_e, oc_n, oc_i, oc_r, oc_l, oc_u, oc_d, true_and, and_true, Bool.and_true, Bool.true_and, ne_eq, not_false_eq_true, not_true_eq_false, implies_true, false_imp, true_imp_iff, hsz_put, hsl_put, hln_put, hty_put, hsz_new, hsl_new, hln_new, hty_new, Nat.zero_add, Nat.add_zero, eq_self, decide_true, t32_0, t32_1, t32_2, t32_3, t32_4, t32_5, t32_6, hv_same, hv_kne, hv_tne, hv_ntne, hv_nsame, hv_ctne, hty_cpy, hln_cpy, hsz_cpy, hsl_cpy, vrn, vnr, vrr, A66_0, A66_1, A66_2, A66_3]
  exact this
/-- the first nine -/
def tdH (σ : AH) (d : Nat) (v : Nat → Int32) : AH := hput (hput (hput (hput (hput (hput (hput (hput (hput σ 20 d 0 (.int (v 0))) 20 d 1 (.int (v 1))) 20 d 2 (.int (v 2))) 20 d 3 (.int (v 3))) 20 d 4 (.int (v 4))) 20 d 5 (.int (v 5))) 20 d 6 (.int (v 6))) 20 d 7 (.int (v 7))) 20 d 8 (.int (v 8))
theorem c_told {w : Nat} (h : RepH g A B σ z) (hk : k < zn z) (hF : okFr z) (hw : w < 16) (hc : hsz σ + 19 ≤ gC g) (hs : hsl σ + 88 ≤ gS g) (hQ : ∀ σ', kp (fun _ => False) 19 88 σ σ' → Q (.inl (some (.int (tdZ z k w)))) σ') : aw g 65 0 [some (.ref (A 0 0)), some (.ref (A 4 k)), some (.int (Int32.ofNat w)), none] [] σ Q := by
  have hgB := rgsb h.1
  have c1 : hsz σ + 1 ≤ gC g := by omega
  have s1 : hsl σ + 16 ≤ gS g := by omega
  have t64 : ((16 : Nat) ≤ 65536) = True := eq_true (by decide)
  have k0 : kp (fun _ => False) 1 16 σ (hnew σ 20 16 (fun _ => .int 0) 16) := kp_new
  have h0 := RH_0 h k0
  have z0 : hsz (hnew σ 20 16 (fun _ => .int 0) 16) = hsz σ + 1 := rfl
  have y0 : hsl (hnew σ 20 16 (fun _ => .int 0) 16) = hsl σ + 16 := rfl
  have D0 := arrD_new (σ := σ) (n := 16)
  rw [A65_0, A65_2]
  refine ⟨by decide, by decide, c1, s1, ?_⟩
  rw [t32_16]
  generalize hnew σ 20 16 (fun _ => .int 0) 16 = σ0 at *
  have kA : kp (fun a => a = hsz σ) 0 0 σ0 (tdH σ0 (hsz σ) (tdZ z k)) := by
    have p : ∀ (s : AH) j v, kp (fun a => a = hsz σ) 0 0 s (hput s 20 (hsz σ) j v) := fun s j v => kp_put (fun _ => rfl)
    exact kp_trans (kp_trans (kp_trans (kp_trans (kp_trans (kp_trans (kp_trans (kp_trans (p σ0 0 _) (p _ 1 _)) (p _ 2 _)) (p _ 3 _)) (p _ 4 _)) (p _ 5 _)) (p _ 6 _)) (p _ 7 _)) (p _ 8 _)
  have DA : arrD (tdH σ0 (hsz σ) (tdZ z k)) (hsz σ) 16 (wU (wU (wU (wU (wU (wU (wU (wU (wU (fun _ => 0) 0 (tdZ z k 0)) 1 (tdZ z k 1)) 2 (tdZ z k 2)) 3 (tdZ z k 3)) 4 (tdZ z k 4)) 5 (tdZ z k 5)) 6 (tdZ z k 6)) 7 (tdZ z k 7)) 8 (tdZ z k 8)) := arrD_put (arrD_put (arrD_put (arrD_put (arrD_put (arrD_put (arrD_put (arrD_put (arrD_put D0 _) _) _) _) _) _) _) _) _
  have qA : kp (fun _ => False) 1 16 σ (tdH σ0 (hsz σ) (tdZ z k)) := kp_mono (kp_then k0 kA (fun a ha e => by omega)) (by omega) (by omega) (fun _ _ e => e)
  have eA : hput (hput (hput (hput (hput (hput (hput (hput (hput σ0 20 (hsz σ) 0 (.int (z.1 1 k 3))) 20 (hsz σ) 1 (.int (z.1 1 k 22))) 20 (hsz σ) 2 (.int (z.1 1 k 23))) 20 (hsz σ) 3 (.int (z.1 1 k 7))) 20 (hsz σ) 4 (.int (z.1 1 k 8))) 20 (hsz σ) 5 (.int (z.1 1 k 9))) 20 (hsz σ) 6 (.int (z.1 1 k 10))) 20 (hsz σ) 7 (.int (z.1 1 k 11))) 20 (hsz σ) 8 (.int (z.1 1 k 12)) = tdH σ0 (hsz σ) (tdZ z k) := rfl
  have t1 := D0.1
  have l1 := D0.2.1
  have h00 := h0.2.1
  have tA : hty (tdH σ0 (hsz σ) (tdZ z k)) (A 0 0) = some 0 := kp_ty qA h.2.1
  simp (config := {decide := true}) only [vRf_r, vRf_n, vI_i, vL_l, vD_d, pI_i, pR_r, pR_n, vZ_0, vZ_1, ct_i, ct_r, ct_n, ct_l, ct_d, csum_n, csum_c, kt_v, kt_n, kt_e, oc_n, oc_i, oc_r, oc_l, oc_u, oc_d, true_and, and_true, Bool.and_true, Bool.true_and, ne_eq, not_false_eq_true, not_true_eq_false, implies_true, false_imp, true_imp_iff, hsz_put, hsl_put, hln_put, hty_put, hsz_new, hsl_new, hln_new, hty_new, Nat.zero_add, Nat.add_zero, eq_self, decide_true, t32_0, t32_1, t32_2, t32_3, t32_4, t32_5, t32_6, hv_same, hv_kne, hv_tne, hv_ntne, hv_nsame, hv_ctne, hty_cpy, hln_cpy, hsz_cpy, hsl_cpy, vrn, vnr, vrr, A65_4, A65_5, A65_6, A65_7, A65_10, A65_11, A65_12, A65_13, A65_14, A65_17, A65_20, A65_21, A65_22, A65_23, A65_24, A65_27, A65_30, A65_31, A65_32, A65_33, A65_34, A65_37, A65_38, A65_39, A65_40, A65_41, A65_44, A65_45, A65_46, A65_47, A65_48, A65_51, A65_52, A65_53, A65_55, A65_56, A65_59, A65_60, A65_61, A65_63, A65_64, A65_67, A65_68, A65_69, A65_71, A65_72, A65_75, A65_76, A65_77, A65_79, A65_80, A65_81, A65_82, r5tb h0.1 hk, r5gb h0.1 hk, r5nb h0.1 hk, r5mb h0.1 hk, r5eb h0.1 hk, r5db h0.1 hk, r5vb h0.1 hk, r5lb h0.1 hk, r5pb h0.1 hk, r6tb h0.1 hk, r60b h0.1 hk, r61b h0.1 hk, r62b h0.1 hk, r63b h0.1 hk, r7tb h0.1 hk, r7lb h0.1 hk, r8tb h0.1 hk, r8lb h0.1 hk, r9tb h0.1 hk, r9lb h0.1 hk, r10tb h0.1 hk, r10lb h0.1 hk, rgBA h0.1, t1, l1, h00, tA, hgB, t32_7, t32_8, eA]
  have hA := RH_0 h qA
  have dA1 := qA.2.1
  have dA2 := qA.2.2.2.1
  generalize tdH σ0 (hsz σ) (tdZ z k) = σA at *
  refine c_manyIn hA hk hF 0 (by omega) (by omega) ?_
  intro σB kB
  have qB := kp_trans qA kB
  have hB := RH_0 h qB
  have DB := arrD_put (i := 9) (arrD_kp DA kB (fun e => e)) (manyInZ z k 0)
  have tB := DA.1
  have tB := kp_ty kB tB
  have lB := (arrD_kp DA kB (fun e => e)).2.1
  have hB0 := hB.2.1
  simp (config := {decide := true}) only [vRf_r, vRf_n, vI_i, vL_l, vD_d, pI_i, pR_r, pR_n, vZ_0, vZ_1, ct_i, ct_r, ct_n, ct_l, ct_d, csum_n, csum_c, kt_v, kt_n, kt_e, oc_n, oc_i, oc_r, oc_l, oc_u, oc_d, true_and, and_true, Bool.and_true, Bool.true_and, ne_eq, not_false_eq_true, not_true_eq_false, implies_true, false_imp, true_imp_iff, hsz_put, hsl_put, hln_put, hty_put, hsz_new, hsl_new, hln_new, hty_new, Nat.zero_add, Nat.add_zero, eq_self, decide_true, t32_0, t32_1, t32_2, t32_3, t32_4, t32_5, t32_6, hv_same, hv_kne, hv_tne, hv_ntne, hv_nsame, hv_ctne, hty_cpy, hln_cpy, hsz_cpy, hsl_cpy, vrn, vnr, vrr, A65_85, A65_86, A65_87, A65_89, A65_90, A65_91, A65_92, tB, lB, hB0, hgB, t32_9]
  have kB2 : kp (fun a => a = hsz σ) 0 0 σB (hput σB 20 (hsz σ) 9 (.int (manyInZ z k 0))) := kp_put (W := fun a => a = hsz σ) (fun _ => rfl)
  have qB2 : kp (fun _ => False) 7 40 σ (hput σB 20 (hsz σ) 9 (.int (manyInZ z k 0))) := kp_mono (kp_then qB kB2 (fun a ha e => by omega)) (by omega) (by omega) (fun _ _ e => e)
  have hB2 := RH_0 h qB2
  have dB1 := qB2.2.1
  have dB2 := qB2.2.2.2.1
  generalize hput σB 20 (hsz σ) 9 (.int (manyInZ z k 0)) = σC at *
  refine c_manyIn hB2 hk hF 1 (by omega) (by omega) ?_
  intro σD kD
  have qD := kp_trans qB2 kD
  have hD := RH_0 h qD
  have DD' := arrD_kp DB kD (fun e => e)
  have DD := arrD_put (i := 10) DD' (manyInZ z k 1)
  have tD := DD'.1
  have lD := DD'.2.1
  have hD0 := hD.2.1
  simp (config := {decide := true}) only [vRf_r, vRf_n, vI_i, vL_l, vD_d, pI_i, pR_r, pR_n, vZ_0, vZ_1, ct_i, ct_r, ct_n, ct_l, ct_d, csum_n, csum_c, kt_v, kt_n, kt_e, oc_n, oc_i, oc_r, oc_l, oc_u, oc_d, true_and, and_true, Bool.and_true, Bool.true_and, ne_eq, not_false_eq_true, not_true_eq_false, implies_true, false_imp, true_imp_iff, hsz_put, hsl_put, hln_put, hty_put, hsz_new, hsl_new, hln_new, hty_new, Nat.zero_add, Nat.add_zero, eq_self, decide_true, t32_0, t32_1, t32_2, t32_3, t32_4, t32_5, t32_6, hv_same, hv_kne, hv_tne, hv_ntne, hv_nsame, hv_ctne, hty_cpy, hln_cpy, hsz_cpy, hsl_cpy, vrn, vnr, vrr, A65_95, A65_96, A65_97, A65_99, A65_100, A65_101, A65_102, tD, lD, hD0, hgB, t32_10]
  have kD2 : kp (fun a => a = hsz σ) 0 0 σD (hput σD 20 (hsz σ) 10 (.int (manyInZ z k 1))) := kp_put (W := fun a => a = hsz σ) (fun _ => rfl)
  have qD2 : kp (fun _ => False) 13 64 σ (hput σD 20 (hsz σ) 10 (.int (manyInZ z k 1))) := kp_mono (kp_then qD kD2 (fun a ha e => by omega)) (by omega) (by omega) (fun _ _ e => e)
  have hD2 := RH_0 h qD2
  have dD1 := qD2.2.1
  have dD2 := qD2.2.2.2.1
  generalize hput σD 20 (hsz σ) 10 (.int (manyInZ z k 1)) = σE at *
  refine c_manyIn hD2 hk hF 2 (by omega) (by omega) ?_
  intro σF kF
  have qF := kp_mono (c' := 19) (s' := 88) (kp_trans qD2 kF) (by omega) (by omega) (fun _ _ e => e)
  have hF1 := RH_0 h qF
  have DF' := arrD_kp DD kF (fun e => e)
  have DF := arrD_put (i := 15) (arrD_put (i := 14) (arrD_put (i := 13) (arrD_put (i := 12) (arrD_put (i := 11) DF' (manyInZ z k 2)) (manyLeftZ z k)) (z.1 1 k 20)) (z.1 1 k 6)) (z.1 1 k 1)
  have tF := DF'.1
  have lF := DF'.2.1
  have kG : kp (fun a => a = hsz σ) 0 0 σF (hput (hput (hput (hput (hput σF 20 (hsz σ) 11 (.int (manyInZ z k 2))) 20 (hsz σ) 12 (.int (manyLeftZ z k))) 20 (hsz σ) 13 (.int (z.1 1 k 20))) 20 (hsz σ) 14 (.int (z.1 1 k 6))) 20 (hsz σ) 15 (.int (z.1 1 k 1))) := by
    have p : ∀ (s : AH) j v, kp (fun a => a = hsz σ) 0 0 s (hput s 20 (hsz σ) j v) := fun s j v => kp_put (fun _ => rfl)
    exact kp_trans (kp_trans (kp_trans (kp_trans (p σF 11 _) (p _ 12 _)) (p _ 13 _)) (p _ 14 _)) (p _ 15 _)
  have qG := kp_mono (c' := 19) (s' := 88) (kp_then qF kG (fun a ha e => by omega)) (by omega) (by omega) (fun _ _ e => e)
  have kL : kp (fun a => a = hsz σ) 0 0 σF (hput σF 20 (hsz σ) 11 (.int (manyInZ z k 2))) := kp_put (W := fun a => a = hsz σ) (fun _ => rfl)
  have hL := RH_0 h (kp_then qF kL (fun a ha e => by omega))
  have eL := fun Q' => c_manyLeft (Q := Q') hL.1 hk
  have tL : hty (hput σF 20 (hsz σ) 11 (.int (manyInZ z k 2))) (hsz σ) = some 20 := tF
  have b1 : (Int32.ofNat w < 0) = False := n32_neg (by omega)
  have b2 : (Int32.ofNat w).toNatClampNeg = w := n32_nat (by omega)
  have b3 : (w < 16) = True := eq_true hw
  have eV := DF.2.2 w hw
  have eW : wU (wU (wU (wU (wU (wU (wU (wU (wU (wU (wU (wU (wU (wU (wU (wU (fun _ => 0) 0 (tdZ z k 0)) 1 (tdZ z k 1)) 2 (tdZ z k 2)) 3 (tdZ z k 3)) 4 (tdZ z k 4)) 5 (tdZ z k 5)) 6 (tdZ z k 6)) 7 (tdZ z k 7)) 8 (tdZ z k 8)) 9 (manyInZ z k 0)) 10 (manyInZ z k 1)) 11 (manyInZ z k 2)) 12 (manyLeftZ z k)) 13 (z.1 1 k 20)) 14 (z.1 1 k 6)) 15 (z.1 1 k 1) w = tdZ z k w := by
    have : w = 0 ∨ w = 1 ∨ w = 2 ∨ w = 3 ∨ w = 4 ∨ w = 5 ∨ w = 6 ∨ w = 7 ∨ w = 8 ∨ w = 9 ∨ w = 10 ∨ w = 11 ∨ w = 12 ∨ w = 13 ∨ w = 14 ∨ w = 15 := by omega
    rcases this with e | e | e | e | e | e | e | e | e | e | e | e | e | e | e | e <;> subst e <;> rfl
  rw [eW] at eV
  have := hQ _ qG
  have lG : hln (hput (hput (hput (hput (hput σF 20 (hsz σ) 11 (.int (manyInZ z k 2))) 20 (hsz σ) 12 (.int (manyLeftZ z k))) 20 (hsz σ) 13 (.int (z.1 1 k 20))) 20 (hsz σ) 14 (.int (z.1 1 k 6))) 20 (hsz σ) 15 (.int (z.1 1 k 1))) (hsz σ) = 16 := lF
  have g4 := r5tb hF1.1 hk
  simp (config := {decide := true}) only [vRf_r, vRf_n, vI_i, vL_l, vD_d, pI_i, pR_r, pR_n, vZ_0, vZ_1, ct_i, ct_r, ct_n, ct_l, ct_d, csum_n, csum_c, kt_v, kt_n, kt_e, oc_n, oc_i, oc_r, oc_l, oc_u, oc_d, true_and, and_true, Bool.and_true, Bool.true_and, ne_eq, not_false_eq_true, not_true_eq_false, implies_true, false_imp, true_imp_iff, hsz_put, hsl_put, hln_put, hty_put, hsz_new, hsl_new, hln_new, hty_new, Nat.zero_add, Nat.add_zero, eq_self, decide_true, t32_0, t32_1, t32_2, t32_3, t32_4, t32_5, t32_6, hv_same, hv_kne, hv_tne, hv_ntne, hv_nsame, hv_ctne, hty_cpy, hln_cpy, hsz_cpy, hsl_cpy, vrn, vnr, vrr, A65_105, A65_106, A65_107, A65_109, A65_110, A65_113, A65_114, A65_115, A65_117, A65_118, A65_121, A65_122, A65_123, A65_125, A65_126, A65_129, A65_130, A65_131, A65_133, A65_134, A65_137, A65_138, A65_139, A65_140, A65_141, A65_142, r5tb hF1.1 hk, r5gb hF1.1 hk, r5nb hF1.1 hk, r5mb hF1.1 hk, r5eb hF1.1 hk, r5db hF1.1 hk, r5vb hF1.1 hk, r5lb hF1.1 hk, r5pb hF1.1 hk, r6tb hF1.1 hk, r60b hF1.1 hk, r61b hF1.1 hk, r62b hF1.1 hk, r63b hF1.1 hk, r7tb hF1.1 hk, r7lb hF1.1 hk, r8tb hF1.1 hk, r8lb hF1.1 hk, r9tb hF1.1 hk, r9lb hF1.1 hk, r10tb hF1.1 hk, r10lb hF1.1 hk, rgBA hF1.1, tF, lF, hgB, g4, eL, t32_11, t32_12, t32_13, t32_14, t32_15, b1, b2, b3, eV]
  exact this
end TOLD
