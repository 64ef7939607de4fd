/-! who goes next -/
def vgu (A : Nat → Nat → Nat) : Option Nat → Value
  | none => .null
  | some k => .ref (A 4 k)
theorem vgu_s (A : Nat → Nat → Nat) (i : Nat) : vgu A (some i) = .ref (A 4 i) := rfl
theorem vgu_n (A : Nat → Nat → Nat) : vgu A none = .null := rfl
def mcN (z : ZT) (c : Nat) : Option Nat → Option Nat
  | none => if z.1 1 c 3 = 0 then some c else none
  | some b => if z.1 1 c 3 = 0 ∧ z.1 1 b 9 < z.1 1 c 9 then some c else some b
def mcF (z : ZT) : Nat → Nat → Option Nat → Option Nat
  | _, 0, b => b
  | c, m + 1, b => mcF z (c + 1) m (mcN z c b)
def mcZ (z : ZT) : Option Nat := mcF z 0 (zn z) none
def mnI (x y : Int32) : Int32 := if y < x then y else x
def rfN (z : ZT) (c : Nat) : ZT := if z.1 1 c 3 = 4 then z else zs z 1 c 9 (mnI (8 * z.1 1 c 1) (z.1 1 c 9 + 4 * z.1 1 c 1))
def rfF (z : ZT) : Nat → Nat → ZT
  | _, 0 => z
  | c, m + 1 => rfF (rfN z c) (c + 1) m
def refillZ (z : ZT) : ZT := rfF z 0 (zn z)
def chosenZ (z : ZT) : ZT × Option Nat := match mcZ z with
  | none => (z, none)
  | some b => if 0 < z.1 1 b 9 then (z, some b) else (refillZ z, mcZ (refillZ z))
section MOST
variable {g : GC} {A B : Nat → Nat → Nat} {σ σ' : AH} {z : ZT} {k p : Nat} {Q : AQ}
theorem mcN_lt {z : ZT} {c : Nat} {b : Option Nat} {n : Nat} (hc : c < n) (hb : ∀ x, b = some x → x < n) : ∀ x, mcN z c b = some x → x < n := by
  intro x hx
  unfold mcN at hx
  cases b with
  | none =>
    simp only at hx
    split at hx
    · rw [← Option.some.inj hx]; exact hc
    · cases hx
  | some y =>
    simp only at hx
    split at hx
    · rw [← Option.some.inj hx]; exact hc
    · exact hb x hx
theorem mcF_lt {z : ZT} {n : Nat} : ∀ m c b, c + m ≤ n → (∀ x, b = some x → x < n) → ∀ x, mcF z c m b = some x → x < n := by
  intro m
  induction m with
  | zero => intro c b _ hb x hx; exact hb x hx
  | succ m ih =>
    intro c b hc hb x hx
    exact ih (c + 1) _ (by omega) (mcN_lt (by omega) hb) x hx
theorem c_mostCredits (h : RepB g A B σ z) (hc : hsz σ + 1 ≤ gC g) (hs : hsl σ + 4 ≤ gS g) (hQ : ∀ σ', kp (fun _ => False) 1 4 σ σ' → Q (.inl (some (vgu A (mcZ z)))) σ') : aw g 117 0 [some (.ref (A 1 0)), none, none, none] [] σ Q := by
  have hgB := rgsb h
  have loop : ∀ m c, c + m = zn z → ∀ σ1 b l3, (∀ x, b = some x → x < zn z) → kp (fun _ => False) 1 4 σ σ1 → isI g σ1 (hsz σ) (A 2 0) c → (∀ σ', kp (fun _ => False) 1 4 σ σ' → Q (.inl (some (vgu A (mcF z c m b)))) σ') → aw g 117 10 [some (.ref (A 1 0)), some (vgu A b), some (.ref (hsz σ)), l3] [] σ1 Q := by
    intro m
    induction m with
    | zero =>
      intro c hc0 σ1 b l3 hb q hi hQ1
      have h1 : RepB g A B σ1 z := (St_0 h q).1
      have e1 := fun Q' => l_hasNext (Q := Q') (rLgb h1) hi (by omega)
      have e2 : (c < zn z) = False := eq_false (by omega)
      have e3 : vRf (vgu A b) = true := by cases b <;> rfl
      have e4 : pR (vgu A b) = True := eq_true e3
      simp (config := {decide := true}) only [vRf_r, vRf_n, vI_i, vL_l, vD_d, pI_i, pR_r, pR_n, vZ_0, vZ_1, ct_i, ct_r, ct_n, ct_l, ct_d, csum_n, csum_c, kt_v, kt_n, kt_e, oc_n, oc_i, oc_r, oc_l, oc_u, oc_d, true_and, and_true, Bool.and_true, Bool.true_and, ne_eq, not_false_eq_true, not_true_eq_false, implies_true, false_imp, true_imp_iff, hsz_put, hsl_put, hln_put, hty_put, hsz_new, hsl_new, hln_new, hty_new, Nat.zero_add, Nat.add_zero, eq_self, decide_true, t32_0, t32_1, t32_2, t32_3, t32_4, t32_5, t32_6, hv_same, hv_kne, hv_tne, hv_ntne, hv_nsame, hv_ctne, hty_cpy, hln_cpy, hsz_cpy, hsl_cpy, vrn, vnr, vrr, A117_10, A117_11, A117_16, A117_56, A117_57, hi.1, e1, e2, e3, e4, if_false]
      exact hQ1 _ q
    | succ m ih =>
      intro c hc0 σ1 b l3 hb q hi hQ1
      have h1 : RepB g A B σ1 z := (St_0 h q).1
      have hcn : c < zn z := by omega
      have e1 := fun Q' => l_hasNext (Q := Q') (rLgb h1) hi (by omega)
      have e2 : (c < zn z) = True := eq_true hcn
      have e3 := fun Q' => l_next (Q := Q') (rLgb h1) hi (by omega)
      have q2 : kp (fun _ => False) 1 4 σ (nxH σ1 (hsz σ) c) := kpF_nx q (Nat.le_refl _)
      have h2 : RepB g A B (nxH σ1 (hsz σ) c) z := (St_0 h q2).1
      have hi2 := nxH_isI hi
      have e7 : (∃ t, t ∈ [5] ∧ some 5 = some t) = True := eq_true ⟨5, by decide, rfl⟩
      rw [A117_10]
      generalize nxH σ1 (hsz σ) c = σ2 at *
      have nx := ih (c + 1) (by omega) σ2 (mcN z c b) (some (.ref (A 4 c))) (mcN_lt hcn hb) q2 hi2 hQ1
      by_cases g0 : z.1 1 c 3 = 0
      · cases b with
        | none =>
          have e4 : mcN z c none = some c := if_pos g0
          rw [e4, vgu_s] at nx
          rw [vgu_n]
          simp (config := {decide := true}) only [vRf_r, vRf_n, vI_i, vL_l, vD_d, pI_i, pR_r, pR_n, vZ_0, vZ_1, ct_i, ct_r, ct_n, ct_l, ct_d, csum_n, csum_c, kt_v, kt_n, kt_e, oc_n, oc_i, oc_r, oc_l, oc_u, oc_d, true_and, and_true, Bool.and_true, Bool.true_and, ne_eq, not_false_eq_true, not_true_eq_false, implies_true, false_imp, true_imp_iff, hsz_put, hsl_put, hln_put, hty_put, hsz_new, hsl_new, hln_new, hty_new, Nat.zero_add, Nat.add_zero, eq_self, decide_true, t32_0, t32_1, t32_2, t32_3, t32_4, t32_5, t32_6, hv_same, hv_kne, hv_tne, hv_ntne, hv_nsame, hv_ctne, hty_cpy, hln_cpy, hsz_cpy, hsl_cpy, vrn, vnr, vrr, A117_11, A117_16, A117_19, A117_20, A117_25, A117_25r, A117_28, A117_29, A117_30, A117_33, A117_36, A117_37, A117_40, A117_41, A117_44, A117_45, A117_48, A117_51, A117_52, A117_53, hi.1, e1, e2, e3, e7, r5tb h2 hcn, r5gb h2 hcn, r5nb h2 hcn, r5mb h2 hcn, r5eb h2 hcn, r5db h2 hcn, r5vb h2 hcn, r5lb h2 hcn, r5pb h2 hcn, r6tb h2 hcn, r60b h2 hcn, r61b h2 hcn, r62b h2 hcn, r63b h2 hcn, r7tb h2 hcn, r7lb h2 hcn, r8tb h2 hcn, r8lb h2 hcn, r9tb h2 hcn, r9lb h2 hcn, r10tb h2 hcn, r10lb h2 hcn, rgBA h2, g0, if_true]
          exact nx
        | some y =>
          have hy := hb y rfl
          by_cases g1 : z.1 1 y 9 < z.1 1 c 9
          · have g2 : (z.1 1 c 9 ≤ z.1 1 y 9) = False := eq_false (fun e => by
              rw [Int32.le_iff_toInt_le] at e
              rw [Int32.lt_iff_toInt_lt] at g1
              omega)
            have e4 : mcN z c (some y) = some c := if_pos ⟨g0, g1⟩
            rw [e4, vgu_s] at nx
            rw [vgu_s]
            simp (config := {decide := true}) only [vRf_r, vRf_n, vI_i, vL_l, vD_d, pI_i, pR_r, pR_n, vZ_0, vZ_1, ct_i, ct_r, ct_n, ct_l, ct_d, csum_n, csum_c, kt_v, kt_n, kt_e, oc_n, oc_i, oc_r, oc_l, oc_u, oc_d, true_and, and_true, Bool.and_true, Bool.true_and, ne_eq, not_false_eq_true, not_true_eq_false, implies_true, false_imp, true_imp_iff, hsz_put, hsl_put, hln_put, hty_put, hsz_new, hsl_new, hln_new, hty_new, Nat.zero_add, Nat.add_zero, eq_self, decide_true, t32_0, t32_1, t32_2, t32_3, t32_4, t32_5, t32_6, hv_same, hv_kne, hv_tne, hv_ntne, hv_nsame, hv_ctne, hty_cpy, hln_cpy, hsz_cpy, hsl_cpy, vrn, vnr, vrr, A117_11, A117_16, A117_19, A117_20, A117_25, A117_25r, A117_28, A117_29, A117_30, A117_33, A117_36, A117_37, A117_40, A117_41, A117_44, A117_45, A117_48, A117_51, A117_52, A117_53, hi.1, e1, e2, e3, e7, r5tb h2 hcn, r5gb h2 hcn, r5nb h2 hcn, r5mb h2 hcn, r5eb h2 hcn, r5db h2 hcn, r5vb h2 hcn, r5lb h2 hcn, r5pb h2 hcn, r6tb h2 hcn, r60b h2 hcn, r61b h2 hcn, r62b h2 hcn, r63b h2 hcn, r7tb h2 hcn, r7lb h2 hcn, r8tb h2 hcn, r8lb h2 hcn, r9tb h2 hcn, r9lb h2 hcn, r10tb h2 hcn, r10lb h2 hcn, rgBA h2, r5tb h2 hy, r5gb h2 hy, r5nb h2 hy, r5mb h2 hy, r5eb h2 hy, r5db h2 hy, r5vb h2 hy, r5lb h2 hy, r5pb h2 hy, r6tb h2 hy, r60b h2 hy, r61b h2 hy, r62b h2 hy, r63b h2 hy, r7tb h2 hy, r7lb h2 hy, r8tb h2 hy, r8lb h2 hy, r9tb h2 hy, r9lb h2 hy, r10tb h2 hy, r10lb h2 hy, rgBA h2, g0, g2, if_true]
            exact nx
          · have g2 : (z.1 1 c 9 ≤ z.1 1 y 9) = True := eq_true (by
              rw [Int32.le_iff_toInt_le]
              rw [Int32.lt_iff_toInt_lt] at g1
              omega)
            have e4 : mcN z c (some y) = some y := if_neg (fun e => g1 e.2)
            rw [e4, vgu_s] at nx
            rw [vgu_s]
            simp (config := {decide := true}) only [vRf_r, vRf_n, vI_i, vL_l, vD_d, pI_i, pR_r, pR_n, vZ_0, vZ_1, ct_i, ct_r, ct_n, ct_l, ct_d, csum_n, csum_c, kt_v, kt_n, kt_e, oc_n, oc_i, oc_r, oc_l, oc_u, oc_d, true_and, and_true, Bool.and_true, Bool.true_and, ne_eq, not_false_eq_true, not_true_eq_false, implies_true, false_imp, true_imp_iff, hsz_put, hsl_put, hln_put, hty_put, hsz_new, hsl_new, hln_new, hty_new, Nat.zero_add, Nat.add_zero, eq_self, decide_true, t32_0, t32_1, t32_2, t32_3, t32_4, t32_5, t32_6, hv_same, hv_kne, hv_tne, hv_ntne, hv_nsame, hv_ctne, hty_cpy, hln_cpy, hsz_cpy, hsl_cpy, vrn, vnr, vrr, A117_11, A117_16, A117_19, A117_20, A117_25, A117_25r, A117_28, A117_29, A117_30, A117_33, A117_36, A117_37, A117_40, A117_41, A117_44, A117_45, A117_48, A117_51, A117_52, A117_53, hi.1, e1, e2, e3, e7, r5tb h2 hcn, r5gb h2 hcn, r5nb h2 hcn, r5mb h2 hcn, r5eb h2 hcn, r5db h2 hcn, r5vb h2 hcn, r5lb h2 hcn, r5pb h2 hcn, r6tb h2 hcn, r60b h2 hcn, r61b h2 hcn, r62b h2 hcn, r63b h2 hcn, r7tb h2 hcn, r7lb h2 hcn, r8tb h2 hcn, r8lb h2 hcn, r9tb h2 hcn, r9lb h2 hcn, r10tb h2 hcn, r10lb h2 hcn, rgBA h2, r5tb h2 hy, r5gb h2 hy, r5nb h2 hy, r5mb h2 hy, r5eb h2 hy, r5db h2 hy, r5vb h2 hy, r5lb h2 hy, r5pb h2 hy, r6tb h2 hy, r60b h2 hy, r61b h2 hy, r62b h2 hy, r63b h2 hy, r7tb h2 hy, r7lb h2 hy, r8tb h2 hy, r8lb h2 hy, r9tb h2 hy, r9lb h2 hy, r10tb h2 hy, r10lb h2 hy, rgBA h2, g0, g2, if_true]
            exact nx
      · have e4 : mcN z c b = b := by
          cases b with
          | none => exact if_neg g0
          | some y => exact if_neg (fun e => g0 e.1)
        rw [e4] at nx
        simp (config := {decide := true}) only [vRf_r, vRf_n, vI_i, vL_l, vD_d, pI_i, pR_r, pR_n, vZ_0, vZ_1, ct_i, ct_r, ct_n, ct_l, ct_d, csum_n, csum_c, kt_v, kt_n, kt_e, oc_n, oc_i, oc_r, oc_l, oc_u, oc_d, true_and, and_true, Bool.and_true, Bool.true_and, ne_eq, not_false_eq_true, not_true_eq_false, implies_true, false_imp, true_imp_iff, hsz_put, hsl_put, hln_put, hty_put, hsz_new, hsl_new, hln_new, hty_new, Nat.zero_add, Nat.add_zero, eq_self, decide_true, t32_0, t32_1, t32_2, t32_3, t32_4, t32_5, t32_6, hv_same, hv_kne, hv_tne, hv_ntne, hv_nsame, hv_ctne, hty_cpy, hln_cpy, hsz_cpy, hsl_cpy, vrn, vnr, vrr, A117_11, A117_16, A117_19, A117_20, A117_25, A117_25r, A117_28, A117_29, A117_30, A117_33, A117_53, hi.1, e1, e2, e3, e7, r5tb h2 hcn, r5gb h2 hcn, r5nb h2 hcn, r5mb h2 hcn, r5eb h2 hcn, r5db h2 hcn, r5vb h2 hcn, r5lb h2 hcn, r5pb h2 hcn, r6tb h2 hcn, r60b h2 hcn, r61b h2 hcn, r62b h2 hcn, r63b h2 hcn, r7tb h2 hcn, r7lb h2 hcn, r8tb h2 hcn, r8lb h2 hcn, r9tb h2 hcn, r9lb h2 hcn, r10tb h2 hcn, r10lb h2 hcn, rgBA h2, g0, if_true]
        exact nx
  have e1 := fun Q' => l_iter (Q := Q') (rLgb h) hgB
  have t3 := (rLgb h).1
  simp (config := {decide := true}) only [vRf_r, vRf_n, vI_i, vL_l, vD_d, pI_i, pR_r, pR_n, vZ_0, vZ_1, ct_i, ct_r, ct_n, ct_l, ct_d, csum_n, csum_c, kt_v, kt_n, kt_e, oc_n, oc_i, oc_r, oc_l, oc_u, oc_d, true_and, and_true, Bool.and_true, Bool.true_and, ne_eq, not_false_eq_true, not_true_eq_false, implies_true, false_imp, true_imp_iff, hsz_put, hsl_put, hln_put, hty_put, hsz_new, hsl_new, hln_new, hty_new, Nat.zero_add, Nat.add_zero, eq_self, decide_true, t32_0, t32_1, t32_2, t32_3, t32_4, t32_5, t32_6, hv_same, hv_kne, hv_tne, hv_ntne, hv_nsame, hv_ctne, hty_cpy, hln_cpy, hsz_cpy, hsl_cpy, vrn, vnr, vrr, A117_0, A117_1, A117_2, A117_3, A117_6, A117_9, r1tb h, r10_b h, r11_b h, r13_b h, r14_b h, r1sb h, rgBA h, e1, hc, hs, t3]
  exact loop (zn z) 0 (by omega) _ none _ (fun x hx => by cases hx) (itH_kp _ _) (itH_isI hgB (hty_lt t3)) hQ
theorem rfN_2 (z : ZT) (c : Nat) : (rfN z c).2 = z.2 := by unfold rfN; split <;> rfl
theorem rfF_2 : ∀ m (z : ZT) c, (rfF z c m).2 = z.2 := by
  intro m
  induction m with
  | zero => intro z c; rfl
  | succ m ih => intro z c; exact (ih _ _).trans (rfN_2 z c)
theorem c_chosen (h : RepB g A B σ z) (hc : hsz σ + 3 ≤ gC g) (hs : hsl σ + 12 ≤ gS g) (hQ : ∀ σ', St g A B B σ σ' (chosenZ z).1 3 12 → Q (.inl (some (vgu A (chosenZ z).2))) σ') : aw g 116 0 [some (.ref (A 1 0)), none, none, none] [] σ Q := by
  simp (config := {decide := true}) only [vRf_r, vRf_n, vI_i, vL_l, vD_d, pI_i, pR_r, pR_n, vZ_0, vZ_1, ct_i, ct_r, ct_n, ct_l, ct_d, csum_n, csum_c, kt_v, kt_n, kt_e, oc_n, oc_i, oc_r, oc_l, oc_u, oc_d, true_and, and_true, Bool.and_true, Bool.true_and, ne_eq, not_false_eq_true, not_true_eq_false, implies_true, false_imp, true_imp_iff, hsz_put, hsl_put, hln_put, hty_put, hsz_new, hsl_new, hln_new, hty_new, Nat.zero_add, Nat.add_zero, eq_self, decide_true, t32_0, t32_1, t32_2, t32_3, t32_4, t32_5, t32_6, hv_same, hv_kne, hv_tne, hv_ntne, hv_nsame, hv_ctne, hty_cpy, hln_cpy, hsz_cpy, hsl_cpy, vrn, vnr, vrr, A116_0, A116_1, r1tb h, r10_b h, r11_b h, r13_b h, r14_b h, r1sb h, rgBA h]
  refine c_mostCredits h (by omega) (by omega) ?_
  intro σ1 w1
  have S1 := St_0 h w1
  have h1 := S1.1
  cases hm : mcZ z with
  | none =>
    have e1 : chosenZ z = (z, none) := by unfold chosenZ; rw [hm]
    rw [vgu_n]
    rw [e1] at hQ
    simp (config := {decide := true}) only [vRf_r, vRf_n, vI_i, vL_l, vD_d, pI_i, pR_r, pR_n, vZ_0, vZ_1, ct_i, ct_r, ct_n, ct_l, ct_d, csum_n, csum_c, kt_v, kt_n, kt_e, oc_n, oc_i, oc_r, oc_l, oc_u, oc_d, true_and, and_true, Bool.and_true, Bool.true_and, ne_eq, not_false_eq_true, not_true_eq_false, implies_true, false_imp, true_imp_iff, hsz_put, hsl_put, hln_put, hty_put, hsz_new, hsl_new, hln_new, hty_new, Nat.zero_add, Nat.add_zero, eq_self, decide_true, t32_0, t32_1, t32_2, t32_3, t32_4, t32_5, t32_6, hv_same, hv_kne, hv_tne, hv_ntne, hv_nsame, hv_ctne, hty_cpy, hln_cpy, hsz_cpy, hsl_cpy, vrn, vnr, vrr, A116_4, A116_5, A116_6, A116_9, A116_10, A116_13, A116_16, A116_17]
    exact hQ _ (St_mono S1 (by omega) (by omega))
  | some b =>
    have hb : b < zn z := mcF_lt _ _ _ (by omega) (fun x hx => by cases hx) b hm
    rw [vgu_s]
    by_cases g0 : 0 < z.1 1 b 9
    · have e1 : chosenZ z = (z, some b) := by unfold chosenZ; rw [hm]; exact if_pos g0
      have g1 : (z.1 1 b 9 ≤ 0) = False := eq_false (fun e => by
        rw [Int32.le_iff_toInt_le] at e
        rw [Int32.lt_iff_toInt_lt] at g0
        omega)
      rw [e1] at hQ
      simp (config := {decide := true}) only [vRf_r, vRf_n, vI_i, vL_l, vD_d, pI_i, pR_r, pR_n, vZ_0, vZ_1, ct_i, ct_r, ct_n, ct_l, ct_d, csum_n, csum_c, kt_v, kt_n, kt_e, oc_n, oc_i, oc_r, oc_l, oc_u, oc_d, true_and, and_true, Bool.and_true, Bool.true_and, ne_eq, not_false_eq_true, not_true_eq_false, implies_true, false_imp, true_imp_iff, hsz_put, hsl_put, hln_put, hty_put, hsz_new, hsl_new, hln_new, hty_new, Nat.zero_add, Nat.add_zero, eq_self, decide_true, t32_0, t32_1, t32_2, t32_3, t32_4, t32_5, t32_6, hv_same, hv_kne, hv_tne, hv_ntne, hv_nsame, hv_ctne, hty_cpy, hln_cpy, hsz_cpy, hsl_cpy, vrn, vnr, vrr, A116_4, A116_5, A116_6, A116_9, A116_10, A116_13, A116_16, A116_17, r5tb h1 hb, r5gb h1 hb, r5nb h1 hb, r5mb h1 hb, r5eb h1 hb, r5db h1 hb, r5vb h1 hb, r5lb h1 hb, r5pb h1 hb, r6tb h1 hb, r60b h1 hb, r61b h1 hb, r62b h1 hb, r63b h1 hb, r7tb h1 hb, r7lb h1 hb, r8tb h1 hb, r8lb h1 hb, r9tb h1 hb, r9lb h1 hb, r10tb h1 hb, r10lb h1 hb, rgBA h1, g1]
      exact hQ _ (St_mono S1 (by omega) (by omega))
    · have e1 : chosenZ z = (refillZ z, mcZ (refillZ z)) := by unfold chosenZ; rw [hm]; exact if_neg g0
      have g1 : (z.1 1 b 9 ≤ 0) = True := eq_true (by
        rw [Int32.le_iff_toInt_le]
        rw [Int32.lt_iff_toInt_lt] at g0
        omega)
      rw [e1] at hQ
      have hgB := rgsb h1
      have d1 := w1.2.1
      have d2 := w1.2.2.2.1
      have hc1 : hsz σ1 + 1 ≤ gC g := by omega
      have hs1 : hsl σ1 + 4 ≤ gS g := by omega
      have hnI := nIn_new h1 hc1
      have loop : ∀ m c zc, c + m = zn zc → zn zc = zn z → ∀ σ2 l3, St g A B B σ1 σ2 zc 1 4 → isI g σ2 (hsz σ1) (A 2 0) c → (∀ σ', St g A B B σ1 σ' (rfF zc c m) 1 4 → aw g 116 80 [some (.ref (A 1 0)), some (.ref (A 4 b)), some (.ref (hsz σ1)), l3] [] σ' Q) → (∀ σ' l, St g A B B σ1 σ' (rfF zc c m) 1 4 → aw g 116 80 [some (.ref (A 1 0)), some (.ref (A 4 b)), some (.ref (hsz σ1)), l] [] σ' Q) → aw g 116 26 [some (.ref (A 1 0)), some (.ref (A 4 b)), some (.ref (hsz σ1)), l3] [] σ2 Q := by
        intro m
        induction m with
        | zero =>
          intro c zc hc0 hz σ2 l3 S2 hi hQ0 hQ1
          have e1 := fun Q' => l_hasNext (Q := Q') (rLgb S2.1) hi (by omega)
          have e2 : (c < zn zc) = False := eq_false (by omega)
          have := hQ0 _ S2
          simp (config := {decide := true}) only [vRf_r, vRf_n, vI_i, vL_l, vD_d, pI_i, pR_r, pR_n, vZ_0, vZ_1, ct_i, ct_r, ct_n, ct_l, ct_d, csum_n, csum_c, kt_v, kt_n, kt_e, oc_n, oc_i, oc_r, oc_l, oc_u, oc_d, true_and, and_true, Bool.and_true, Bool.true_and, ne_eq, not_false_eq_true, not_true_eq_false, implies_true, false_imp, true_imp_iff, hsz_put, hsl_put, hln_put, hty_put, hsz_new, hsl_new, hln_new, hty_new, Nat.zero_add, Nat.add_zero, eq_self, decide_true, t32_0, t32_1, t32_2, t32_3, t32_4, t32_5, t32_6, hv_same, hv_kne, hv_tne, hv_ntne, hv_nsame, hv_ctne, hty_cpy, hln_cpy, hsz_cpy, hsl_cpy, vrn, vnr, vrr, A116_26, A116_27, A116_32, hi.1, e1, e2, if_false]
          exact this
        | succ m ih =>
          intro c zc hc0 hz σ2 l3 S2 hi hQ0 hQ1
          have hcn : c < zn zc := by omega
          have e1 := fun Q' => l_hasNext (Q := Q') (rLgb S2.1) hi (by omega)
          have e2 : (c < zn zc) = True := eq_true hcn
          have e3 := fun Q' => l_next (Q := Q') (rLgb S2.1) hi (by omega)
          have hit := hty_lt hi.1
          have T2 : St g A B B σ1 (nxH σ2 (hsz σ1) c) zc 1 4 := ⟨RepC_kp1 (A := mix A B) S2.1 nxH_kp hgB hnI (fun _ => hi.1), S2.2.1, by
            have := kp_then S2.2.2 (nxH_kp (σ := σ2) (it := hsz σ1) (c := c)) (fun a ha e => by omega)
            rwa [Nat.add_zero, Nat.add_zero] at this⟩
          have hi2 := nxH_isI hi
          have e7 : (∃ t, t ∈ [5] ∧ some 5 = some t) = True := eq_true ⟨5, by decide, rfl⟩
          rw [A116_26]
          generalize nxH σ2 (hsz σ1) c = σ3 at *
          have h3 := T2.1
          have nx : ∀ (zd : ZT) (σ4 : AH), rfN zc c = zd → St g A B B σ1 σ4 zd 1 4 → isI g σ4 (hsz σ1) (A 2 0) (c + 1) → aw g 116 26 [some (.ref (A 1 0)), some (.ref (A 4 b)), some (.ref (hsz σ1)), some (.ref (A 4 c))] [] σ4 Q := by
            intro zd σ4 ez S4 i4
            have n4 : zn zd = zn zc := by rw [← ez]; unfold zn; rw [rfN_2]
            refine ih (c + 1) zd (by omega) (by omega) σ4 _ S4 i4 (fun σ' S5 => ?_) (fun σ' l S5 => ?_)
            · exact hQ1 _ _ (by rw [show rfF zc c (m + 1) = rfF (rfN zc c) (c + 1) m from rfl, ez]; exact S5)
            · exact hQ1 _ _ (by rw [show rfF zc c (m + 1) = rfF (rfN zc c) (c + 1) m from rfl, ez]; exact S5)
          by_cases g4 : zc.1 1 c 3 = 4
          · have e4 : rfN zc c = zc := if_pos g4
            have := nx zc σ3 e4 T2 hi2
            simp (config := {decide := true}) only [vRf_r, vRf_n, vI_i, vL_l, vD_d, pI_i, pR_r, pR_n, vZ_0, vZ_1, ct_i, ct_r, ct_n, ct_l, ct_d, csum_n, csum_c, kt_v, kt_n, kt_e, oc_n, oc_i, oc_r, oc_l, oc_u, oc_d, true_and, and_true, Bool.and_true, Bool.true_and, ne_eq, not_false_eq_true, not_true_eq_false, implies_true, false_imp, true_imp_iff, hsz_put, hsl_put, hln_put, hty_put, hsz_new, hsl_new, hln_new, hty_new, Nat.zero_add, Nat.add_zero, eq_self, decide_true, t32_0, t32_1, t32_2, t32_3, t32_4, t32_5, t32_6, hv_same, hv_kne, hv_tne, hv_ntne, hv_nsame, hv_ctne, hty_cpy, hln_cpy, hsz_cpy, hsl_cpy, vrn, vnr, vrr, A116_27, A116_32, A116_35, A116_36, A116_41, A116_41r, A116_44, A116_45, A116_46, A116_49, A116_52, A116_53, A116_55, A116_56, A116_59, A116_60, A116_61, A116_64, A116_65, A116_66, A116_69, A116_70, A116_71, A116_74, A116_77, A197_0, A197_1, A197_4, A197_5, A197_8, A197_9, A197_12, A197_13, hi.1, e1, e2, e3, e7, r5tb h3 hcn, r5gb h3 hcn, r5nb h3 hcn, r5mb h3 hcn, r5eb h3 hcn, r5db h3 hcn, r5vb h3 hcn, r5lb h3 hcn, r5pb h3 hcn, r6tb h3 hcn, r60b h3 hcn, r61b h3 hcn, r62b h3 hcn, r63b h3 hcn, r7tb h3 hcn, r7lb h3 hcn, r8tb h3 hcn, r8lb h3 hcn, r9tb h3 hcn, r9lb h3 hcn, r10tb h3 hcn, r10lb h3 hcn, rgBA h3, g4, if_true]
            exact this
          · have e4 : rfN zc c = zs zc 1 c 9 (mnI (8 * zc.1 1 c 1) (zc.1 1 c 9 + 4 * zc.1 1 c 1)) := if_neg g4
            have := nx _ _ e4 (St_put T2 4 (by decide) (rb_g (j := 9) h3 hcn (by decide))) (isI_put hi2 (by decide) (by decide))
            simp (config := {decide := true}) only [vRf_r, vRf_n, vI_i, vL_l, vD_d, pI_i, pR_r, pR_n, vZ_0, vZ_1, ct_i, ct_r, ct_n, ct_l, ct_d, csum_n, csum_c, kt_v, kt_n, kt_e, oc_n, oc_i, oc_r, oc_l, oc_u, oc_d, true_and, and_true, Bool.and_true, Bool.true_and, ne_eq, not_false_eq_true, not_true_eq_false, implies_true, false_imp, true_imp_iff, hsz_put, hsl_put, hln_put, hty_put, hsz_new, hsl_new, hln_new, hty_new, Nat.zero_add, Nat.add_zero, eq_self, decide_true, t32_0, t32_1, t32_2, t32_3, t32_4, t32_5, t32_6, hv_same, hv_kne, hv_tne, hv_ntne, hv_nsame, hv_ctne, hty_cpy, hln_cpy, hsz_cpy, hsl_cpy, vrn, vnr, vrr, A116_27, A116_32, A116_35, A116_36, A116_41, A116_41r, A116_44, A116_45, A116_46, A116_49, A116_52, A116_53, A116_55, A116_56, A116_59, A116_60, A116_61, A116_64, A116_65, A116_66, A116_69, A116_70, A116_71, A116_74, A116_77, A197_0, A197_1, A197_4, A197_5, A197_8, A197_9, A197_12, A197_13, hi.1, e1, e2, e3, e7, r5tb h3 hcn, r5gb h3 hcn, r5nb h3 hcn, r5mb h3 hcn, r5eb h3 hcn, r5db h3 hcn, r5vb h3 hcn, r5lb h3 hcn, r5pb h3 hcn, r6tb h3 hcn, r60b h3 hcn, r61b h3 hcn, r62b h3 hcn, r63b h3 hcn, r7tb h3 hcn, r7lb h3 hcn, r8tb h3 hcn, r8lb h3 hcn, r9tb h3 hcn, r9lb h3 hcn, r10tb h3 hcn, r10lb h3 hcn, rgBA h3, g4, l_min, if_true]
            exact this
      have e5 := fun Q' => l_iter (Q := Q') (rLgb h1) hgB
      have t3 := (rLgb h1).1
      have fin : ∀ σ' l, St g A B B σ1 σ' (rfF z 0 (zn z)) 1 4 → aw g 116 80 [some (.ref (A 1 0)), some (.ref (A 4 b)), some (.ref (hsz σ1)), l] [] σ' Q := by
        intro σ' l S2
        have d3 := S2.2.2.2.1
        have d4 := S2.2.2.2.2.2.1
        simp (config := {decide := true}) only [vRf_r, vRf_n, vI_i, vL_l, vD_d, pI_i, pR_r, pR_n, vZ_0, vZ_1, ct_i, ct_r, ct_n, ct_l, ct_d, csum_n, csum_c, kt_v, kt_n, kt_e, oc_n, oc_i, oc_r, oc_l, oc_u, oc_d, true_and, and_true, Bool.and_true, Bool.true_and, ne_eq, not_false_eq_true, not_true_eq_false, implies_true, false_imp, true_imp_iff, hsz_put, hsl_put, hln_put, hty_put, hsz_new, hsl_new, hln_new, hty_new, Nat.zero_add, Nat.add_zero, eq_self, decide_true, t32_0, t32_1, t32_2, t32_3, t32_4, t32_5, t32_6, hv_same, hv_kne, hv_tne, hv_ntne, hv_nsame, hv_ctne, hty_cpy, hln_cpy, hsz_cpy, hsl_cpy, vrn, vnr, vrr, A116_80, A116_81, r1tb S2.1, r10_b S2.1, r11_b S2.1, r13_b S2.1, r14_b S2.1, r1sb S2.1, rgBA S2.1]
        refine c_mostCredits S2.1 (by omega) (by omega) ?_
        intro σ5 w5
        have S3 := St_0 S2.1 w5
        have e8 : vRf (vgu A (mcZ (rfF z 0 (zn z)))) = true := by cases mcZ (rfF z 0 (zn z)) <;> rfl
        have e9 : pR (vgu A (mcZ (rfF z 0 (zn z)))) = True := eq_true e8
        simp (config := {decide := true}) only [vRf_r, vRf_n, vI_i, vL_l, vD_d, pI_i, pR_r, pR_n, vZ_0, vZ_1, ct_i, ct_r, ct_n, ct_l, ct_d, csum_n, csum_c, kt_v, kt_n, kt_e, oc_n, oc_i, oc_r, oc_l, oc_u, oc_d, true_and, and_true, Bool.and_true, Bool.true_and, ne_eq, not_false_eq_true, not_true_eq_false, implies_true, false_imp, true_imp_iff, hsz_put, hsl_put, hln_put, hty_put, hsz_new, hsl_new, hln_new, hty_new, Nat.zero_add, Nat.add_zero, eq_self, decide_true, t32_0, t32_1, t32_2, t32_3, t32_4, t32_5, t32_6, hv_same, hv_kne, hv_tne, hv_ntne, hv_nsame, hv_ctne, hty_cpy, hln_cpy, hsz_cpy, hsl_cpy, vrn, vnr, vrr, A116_84, e9]
        exact hQ _ (St_mono (St_trans S1 (St_trans S2 S3)) (by omega) (by omega))
      simp (config := {decide := true}) only [vRf_r, vRf_n, vI_i, vL_l, vD_d, pI_i, pR_r, pR_n, vZ_0, vZ_1, ct_i, ct_r, ct_n, ct_l, ct_d, csum_n, csum_c, kt_v, kt_n, kt_e, oc_n, oc_i, oc_r, oc_l, oc_u, oc_d, true_and, and_true, Bool.and_true, Bool.true_and, ne_eq, not_false_eq_true, not_true_eq_false, implies_true, false_imp, true_imp_iff, hsz_put, hsl_put, hln_put, hty_put, hsz_new, hsl_new, hln_new, hty_new, Nat.zero_add, Nat.add_zero, eq_self, decide_true, t32_0, t32_1, t32_2, t32_3, t32_4, t32_5, t32_6, hv_same, hv_kne, hv_tne, hv_ntne, hv_nsame, hv_ctne, hty_cpy, hln_cpy, hsz_cpy, hsl_cpy, vrn, vnr, vrr, A116_4, A116_5, A116_6, A116_9, A116_10, A116_13, A116_16, A116_17, A116_18, A116_19, A116_22, A116_25, r5tb h1 hb, r5gb h1 hb, r5nb h1 hb, r5mb h1 hb, r5eb h1 hb, r5db h1 hb, r5vb h1 hb, r5lb h1 hb, r5pb h1 hb, r6tb h1 hb, r60b h1 hb, r61b h1 hb, r62b h1 hb, r63b h1 hb, r7tb h1 hb, r7lb h1 hb, r8tb h1 hb, r8lb h1 hb, r9tb h1 hb, r9lb h1 hb, r10tb h1 hb, r10lb h1 hb, rgBA h1, r1tb h1, r10_b h1, r11_b h1, r13_b h1, r14_b h1, r1sb h1, rgBA h1, g1, e5, hc1, hs1, t3]
      exact loop (zn z) 0 z (by omega) rfl _ _ (St_0 h1 (itH_kp _ _)) (itH_isI hgB (hty_lt t3)) (fun σ' S => fin σ' _ S) fin
end MOST
