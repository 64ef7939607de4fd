/-! replays -/
def wU (w : Nat → Int32) (p : Nat) (v : Int32) : Nat → Int32 := fun i => if i = p then v else w i
/-- the pages that were given up behind t ops -/
def gwF (z : ZT) (k : Nat) (t : Int32) : Nat → Nat → (Nat → Int32) → (Nat → Int32)
  | _, 0, w => w
  | c, m + 1, w => gwF z k t (c + 1) m (if z.1 12 k c = t then wU w (z.1 13 k c).toNatClampNeg 0 else w)
/-- mark, place, values, how much of the log is used -/
abbrev RT : Type := Int32 × Nat × (Nat → Int32) × Nat
def rlg (z : ZT) (k p : Nat) : Bool := z.1 9 k p == 4 || z.1 9 k p == 5
def rtold (z : ZT) (k : Nat) (s : RT) : Int32 := if rlg z k s.2.1 = true then z.1 11 k s.2.2.2 else 0
def rmk (kd mk va told : Int32) : Int32 := if kd = 1 then irm (mk + va + 1) 1000 else if kd = 4 then irm (mk + told) 1000 else if kd = 5 then irm told 1000 else mk
def rwv (kd mk : Int32) (a : Nat) (w : Nat → Int32) : Nat → Int32 := if kd = 2 then wU w a (irm (3 * w a + mk + 1) 1000) else w
def rpS (z : ZT) (k : Nat) (t : Nat) (s : RT) : RT := (rmk (z.1 9 k s.2.1) s.1 (s.2.2.1 (z.1 10 k s.2.1).toNatClampNeg) (rtold z k s), (s.2.1 + 1) % z.2 2 k, gwF z k (Int32.ofNat t) 0 (z.2 4 k) (rwv (z.1 9 k s.2.1) s.1 (z.1 10 k s.2.1).toNatClampNeg s.2.2.1), if rlg z k s.2.1 = true then s.2.2.2 + 1 else s.2.2.2)
def rpF (z : ZT) (k : Nat) : Nat → Nat → RT → Option RT
  | _, 0, s => some s
  | t, m + 1, s => if rlg z k s.2.1 = true ∧ s.2.2.2 = z.2 3 k then none else rpF z k (t + 1) m (rpS z k t s)
def rp0 (z : ZT) (k : Nat) : RT := (z.1 1 k 33, (z.1 1 k 32).toNatClampNeg, gwF z k 0 0 (z.2 4 k) (fun p => z.1 7 k p), 0)
def replayZ (z : ZT) (k ops : Nat) : Option RT := if z.1 1 k 24 < Int32.ofNat ops then none else rpF z k 1 ops (rp0 z k)
/-- the rows of a past -/
def okRow (z : ZT) (k : Nat) : Prop := z.2 4 k ≤ 400 ∧ ∀ c, c < z.2 4 k → ∃ p, p < 6 ∧ z.1 13 k c = Int32.ofNat p
section REPLAY
variable {g : GC} {A B X : Nat → Nat → Nat} {σ σ' σ0 σ1 : AH} {z : ZT} {k p x y u b n : Nat} {f : Nat → Value} {w : Nat → Int32} {pl mk : Int32} {Q : AQ}
theorem mindA_ne (h : mindA g σ x y u b n f w pl mk) (hC : hsz σ ≤ gC g) : u ≠ x ∧ u ≠ y ∧ u ≠ b := by
  obtain ⟨⟨a1, _⟩, a6, a7, a8, a9⟩ := h
  refine ⟨fun e => ?_, fun e => ?_, fun e => ?_⟩
  · rw [e, a1] at a7; exact absurd (Option.some.inj a7) (by decide)
  · rw [e, a6.1] at a7; exact absurd (Option.some.inj a7) (by decide)
  · rcases isL_bty a6 with q | q
    · have := hty_lt a7; omega
    · rw [e, q] at a7; exact absurd (Option.some.inj a7) (by decide)
theorem mindA_put (h : mindA g σ x y u b n f w pl mk) (hp : p < 6) (v : Int32) : mindA g (hput σ 20 u p (.int v)) x y u b n f (wU w p v) pl mk := by
  obtain ⟨⟨a1, a2, a3, a4, a5⟩, a6, a7, a8, a9⟩ := h
  refine ⟨⟨a1, by rw [hv_tne _ (by decide)]; exact a2, by rw [hv_tne _ (by decide)]; exact a3, by rw [hv_tne _ (by decide)]; exact a4, by rw [hv_tne _ (by decide)]; exact a5⟩, isL_tag a6 (by decide) (by decide), a7, a8, fun i hi => ?_⟩
  unfold wU
  by_cases e : i = p
  · rw [if_pos e, e, hv_same]
  · rw [if_neg e, hv_kne _ e]; exact a9 i hi
theorem mindA_kp {W : Nat → Prop} {c s : Nat} (h : mindA g σ x y u b n f w pl mk) (q : kp W c s σ σ') (hx : ¬ W x) (hy : ¬ W y) (hu : ¬ W u) (hb : b < hsz σ → ¬ W b) : mindA g σ' x y u b n f w pl mk := by
  obtain ⟨⟨a1, a2, a3, a4, a5⟩, a6, a7, a8, a9⟩ := h
  have S := (q.2.2.2.2 _ (hty_lt a1)).2.2 hx 6
  have S2 := (q.2.2.2.2 _ (hty_lt a7)).2.2 hu 20
  exact ⟨⟨kp_ty q a1, by rw [S]; exact a2, by rw [S]; exact a3, by rw [S]; exact a4, by rw [S]; exact a5⟩, isL_kq a6 q hy hb, kp_ty q a7, by rw [(q.2.2.2.2 _ (hty_lt a7)).2.1]; exact a8, fun i hi => by rw [S2]; exact a9 i hi⟩
/-- what was given up behind so many ops -/
theorem c_pgive {c0 s0 : Nat} (h : RepB g A B σ0 z) (hk : k < zn z) (hs : z.1 1 k 31 = 1) (hR : okRow z k) (q : kp (fun _ => False) c0 s0 σ0 σ1) (hx : hsz σ0 ≤ x) (hy : hsz σ0 ≤ y) (hu : hsz σ0 ≤ u) (hM : mindA g σ1 x y u b n f w pl mk) (hc : hsz σ1 + 1 ≤ gC g) (hs1 : hsl σ1 + 4 ≤ gS g) (t : Int32)
    (hQ : ∀ σ', kp (fun a => a = u) 1 4 σ1 σ' → mindA g σ' x y u b n f (gwF z k t 0 (z.2 4 k) w) pl mk → Q (.inl none) σ') : aw g 104 0 [some (.ref (A 12 k)), some (.ref x), some (.int t), none, none] [] σ1 Q := by
  have hgB := rgsb h
  have h1 : RepB g A B σ1 z := (St_0 h q).1
  have hg1 := rgsb h1
  obtain ⟨_, _, ⟨f3, u5, u6⟩⟩ := rLp (A := mix A B) h hk hs
  have u5 : isL g σ0 (A 14 k) (B 34 k) (z.2 4 k) f3 := u5
  have la : A 14 k < hsz σ0 := hty_lt u5.1
  have uM : hty σ1 u = some 20 := hM.2.2.1
  have lu := hty_lt uM
  have hgu : gB g ≤ u := by omega
  have loop : ∀ m c w2 σ2 l4, c + m = z.2 4 k → kp (fun a => a = u) 1 4 σ1 σ2 → isI g σ2 (hsz σ1) (A 14 k) c → mindA g σ2 x y u b n f w2 pl mk → (∀ σ', kp (fun a => a = u) 1 4 σ1 σ' → mindA g σ' x y u b n f (gwF z k t c m w2) pl mk → Q (.inl none) σ') → aw g 104 8 [some (.ref (A 12 k)), some (.ref x), some (.int t), some (.ref (hsz σ1)), l4] [] σ2 Q := by
    intro m
    induction m with
    | zero =>
      intro c w2 σ2 l4 hcm k2 hi hM2 hQ2
      have q2 := kp_then q k2 (fun a ha e => by omega)
      have e1 := fun Q' => l_hasNext (Q := Q') (isL_kp u5 q2 (fun e => e) (fun e => e)) hi (by omega)
      have e2 : (c < z.2 4 k) = False := eq_false (by omega)
      have := hQ2 σ2 k2 hM2
      simp (config := {decide := true}) only [vRf_r, vRf_n, vI_i, vL_l, vD_d, pI_i, pR_r, pR_n, vZ_0, vZ_1, ct_i, ct_r, ct_n, ct_l, ct_d, csum_n, csum_c, kt_v, kt_n, kt_e, oc_n, oc_i, oc_r, oc_l, oc_u, oc_d, true_and, and_true, Bool.and_true, Bool.true_and, ne_eq, not_false_eq_true, not_true_eq_false, implies_true, false_imp, true_imp_iff, hsz_put, hsl_put, hln_put, hty_put, hsz_new, hsl_new, hln_new, hty_new, Nat.zero_add, Nat.add_zero, eq_self, decide_true, t32_0, t32_1, t32_2, t32_3, t32_4, t32_5, t32_6, hv_same, hv_kne, hv_tne, hv_ntne, hv_nsame, hv_ctne, hty_cpy, hln_cpy, hsz_cpy, hsl_cpy, vrn, vnr, vrr, A104_8, A104_9, A104_14, A104_49, hi.1, e1, e2, if_false]
      exact this
    | succ m ih =>
      intro c w2 σ2 l4 hcm k2 hi hM2 hQ2
      have q2 := kp_then q k2 (fun a ha e => by omega)
      have hcn : c < z.2 4 k := by omega
      have L2 := isL_kp u5 q2 (fun e => e) (fun e => e)
      have e1 := fun Q' => l_hasNext (Q := Q') L2 hi (by omega)
      have e2 : (c < z.2 4 k) = True := eq_true hcn
      have e3 := fun Q' => l_next (Q := Q') L2 hi hcn
      have e7 : (∃ t, t ∈ [20] ∧ some 20 = some t) = True := eq_true ⟨20, by decide, rfl⟩
      have hi1 := hi.1
      have kN := nxH_kp (σ := σ2) (it := hsz σ1) (c := c)
      have k3 : kp (fun a => a = u) 1 4 σ1 (nxH σ2 (hsz σ1) c) := kp_mono (kp_then k2 kN (fun a ha e => by omega)) (by omega) (by omega) (fun _ _ e => e)
      have hM3 := mindA_kp hM2 kN (by have := hty_lt hM.1.1; omega) (by have := hty_lt hM.2.1.1; omega) (by omega) (fun _ e => by
        rcases isL_bty hM.2.1 with w | w
        · omega
        · have := hty_lt w; omega)
      have hi3 := nxH_isI hi
      rw [A104_8]
      generalize nxH σ2 (hsz σ1) c = σ3 at *
      have q3 := kp_then q k3 (fun a ha e => by omega)
      obtain ⟨qr, r1, r2, r3, r4, r5, r6⟩ := RwAt_kp (A' := mix A B) (u6 c hcn) q3 (AN_refl _ _) (fun _ e => e.elim)
      obtain ⟨p, p1, p2⟩ := hR.2 c hcn
      rw [p2] at r5
      have ep : (z.1 13 k c).toNatClampNeg = p := by rw [p2, n32_nat (by omega)]
      have b1 : (Int32.ofNat p < 0) = False := n32_neg (by omega)
      have b2 : (Int32.ofNat p).toNatClampNeg = p := n32_nat (by omega)
      have b3 : (p < 6) = True := eq_true p1
      obtain ⟨⟨a1, a2, a3, a4, a5⟩, a6, a7, a8, a9⟩ := hM3
      by_cases g0 : z.1 12 k c = t
      · have ew : gwF z k t c (m + 1) w2 = gwF z k t (c + 1) m (wU w2 p 0) := by rw [gwF, if_pos g0, ep]
        have := ih (c + 1) (wU w2 p 0) (hput σ3 20 u p (.int 0)) (some (.ref qr)) (by omega) (kp_mono (kp_trans k3 (kp_put (W := fun a => a = u) (fun _ => rfl))) (by omega) (by omega) (fun _ _ e => e)) (isI_put hi3 (by decide) (by decide)) (mindA_put ⟨⟨a1, a2, a3, a4, a5⟩, a6, a7, a8, a9⟩ p1 0) (fun σ' x1 x2 => hQ2 σ' x1 (by rw [ew]; exact x2))
        rw [g0] at r4
        simp (config := {decide := true}) only [vRf_r, vRf_n, vI_i, vL_l, vD_d, pI_i, pR_r, pR_n, vZ_0, vZ_1, ct_i, ct_r, ct_n, ct_l, ct_d, csum_n, csum_c, kt_v, kt_n, kt_e, oc_n, oc_i, oc_r, oc_l, oc_u, oc_d, true_and, and_true, Bool.and_true, Bool.true_and, ne_eq, not_false_eq_true, not_true_eq_false, implies_true, false_imp, true_imp_iff, hsz_put, hsl_put, hln_put, hty_put, hsz_new, hsl_new, hln_new, hty_new, Nat.zero_add, Nat.add_zero, eq_self, decide_true, t32_0, t32_1, t32_2, t32_3, t32_4, t32_5, t32_6, hv_same, hv_kne, hv_tne, hv_ntne, hv_nsame, hv_ctne, hty_cpy, hln_cpy, hsz_cpy, hsl_cpy, vrn, vnr, vrr, A104_9, A104_14, A104_17, A104_18, A104_23, A104_23r, A104_26, A104_28, A104_30, A104_31, A104_32, A104_33, A104_36, A104_37, A104_40, A104_42, A104_43, A104_44, A104_45, A104_46, hi1, e1, e2, e3, e7, r1, r2, r3, r4, r5, a1, a3, a7, a8, b1, b2, b3, hgu, if_true]
        exact this
      · have ew : gwF z k t c (m + 1) w2 = gwF z k t (c + 1) m w2 := by rw [gwF, if_neg g0]
        have := ih (c + 1) w2 σ3 (some (.ref qr)) (by omega) k3 hi3 ⟨⟨a1, a2, a3, a4, a5⟩, a6, a7, a8, a9⟩ (fun σ' x1 x2 => hQ2 σ' x1 (by rw [ew]; exact x2))
        simp (config := {decide := true}) only [vRf_r, vRf_n, vI_i, vL_l, vD_d, pI_i, pR_r, pR_n, vZ_0, vZ_1, ct_i, ct_r, ct_n, ct_l, ct_d, csum_n, csum_c, kt_v, kt_n, kt_e, oc_n, oc_i, oc_r, oc_l, oc_u, oc_d, true_and, and_true, Bool.and_true, Bool.true_and, ne_eq, not_false_eq_true, not_true_eq_false, implies_true, false_imp, true_imp_iff, hsz_put, hsl_put, hln_put, hty_put, hsz_new, hsl_new, hln_new, hty_new, Nat.zero_add, Nat.add_zero, eq_self, decide_true, t32_0, t32_1, t32_2, t32_3, t32_4, t32_5, t32_6, hv_same, hv_kne, hv_tne, hv_ntne, hv_nsame, hv_ctne, hty_cpy, hln_cpy, hsz_cpy, hsl_cpy, vrn, vnr, vrr, A104_9, A104_14, A104_17, A104_18, A104_23, A104_23r, A104_26, A104_28, A104_30, A104_31, A104_32, A104_33, A104_36, A104_37, A104_40, A104_42, A104_43, A104_44, A104_45, A104_46, hi1, e1, e2, e3, e7, r1, r2, r3, r4, g0, if_true]
        exact this
  have p12 := r12tb h1 hk hs
  have p9 := r9_b h1 hk hs
  have L1 := isL_kp u5 q (fun e => e) (fun e => e)
  have e1 := fun Q' => l_iter (Q := Q') L1 hg1
  have t3 := L1.1
  have kI := itH_kp (σ := σ1) (fun a => a = u) (A 14 k)
  simp (config := {decide := true}) only [vRf_r, vRf_n, vI_i, vL_l, vD_d, pI_i, pR_r, pR_n, vZ_0, vZ_1, ct_i, ct_r, ct_n, ct_l, ct_d, csum_n, csum_c, kt_v, kt_n, kt_e, oc_n, oc_i, oc_r, oc_l, oc_u, oc_d, true_and, and_true, Bool.and_true, Bool.true_and, ne_eq, not_false_eq_true, not_true_eq_false, implies_true, false_imp, true_imp_iff, hsz_put, hsl_put, hln_put, hty_put, hsz_new, hsl_new, hln_new, hty_new, Nat.zero_add, Nat.add_zero, eq_self, decide_true, t32_0, t32_1, t32_2, t32_3, t32_4, t32_5, t32_6, hv_same, hv_kne, hv_tne, hv_ntne, hv_nsame, hv_ctne, hty_cpy, hln_cpy, hsz_cpy, hsl_cpy, vrn, vnr, vrr, A104_0, A104_1, A104_4, A104_7, p12, p9, e1, hc, hs1, t3]
  have lb : b < hsz σ1 ∨ gC g ≤ b := by
    rcases isL_bty hM.2.1 with w | w
    · exact Or.inr w
    · exact Or.inl (hty_lt w)
  refine loop (z.2 4 k) 0 w _ _ (by omega) kI (itH_isI hg1 (hty_lt t3)) ?_ hQ
  exact mindA_kp hM (itH_kp (fun _ => False) (A 14 k)) (fun e => e) (fun e => e) (fun e => e) (fun _ e => e)
/-- a mind behind an op -/
theorem wkH_A {kd va told : Int32} {a p : Nat} (h : mindA g σ x y u b n f w (Int32.ofNat p) mk) (ha : kd = 1 ∨ kd = 2 → a < 6) (hva : kd = 1 ∨ kd = 2 → va = w a) : mindA g (wkH σ x u kd a mk va told p n) x y u b n f (rwv kd mk a w) (Int32.ofNat ((p + 1) % n)) (rmk kd mk va told) := by
  have fin : ∀ σ' w' mk' pl', mindA g σ' x y u b n f w' pl' mk' → mindA g (hput σ' 6 x 2 (.int (Int32.ofNat ((p + 1) % n)))) x y u b n f w' (Int32.ofNat ((p + 1) % n)) mk' := by
    rintro σ' w' mk' pl' ⟨⟨a1, a2, a3, a4, a5⟩, a6, a7, a8, a9⟩
    exact ⟨⟨a1, by rw [hv_kne _ (by decide)]; exact a2, by rw [hv_kne _ (by decide)]; exact a3, by rw [hv_same], by rw [hv_kne _ (by decide)]; exact a5⟩, isL_tag a6 (by decide) (by decide), a7, a8, fun i hi => by rw [hv_tne _ (by decide)]; exact a9 i hi⟩
  have mrk : ∀ v, mindA g (hput σ 6 x 3 (.int v)) x y u b n f w (Int32.ofNat p) v := by
    obtain ⟨⟨a1, a2, a3, a4, a5⟩, a6, a7, a8, a9⟩ := h
    intro v
    exact ⟨⟨a1, by rw [hv_kne _ (by decide)]; exact a2, by rw [hv_kne _ (by decide)]; exact a3, by rw [hv_kne _ (by decide)]; exact a4, by rw [hv_same]⟩, isL_tag a6 (by decide) (by decide), a7, a8, fun i hi => by rw [hv_tne _ (by decide)]; exact a9 i hi⟩
  unfold wkH rwv rmk
  by_cases e1 : kd = 1
  · rw [if_pos e1, if_pos e1, if_neg (by rw [e1]; decide)]
    exact fin _ _ _ _ (mrk _)
  · rw [if_neg e1, if_neg e1]
    by_cases e2 : kd = 2
    · rw [if_pos e2, if_pos e2, if_neg (by rw [e2]; decide), if_neg (by rw [e2]; decide), hva (Or.inr e2)]
      exact fin _ _ _ _ (mindA_put h (ha (Or.inr e2)) _)
    · rw [if_neg e2, if_neg e2]
      by_cases e4 : kd = 4
      · rw [if_pos e4, if_pos e4]
        exact fin _ _ _ _ (mrk _)
      · rw [if_neg e4, if_neg e4]
        by_cases e5 : kd = 5
        · rw [if_pos e5, if_pos e5]
          exact fin _ _ _ _ (mrk _)
        · rw [if_neg e5, if_neg e5]
          exact fin _ _ _ _ h
end REPLAY
