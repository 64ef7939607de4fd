/-! the walk of a replay -/
def rpdZ (z : ZT) (k ops : Nat) (page : Int32) : Int32 := if z.1 1 k 31 = 1 then (match replayZ z k ops with
  | none => -1
  | some s => if page = -1 then s.1 else s.2.2.1 page.toNatClampNeg) else -1
def okPast (z : ZT) (k : Nat) : Prop := okRow z k ∧ z.1 1 k 32 = Int32.ofNat (z.1 1 k 32).toNatClampNeg ∧ ∀ ops, 0 < ops → ops ≤ 200 → ¬ z.1 1 k 24 < Int32.ofNat ops → (z.1 1 k 32).toNatClampNeg < z.2 2 k
section REPLAY2
variable {g : GC} {A B X : Nat → Nat → Nat} {σ σ' σ0 σ1 : AH} {z : ZT} {k p x y u b n : Nat} {f : Nat → Value} {w : Nat → Int32} {pl mk : Int32} {Q : AQ}
theorem rlg_t (z : ZT) (k p : Nat) : (rlg z k p = true) = (z.1 9 k p = 4 ∨ z.1 9 k p = 5) := by
  unfold rlg
  simp
/-- one op of a replay, from the call of work on -/
theorem c_rstep {ops t pl : Nat} {l5 : Option Value} {mk : Int32} (h : RepB g A B σ0 z) (hk : k < zn z) (hs : z.1 1 k 31 = 1) (hT : okT z k) (hR : okRow z k) (ht : t ≤ 200) (q : kp (fun _ => False) (5 + t) (47 + 4 * t) σ0 σ1) (hx : hsz σ0 ≤ x) (hy : hsz σ0 ≤ y) (hu : hsz σ0 ≤ u) (hM : mindA g σ1 x y u b (z.2 2 k) f w (Int32.ofNat pl) mk) (hf : ∀ i, i < z.2 2 k → OpAt (mix A B) σ0 (f i) (z.1 9 k i) (z.1 10 k i)) (hp : pl < z.2 2 k) (hc : hsz σ0 + 206 ≤ gC g) (hs1 : hsl σ0 + 851 ≤ gS g) (told : Int32) (us' : Int32)
    (hQ : ∀ σ', kp (fun _ => False) (5 + (t + 1)) (47 + 4 * (t + 1)) σ0 σ' → mindA g σ' x y u b (z.2 2 k) f (gwF z k (Int32.ofNat t) 0 (z.2 4 k) (rwv (z.1 9 k pl) mk (z.1 10 k pl).toNatClampNeg w)) (Int32.ofNat ((pl + 1) % z.2 2 k)) (rmk (z.1 9 k pl) mk (w (z.1 10 k pl).toNatClampNeg) told) → aw g 103 29 [some (.ref (A 12 k)), some (.int (Int32.ofNat ops)), some (.ref x), some (.int us'), some (.int (Int32.ofNat (t + 1))), l5] [] σ' Q) : aw g 103 109 [some (.ref (A 12 k)), some (.int (Int32.ofNat ops)), some (.ref x), some (.int us'), some (.int (Int32.ofNat t)), l5] [.int told, .ref x] σ1 Q := by
  have hgB := rgsb h
  obtain ⟨kk, ka⟩ := hT.2.1 pl hp
  have o1 := OpAt_kp (A' := mix A B) (hf pl hp) q (AN_refl _ _) (fun _ e => e.elim)
  have hM0 := hM
  obtain ⟨⟨a1, a2, a3, a4, a5⟩, a6, a7, a8, a9⟩ := hM
  have hal : z.1 9 k pl = 1 ∨ z.1 9 k pl = 2 → (z.1 10 k pl) = Int32.ofNat (z.1 10 k pl).toNatClampNeg ∧ (z.1 10 k pl).toNatClampNeg < 6 := by
    intro e
    obtain ⟨a, e1, e2⟩ := ka e
    have e3 : (z.1 10 k pl).toNatClampNeg = a := by rw [e1, n32_nat (by omega)]
    rw [e3]
    exact ⟨e1, e2⟩
  have ew := fun Q' => c_work (Q := Q') (A := mix A B) (told := told) (a := (z.1 10 k pl).toNatClampNeg) (va := w (z.1 10 k pl).toNatClampNeg) a1 (by omega) a2 a6 a4 hp o1 a3 a7 a8 (by omega) a5 kk (fun e => ⟨(hal e).1, (hal e).2, a9 _ (hal e).2⟩) (by have := hT.1; omega)
  have hM2 := wkH_A (kd := z.1 9 k pl) (told := told) (a := (z.1 10 k pl).toNatClampNeg) (va := w (z.1 10 k pl).toNatClampNeg) hM0 (fun e => (hal e).2) (fun _ => rfl)
  have k2 := wkH_kp (σ := σ1) (m := x) (v := u) (kd := z.1 9 k pl) (a := (z.1 10 k pl).toNatClampNeg) (mk := mk) (va := w (z.1 10 k pl).toNatClampNeg) (told := told) (p := pl) (n := z.2 2 k)
  have q2 := kp_then q k2 (fun a ha e => by omega)
  simp (config := {decide := true}) only [vRf_r, vRf_n, vI_i, vL_l, vD_d, pI_i, pR_r, pR_n, vZ_0, vZ_1, ct_i, ct_r, ct_n, ct_l, ct_d, csum_n, csum_c, kt_v, kt_n, kt_e, oc_n, oc_i, oc_r, oc_l, oc_u, oc_d, true_and, and_true, Bool.and_true, Bool.true_and, ne_eq, not_false_eq_true, not_true_eq_false, implies_true, false_imp, true_imp_iff, hsz_put, hsl_put, hln_put, hty_put, hsz_new, hsl_new, hln_new, hty_new, Nat.zero_add, Nat.add_zero, eq_self, decide_true, t32_0, t32_1, t32_2, t32_3, t32_4, t32_5, t32_6, hv_same, hv_kne, hv_tne, hv_ntne, hv_nsame, hv_ctne, hty_cpy, hln_cpy, hsz_cpy, hsl_cpy, vrn, vnr, vrr, A103_109, a1, ew]
  generalize wkH σ1 x u (z.1 9 k pl) (z.1 10 k pl).toNatClampNeg mk (w (z.1 10 k pl).toNatClampNeg) told pl (z.2 2 k) = σ2 at *
  have h2 : RepB g A B σ2 z := (St_0 h q2).1
  have p12 := r12tb h2 hk hs
  have d1 := q2.2.1
  have d2 := q2.2.2.2.1
  have b4 := n32_inc t
  simp (config := {decide := true}) only [vRf_r, vRf_n, vI_i, vL_l, vD_d, pI_i, pR_r, pR_n, vZ_0, vZ_1, ct_i, ct_r, ct_n, ct_l, ct_d, csum_n, csum_c, kt_v, kt_n, kt_e, oc_n, oc_i, oc_r, oc_l, oc_u, oc_d, true_and, and_true, Bool.and_true, Bool.true_and, ne_eq, not_false_eq_true, not_true_eq_false, implies_true, false_imp, true_imp_iff, hsz_put, hsl_put, hln_put, hty_put, hsz_new, hsl_new, hln_new, hty_new, Nat.zero_add, Nat.add_zero, eq_self, decide_true, t32_0, t32_1, t32_2, t32_3, t32_4, t32_5, t32_6, hv_same, hv_kne, hv_tne, hv_ntne, hv_nsame, hv_ctne, hty_cpy, hln_cpy, hsz_cpy, hsl_cpy, vrn, vnr, vrr, A103_112, A103_113, A103_114, A103_116, p12]
  refine c_pgive h hk hs hR q2 hx hy hu hM2 (by omega) (by omega) (Int32.ofNat t) ?_
  intro σ3 k3 hM3
  have q3 : kp (fun _ => False) (5 + (t + 1)) (47 + 4 * (t + 1)) σ0 σ3 := kp_mono (kp_then q2 k3 (fun a ha e => by omega)) (by omega) (by omega) (fun _ _ e => e)
  have := hQ σ3 q3 hM3
  simp (config := {decide := true}) only [vRf_r, vRf_n, vI_i, vL_l, vD_d, pI_i, pR_r, pR_n, vZ_0, vZ_1, ct_i, ct_r, ct_n, ct_l, ct_d, csum_n, csum_c, kt_v, kt_n, kt_e, oc_n, oc_i, oc_r, oc_l, oc_u, oc_d, true_and, and_true, Bool.and_true, Bool.true_and, ne_eq, not_false_eq_true, not_true_eq_false, implies_true, false_imp, true_imp_iff, hsz_put, hsl_put, hln_put, hty_put, hsz_new, hsl_new, hln_new, hty_new, Nat.zero_add, Nat.add_zero, eq_self, decide_true, t32_0, t32_1, t32_2, t32_3, t32_4, t32_5, t32_6, hv_same, hv_kne, hv_tne, hv_ntne, hv_nsame, hv_ctne, hty_cpy, hln_cpy, hsz_cpy, hsl_cpy, vrn, vnr, vrr, A103_119, A103_122, b4]
  exact this
theorem rp_loop {ops : Nat} (h : RepB g A B σ0 z) (hk : k < zn z) (hs : z.1 1 k 31 = 1) (hT : okT z k) (hR : okRow z k) (h60 : z.2 3 k ≤ 60) (hops : ops ≤ 200) (hx : hsz σ0 ≤ x) (hy : hsz σ0 ≤ y) (hu : hsz σ0 ≤ u) (hf : ∀ i, i < z.2 2 k → OpAt (mix A B) σ0 (f i) (z.1 9 k i) (z.1 10 k i)) (hc : hsz σ0 + 206 ≤ gC g) (hs1 : hsl σ0 + 851 ≤ gS g) : ∀ m t pl us mk w σ1 l5, t + m = ops + 1 → kp (fun _ => False) (5 + t) (47 + 4 * t) σ0 σ1 → mindA g σ1 x y u b (z.2 2 k) f w (Int32.ofNat pl) mk → us ≤ z.2 3 k → (0 < m → pl < z.2 2 k) →
    (∀ σ', kp (fun _ => False) (6 + ops) (51 + 4 * ops) σ0 σ' → rpF z k t m (mk, pl, w, us) = none → Q (.inl (some .null)) σ') → (∀ σ' s, kp (fun _ => False) (6 + ops) (51 + 4 * ops) σ0 σ' → rpF z k t m (mk, pl, w, us) = some s → mindA g σ' x y u b (z.2 2 k) f s.2.2.1 (Int32.ofNat s.2.1) s.1 → Q (.inl (some (.ref x))) σ') →
    aw g 103 29 [some (.ref (A 12 k)), some (.int (Int32.ofNat ops)), some (.ref x), some (.int (Int32.ofNat us)), some (.int (Int32.ofNat t)), l5] [] σ1 Q := by
  have hgB := rgsb h
  intro m
  induction m with
  | zero =>
    intro t pl us mk w σ1 l5 htm q hM hus _ hQ0 hQ1
    have e1 : (Int32.ofNat ops < Int32.ofNat t) = True := by rw [n32_lt (by omega) (by omega)]; exact eq_true (by omega)
    have := hQ1 σ1 (mk, pl, w, us) (kp_mono q (by omega) (by omega) (fun _ _ e => e)) rfl hM
    simp (config := {decide := true}) only [vRf_r, vRf_n, vI_i, vL_l, vD_d, pI_i, pR_r, pR_n, vZ_0, vZ_1, ct_i, ct_r, ct_n, ct_l, ct_d, csum_n, csum_c, kt_v, kt_n, kt_e, oc_n, oc_i, oc_r, oc_l, oc_u, oc_d, true_and, and_true, Bool.and_true, Bool.true_and, ne_eq, not_false_eq_true, not_true_eq_false, implies_true, false_imp, true_imp_iff, hsz_put, hsl_put, hln_put, hty_put, hsz_new, hsl_new, hln_new, hty_new, Nat.zero_add, Nat.add_zero, eq_self, decide_true, t32_0, t32_1, t32_2, t32_3, t32_4, t32_5, t32_6, hv_same, hv_kne, hv_tne, hv_ntne, hv_nsame, hv_ctne, hty_cpy, hln_cpy, hsz_cpy, hsl_cpy, vrn, vnr, vrr, A103_29, A103_31, A103_32, A103_125, A103_126, e1]
    exact this
  | succ m ih =>
    intro t pl us mk w σ1 l5 htm q hM hus hpl hQ0 hQ1
    have hp := hpl (by omega)
    have e1 : (Int32.ofNat ops < Int32.ofNat t) = False := by rw [n32_lt (by omega) (by omega)]; exact eq_false (by omega)
    have h1 : RepB g A B σ1 z := (St_0 h q).1
    have p12 := r12tb h1 hk hs
    have p9 := r9_b h1 hk hs
    obtain ⟨_, ⟨f2, u3, u4⟩, _⟩ := rLp (A := mix A B) h1 hk hs
    have u3 : isL g σ1 (A 13 k) (B 33 k) (z.2 3 k) f2 := u3
    have e13 := fun Q' => l_size (Q := Q') u3
    have t13 := u3.1
    have o1 := OpAt_kp (A' := mix A B) (hf pl hp) q (AN_refl _ _) (fun _ e => e.elim)
    obtain ⟨qo, o2, o3, o4, o5, o6⟩ := c_op (A := mix A B) hM.1.1 hM.1.2.1 hM.2.1 hM.1.2.2.2.1 hp o1
    have a1 := hM.1.1
    have hmod : 0 < m → (pl + 1) % z.2 2 k < z.2 2 k := fun _ => Nat.mod_lt _ (by omega)
    have eus := n32_eq (i := us) (n := z.2 3 k) (by omega) (by omega)
    -- a told op
    have logd : z.1 9 k pl = 4 ∨ z.1 9 k pl = 5 → aw g 103 62 [some (.ref (A 12 k)), some (.int (Int32.ofNat ops)), some (.ref x), some (.int (Int32.ofNat us)), some (.int (Int32.ofNat t)), l5] [.int 1] σ1 Q := by
      intro hkd
      have er : rlg z k pl = true := by rw [rlg_t]; exact hkd
      by_cases hu2 : us = z.2 3 k
      · have ez : rpF z k t (m + 1) (mk, pl, w, us) = none := by rw [rpF, if_pos ⟨er, hu2⟩]
        have := hQ0 σ1 (kp_mono q (by omega) (by omega) (fun _ _ e => e)) ez
        have eus2 : (Int32.ofNat us = Int32.ofNat (z.2 3 k)) = True := eus.trans (eq_true hu2)
        simp (config := {decide := true}) only [vRf_r, vRf_n, vI_i, vL_l, vD_d, pI_i, pR_r, pR_n, vZ_0, vZ_1, ct_i, ct_r, ct_n, ct_l, ct_d, csum_n, csum_c, kt_v, kt_n, kt_e, oc_n, oc_i, oc_r, oc_l, oc_u, oc_d, true_and, and_true, Bool.and_true, Bool.true_and, ne_eq, not_false_eq_true, not_true_eq_false, implies_true, false_imp, true_imp_iff, hsz_put, hsl_put, hln_put, hty_put, hsz_new, hsl_new, hln_new, hty_new, Nat.zero_add, Nat.add_zero, eq_self, decide_true, t32_0, t32_1, t32_2, t32_3, t32_4, t32_5, t32_6, hv_same, hv_kne, hv_tne, hv_ntne, hv_nsame, hv_ctne, hty_cpy, hln_cpy, hsz_cpy, hsl_cpy, vrn, vnr, vrr, A103_62, A103_64, A103_66, A103_69, A103_70, A103_71, A103_74, A103_77, A103_80, A103_81, p12, p9, e13, t13, eus2]
        exact this
      · have ez : rpF z k t (m + 1) (mk, pl, w, us) = rpF z k (t + 1) m (rpS z k t (mk, pl, w, us)) := by rw [rpF, if_neg (fun e => hu2 e.2)]
        have eus2 : (Int32.ofNat us = Int32.ofNat (z.2 3 k)) = False := eus.trans (eq_false hu2)
        have eS : rpS z k t (mk, pl, w, us) = (rmk (z.1 9 k pl) mk (w (z.1 10 k pl).toNatClampNeg) (z.1 11 k us), (pl + 1) % z.2 2 k, gwF z k (Int32.ofNat t) 0 (z.2 4 k) (rwv (z.1 9 k pl) mk (z.1 10 k pl).toNatClampNeg w), us + 1) := by
          unfold rpS rtold
          dsimp only
          rw [if_pos er, if_pos er]
        have hlt : us < z.2 3 k := by omega
        have eg := fun Q' => l_get (Q := Q') u3 hlt
        obtain ⟨qi, i1, i2, i3, i4⟩ := u4 us hlt
        rw [i1] at eg
        have ei := fun Q' => l_intValue (g := g) (Q := Q') i2 i3
        have e712 : (∃ t, t ∈ [12] ∧ some 12 = some t) = True := eq_true ⟨12, by decide, rfl⟩
        have b4 := n32_inc us
        have := c_rstep (ops := ops) (l5 := some (.int 1)) h hk hs hT hR (by omega) q hx hy hu hM hf hp hc hs1 (z.1 11 k us) (Int32.ofNat (us + 1)) (Q := Q) (fun σ' q' hM' => ih (t + 1) ((pl + 1) % z.2 2 k) (us + 1) _ _ σ' _ (by omega) q' hM' (by omega) hmod (fun σ2 x1 x2 => hQ0 σ2 x1 (by rw [ez, eS]; exact x2)) (fun σ2 s x1 x2 x3 => hQ1 σ2 s x1 (by rw [ez, eS]; exact x2) x3))
        simp (config := {decide := true}) only [vRf_r, vRf_n, vI_i, vL_l, vD_d, pI_i, pR_r, pR_n, vZ_0, vZ_1, ct_i, ct_r, ct_n, ct_l, ct_d, csum_n, csum_c, kt_v, kt_n, kt_e, oc_n, oc_i, oc_r, oc_l, oc_u, oc_d, true_and, and_true, Bool.and_true, Bool.true_and, ne_eq, not_false_eq_true, not_true_eq_false, implies_true, false_imp, true_imp_iff, hsz_put, hsl_put, hln_put, hty_put, hsz_new, hsl_new, hln_new, hty_new, Nat.zero_add, Nat.add_zero, eq_self, decide_true, t32_0, t32_1, t32_2, t32_3, t32_4, t32_5, t32_6, hv_same, hv_kne, hv_tne, hv_ntne, hv_nsame, hv_ctne, hty_cpy, hln_cpy, hsz_cpy, hsl_cpy, vrn, vnr, vrr, A103_62, A103_64, A103_66, A103_69, A103_70, A103_71, A103_74, A103_77, A103_82, A103_83, A103_85, A103_88, A103_89, A103_92, A103_93, A103_96, A103_99, A103_99r, A103_102, A103_105, p12, p9, e13, t13, eus2, eg, i2, ei, e712, b4]
        exact this
    rw [A103_29]
    by_cases g4 : z.1 9 k pl = 4
    · have := logd (Or.inl g4)
      rw [g4] at o4
      simp (config := {decide := true}) only [vRf_r, vRf_n, vI_i, vL_l, vD_d, pI_i, pR_r, pR_n, vZ_0, vZ_1, ct_i, ct_r, ct_n, ct_l, ct_d, csum_n, csum_c, kt_v, kt_n, kt_e, oc_n, oc_i, oc_r, oc_l, oc_u, oc_d, true_and, and_true, Bool.and_true, Bool.true_and, ne_eq, not_false_eq_true, not_true_eq_false, implies_true, false_imp, true_imp_iff, hsz_put, hsl_put, hln_put, hty_put, hsz_new, hsl_new, hln_new, hty_new, Nat.zero_add, Nat.add_zero, eq_self, decide_true, t32_0, t32_1, t32_2, t32_3, t32_4, t32_5, t32_6, hv_same, hv_kne, hv_tne, hv_ntne, hv_nsame, hv_ctne, hty_cpy, hln_cpy, hsz_cpy, hsl_cpy, vrn, vnr, vrr, A103_31, A103_32, A103_35, A103_36, A103_39, A103_42, A103_43, A103_57, A103_58, e1, a1, o3, o4, o6]
      exact this
    · by_cases g5 : z.1 9 k pl = 5
      · have := logd (Or.inr g5)
        rw [g5] at o4
        simp (config := {decide := true}) only [vRf_r, vRf_n, vI_i, vL_l, vD_d, pI_i, pR_r, pR_n, vZ_0, vZ_1, ct_i, ct_r, ct_n, ct_l, ct_d, csum_n, csum_c, kt_v, kt_n, kt_e, oc_n, oc_i, oc_r, oc_l, oc_u, oc_d, true_and, and_true, Bool.and_true, Bool.true_and, ne_eq, not_false_eq_true, not_true_eq_false, implies_true, false_imp, true_imp_iff, hsz_put, hsl_put, hln_put, hty_put, hsz_new, hsl_new, hln_new, hty_new, Nat.zero_add, Nat.add_zero, eq_self, decide_true, t32_0, t32_1, t32_2, t32_3, t32_4, t32_5, t32_6, hv_same, hv_kne, hv_tne, hv_ntne, hv_nsame, hv_ctne, hty_cpy, hln_cpy, hsz_cpy, hsl_cpy, vrn, vnr, vrr, A103_31, A103_32, A103_35, A103_36, A103_39, A103_42, A103_43, A103_46, A103_47, A103_50, A103_53, A103_54, A103_57, A103_58, e1, a1, o3, o4, o6]
        exact this
      · have er : rlg z k pl = false := by
          cases e : rlg z k pl with
          | false => rfl
          | true => rw [rlg_t] at e; rcases e with e | e <;> contradiction
        have ez : rpF z k t (m + 1) (mk, pl, w, us) = rpF z k (t + 1) m (rpS z k t (mk, pl, w, us)) := by rw [rpF, if_neg (fun e => by have := e.1; rw [er] at this; cases this)]
        have eS : rpS z k t (mk, pl, w, us) = (rmk (z.1 9 k pl) mk (w (z.1 10 k pl).toNatClampNeg) 0, (pl + 1) % z.2 2 k, gwF z k (Int32.ofNat t) 0 (z.2 4 k) (rwv (z.1 9 k pl) mk (z.1 10 k pl).toNatClampNeg w), us) := by
          unfold rpS rtold
          dsimp only
          rw [er]
          rfl
        have := c_rstep (ops := ops) (l5 := some (.int 0)) h hk hs hT hR (by omega) q hx hy hu hM hf hp hc hs1 0 (Int32.ofNat us) (Q := Q) (fun σ' q' hM' => ih (t + 1) ((pl + 1) % z.2 2 k) us _ _ σ' _ (by omega) q' hM' hus hmod (fun σ2 x1 x2 => hQ0 σ2 x1 (by rw [ez, eS]; exact x2)) (fun σ2 s x1 x2 x3 => hQ1 σ2 s x1 (by rw [ez, eS]; exact x2) x3))
        simp (config := {decide := true}) only [vRf_r, vRf_n, vI_i, vL_l, vD_d, pI_i, pR_r, pR_n, vZ_0, vZ_1, ct_i, ct_r, ct_n, ct_l, ct_d, csum_n, csum_c, kt_v, kt_n, kt_e, oc_n, oc_i, oc_r, oc_l, oc_u, oc_d, true_and, and_true, Bool.and_true, Bool.true_and, ne_eq, not_false_eq_true, not_true_eq_false, implies_true, false_imp, true_imp_iff, hsz_put, hsl_put, hln_put, hty_put, hsz_new, hsl_new, hln_new, hty_new, Nat.zero_add, Nat.add_zero, eq_self, decide_true, t32_0, t32_1, t32_2, t32_3, t32_4, t32_5, t32_6, hv_same, hv_kne, hv_tne, hv_ntne, hv_nsame, hv_ctne, hty_cpy, hln_cpy, hsz_cpy, hsl_cpy, vrn, vnr, vrr, A103_31, A103_32, A103_35, A103_36, A103_39, A103_42, A103_43, A103_46, A103_47, A103_50, A103_53, A103_54, A103_61, A103_62, A103_64, A103_66, A103_82, A103_83, A103_85, A103_108, e1, a1, o3, o4, o6, g4, g5]
        exact this
theorem c_replay {ops : Nat} (h : RepB g A B σ z) (hk : k < zn z) (hs : z.1 1 k 31 = 1) (hT : okT z k) (hP : okPast z k) (h60 : z.2 3 k ≤ 60) (hops : ops ≤ 200) (hc : hsz σ + 206 ≤ gC g) (hs1 : hsl σ + 851 ≤ gS g)
    (hQ0 : ∀ σ', kp (fun _ => False) (6 + ops) (51 + 4 * ops) σ σ' → replayZ z k ops = none → Q (.inl (some .null)) σ') (hQ1 : ∀ σ' s x y u b f, kp (fun _ => False) (6 + ops) (51 + 4 * ops) σ σ' → replayZ z k ops = some s → mindA g σ' x y u b (z.2 2 k) f s.2.2.1 (Int32.ofNat s.2.1) s.1 → Q (.inl (some (.ref x))) σ') : aw g 103 0 [some (.ref (A 12 k)), some (.int (Int32.ofNat ops)), none, none, none, none] [] σ Q := by
  have hgB := rgsb h
  have p12 := r12tb h hk hs
  have p9 := r9_b h hk hs
  by_cases g0 : z.1 1 k 24 < Int32.ofNat ops
  · have ez : replayZ z k ops = none := if_pos g0
    have g1 : (Int32.ofNat ops ≤ z.1 1 k 24) = False := eq_false (fun e => by
      rw [Int32.le_iff_toInt_le] at e
      rw [Int32.lt_iff_toInt_lt] at g0
      omega)
    have := hQ0 σ (kp_mono (kp_refl _ _) (by omega) (by omega) (fun _ _ e => e)) ez
    simp (config := {decide := true}) only [vRf_r, vRf_n, vI_i, vL_l, vD_d, pI_i, pR_r, pR_n, vZ_0, vZ_1, ct_i, ct_r, ct_n, ct_l, ct_d, csum_n, csum_c, kt_v, kt_n, kt_e, oc_n, oc_i, oc_r, oc_l, oc_u, oc_d, true_and, and_true, Bool.and_true, Bool.true_and, ne_eq, not_false_eq_true, not_true_eq_false, implies_true, false_imp, true_imp_iff, hsz_put, hsl_put, hln_put, hty_put, hsz_new, hsl_new, hln_new, hty_new, Nat.zero_add, Nat.add_zero, eq_self, decide_true, t32_0, t32_1, t32_2, t32_3, t32_4, t32_5, t32_6, hv_same, hv_kne, hv_tne, hv_ntne, hv_nsame, hv_ctne, hty_cpy, hln_cpy, hsz_cpy, hsl_cpy, vrn, vnr, vrr, A103_0, A103_1, A103_2, A103_5, A103_8, A103_9, p12, p9, g1]
    exact this
  · have ez : replayZ z k ops = rpF z k 1 ops (rp0 z k) := if_neg g0
    have g1 : (Int32.ofNat ops ≤ z.1 1 k 24) = True := eq_true (by
      rw [Int32.le_iff_toInt_le]
      rw [Int32.lt_iff_toInt_lt] at g0
      omega)
    have p15 := r15tb h hk hs
    have pm := r15_b h hk hs
    obtain ⟨⟨f1, w1, w2⟩, _, _⟩ := rLp (A := mix A B) h hk hs
    have w1 : isL g σ (A 16 k) (B 36 k) (z.2 2 k) f1 := w1
    simp (config := {decide := true}) only [vRf_r, vRf_n, vI_i, vL_l, vD_d, pI_i, pR_r, pR_n, vZ_0, vZ_1, ct_i, ct_r, ct_n, ct_l, ct_d, csum_n, csum_c, kt_v, kt_n, kt_e, oc_n, oc_i, oc_r, oc_l, oc_u, oc_d, true_and, and_true, Bool.and_true, Bool.true_and, ne_eq, not_false_eq_true, not_true_eq_false, implies_true, false_imp, true_imp_iff, hsz_put, hsl_put, hln_put, hty_put, hsz_new, hsl_new, hln_new, hty_new, Nat.zero_add, Nat.add_zero, eq_self, decide_true, t32_0, t32_1, t32_2, t32_3, t32_4, t32_5, t32_6, hv_same, hv_kne, hv_tne, hv_ntne, hv_nsame, hv_ctne, hty_cpy, hln_cpy, hsz_cpy, hsl_cpy, vrn, vnr, vrr, A103_0, A103_1, A103_2, A103_5, A103_10, A103_11, A103_14, p12, p9, g1, p15]
    refine c_mindCopy (w := fun p => z.1 7 k p) h.1 ⟨⟨p15, pm.1, pm.2.1, pm.2.2.1, pm.2.2.2⟩, w1, r17tb h hk hs, r17lb h hk hs, fun p hp => r17vb h hk hs hp⟩ hT.1 (by omega) (by omega) ?_
    intro σ1 x y u b k1 i1 i2 i3 i4 i5 hM
    have h1 : RepB g A B σ1 z := (St_0 h k1).1
    have p12' := r12tb h1 hk hs
    have d1 := k1.2.1
    have d2 := k1.2.2.2.1
    simp (config := {decide := true}) only [vRf_r, vRf_n, vI_i, vL_l, vD_d, pI_i, pR_r, pR_n, vZ_0, vZ_1, ct_i, ct_r, ct_n, ct_l, ct_d, csum_n, csum_c, kt_v, kt_n, kt_e, oc_n, oc_i, oc_r, oc_l, oc_u, oc_d, true_and, and_true, Bool.and_true, Bool.true_and, ne_eq, not_false_eq_true, not_true_eq_false, implies_true, false_imp, true_imp_iff, hsz_put, hsl_put, hln_put, hty_put, hsz_new, hsl_new, hln_new, hty_new, Nat.zero_add, Nat.add_zero, eq_self, decide_true, t32_0, t32_1, t32_2, t32_3, t32_4, t32_5, t32_6, hv_same, hv_kne, hv_tne, hv_ntne, hv_nsame, hv_ctne, hty_cpy, hln_cpy, hsz_cpy, hsl_cpy, vrn, vnr, vrr, A103_17, A103_18, A103_19, A103_20, A103_21, A103_22, A103_23, p12']
    have hM' : mindA g σ1 x y u b (z.2 2 k) f1 (fun p => z.1 7 k p) (Int32.ofNat (z.1 1 k 32).toNatClampNeg) (z.1 1 k 33) := by rw [← hP.2.1]; exact hM
    refine c_pgive h hk hs hP.1 k1 (by omega) (by omega) (by omega) hM' (by omega) (by omega) 0 ?_
    intro σ2 k2 hM2
    have q2 : kp (fun _ => False) (5 + 1) (47 + 4 * 1) σ σ2 := kp_mono (kp_then k1 k2 (fun a ha e => by omega)) (by omega) (by omega) (fun _ _ e => e)
    have := rp_loop (Q := Q) (ops := ops) h hk hs hT hP.1 h60 hops (x := x) (y := y) (u := u) (by omega) (by omega) (by omega) w2 hc hs1 ops 1 (z.1 1 k 32).toNatClampNeg 0 (z.1 1 k 33) _ σ2 none (by omega) q2 hM2 (Nat.zero_le _) (fun e => hP.2.2 ops e hops g0) (fun σ' x1 x2 => hQ0 σ' x1 (by rw [ez]; exact x2)) (fun σ' s x1 x2 x3 => hQ1 σ' s x y u b f1 x1 (by rw [ez]; exact x2) x3)
    rw [show Int32.ofNat 0 = 0 from rfl, show Int32.ofNat 1 = 1 from rfl] at this
    simp (config := {decide := true}) only [vRf_r, vRf_n, vI_i, vL_l, vD_d, pI_i, pR_r, pR_n, vZ_0, vZ_1, ct_i, ct_r, ct_n, ct_l, ct_d, csum_n, csum_c, kt_v, kt_n, kt_e, oc_n, oc_i, oc_r, oc_l, oc_u, oc_d, true_and, and_true, Bool.and_true, Bool.true_and, ne_eq, not_false_eq_true, not_true_eq_false, implies_true, false_imp, true_imp_iff, hsz_put, hsl_put, hln_put, hty_put, hsz_new, hsl_new, hln_new, hty_new, Nat.zero_add, Nat.add_zero, eq_self, decide_true, t32_0, t32_1, t32_2, t32_3, t32_4, t32_5, t32_6, hv_same, hv_kne, hv_tne, hv_ntne, hv_nsame, hv_ctne, hty_cpy, hln_cpy, hsz_cpy, hsl_cpy, vrn, vnr, vrr, A103_26, A103_27]
    exact this
theorem c_replayedOf {ops : Nat} {page : Int32} (h : RepB g A B σ z) (hk : k < zn z) (hT : okT z k) (hP : z.1 1 k 31 = 1 → okPast z k) (h60 : z.2 3 k ≤ 60) (hops : ops ≤ 200) (hp : page = -1 ∨ ∃ p, p < 6 ∧ page = Int32.ofNat p) (hc : hsz σ + 206 ≤ gC g) (hs1 : hsl σ + 851 ≤ gS g)
    (hQ : ∀ σ', kp (fun _ => False) (6 + ops) (51 + 4 * ops) σ σ' → Q (.inl (some (.int (rpdZ z k ops page)))) σ') : aw g 70 0 [some (.ref (A 4 k)), some (.int (Int32.ofNat ops)), some (.int page), none] [] σ Q := by
  by_cases hs : z.1 1 k 31 = 1
  · have p12 := r12tb h hk hs
    simp (config := {decide := true}) only [vRf_r, vRf_n, vI_i, vL_l, vD_d, pI_i, pR_r, pR_n, vZ_0, vZ_1, ct_i, ct_r, ct_n, ct_l, ct_d, csum_n, csum_c, kt_v, kt_n, kt_e, oc_n, oc_i, oc_r, oc_l, oc_u, oc_d, true_and, and_true, Bool.and_true, Bool.true_and, ne_eq, not_false_eq_true, not_true_eq_false, implies_true, false_imp, true_imp_iff, hsz_put, hsl_put, hln_put, hty_put, hsz_new, hsl_new, hln_new, hty_new, Nat.zero_add, Nat.add_zero, eq_self, decide_true, t32_0, t32_1, t32_2, t32_3, t32_4, t32_5, t32_6, hv_same, hv_kne, hv_tne, hv_ntne, hv_nsame, hv_ctne, hty_cpy, hln_cpy, hsz_cpy, hsl_cpy, vrn, vnr, vrr, A70_0, A70_1, A70_4, A70_11, A70_12, A70_15, A70_16, r5tb h hk, r5gb h hk, r5nb h hk, r5mb h hk, r5eb h hk, r5db h hk, r5vb h hk, r5lb h hk, r5pb h hk, r6tb h hk, r60b h hk, r61b h hk, r62b h hk, r63b h hk, r7tb h hk, r7lb h hk, r8tb h hk, r8lb h hk, r9tb h hk, r9lb h hk, r10tb h hk, r10lb h hk, rgBA h, hs, p12, if_true]
    refine c_replay h hk hs hT (hP hs) h60 hops hc hs1 ?_ ?_
    · intro σ1 k1 ez
      have e1 : rpdZ z k ops page = -1 := by unfold rpdZ; rw [if_pos hs, ez]
      have := hQ σ1 k1
      rw [e1] at this
      simp (config := {decide := true}) only [vRf_r, vRf_n, vI_i, vL_l, vD_d, pI_i, pR_r, pR_n, vZ_0, vZ_1, ct_i, ct_r, ct_n, ct_l, ct_d, csum_n, csum_c, kt_v, kt_n, kt_e, oc_n, oc_i, oc_r, oc_l, oc_u, oc_d, true_and, and_true, Bool.and_true, Bool.true_and, ne_eq, not_false_eq_true, not_true_eq_false, implies_true, false_imp, true_imp_iff, hsz_put, hsl_put, hln_put, hty_put, hsz_new, hsl_new, hln_new, hty_new, Nat.zero_add, Nat.add_zero, eq_self, decide_true, t32_0, t32_1, t32_2, t32_3, t32_4, t32_5, t32_6, hv_same, hv_kne, hv_tne, hv_ntne, hv_nsame, hv_ctne, hty_cpy, hln_cpy, hsz_cpy, hsl_cpy, vrn, vnr, vrr, A70_19, A70_20, A70_21, A70_24, A70_25]
      exact this
    · intro σ1 s x y u b f k1 ez hM
      obtain ⟨⟨a1, a2, a3, a4, a5⟩, a6, a7, a8, a9⟩ := hM
      have e1 : rpdZ z k ops page = if page = -1 then s.1 else s.2.2.1 page.toNatClampNeg := by unfold rpdZ; rw [if_pos hs, ez]
      have := hQ σ1 k1
      rw [e1] at this
      rcases hp with e | ⟨p, p1, e⟩
      · subst e
        rw [if_pos rfl] at this
        simp (config := {decide := true}) only [vRf_r, vRf_n, vI_i, vL_l, vD_d, pI_i, pR_r, pR_n, vZ_0, vZ_1, ct_i, ct_r, ct_n, ct_l, ct_d, csum_n, csum_c, kt_v, kt_n, kt_e, oc_n, oc_i, oc_r, oc_l, oc_u, oc_d, true_and, and_true, Bool.and_true, Bool.true_and, ne_eq, not_false_eq_true, not_true_eq_false, implies_true, false_imp, true_imp_iff, hsz_put, hsl_put, hln_put, hty_put, hsz_new, hsl_new, hln_new, hty_new, Nat.zero_add, Nat.add_zero, eq_self, decide_true, t32_0, t32_1, t32_2, t32_3, t32_4, t32_5, t32_6, hv_same, hv_kne, hv_tne, hv_ntne, hv_nsame, hv_ctne, hty_cpy, hln_cpy, hsz_cpy, hsl_cpy, vrn, vnr, vrr, A70_19, A70_20, A70_21, A70_26, A70_27, A70_28, A70_31, A70_32, A70_35, A70_44, a1, a5]
        exact this
      · have b0 : (Int32.ofNat p = -1) = False := n32_m1 (by omega)
        have b1 : (Int32.ofNat p < 0) = False := n32_neg (by omega)
        have b2 : (Int32.ofNat p).toNatClampNeg = p := n32_nat (by omega)
        have b3 : (p < 6) = True := eq_true p1
        subst e
        rw [if_neg (fun e => by rw [b0] at e; exact e), b2] at this
        have a9 := a9 p p1
        simp (config := {decide := true}) only [vRf_r, vRf_n, vI_i, vL_l, vD_d, pI_i, pR_r, pR_n, vZ_0, vZ_1, ct_i, ct_r, ct_n, ct_l, ct_d, csum_n, csum_c, kt_v, kt_n, kt_e, oc_n, oc_i, oc_r, oc_l, oc_u, oc_d, true_and, and_true, Bool.and_true, Bool.true_and, ne_eq, not_false_eq_true, not_true_eq_false, implies_true, false_imp, true_imp_iff, hsz_put, hsl_put, hln_put, hty_put, hsz_new, hsl_new, hln_new, hty_new, Nat.zero_add, Nat.add_zero, eq_self, decide_true, t32_0, t32_1, t32_2, t32_3, t32_4, t32_5, t32_6, hv_same, hv_kne, hv_tne, hv_ntne, hv_nsame, hv_ctne, hty_cpy, hln_cpy, hsz_cpy, hsl_cpy, vrn, vnr, vrr, A70_19, A70_20, A70_21, A70_26, A70_27, A70_28, A70_38, A70_39, A70_42, A70_43, A70_44, a1, a3, a7, a8, a9, b0, b1, b2, b3]
        exact this
  · have e1 : rpdZ z k ops page = -1 := by unfold rpdZ; rw [if_neg hs]
    have := hQ σ (kp_mono (kp_refl _ _) (by omega) (by omega) (fun _ _ e => e))
    rw [e1] at this
    simp (config := {decide := true}) only [vRf_r, vRf_n, vI_i, vL_l, vD_d, pI_i, pR_r, pR_n, vZ_0, vZ_1, ct_i, ct_r, ct_n, ct_l, ct_d, csum_n, csum_c, kt_v, kt_n, kt_e, oc_n, oc_i, oc_r, oc_l, oc_u, oc_d, true_and, and_true, Bool.and_true, Bool.true_and, ne_eq, not_false_eq_true, not_true_eq_false, implies_true, false_imp, true_imp_iff, hsz_put, hsl_put, hln_put, hty_put, hsz_new, hsl_new, hln_new, hty_new, Nat.zero_add, Nat.add_zero, eq_self, decide_true, t32_0, t32_1, t32_2, t32_3, t32_4, t32_5, t32_6, hv_same, hv_kne, hv_tne, hv_ntne, hv_nsame, hv_ctne, hty_cpy, hln_cpy, hsz_cpy, hsl_cpy, vrn, vnr, vrr, A70_0, A70_1, A70_4, A70_7, A70_8, A70_19, A70_20, A70_21, A70_24, A70_25, r5tb h hk, r5gb h hk, r5nb h hk, r5mb h hk, r5eb h hk, r5db h hk, r5vb h hk, r5lb h hk, r5pb h hk, r6tb h hk, r60b h hk, r61b h hk, r62b h hk, r63b h hk, r7tb h hk, r7lb h hk, r8tb h hk, r8lb h hk, r9tb h hk, r9lb h hk, r10tb h hk, r10lb h hk, rgBA h, hs, if_false]
    exact this
end REPLAY2
