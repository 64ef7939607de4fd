/-! one of a guest's lists grows; the log -/
section MLIST
variable {g : GC} {n : Nat} {M M' N N' : Nat → Nat → Nat} {a : Nat → Nat} {σ σ' : AH} {z z' : ZT} {k p i : Nat} {Q : AQ} {W : Nat → Prop} {c s : Nat}
theorem mG_but (r0 : Nat) (h : mG g N a σ z k) (q : kp W c s σ σ') (hr0 : r0 = 46 ∨ r0 = 53 ∨ r0 = 54) (hn : ∀ r, 43 < r → r ≠ r0 → r ≠ r0 + 20 → a r < hsz σ → ¬ W (a r)) (hL : Lf N σ W) (hA : AN N N' σ) :
  hty σ' (a 44) = some 7 ∧
  (∀ r, 47 ≤ r → r ≤ 52 → hty σ' (a r) = some 20 ∧ hln σ' (a r) = mal r ∧ hv σ' 7 (a 44) (mpl r) = .ref (a r) ∧ ∀ p, p < mal r → hv σ' 20 (a r) p = .int (z.1 (mak r) k p)) ∧
  (∀ j, mgp j ≠ 0 → hv σ' 7 (a 44) j = .int (z.1 1 k (mgp j))) ∧
  (hv σ' 7 (a 44) 1 = .ref (a 46) ∧ hv σ' 7 (a 44) 30 = .ref (a 53) ∧ hv σ' 7 (a 44) 31 = .ref (a 54)) ∧
  (r0 ≠ 46 → ∃ f, isL g σ' (a 46) (a 66) (z.2 2 k) f ∧ ∀ i, i < z.2 2 k → RwAt N' σ' (f i) (z.1 9 k i) (z.1 10 k i)) ∧
  (r0 ≠ 53 → ∃ f, isL g σ' (a 53) (a 73) (z.2 3 k) f ∧ ∀ i, i < z.2 3 k → InAt N' σ' (f i) (z.1 11 k i)) ∧
  (r0 ≠ 54 → ∃ f, isL g σ' (a 54) (a 74) (z.2 4 k) f ∧ ∀ i, i < z.2 4 k → RwAt N' σ' (f i) (z.1 12 k i) (z.1 13 k i)) := by
  obtain ⟨q1, q2, q3, ⟨l1, l2, l3⟩, ⟨f1, u1, u2⟩, ⟨f2, u3, u4⟩, ⟨f3, u5, u6⟩⟩ := h
  have S := (q.2.2.2.2 _ (hty_lt q1)).2.2 (hn 44 (by decide) (by omega) (by omega) (hty_lt q1)) 7
  refine ⟨kp_ty q q1, fun r h1 h2 => ?_, fun j hj => by rw [S]; exact q3 j hj, ⟨by rw [S]; exact l1, by rw [S]; exact l2, by rw [S]; exact l3⟩, fun e => ⟨f1, isL_kq u1 q (hn 46 (by decide) (by omega) (by omega) (hty_lt u1.1)) (hn 66 (by decide) (by omega) (by omega)), fun i hi => RwAt_kp (u2 i hi) q hA (fun x w l => (hL x w l).imp_left (fun e => e.2.2))⟩, fun e => ⟨f2, isL_kq u3 q (hn 53 (by decide) (by omega) (by omega) (hty_lt u3.1)) (hn 73 (by decide) (by omega) (by omega)), fun i hi => InAt_kp (u4 i hi) q hA (fun x w l => (hL x w l).imp_left (fun e => e.2.1))⟩, fun e => ⟨f3, isL_kq u5 q (hn 54 (by decide) (by omega) (by omega) (hty_lt u5.1)) (hn 74 (by decide) (by omega) (by omega)), fun i hi => RwAt_kp (u6 i hi) q hA (fun x w l => (hL x w l).imp_left (fun e => e.2.2))⟩⟩
  obtain ⟨x1, x2, x3, x4⟩ := q2 r h1 h2
  have T := q.2.2.2.2 _ (hty_lt x1)
  have T3 := T.2.2 (hn r (by omega) (by omega) (by omega) (hty_lt x1)) 20
  exact ⟨kp_ty q x1, by rw [T.2.1]; exact x2, by rw [S]; exact x3, fun p hp => by rw [T3]; exact x4 p hp⟩
/-- what the three have in common -/
theorem ml_pre {b' : Nat} (r0 : Nat) (h : RepW g M σ z) (hk : k < zn z) (q : kp W c s σ σ') (hC : hsz σ' ≤ gC g) (hr0 : r0 = 46 ∨ r0 = 53 ∨ r0 = 54) (hW : ∀ a, W a → a = M r0 k ∨ a = M (r0 + 20) k) (hb : b' = M (r0 + 20) k ∨ hsz σ ≤ b' ∧ b' < hsz σ') :
  (∀ x, W x → ∃ r, x = M r k ∧ 43 < r ∧ r ≠ 62) ∧ (∀ r i, nm M (r0 + 20) k b' r i = M r i ∨ (i = k ∧ 44 < r ∧ r ≠ 62 ∧ hsz σ ≤ nm M (r0 + 20) k b' r i)) ∧ cA g (nm M (r0 + 20) k b') σ' ∧ (∀ r, 43 < r → r ≠ r0 → r ≠ r0 + 20 → M r k < hsz σ → ¬ W (M r k)) ∧ Lf M σ W ∧ AN M (nm M (r0 + 20) k b') σ := by
  have hWg : ∀ x, W x → ∃ r, x = M r k ∧ 43 < r ∧ r ≠ 62 := by
    intro x w
    rcases hW x w with e | e
    · exact ⟨r0, e, by omega, by omega⟩
    · exact ⟨r0 + 20, e, by omega, by omega⟩
  refine ⟨hWg, fun r i => ?_, cA_nm' h.2.1 q.1 hC (wgB h) hb, fun r _ h2 h3 _ w => ?_, fun x w _ => Or.inr ?_, fun r i => ?_⟩
  · by_cases e : r = r0 + 20 ∧ i = k
    · rw [e.1, e.2, nm_at]
      exact hb.imp_right (fun e => ⟨rfl, by omega, by omega, e.1⟩)
    · rw [nm_ne e]; exact Or.inl rfl
  · rcases hW _ w with e | e
    · exact h2 (h.2.1.1 _ _ _ _ e).1
    · exact h3 (h.2.1.1 _ _ _ _ e).1
  · obtain ⟨r, e, _⟩ := hWg x w
    exact ⟨r, k, e⟩
  · by_cases e : r = r0 + 20 ∧ i = k
    · rw [e.1, e.2, nm_at]
      exact hb.imp_right (fun e => e.1)
    · rw [nm_ne e]; exact Or.inl rfl
theorem msame_zl {κ i v : Nat} (hi : i ≠ k) : msame z (zl z κ i v) k := ⟨fun _ _ => rfl, fun _ _ => rfl, zl_i _ (Ne.symm hi), zl_i _ (Ne.symm hi), zl_i _ (Ne.symm hi)⟩
theorem msame_tr {z1 z2 : ZT} (h : msame z z1 k) (h2 : msame z1 z2 k) : msame z z2 k := ⟨fun j hj => (h2.1 j hj).trans (h.1 j hj), fun κ hκ => (h2.2.1 κ hκ).trans (h.2.1 κ hκ), h2.2.2.1.trans h.2.2.1, h2.2.2.2.1.trans h.2.2.2.1, h2.2.2.2.2.trans h.2.2.2.2⟩
theorem mal_k (r : Nat) (h1 : 47 ≤ r) (h2 : r ≤ 52) : mak r ≠ 0 ∧ mak r ≠ 1 ∧ mak r ≠ 9 ∧ mak r ≠ 10 ∧ mak r ≠ 11 ∧ mak r ≠ 12 ∧ mak r ≠ 13 := by
  have h : r = 47 ∨ r = 48 ∨ r = 49 ∨ r = 50 ∨ r = 51 ∨ r = 52 := by omega
  rcases h with h | h | h | h | h | h <;> subst h <;> decide
theorem rw_log {b' : Nat} {f' : Nat → Value} {told : Int32} (h : RepW g M σ z) (hk : k < zn z) (q : kp W c s σ σ') (hC : hsz σ' ≤ gC g) (hW : ∀ a, W a → a = M 53 k ∨ a = M 73 k) (hl : isL g σ' (M 53 k) b' (z.2 3 k + 1) f') (hb : b' = M 73 k ∨ hsz σ ≤ b' ∧ b' < hsz σ') (hf : ∀ i, i < z.2 3 k → InAt (nm M 73 k b') σ' (f' i) (z.1 11 k i)) (hf2 : InAt (nm M 73 k b') σ' (f' (z.2 3 k)) told) : RepW g (nm M 73 k b') σ' (zl (zs z 11 k (z.2 3 k) told) 3 k (z.2 3 k + 1)) := by
  obtain ⟨p1, p2, p3, p4, p5, p6⟩ := ml_pre 53 h hk q hC (by decide) hW hb
  obtain ⟨y1, y2, y3, y4, y5, y6, y7⟩ := mG_but 53 (h.2.2.2 k hk) q (by decide) p4 p5 p6
  have ne : ∀ r, r ≠ 73 → nm M 73 k b' r k = M r k := fun r hr => nm_ne (by omega)
  refine RepW_one h q hk p1 p2 p3 (fun i hi => msame_tr (msame_zs (Or.inr (Or.inr (Ne.symm hi)))) (msame_zl (Ne.symm hi))) ⟨by unfold zn; rw [zl_k _ (by decide)]; rfl, by unfold zf; rw [zl_k _ (by decide)]; rfl, fun j _ => by rw [zl_1, zs_k _ (by decide)]⟩ ?_
  unfold mG
  simp only []
  rw [ne 44 (by decide), ne 46 (by decide), ne 66 (by decide), ne 53 (by decide), ne 54 (by decide), ne 74 (by decide), nm_at]
  refine ⟨y1, fun r h1 h2 => ?_, fun j hj => by rw [zl_1, zs_k _ (by decide)]; exact y3 j hj, y4, ?_, ⟨f', ?_, fun i hi => ?_⟩, ?_⟩
  · have m := mal_k r h1 h2
    rw [ne r (by omega), zl_1, zs_k _ m.2.2.2.2.1]; exact y2 r h1 h2
  · rw [zl_1, zs_k _ (by decide), zs_k _ (by decide), zl_k _ (by decide)]; exact y5 (by decide)
  · rw [zl_at]; exact hl
  · rw [zl_at] at hi
    rw [zl_1]
    by_cases e : i = z.2 3 k
    · rw [e, zs_at]; exact hf2
    · rw [zs_j _ e]; exact hf i (by omega)
  · rw [zl_1, zs_k _ (by decide), zs_k _ (by decide), zl_k _ (by decide)]; exact y7 (by decide)
theorem rw_row {b' : Nat} {f' : Nat → Value} {x y : Int32} (h : RepW g M σ z) (hk : k < zn z) (q : kp W c s σ σ') (hC : hsz σ' ≤ gC g) (hW : ∀ a, W a → a = M 54 k ∨ a = M 74 k) (hl : isL g σ' (M 54 k) b' (z.2 4 k + 1) f') (hb : b' = M 74 k ∨ hsz σ ≤ b' ∧ b' < hsz σ') (hf : ∀ i, i < z.2 4 k → RwAt (nm M 74 k b') σ' (f' i) (z.1 12 k i) (z.1 13 k i)) (hf2 : RwAt (nm M 74 k b') σ' (f' (z.2 4 k)) x y) : RepW g (nm M 74 k b') σ' (zl (zs (zs z 12 k (z.2 4 k) x) 13 k (z.2 4 k) y) 4 k (z.2 4 k + 1)) := by
  obtain ⟨p1, p2, p3, p4, p5, p6⟩ := ml_pre 54 h hk q hC (by decide) hW hb
  obtain ⟨y1, y2, y3, y4, y5, y6, y7⟩ := mG_but 54 (h.2.2.2 k hk) q (by decide) p4 p5 p6
  have ne : ∀ r, r ≠ 74 → nm M 74 k b' r k = M r k := fun r hr => nm_ne (by omega)
  refine RepW_one h q hk p1 p2 p3 (fun i hi => msame_tr (msame_tr (msame_zs (Or.inr (Or.inr (Ne.symm hi)))) (msame_zs (Or.inr (Or.inr (Ne.symm hi))))) (msame_zl (Ne.symm hi))) ⟨by unfold zn; rw [zl_k _ (by decide)]; rfl, by unfold zf; rw [zl_k _ (by decide)]; rfl, fun j _ => by rw [zl_1, zs_k _ (by decide), zs_k _ (by decide)]⟩ ?_
  unfold mG
  simp only []
  rw [ne 44 (by decide), ne 46 (by decide), ne 66 (by decide), ne 53 (by decide), ne 54 (by decide), ne 73 (by decide), nm_at]
  refine ⟨y1, fun r h1 h2 => ?_, fun j hj => by rw [zl_1, zs_k _ (by decide), zs_k _ (by decide)]; exact y3 j hj, y4, ?_, ?_, ⟨f', ?_, fun i hi => ?_⟩⟩
  · have m := mal_k r h1 h2
    rw [ne r (by omega), zl_1, zs_k _ m.2.2.2.2.2.2, zs_k _ m.2.2.2.2.2.1]; exact y2 r h1 h2
  · rw [zl_1, zs_k _ (by decide), zs_k _ (by decide), zs_k _ (by decide), zs_k _ (by decide), zl_k _ (by decide)]; exact y5 (by decide)
  · rw [zl_1, zs_k _ (by decide), zs_k _ (by decide), zl_k _ (by decide)]; exact y6 (by decide)
  · rw [zl_at]; exact hl
  · rw [zl_at] at hi
    rw [zl_1, zs_k (a := 12) _ (by decide)]
    by_cases e : i = z.2 4 k
    · rw [e, zs_at, zs_at]; exact hf2
    · rw [zs_j _ e, zs_j _ e, zs_k _ (by decide)]; exact hf i (by omega)
theorem rw_tape {b' : Nat} {f' : Nat → Value} {x y : Int32} (h : RepW g M σ z) (hk : k < zn z) (q : kp W c s σ σ') (hC : hsz σ' ≤ gC g) (hW : ∀ a, W a → a = M 46 k ∨ a = M 66 k) (hl : isL g σ' (M 46 k) b' (z.2 2 k + 1) f') (hb : b' = M 66 k ∨ hsz σ ≤ b' ∧ b' < hsz σ') (hf : ∀ i, i < z.2 2 k → RwAt (nm M 66 k b') σ' (f' i) (z.1 9 k i) (z.1 10 k i)) (hf2 : RwAt (nm M 66 k b') σ' (f' (z.2 2 k)) x y) : RepW g (nm M 66 k b') σ' (zl (zs (zs z 9 k (z.2 2 k) x) 10 k (z.2 2 k) y) 2 k (z.2 2 k + 1)) := by
  obtain ⟨p1, p2, p3, p4, p5, p6⟩ := ml_pre 46 h hk q hC (by decide) hW hb
  obtain ⟨y1, y2, y3, y4, y5, y6, y7⟩ := mG_but 46 (h.2.2.2 k hk) q (by decide) p4 p5 p6
  have ne : ∀ r, r ≠ 66 → nm M 66 k b' r k = M r k := fun r hr => nm_ne (by omega)
  refine RepW_one h q hk p1 p2 p3 (fun i hi => msame_tr (msame_tr (msame_zs (Or.inr (Or.inr (Ne.symm hi)))) (msame_zs (Or.inr (Or.inr (Ne.symm hi))))) (msame_zl (Ne.symm hi))) ⟨by unfold zn; rw [zl_k _ (by decide)]; rfl, by unfold zf; rw [zl_k _ (by decide)]; rfl, fun j _ => by rw [zl_1, zs_k _ (by decide), zs_k _ (by decide)]⟩ ?_
  unfold mG
  simp only []
  rw [ne 44 (by decide), ne 46 (by decide), ne 74 (by decide), ne 53 (by decide), ne 54 (by decide), ne 73 (by decide), nm_at]
  refine ⟨y1, fun r h1 h2 => ?_, fun j hj => by rw [zl_1, zs_k _ (by decide), zs_k _ (by decide)]; exact y3 j hj, y4, ⟨f', ?_, fun i hi => ?_⟩, ?_, ?_⟩
  · have m := mal_k r h1 h2
    rw [ne r (by omega), zl_1, zs_k _ m.2.2.2.1, zs_k _ m.2.2.1]; exact y2 r h1 h2
  · rw [zl_at]; exact hl
  · rw [zl_at] at hi
    rw [zl_1, zs_k (a := 9) _ (by decide)]
    by_cases e : i = z.2 2 k
    · rw [e, zs_at, zs_at]; exact hf2
    · rw [zs_j _ e, zs_j _ e, zs_k _ (by decide)]; exact hf i (by omega)
  · rw [zl_1, zs_k _ (by decide), zs_k _ (by decide), zl_k _ (by decide)]; exact y6 (by decide)
  · rw [zl_1, zs_k _ (by decide), zs_k _ (by decide), zs_k _ (by decide), zs_k _ (by decide), zl_k _ (by decide)]; exact y7 (by decide)
theorem w_log {told : Int32} (h : RepW g M σ z) (hk : k < zn z) (hl : z.2 3 k ≤ 60) (hb1 : b01 (z.1 1 k 31)) (hc : hsz σ + 2 ≤ gC g) (hsm : hsl σ + 101 ≤ gS g) (hQ : ∀ M' σ', SW g 60 M M' σ σ' (logZ z k told) 2 101 → Q (.inl none) σ') : aw g 208 0 [some (.ref (M 44 k)), some (.int told)] [] σ Q := by
  obtain ⟨f2, u3, u4⟩ := (h.2.2.2 k hk).2.2.2.2.2.1
  have u3 : isL g σ (M 53 k) (M 73 k) (z.2 3 k) f2 := u3
  have e1 := fun Q' => l_size (Q := Q') u3
  have t13 := u3.1
  have hgB := wgB h
  by_cases hs : z.1 1 k 31 = 1
  · by_cases e60 : z.2 3 k = 60
    · rw [e60] at e1
      have e2 : ((60 : Int32) ≤ Int32.ofNat 60) = True := eq_true (by decide)
      have := hQ M _ (SW_mono (SW_z (SW_refl 60 h) (by unfold logZ; rw [if_pos hs, if_pos e60]; exact VE_hr (VE_refl z) rfl)) (by omega) (by omega))
      simp (config := {decide := true}) only [vRf_r, vRf_n, vI_i, vL_l, vD_d, pI_i, pR_r, pR_n, vZ_0, vZ_1, ct_i, ct_r, ct_n, ct_l, ct_d, csum_n, csum_c, kt_v, kt_n, kt_e, oc_n, oc_i, oc_r, oc_l, oc_u, oc_d, true_and, and_true, Bool.and_true, Bool.true_and, ne_eq, not_false_eq_true, not_true_eq_false, implies_true, false_imp, true_imp_iff, hsz_put, hsl_put, hln_put, hty_put, hsz_new, hsl_new, hln_new, hty_new, Nat.zero_add, Nat.add_zero, eq_self, decide_true, t32_0, t32_1, t32_2, t32_3, t32_4, t32_5, t32_6, hv_same, hv_kne, hv_tne, hv_ntne, hv_nsame, hv_ctne, hty_cpy, hln_cpy, hsz_cpy, hsl_cpy, vrn, vnr, vrr, A208_0, A208_1, A208_4, A208_7, A208_8, A208_11, A208_14, A208_16, A208_19, A208_20, A208_23, A208_24, A208_27, A208_30, A208_31, wgt h hk, wg_0 h hk, wg_2 h hk, wg_3 h hk, wg_4 h hk, wg_5 h hk, wg_6 h hk, wg_7 h hk, wg_8 h hk, wg_9 h hk, wg_10 h hk, wg_11 h hk, wg_12 h hk, wg_18 h hk, wg_19 h hk, wg_20 h hk, wg_21 h hk, wg_22 h hk, wg_23 h hk, wg_24 h hk, wg_25 h hk, wg_26 h hk, wg_27 h hk, wg_29 h hk, wg_1 h hk, wg_30 h hk, wg_31 h hk, wg_13 h hk, wg_14 h hk, wg_15 h hk, wg_16 h hk, wg_17 h hk, wg_28 h hk, wt_47 h hk, wl_47 h hk, wt_48 h hk, wl_48 h hk, wt_49 h hk, wl_49 h hk, wt_50 h hk, wl_50 h hk, wt_51 h hk, wl_51 h hk, wt_52 h hk, wl_52 h hk, wgAe h, wgBe h, hs, e1, e2, t13]
      exact this
    · have e2 : ((60 : Int32) ≤ Int32.ofNat (z.2 3 k)) = False := by
        rw [show (60 : Int32) = Int32.ofNat 60 from rfl, n32_le (by omega) (by omega)]; exact eq_false (by omega)
      have e4 : logZ z k told = zl (zs z 11 k (z.2 3 k) told) 3 k (z.2 3 k + 1) := by unfold logZ; rw [if_pos hs, if_neg e60]
      rw [e4] at hQ
      simp (config := {decide := true}) only [vRf_r, vRf_n, vI_i, vL_l, vD_d, pI_i, pR_r, pR_n, vZ_0, vZ_1, ct_i, ct_r, ct_n, ct_l, ct_d, csum_n, csum_c, kt_v, kt_n, kt_e, oc_n, oc_i, oc_r, oc_l, oc_u, oc_d, true_and, and_true, Bool.and_true, Bool.true_and, ne_eq, not_false_eq_true, not_true_eq_false, implies_true, false_imp, true_imp_iff, hsz_put, hsl_put, hln_put, hty_put, hsz_new, hsl_new, hln_new, hty_new, Nat.zero_add, Nat.add_zero, eq_self, decide_true, t32_0, t32_1, t32_2, t32_3, t32_4, t32_5, t32_6, hv_same, hv_kne, hv_tne, hv_ntne, hv_nsame, hv_ctne, hty_cpy, hln_cpy, hsz_cpy, hsl_cpy, vrn, vnr, vrr, A208_0, A208_1, A208_4, A208_7, A208_8, A208_11, A208_14, A208_16, A208_19, A208_20, A208_23, A208_24, wgt h hk, wg_0 h hk, wg_2 h hk, wg_3 h hk, wg_4 h hk, wg_5 h hk, wg_6 h hk, wg_7 h hk, wg_8 h hk, wg_9 h hk, wg_10 h hk, wg_11 h hk, wg_12 h hk, wg_18 h hk, wg_19 h hk, wg_20 h hk, wg_21 h hk, wg_22 h hk, wg_23 h hk, wg_24 h hk, wg_25 h hk, wg_26 h hk, wg_27 h hk, wg_29 h hk, wg_1 h hk, wg_30 h hk, wg_31 h hk, wg_13 h hk, wg_14 h hk, wg_15 h hk, wg_16 h hk, wg_17 h hk, wg_28 h hk, wt_47 h hk, wl_47 h hk, wt_48 h hk, wl_48 h hk, wt_49 h hk, wl_49 h hk, wt_50 h hk, wl_50 h hk, wt_51 h hk, wl_51 h hk, wt_52 h hk, wl_52 h hk, wgAe h, wgBe h, hs, e1, e2, t13]
      refine l_valueOf (Bas_kp h.1 (kp_refl (fun _ => False) σ) (fun _ e => e.elim)) (by omega) (by omega) ?_
      intro σ1 c c1 c2 c3 c4
      have t13' : hty σ1 (M 53 k) = some 10 := kp_ty c3 t13
      simp (config := {decide := true}) only [vRf_r, vRf_n, vI_i, vL_l, vD_d, pI_i, pR_r, pR_n, vZ_0, vZ_1, ct_i, ct_r, ct_n, ct_l, ct_d, csum_n, csum_c, kt_v, kt_n, kt_e, oc_n, oc_i, oc_r, oc_l, oc_u, oc_d, true_and, and_true, Bool.and_true, Bool.true_and, ne_eq, not_false_eq_true, not_true_eq_false, implies_true, false_imp, true_imp_iff, hsz_put, hsl_put, hln_put, hty_put, hsz_new, hsl_new, hln_new, hty_new, Nat.zero_add, Nat.add_zero, eq_self, decide_true, t32_0, t32_1, t32_2, t32_3, t32_4, t32_5, t32_6, hv_same, hv_kne, hv_tne, hv_ntne, hv_nsame, hv_ctne, hty_cpy, hln_cpy, hsz_cpy, hsl_cpy, vrn, vnr, vrr, A208_27, t13']
      have hgw : gw (z.2 3 k) ≤ 100 := by unfold gw; omega
      have d1 := c3.2.1
      have d2 := c3.2.2.2.1
      have u3' := isL_kp u3 c3 (fun e => e) (fun e => e)
      have ub := isL_bty u3'
      have hW1 : ∀ a t, (a = M 53 k ∨ a = M 73 k) → a < hsz σ1 → hty σ1 a = some t → t = 10 ∨ t = 24 := by
        intro a t w l q
        rcases w with e | e
        · subst e; rw [t13'] at q; left; exact (Option.some.inj q).symm
        · subst e
          rcases ub with e | e
          · omega
          · rw [e] at q; right; exact (Option.some.inj q).symm
      refine l_add u3' (by omega) (by have := c3.1; omega) (by omega) (by omega) ⟨12, c1, Or.inl (by decide)⟩ ?_
      intro σ2 b' l1 k2 l2
      have q := kp_then (W := fun x => x = M 53 k ∨ x = M 73 k) (kp_mono c3 (Nat.le_refl _) (Nat.le_refl _) (fun _ _ e => e.elim)) k2 (fun _ _ e => e)
      have hC2 : hsz σ2 ≤ gC g := by have := q.2.1; omega
      have hb' : b' = M 73 k ∨ hsz σ ≤ b' ∧ b' < hsz σ2 := l2.imp_right (fun e => by have := c3.1; omega)
      have k2t : ∀ a t, hty σ1 a = some t → t ≠ 10 → t ≠ 24 → ∀ t' i, hv σ2 t' a i = hv σ1 t' a i := by
        intro a t e n1 n2
        refine (k2.2.2.2.2 a (hty_lt e)).2.2 (fun w => ?_)
        rcases hW1 a t w (hty_lt e) e with e | e
        · exact n1 e
        · exact n2 e
      have hAN : AN M (nm M 73 k b') σ := (ml_pre 53 h hk q hC2 (by decide) (fun _ e => e) hb').2.2.2.2.2
      have hAN1 : AN M (nm M 73 k b') σ1 := fun r i => by
        by_cases e : r = 73 ∧ i = k
        · rw [e.1, e.2, nm_at]; exact l2.imp_right (fun e => by omega)
        · rw [nm_ne e]; exact Or.inl rfl
      have R2 := rw_log (told := told) h hk q hC2 (fun _ e => e) l1 hb' (fun i hi => by
          rw [if_neg (by omega)]
          obtain ⟨x, x1, x2, x3, x4⟩ := InAt_kp (u4 i hi) c3 hAN (fun _ e => e.elim)
          exact ⟨x, x1, kp_ty k2 x2, by rw [k2t x 12 x2 (by decide) (by decide)]; exact x3, x4⟩) (by
          rw [if_pos rfl]
          refine ⟨c, rfl, kp_ty k2 c1, by rw [k2t c 12 c1 (by decide) (by decide)]; exact c2, AN_q (A := M) (σ := σ1) hAN1 (hty_lt c1) (fun r j e => ?_)⟩
          have h1 := h.2.1.2 r j
          have hcl := hty_lt c1
          rcases c4 with w | w
          · have := h1.1; omega
          · rcases h1.2 with v | v <;> omega)
      simp (config := {decide := true}) only [vRf_r, vRf_n, vI_i, vL_l, vD_d, pI_i, pR_r, pR_n, vZ_0, vZ_1, ct_i, ct_r, ct_n, ct_l, ct_d, csum_n, csum_c, kt_v, kt_n, kt_e, oc_n, oc_i, oc_r, oc_l, oc_u, oc_d, true_and, and_true, Bool.and_true, Bool.true_and, ne_eq, not_false_eq_true, not_true_eq_false, implies_true, false_imp, true_imp_iff, hsz_put, hsl_put, hln_put, hty_put, hsz_new, hsl_new, hln_new, hty_new, Nat.zero_add, Nat.add_zero, eq_self, decide_true, t32_0, t32_1, t32_2, t32_3, t32_4, t32_5, t32_6, hv_same, hv_kne, hv_tne, hv_ntne, hv_nsame, hv_ctne, hty_cpy, hln_cpy, hsz_cpy, hsl_cpy, vrn, vnr, vrr, A208_30, A208_31]
      refine hQ (nm M 73 k b') σ2 ⟨R2, fun r i => ?_, kp_mono q (by omega) (by omega) (fun a _ e => by
        rcases e with e | e
        · exact ⟨53, k, e, by decide⟩
        · exact ⟨73, k, e, by decide⟩)⟩
      by_cases e : r = 73 ∧ i = k
      · rw [e.1, e.2, nm_at]; exact hb'.imp_right (fun e => ⟨by decide, e.1⟩)
      · rw [nm_ne e]; exact Or.inl rfl
  · have e0 : z.1 1 k 31 = 0 := by
      rcases hb1 with e | e
      · exact e
      · exact absurd e hs
    have := hQ M _ (SW_mono (by unfold logZ; rw [if_neg hs]; exact SW_refl 60 h) (by omega) (by omega))
    simp (config := {decide := true}) only [vRf_r, vRf_n, vI_i, vL_l, vD_d, pI_i, pR_r, pR_n, vZ_0, vZ_1, ct_i, ct_r, ct_n, ct_l, ct_d, csum_n, csum_c, kt_v, kt_n, kt_e, oc_n, oc_i, oc_r, oc_l, oc_u, oc_d, true_and, and_true, Bool.and_true, Bool.true_and, ne_eq, not_false_eq_true, not_true_eq_false, implies_true, false_imp, true_imp_iff, hsz_put, hsl_put, hln_put, hty_put, hsz_new, hsl_new, hln_new, hty_new, Nat.zero_add, Nat.add_zero, eq_self, decide_true, t32_0, t32_1, t32_2, t32_3, t32_4, t32_5, t32_6, hv_same, hv_kne, hv_tne, hv_ntne, hv_nsame, hv_ctne, hty_cpy, hln_cpy, hsz_cpy, hsl_cpy, vrn, vnr, vrr, A208_0, A208_1, A208_4, A208_7, A208_8, A208_11, A208_14, A208_16, A208_19, A208_20, A208_23, A208_24, A208_27, A208_30, A208_31, wgt h hk, wg_0 h hk, wg_2 h hk, wg_3 h hk, wg_4 h hk, wg_5 h hk, wg_6 h hk, wg_7 h hk, wg_8 h hk, wg_9 h hk, wg_10 h hk, wg_11 h hk, wg_12 h hk, wg_18 h hk, wg_19 h hk, wg_20 h hk, wg_21 h hk, wg_22 h hk, wg_23 h hk, wg_24 h hk, wg_25 h hk, wg_26 h hk, wg_27 h hk, wg_29 h hk, wg_1 h hk, wg_30 h hk, wg_31 h hk, wg_13 h hk, wg_14 h hk, wg_15 h hk, wg_16 h hk, wg_17 h hk, wg_28 h hk, wt_47 h hk, wl_47 h hk, wt_48 h hk, wl_48 h hk, wt_49 h hk, wl_49 h hk, wt_50 h hk, wl_50 h hk, wt_51 h hk, wl_51 h hk, wt_52 h hk, wl_52 h hk, wgAe h, wgBe h, e0]
    exact this
end MLIST
