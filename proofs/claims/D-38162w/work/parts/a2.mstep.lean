/-! a step of the model's -/
/-- the same in what the model holds -/
def VE (z z' : ZT) : Prop := z'.2 = z.2 ∧ ∀ κ i j, mhid κ j = false → z'.1 κ i j = z.1 κ i j
def FM (M : Nat → Nat → Nat) (a : Nat) : Prop := ∃ r k, a = M r k ∧ 40 < r
def NK (n : Nat) (M M' : Nat → Nat → Nat) (σ : AH) : Prop := ∀ r k, M' r k = M r k ∨ (n ≤ r ∧ hsz σ ≤ M' r k)
def SW (g : GC) (n : Nat) (M M' : Nat → Nat → Nat) (σ σ' : AH) (z' : ZT) (c s : Nat) : Prop := RepW g M' σ' z' ∧ NK n M M' σ ∧ kp (FM M) c s σ σ'
section MSTEP
variable {g : GC} {n : Nat} {M M' : Nat → Nat → Nat} {σ σ' : AH} {z z' : ZT} {k p i : Nat} {Q : AQ}
theorem VE_refl (z : ZT) : VE z z := ⟨rfl, fun _ _ _ _ => rfl⟩
theorem VE_symm (h : VE z z') : VE z' z := ⟨h.1.symm, fun κ i j e => (h.2 κ i j e).symm⟩
theorem VE_trans {z2 : ZT} (h : VE z z') (k : VE z' z2) : VE z z2 := ⟨k.1.trans h.1, fun κ i j e => (k.2 κ i j e).trans (h.2 κ i j e)⟩
theorem VE_zs {κ i j : Nat} {v : Int32} (h : VE z z') : VE (zs z κ i j v) (zs z' κ i j v) := ⟨h.1, fun κ' i' j' e => by
  show (if _ then _ else _) = (if _ then _ else _)
  rw [h.2 κ' i' j' e]⟩
theorem VE_zl {κ i v : Nat} (h : VE z z') : VE (zl z κ i v) (zl z' κ i v) := ⟨by
  show (fun a b => if a = κ ∧ b = i then v else z'.2 a b) = _
  rw [h.1]; rfl, h.2⟩
theorem VE_hr {κ i j : Nat} {v : Int32} (h : VE z z') (hh : mhid κ j = true) : VE z (zs z' κ i j v) := ⟨h.1, fun κ' i' j' e => by
  show (if _ then _ else _) = _
  rw [if_neg (fun q => by rw [q.1, q.2.2, hh] at e; cases e)]
  exact h.2 κ' i' j' e⟩
theorem VE_hl {κ i j : Nat} {v : Int32} (h : VE z z') (hh : mhid κ j = true) : VE (zs z κ i j v) z' := VE_symm (VE_hr (VE_symm h) hh)
theorem zs_comm {κ i j κ' i' j' : Nat} {v w : Int32} (h : κ ≠ κ' ∨ i ≠ i' ∨ j ≠ j') : zs (zs z κ i j v) κ' i' j' w = zs (zs z κ' i' j' w) κ i j v := by
  refine Prod.ext ?_ rfl
  funext a b c
  show (if _ then _ else if _ then _ else _) = (if _ then _ else if _ then _ else _)
  by_cases e1 : a = κ' ∧ b = i' ∧ c = j'
  · rw [if_pos e1, if_neg (by omega), if_pos e1]
  · by_cases e2 : a = κ ∧ b = i ∧ c = j
    · rw [if_neg e1, if_pos e2, if_pos e2]
    · rw [if_neg e1, if_neg e2, if_neg e2, if_neg e1]
theorem zs_zs {κ i j : Nat} {v w : Int32} : zs (zs z κ i j v) κ i j w = zs z κ i j w := by
  refine Prod.ext ?_ rfl
  funext a b c
  show (if _ then _ else if _ then _ else _) = (if _ then _ else _)
  by_cases e1 : a = κ ∧ b = i ∧ c = j
  · rw [if_pos e1, if_pos e1]
  · rw [if_neg e1, if_neg e1, if_neg e1]
theorem zs_id {κ i j : Nat} {v : Int32} (h : z.1 κ i j = v) : zs z κ i j v = z := by
  refine Prod.ext ?_ rfl
  funext a b c
  show (if _ then _ else _) = _
  by_cases e1 : a = κ ∧ b = i ∧ c = j
  · rw [if_pos e1, e1.1, e1.2.1, e1.2.2, h]
  · rw [if_neg e1]
theorem RepW_VE (h : RepW g M σ z) (e : VE z z') : RepW g M σ z' := by
  refine RepW_z h ⟨by unfold zn; rw [e.1], by unfold zf; rw [e.1], fun j hj => ?_⟩ (fun k _ => ⟨fun j hj => ?_, fun κ hκ => ?_, by rw [e.1], by rw [e.1], by rw [e.1]⟩)
  · exact e.2 _ _ _ ((by decide : ∀ j : Fin 10, mwp j.1 ≠ 0 → mhid 0 (mwp j.1) = false) ⟨j, mwp_lt hj⟩ hj)
  · exact e.2 _ _ _ ((by decide : ∀ j : Fin 30, mgp j.1 ≠ 0 → mhid 1 (mgp j.1) = false) ⟨j, mgp_lt hj⟩ hj)
  · funext j
    refine e.2 _ _ _ ?_
    rcases hκ with e1 | e1 | e1 | e1 | e1 | e1 | e1 | e1 | e1 | e1 | e1 <;> subst e1 <;> rfl
theorem NK_refl (n : Nat) (M : Nat → Nat → Nat) (σ : AH) : NK n M M σ := fun _ _ => Or.inl rfl
theorem NK_trans {M1 M2 : Nat → Nat → Nat} {σ1 : AH} (h : NK n M M1 σ) (k : NK n M1 M2 σ1) (hs : hsz σ ≤ hsz σ1) : NK n M M2 σ := by
  intro r j
  rcases k r j with e1 | ⟨e1, e2⟩
  · rw [e1]; exact h r j
  · exact Or.inr ⟨e1, by omega⟩
theorem NK_AN (h : NK n M M' σ) : AN M M' σ := fun r k => (h r k).imp_right (fun e => e.2)
theorem FM_NK (h : NK n M M' σ) {a : Nat} (ha : a < hsz σ) (q : FM M' a) : FM M a := by
  obtain ⟨r, k, e, q1⟩ := q
  refine ⟨r, k, ?_, q1⟩
  rcases h r k with x | ⟨_, y⟩
  · rw [← x]; exact e
  · omega
theorem SW_refl (n : Nat) (h : RepW g M σ z) : SW g n M M σ σ z 0 0 := ⟨h, NK_refl n M σ, kp_refl _ σ⟩
theorem SW_0 (n : Nat) (h : RepW g M σ z) {c s : Nat} (q : kp (fun _ => False) c s σ σ') : SW g n M M σ σ' z c s := ⟨RepW_kp0 h q, NK_refl n M σ, kp_mono q (Nat.le_refl _) (Nat.le_refl _) (fun _ _ e => e.elim)⟩
theorem SW_mono {c s c' s' : Nat} (h : SW g n M M' σ σ' z' c s) (hc : c ≤ c') (hs : s ≤ s') : SW g n M M' σ σ' z' c' s' := ⟨h.1, h.2.1, kp_mono h.2.2 hc hs (fun _ _ e => e)⟩
theorem SW_n {m c s : Nat} (h : SW g n M M' σ σ' z' c s) (hm : m ≤ n) : SW g m M M' σ σ' z' c s := ⟨h.1, fun r k => (h.2.1 r k).imp_right (fun e => ⟨by omega, e.2⟩), h.2.2⟩
theorem SW_trans {M1 M2 : Nat → Nat → Nat} {σ1 σ2 : AH} {z1 z2 : ZT} {c1 s1 c2 s2 : Nat} (h : SW g n M M1 σ σ1 z1 c1 s1) (k : SW g n M1 M2 σ1 σ2 z2 c2 s2) : SW g n M M2 σ σ2 z2 (c1 + c2) (s1 + s2) :=
  ⟨k.1, NK_trans h.2.1 k.2.1 h.2.2.1, kp_then h.2.2 k.2.2 (fun _ ha q => FM_NK h.2.1 ha q)⟩
theorem SW_put {M1 : Nat → Nat → Nat} {z1 z2 : ZT} {c s : Nat} (h : SW g n M M1 σ σ' z1 c s) (r : Nat) {k t j : Nat} {x : Value} (hr : 40 < r) (q : RepW g M1 (hput σ' t (M1 r k) j x) z2) : SW g n M M1 σ (hput σ' t (M1 r k) j x) z2 c s := by
  have := SW_trans h (⟨q, NK_refl n _ _, kp_put (fun _ => ⟨r, k, rfl, hr⟩)⟩ : SW g n M1 M1 σ' _ z2 0 0)
  rwa [Nat.add_zero, Nat.add_zero] at this
theorem SW_z {M1 : Nat → Nat → Nat} {z1 z2 : ZT} {c s : Nat} (h : SW g n M M1 σ σ' z1 c s) (e : VE z1 z2) : SW g n M M1 σ σ' z2 c s := ⟨RepW_VE h.1 e, h.2.1, h.2.2⟩
theorem SW_r {M1 : Nat → Nat → Nat} {c s r : Nat} (h : SW g n M M1 σ σ' z' c s) (hr : r < n) : M1 r = M r := by
  funext k
  rcases h.2.1 r k with e | ⟨e, _⟩
  · exact e
  · omega
/-- one scalar, one array's place, one of the world's -/
theorem SW_s {M1 : Nat → Nat → Nat} {z1 : ZT} {c s : Nat} (h : SW g n M M1 σ σ' z1 c s) (hk : k < zn z1) (j q : Nat) {v : Int32} (e : mgp j = q) (h0 : q ≠ 0) : SW g n M M1 σ (hput σ' 7 (M1 44 k) j (.int v)) (zs z1 1 k q v) c s := SW_put h 44 (by decide) (rw_s h.1 hk j q e h0)
theorem SW_a {M1 : Nat → Nat → Nat} {z1 : ZT} {c s : Nat} (h : SW g n M M1 σ σ' z1 c s) (hk : k < zn z1) (r κ : Nat) {v : Int32} (h1 : 47 ≤ r ∧ r ≤ 52) (e : mak r = κ) (hp : p < mal r) : SW g n M M1 σ (hput σ' 20 (M1 r k) p (.int v)) (zs z1 κ k p v) c s := SW_put h r (by omega) (rw_a h.1 hk r κ h1 e hp)
theorem SW_w {M1 : Nat → Nat → Nat} {z1 : ZT} {c s : Nat} (h : SW g n M M1 σ σ' z1 c s) (j q : Nat) {v : Int32} (e : mwp j = q) (h0 : q ≠ 0) : SW g n M M1 σ (hput σ' 4 (M1 41 0) j (.int v)) (zs z1 0 0 q v) c s := SW_put h 41 (by decide) (rw_w h.1 j q e h0)
end MSTEP
/-- an op is done -/
def dnZ (z : ZT) (k : Nat) : ZT := zs (zs (zs z 1 k 10 (z.1 1 k 10 + 1)) 1 k 24 (z.1 1 k 24 + 1)) 1 k 22 (Int32.ofNat ((zpl z k + 1) % z.2 2 k))
def mkZ (z : ZT) (k : Nat) (told : Int32) : ZT := if zkd z k = 1 then zs z 1 k 23 (irm (z.1 1 k 23 + z.1 2 k (zar z k) + 1) 1000) else if zkd z k = 2 then zs z 2 k (zar z k) (irm (3 * z.1 2 k (zar z k) + z.1 1 k 23 + 1) 1000) else if zkd z k = 4 then zs z 1 k 23 (irm (z.1 1 k 23 + told) 1000) else if zkd z k = 5 then zs z 1 k 23 (irm told 1000) else z
section MSTEP2
variable {g : GC} {n : Nat} {M M' : Nat → Nat → Nat} {σ σ' : AH} {z z' : ZT} {k p i : Nat} {Q : AQ}
theorem mkZ_s (z : ZT) (k : Nat) (told : Int32) : (∀ j, j ≠ 23 → (mkZ z k told).1 1 k j = z.1 1 k j) ∧ (mkZ z k told).2 = z.2 := by
  unfold mkZ
  split
  · exact ⟨fun j hj => zs_j _ hj, rfl⟩
  · split
    · exact ⟨fun j hj => by rw [zs_k _ (by decide)], rfl⟩
    · split
      · exact ⟨fun j hj => zs_j _ hj, rfl⟩
      · split
        · exact ⟨fun j hj => zs_j _ hj, rfl⟩
        · exact ⟨fun _ _ => rfl, rfl⟩
theorem finish_dn (z : ZT) (k : Nat) (told : Int32) : finishZ z k told = dnZ (mkZ z k told) k := by
  obtain ⟨m1, m2⟩ := mkZ_s z k told
  have e1 : workZ z k told = zs (mkZ z k told) 1 k 22 (Int32.ofNat ((zpl z k + 1) % z.2 2 k)) := rfl
  unfold finishZ dnZ zpl
  rw [e1, m1 10 (by decide), m1 24 (by decide), m1 22 (by decide), m2]
  rw [zs_comm (κ := 1) (i := k) (j := 22) (j' := 10) (Or.inr (Or.inr (by decide))), zs_comm (κ := 1) (i := k) (j := 22) (j' := 24) (Or.inr (Or.inr (by decide)))]
  rfl
theorem w_isDone (h : RepW g M σ z) (hk : k < zn z) (hp : z.1 1 k 22 = Int32.ofNat (zpl z k)) (hl : zpl z k < z.2 2 k ∧ z.2 2 k ≤ 12) (hQ : ∀ σ', SW g n M M σ σ' (dnZ z k) 0 0 → Q (.inl none) σ') : aw g 207 0 [some (.ref (M 44 k))] [] σ Q := by
  obtain ⟨f, l1, _⟩ := (h.2.2.2 k hk).2.2.2.2.1
  have e1 := fun Q' => l_size (Q := Q') (isL_tag (isL_tag l1 (t := 7) (x := M 44 k) (k := 10) (v := .int (z.1 1 k 10 + 1)) (by decide) (by decide)) (t := 7) (x := M 44 k) (k := 29) (v := .int (z.1 1 k 24 + 1)) (by decide) (by decide))
  have t3 := l1.1
  have e2 := n32_ne0 (b := z.2 2 k) (by omega) (by omega)
  have e3 : Int32.ofNat (zpl z k + 1) - Int32.ofNat (zpl z k + 1) / Int32.ofNat (z.2 2 k) * Int32.ofNat (z.2 2 k) = Int32.ofNat ((zpl z k + 1) % z.2 2 k) := n32_rem (a := zpl z k + 1) (b := z.2 2 k) (by omega) (by omega)
  have e4 := n32_inc (zpl z k)
  have S1 := SW_s (SW_s (SW_s (SW_refl n h) hk 10 10 (v := z.1 1 k 10 + 1) rfl (by decide)) hk 29 24 (v := z.1 1 k 24 + 1) rfl (by decide)) hk 2 22 (v := Int32.ofNat ((zpl z k + 1) % z.2 2 k)) rfl (by decide)
  have := hQ _ S1
  simp (config := {decide := true}) only [vRf_r, vRf_n, vI_i, vL_l, vD_d, pI_i, pR_r, pR_n, vZ_0, vZ_1, ct_i, ct_r, ct_n, ct_l, ct_d, csum_n, csum_c, kt_v, kt_n, kt_e, oc_n, oc_i, oc_r, oc_l, oc_u, oc_d, true_and, and_true, Bool.and_true, Bool.true_and, ne_eq, not_false_eq_true, not_true_eq_false, implies_true, false_imp, true_imp_iff, hsz_put, hsl_put, hln_put, hty_put, hsz_new, hsl_new, hln_new, hty_new, Nat.zero_add, Nat.add_zero, eq_self, decide_true, t32_0, t32_1, t32_2, t32_3, t32_4, t32_5, t32_6, hv_same, hv_kne, hv_tne, hv_ntne, hv_nsame, hv_ctne, hty_cpy, hln_cpy, hsz_cpy, hsl_cpy, vrn, vnr, vrr, A207_0, A207_1, A207_2, A207_5, A207_6, A207_7, A207_10, A207_11, A207_12, A207_15, A207_16, A207_17, A207_20, A207_21, A207_22, A207_25, A207_26, A207_27, A207_28, A207_31, A207_34, A207_35, A207_38, wgt h hk, wg_0 h hk, wg_2 h hk, wg_3 h hk, wg_4 h hk, wg_5 h hk, wg_6 h hk, wg_7 h hk, wg_8 h hk, wg_9 h hk, wg_10 h hk, wg_11 h hk, wg_12 h hk, wg_18 h hk, wg_19 h hk, wg_20 h hk, wg_21 h hk, wg_22 h hk, wg_23 h hk, wg_24 h hk, wg_25 h hk, wg_26 h hk, wg_27 h hk, wg_29 h hk, wg_1 h hk, wg_30 h hk, wg_31 h hk, wg_13 h hk, wg_14 h hk, wg_15 h hk, wg_16 h hk, wg_17 h hk, wg_28 h hk, wt_47 h hk, wl_47 h hk, wt_48 h hk, wl_48 h hk, wt_49 h hk, wl_49 h hk, wt_50 h hk, wl_50 h hk, wt_51 h hk, wl_51 h hk, wt_52 h hk, wl_52 h hk, wgAe h, wgBe h, hp, e1, e2, e3, e4, t3]
  exact this
theorem w_pause (h : RepW g M σ z) (hk : k < zn z) (hQ : ∀ σ', SW g n M M σ σ' (if z.1 1 k 3 = 3 then z else zs (zs z 1 k 36 (z.1 1 k 3)) 1 k 3 3) 0 0 → Q (.inl none) σ') {x : Value} (hx : vRf x = true) : aw g 178 0 [some x, some (.ref (M 44 k))] [] σ Q := by
  by_cases g0 : z.1 1 k 3 = 3
  · rw [if_pos g0] at hQ
    have := hQ _ (SW_refl n h)
    simp (config := {decide := true}) only [vRf_r, vRf_n, vI_i, vL_l, vD_d, pI_i, pR_r, pR_n, vZ_0, vZ_1, ct_i, ct_r, ct_n, ct_l, ct_d, csum_n, csum_c, kt_v, kt_n, kt_e, oc_n, oc_i, oc_r, oc_l, oc_u, oc_d, true_and, and_true, Bool.and_true, Bool.true_and, ne_eq, not_false_eq_true, not_true_eq_false, implies_true, false_imp, true_imp_iff, hsz_put, hsl_put, hln_put, hty_put, hsz_new, hsl_new, hln_new, hty_new, Nat.zero_add, Nat.add_zero, eq_self, decide_true, t32_0, t32_1, t32_2, t32_3, t32_4, t32_5, t32_6, hv_same, hv_kne, hv_tne, hv_ntne, hv_nsame, hv_ctne, hty_cpy, hln_cpy, hsz_cpy, hsl_cpy, vrn, vnr, vrr, A178_0, A178_1, A178_4, A178_5, A178_8, A178_9, A178_10, A178_11, A178_14, A178_17, A178_18, A178_19, A178_22, wgt h hk, wg_0 h hk, wg_2 h hk, wg_3 h hk, wg_4 h hk, wg_5 h hk, wg_6 h hk, wg_7 h hk, wg_8 h hk, wg_9 h hk, wg_10 h hk, wg_11 h hk, wg_12 h hk, wg_18 h hk, wg_19 h hk, wg_20 h hk, wg_21 h hk, wg_22 h hk, wg_23 h hk, wg_24 h hk, wg_25 h hk, wg_26 h hk, wg_27 h hk, wg_29 h hk, wg_1 h hk, wg_30 h hk, wg_31 h hk, wg_13 h hk, wg_14 h hk, wg_15 h hk, wg_16 h hk, wg_17 h hk, wg_28 h hk, wt_47 h hk, wl_47 h hk, wt_48 h hk, wl_48 h hk, wt_49 h hk, wl_49 h hk, wt_50 h hk, wl_50 h hk, wt_51 h hk, wl_51 h hk, wt_52 h hk, wl_52 h hk, wgAe h, wgBe h, g0]
    exact this
  · rw [if_neg g0] at hQ
    have := hQ _ (SW_s (SW_s (SW_refl n h) hk 7 36 (v := z.1 1 k 3) rfl (by decide)) hk 6 3 (v := 3) rfl (by decide))
    simp (config := {decide := true}) only [vRf_r, vRf_n, vI_i, vL_l, vD_d, pI_i, pR_r, pR_n, vZ_0, vZ_1, ct_i, ct_r, ct_n, ct_l, ct_d, csum_n, csum_c, kt_v, kt_n, kt_e, oc_n, oc_i, oc_r, oc_l, oc_u, oc_d, true_and, and_true, Bool.and_true, Bool.true_and, ne_eq, not_false_eq_true, not_true_eq_false, implies_true, false_imp, true_imp_iff, hsz_put, hsl_put, hln_put, hty_put, hsz_new, hsl_new, hln_new, hty_new, Nat.zero_add, Nat.add_zero, eq_self, decide_true, t32_0, t32_1, t32_2, t32_3, t32_4, t32_5, t32_6, hv_same, hv_kne, hv_tne, hv_ntne, hv_nsame, hv_ctne, hty_cpy, hln_cpy, hsz_cpy, hsl_cpy, vrn, vnr, vrr, A178_0, A178_1, A178_4, A178_5, A178_8, A178_9, A178_10, A178_11, A178_14, A178_17, A178_18, A178_19, A178_22, wgt h hk, wg_0 h hk, wg_2 h hk, wg_3 h hk, wg_4 h hk, wg_5 h hk, wg_6 h hk, wg_7 h hk, wg_8 h hk, wg_9 h hk, wg_10 h hk, wg_11 h hk, wg_12 h hk, wg_18 h hk, wg_19 h hk, wg_20 h hk, wg_21 h hk, wg_22 h hk, wg_23 h hk, wg_24 h hk, wg_25 h hk, wg_26 h hk, wg_27 h hk, wg_29 h hk, wg_1 h hk, wg_30 h hk, wg_31 h hk, wg_13 h hk, wg_14 h hk, wg_15 h hk, wg_16 h hk, wg_17 h hk, wg_28 h hk, wt_47 h hk, wl_47 h hk, wt_48 h hk, wl_48 h hk, wt_49 h hk, wl_49 h hk, wt_50 h hk, wl_50 h hk, wt_51 h hk, wl_51 h hk, wt_52 h hk, wl_52 h hk, wgAe h, wgBe h, g0]
    exact this
end MSTEP2
