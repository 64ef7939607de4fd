/-! the number of frames -/
def FA (A B : Nat → Nat → Nat) (a : Nat) : Prop := ∃ r k, a = mix A B r k ∧ r < 40 ∧ 0 < r
/-- a step that may name new cells: from A, B, σ to A', B', σ' with z' -/
def SA (g : GC) (W : Nat → Prop) (A A' B B' : Nat → Nat → Nat) (σ σ' : AH) (z' : ZT) (c s : Nat) : Prop := RepB g A' B' σ' z' ∧ BK A A' σ ∧ BK B B' σ ∧ kp W c s σ σ' ∧ ∀ r, r < 4 → A' r = A r
def dn1Z (z : ZT) : ZT := if z.1 8 (zf z - 1) 0 = -1 then zl z 1 0 (zf z - 1) else toDiskZ (zl z 1 0 (zf z - 1)) (zf z - 1)
def dnF : ZT → Nat → ZT
  | z, 0 => z
  | z, n + 1 => dnF (dn1Z z) n
def up1Z (z : ZT) : ZT := zl (freeZ z (zf z)) 1 0 (zf z + 1)
def upF : ZT → Nat → ZT
  | z, 0 => z
  | z, n + 1 => upF (up1Z z) n
def setFZ (z : ZT) (m : Nat) : ZT := upF (dnF z (zf z - m)) (m - zf z)
section FRAMES
variable {g : GC} {A A' B B' : Nat → Nat → Nat} {σ σ' : AH} {z : ZT} {k p i j : Nat} {v : Int32} {Q : AQ}
theorem FA_i (r : Nat) {k : Nat} (h : r < 20 ∧ 0 < r) : FA A B (A r k) := ⟨r, k, by unfold mix; rw [if_pos h.1], by omega⟩
theorem FA_b (r : Nat) {k : Nat} (h : 20 ≤ r ∧ r < 40) : FA A B (B r k) := ⟨r, k, by unfold mix; rw [if_neg (by omega)], by omega⟩
theorem FB_FA {a : Nat} (h : FB A B a) : FA A B a := by
  obtain ⟨r, k, e, h2⟩ := h
  refine ⟨r, k, e, ?_⟩
  unfold mutR at h2
  rw [Bool.and_eq_true] at h2
  have := Nat.le_of_ble_eq_true h2.1
  refine ⟨by omega, ?_⟩
  rcases Nat.eq_zero_or_pos r with e0 | e0
  · subst e0; exact absurd h2.2 (by decide)
  · exact e0
theorem FA_BK {a : Nat} (hA : BK A A' σ) (hB : BK B B' σ) (ha : a < hsz σ) (q : FA A' B' a) : FA A B a := by
  obtain ⟨r, k, e, q1⟩ := q
  refine ⟨r, k, ?_, q1⟩
  unfold mix at e ⊢
  by_cases hr : r < 20
  · rw [if_pos hr] at e ⊢
    rcases hA r k with x | ⟨_, x, y⟩
    · rw [← x]; exact e
    · omega
  · rw [if_neg hr] at e ⊢
    rcases hB r k with x | ⟨_, x, y⟩
    · rw [← x]; exact e
    · omega
theorem FB_BK2 {a : Nat} (hA : BK A A' σ) (hB : BK B B' σ) (ha : a < hsz σ) (q : FB A' B' a) : FB A B a := by
  obtain ⟨r, k, e, q1⟩ := q
  refine ⟨r, k, ?_, q1⟩
  unfold mix at e ⊢
  by_cases hr : r < 20
  · rw [if_pos hr] at e ⊢
    rcases hA r k with x | ⟨_, x, y⟩
    · rw [← x]; exact e
    · omega
  · rw [if_neg hr] at e ⊢
    rcases hB r k with x | ⟨_, x, y⟩
    · rw [← x]; exact e
    · omega
theorem SA_FA {A1 A2 B1 B2 : Nat → Nat → Nat} {σ1 σ2 : AH} {z1 z2 : ZT} {c1 s1 c2 s2 : Nat} (h : SA g (FA A B) A A1 B B1 σ σ1 z1 c1 s1) (k : SA g (FA A1 B1) A1 A2 B1 B2 σ1 σ2 z2 c2 s2) : SA g (FA A B) A A2 B B2 σ σ2 z2 (c1 + c2) (s1 + s2) :=
  ⟨k.1, BK_trans h.2.1 k.2.1 h.2.2.2.1.1, BK_trans h.2.2.1 k.2.2.1 h.2.2.2.1.1, kp_then h.2.2.2.1 k.2.2.2.1 (fun _ ha q => FA_BK h.2.1 h.2.2.1 ha q), fun r hr => (k.2.2.2.2 r hr).trans (h.2.2.2.2 r hr)⟩
theorem SA_FB {A1 A2 B1 B2 : Nat → Nat → Nat} {σ1 σ2 : AH} {z1 z2 : ZT} {c1 s1 c2 s2 : Nat} (h : SA g (FB A B) A A1 B B1 σ σ1 z1 c1 s1) (k : SA g (FB A1 B1) A1 A2 B1 B2 σ1 σ2 z2 c2 s2) : SA g (FB A B) A A2 B B2 σ σ2 z2 (c1 + c2) (s1 + s2) :=
  ⟨k.1, BK_trans h.2.1 k.2.1 h.2.2.2.1.1, BK_trans h.2.2.1 k.2.2.1 h.2.2.2.1.1, kp_then h.2.2.2.1 k.2.2.2.1 (fun _ ha q => FB_BK2 h.2.1 h.2.2.1 ha q), fun r hr => (k.2.2.2.2 r hr).trans (h.2.2.2.2 r hr)⟩
theorem SA_mono {W W' : Nat → Prop} {z1 : ZT} {c s c' s' : Nat} (h : SA g W A A' B B' σ σ' z1 c s) (hc : c ≤ c') (hs : s ≤ s') (hW : ∀ a, W a → W' a) : SA g W' A A' B B' σ σ' z1 c' s' := ⟨h.1, h.2.1, h.2.2.1, kp_mono h.2.2.2.1 hc hs (fun a _ e => hW a e), h.2.2.2.2⟩
theorem SA_St {z1 : ZT} {c s : Nat} (h : St g A B B' σ σ' z1 c s) : SA g (FB A B) A A B B' σ σ' z1 c s := ⟨h.1, BK_refl A σ, h.2.1, h.2.2, fun _ _ => rfl⟩
theorem SA_Sa {z1 : ZT} {c s : Nat} (h : St g A B B' σ σ' z1 c s) : SA g (FA A B) A A B B' σ σ' z1 c s := ⟨h.1, BK_refl A σ, h.2.1, kp_mono h.2.2 (Nat.le_refl _) (Nat.le_refl _) (fun _ _ e => FB_FA e), fun _ _ => rfl⟩
/-- a frame that is no longer among the machine's -/
theorem rc_fx (q : RepC g A σ z) (hi : zf z ≤ i) {w : Value} : RepC g A (hput σ 2 (A 18 i) j w) (zs z 8 i p v) := by
  obtain ⟨q1, q2, q3, q4, q5, q6, q7, q8, q9, q10, q11⟩ := q
  refine ⟨Bas_put q1 (q2.2 18 i).1, q2, cT_zs q3 (by omega) (by omega), ?_, ?_, ?_, ?_, ?_, ?_, ?_, cL_zs (cL_tag q11 (by decide) (by decide) (by decide) (by decide) (by decide)) (by omega) (by decide) (by decide) (by decide) (by decide) (by decide)⟩
  · rw [hv_tne _ (by decide)]; exact cH1_zs q4 (by omega)
  · intro i' hi'
    have hi' : i' < zf z := hi'
    have e2 : i' ≠ i := by omega
    obtain ⟨x0, x1, x2⟩ := q5 i' hi'
    exact ⟨by rw [hv_ane _ (fun e => e2 (q2.1 _ _ _ _ e).2), zs_i _ e2]; exact x0, by rw [hv_ane _ (fun e => e2 (q2.1 _ _ _ _ e).2), zs_i _ e2]; exact x1, by rw [hv_ane _ (fun e => e2 (q2.1 _ _ _ _ e).2), zs_i _ e2]; exact x2⟩
  · rw [hv_tne _ (by decide)]; exact cH5_zs q6 (by omega) (by omega) (Or.inl (by omega))
  · rw [hv_tne _ (by decide)]; exact cH6_zs q7 (by omega) (by omega) (by omega) (by omega) (by omega)
  · rw [hv_tne _ (by decide)]; exact cH9_zs q8 (by omega) (by omega) (by omega)
  · rw [hv_tne _ (by decide)]; exact cH20_zs q9 (by omega) (by omega) (by omega) (by omega)
  · rw [hv_tne _ (by decide)]; exact cH21_zs q10 (by omega) (by omega) (by omega) (by omega)
theorem rb_fx (q : RepB g A B σ z) (hi : zf z ≤ i) {w : Value} : RepB g A B (hput σ 2 (A 18 i) j w) (zs z 8 i p v) := rc_fx (A := mix A B) q hi
/-- what it held goes to the disk -/
theorem c_toDisk2 (h : RepB g A B σ z) (hi : zf z ≤ i) (h3 : zn z ≤ 1000) (hf : okFi z i) (ft : hty σ (A 18 i) = some 2) (f0 : hv σ 2 (A 18 i) 0 = gref A (z.1 8 i 0)) (f1 : hv σ 2 (A 18 i) 1 = .int (z.1 8 i 1)) (hQ : ∀ σ', St g A B B σ σ' (toDiskZ z i) 0 0 → Q (.inl none) σ') : aw g 110 0 [some (.ref (A 1 0)), some (.ref (A 18 i))] [] σ Q := by
  obtain ⟨j, p, j1, p1, e1, e2⟩ := hf
  rw [e1, gref_k _ (fun e => by rw [n32_m1 (by omega)] at e; exact e), n32_nat (by omega)] at f0
  rw [e2] at f1
  have b1 : (Int32.ofNat p < 0) = False := n32_neg (by omega)
  have b2 : (Int32.ofNat p).toNatClampNeg = p := n32_nat (by omega)
  have b3 : (p < 6) = True := eq_true p1
  have b4 : (Int32.ofNat j).toNatClampNeg = j := n32_nat (by omega)
  have R1 := rb_dsk (v := 1) (rb_mod (κ := 14) (i := j) (j := p) (v := 1) h rfl) j1 p1
  have S1 := St_put (St_z (St_refl h) (rb_mod (κ := 14) (i := j) (j := p) (v := 1) h rfl)) 9 (by decide) R1
  have R2 := rb_fx (j := 0) (p := 0) (v := -1) (w := .null) R1 hi
  have S2 := St_put S1 18 (by decide) R2
  have R3 := rb_fx (j := 1) (p := 1) (v := -1) (w := .int (-1)) R2 hi
  have S3 := St_put S2 18 (by decide) R3
  have R4 := rb_fx (j := 2) (p := 2) (v := -1) (w := .int (-1)) R3 hi
  have S4 := St_put S3 18 (by decide) R4
  have S5 := St_put S4 1 (by decide) (rb_m (j := 8) (v := z.1 0 0 8 + 1) R4 (by decide))
  have e9 : toDiskZ z i = zs (zs (zs (zs (zs (zs z 14 j p 1) 4 j p 1) 8 i 0 (-1)) 8 i 1 (-1)) 8 i 2 (-1)) 0 0 8 (z.1 0 0 8 + 1) := by
    unfold toDiskZ; rw [e1, e2, b2, b4]
  simp (config := {decide := true}) only [vRf_r, vRf_n, vI_i, vL_l, vD_d, pI_i, pR_r, pR_n, vZ_0, vZ_1, ct_i, ct_r, ct_n, ct_l, ct_d, csum_n, csum_c, kt_v, kt_n, kt_e, oc_n, oc_i, oc_r, oc_l, oc_u, oc_d, true_and, and_true, Bool.and_true, Bool.true_and, ne_eq, not_false_eq_true, not_true_eq_false, implies_true, false_imp, true_imp_iff, hsz_put, hsl_put, hln_put, hty_put, hsz_new, hsl_new, hln_new, hty_new, Nat.zero_add, Nat.add_zero, eq_self, decide_true, t32_0, t32_1, t32_2, t32_3, t32_4, t32_5, t32_6, hv_same, hv_kne, hv_tne, hv_ntne, hv_nsame, hv_ctne, hty_cpy, hln_cpy, hsz_cpy, hsl_cpy, vrn, vnr, vrr, A110_0, A110_1, A110_4, A110_7, A110_8, A110_11, A110_12, A110_13, A110_14, A110_17, A110_18, A110_19, A110_22, A110_23, A110_24, A110_27, A134_0, A134_1, A134_2, A134_3, A134_4, A134_7, A135_0, A135_1, A135_2, A135_5, A135_6, A135_7, A135_10, A135_11, A135_12, A135_15, r5tb h j1, r5gb h j1, r5nb h j1, r5mb h j1, r5eb h j1, r5db h j1, r5vb h j1, r5lb h j1, r5pb h j1, r6tb h j1, r60b h j1, r61b h j1, r62b h j1, r63b h j1, r7tb h j1, r7lb h j1, r8tb h j1, r8lb h j1, r9tb h j1, r9lb h j1, r10tb h j1, r10lb h j1, rgBA h, r1tb h, r10_b h, r11_b h, r13_b h, r14_b h, r1sb h, rgBA h, f0, f1, ft, b1, b2, b3]
  exact hQ _ (by rw [e9]; exact S5)
/-- the last frame goes -/
theorem rb_pop (h : RepB g A B σ z) (q : kp (fun x => x = A 3 0 ∨ x = B 23 0) 0 0 σ σ') (hl : isL g σ' (A 3 0) (B 23 0) (zf z - 1) (fun i => .ref (A 18 i))) : RepB g A B σ' (zl z 1 0 (zf z - 1)) := by
  obtain ⟨q1, q2, q3, q4, q5⟩ := RepC_out (A := mix A B) h
  have i3 : ∀ r k, ¬ (r = 3 ∧ k = 0) → ¬ (r = 23 ∧ k = 0) → ¬ (mix A B r k = A 3 0 ∨ mix A B r k = B 23 0) := by
    intro r k h1 h2 e
    rcases e with e | e
    · exact h1 (q2.1 r k 3 0 e)
    · exact h2 (q2.1 r k 23 0 e)
  have hG : ∀ x, (x = A 3 0 ∨ x = B 23 0) → ∃ r k, x = mix A B r k := by
    intro x e
    rcases e with e | e
    · exact ⟨3, 0, e⟩
    · exact ⟨23, 0, e⟩
  refine RepC_in (A := mix A B) (Bas_kp q1 q (fun x e => ?_)) (cA_le q2 q.1) (mc_kp q3 q (i3 1 0 (by decide) (by decide)) (i3 2 0 (by decide) (by decide)) (fun _ => i3 22 0 (by decide) (by decide)) rfl rfl rfl rfl rfl rfl ?_) ⟨?_, ?_, ?_⟩ (fun k hk => ?_)
  · obtain ⟨r, k, e⟩ := hG x e
    rw [e]; exact (q2.2 r k).1
  · unfold zn; rw [zl_k _ (by decide)]
  · intro i hi
    have hi : i < zf z - 1 := by unfold zf at hi; rw [zl_at] at hi; exact hi
    exact kp_ty q (q4.1 i (by omega))
  · intro i hi
    have hi : i < zf z - 1 := by unfold zf at hi; rw [zl_at] at hi; exact hi
    have S := (q.2.2.2.2 _ (hty_lt (q4.1 i (by omega)))).2.2 (i3 18 i (by omega) (by omega)) 2
    rw [zl_1, S, S, S]
    exact q4.2.1 i (by omega)
  · show isL g σ' (A 3 0) (B 23 0) (zf (zl z 1 0 (zf z - 1))) (fun i => .ref (A 18 i))
    unfold zf; rw [zl_at]; exact hl
  · have hk : k < zn z := by unfold zn at hk; rw [zl_k _ (by decide)] at hk; exact hk
    refine gc_z (gc_kp (q5 k hk) q (fun r hr _ => i3 r k (fun e => ?_) (fun e => ?_)) (fun x e _ => Or.inr (hG x e)) (AN_refl _ _)) ⟨fun _ _ => rfl, ?_, ?_, ?_⟩
    · rw [e.1] at hr; revert hr; decide
    · rw [e.1] at hr; revert hr; decide
    · rw [zl_k _ (by decide)]
    · rw [zl_k _ (by decide)]
    · rw [zl_k _ (by decide)]
/-- a frame comes -/
theorem rb_push {W : Nat → Prop} {x b c s : Nat} (h : RepB g A B σ z) (q : kp W c s σ σ') (hW : ∀ y, W y → y = A 3 0 ∨ y = B 23 0) (hx : hsz σ ≤ x) (hx2 : x < hsz σ') (hC : hsz σ' ≤ gC g) (hb : b = B 23 0 ∨ (x < b ∧ b < hsz σ')) (ht : hty σ' x = some 2) (h0 : hv σ' 2 x 0 = .null) (h1 : hv σ' 2 x 1 = .int (-1)) (h2 : hv σ' 2 x 2 = .int (-1))
    (hl : isL g σ' (A 3 0) b (zf z + 1) (fun i => if i = zf z then .ref x else .ref (A 18 i))) : RepB g (nm A 18 (zf z) x) (Bup B 23 0 b) σ' (up1Z z) := by
  obtain ⟨q1, q2, q3, q4, q5⟩ := RepC_out (A := mix A B) h
  have i3 : ∀ r k, ¬ (r = 3 ∧ k = 0) → ¬ (r = 23 ∧ k = 0) → ¬ W (mix A B r k) := by
    intro r k h1 h2 e
    rcases hW _ e with e | e
    · exact h1 (q2.1 r k 3 0 e)
    · exact h2 (q2.1 r k 23 0 e)
  have hG : ∀ x, W x → ∃ r k, x = mix A B r k := by
    intro x e
    rcases hW _ e with e | e
    · exact ⟨3, 0, e⟩
    · exact ⟨23, 0, e⟩
  have hgB : gB g ≤ hsz σ := q1.1
  have m1 : mix (nm A 18 (zf z) x) B = nm (mix A B) 18 (zf z) x := by
    funext r k
    unfold mix nm
    by_cases e : r = 18 ∧ k = zf z
    · rw [if_pos e, if_pos e, if_pos (by omega)]
    · rw [if_neg e, if_neg e]
  have c1 : cA g (mix (nm A 18 (zf z) x) B) (hopq σ (x + 1 - hsz σ) 0) := by
    rw [m1]
    exact cA_nm q2 (by rw [hsz_opq]; omega) (by rw [hsz_opq]; omega) hgB hx (by rw [hsz_opq]; omega)
  have m2 : mix (nm A 18 (zf z) x) (Bup B 23 0 b) = nm (mix (nm A 18 (zf z) x) B) 23 0 b := by
    funext r k
    unfold mix nm Bup
    by_cases e : r = 23 ∧ k = 0
    · rw [if_pos e, if_neg (by omega), if_pos e]
    · rw [if_neg e, if_neg e]
  have hA' : cA g (mix (nm A 18 (zf z) x) (Bup B 23 0 b)) σ' := by
    rcases hb with hb | ⟨hb1, hb2⟩
    · have : mix (nm A 18 (zf z) x) (Bup B 23 0 b) = mix (nm A 18 (zf z) x) B := by
        rw [m2]
        funext r k
        unfold nm
        by_cases e : r = 23 ∧ k = 0
        · rw [if_pos e, e.1, e.2, hb]; rfl
        · rw [if_neg e]
      rw [this]
      exact cA_le c1 (by rw [hsz_opq]; omega)
    · rw [m2]
      exact cA_nm c1 (by rw [hsz_opq]; omega) hC (by rw [hsz_opq]; omega) (by rw [hsz_opq]; omega) hb2
  have hAN : AN (mix A B) (mix (nm A 18 (zf z) x) (Bup B 23 0 b)) σ := by
    intro r k
    rw [m2, m1]
    by_cases e : r = 23 ∧ k = 0
    · rw [e.1, e.2, nm_at]
      rcases hb with hb | hb
      · exact Or.inl hb
      · exact Or.inr (by omega)
    · rw [nm_ne e]
      exact AN_nm hx r k
  have n1 : zn (up1Z z) = zn z := by unfold zn up1Z; rw [zl_k _ (by decide)]; rfl
  have f1 : zf (up1Z z) = zf z + 1 := by unfold zf up1Z; rw [zl_at]
  have k8 : ∀ a, a ≠ 8 → (up1Z z).1 a = z.1 a := fun a ha => by unfold up1Z freeZ; rw [zl_1, zs_k _ ha, zs_k _ ha, zs_k _ ha]
  have gM : ∀ r k, r ≠ 18 → r ≠ 23 → mix (nm A 18 (zf z) x) (Bup B 23 0 b) r k = mix A B r k := fun r k n1 n2 => by rw [m2, nm_ne (by omega), m1, nm_ne (by omega)]
  have ne18 : ∀ i, i ≠ zf z → mix (nm A 18 (zf z) x) (Bup B 23 0 b) 18 i = A 18 i := fun i hi => nm_ne (by omega)
  have at18 : mix (nm A 18 (zf z) x) (Bup B 23 0 b) 18 (zf z) = x := nm_at A 18 (zf z) x
  refine RepC_in (A := mix (nm A 18 (zf z) x) (Bup B 23 0 b)) (Bas_kp q1 q (fun y e => ?_)) hA' (mc_kp q3 q (i3 1 0 (by decide) (by decide)) (i3 2 0 (by decide) (by decide)) (fun _ => i3 22 0 (by decide) (by decide)) ?_ ?_ ?_ ?_ ?_ (k8 0 (by decide)) n1) ⟨fun i hi => ?_, fun i hi => ?_, ?_⟩ (fun k hk => ?_)
  · obtain ⟨r, k, e⟩ := hG y e
    rw [e]; exact (q2.2 r k).1
  · funext k; exact gM 1 k (by decide) (by decide)
  · funext k; exact gM 2 k (by decide) (by decide)
  · funext k; exact gM 3 k (by decide) (by decide)
  · funext k; exact gM 4 k (by decide) (by decide)
  · funext k; exact gM 22 k (by decide) (by decide)
  · by_cases e : i = zf z
    · rw [e, at18]; exact ht
    · rw [ne18 i e]; exact kp_ty q (q4.1 i (by omega))
  · by_cases e : i = zf z
    · rw [e, at18]
      unfold up1Z freeZ
      refine ⟨?_, ?_, ?_⟩
      · rw [zl_1, zs_j _ (by decide), zs_j _ (by decide), zs_at, gref_m]; exact h0
      · rw [zl_1, zs_j _ (by decide), zs_at]; exact h1
      · rw [zl_1, zs_at]; exact h2
    · rw [ne18 i e]
      have hi' : i < zf z := by omega
      have S := (q.2.2.2.2 _ (hty_lt (q4.1 i hi'))).2.2 (i3 18 i (by omega) (by omega)) 2
      have S : ∀ j, hv σ' 2 (A 18 i) j = hv σ 2 (A 18 i) j := S
      rw [S, S, S]
      have e8 : ∀ j, (up1Z z).1 8 i j = z.1 8 i j := fun j => by unfold up1Z freeZ; rw [zl_1, zs_i _ e, zs_i _ e, zs_i _ e]
      rw [e8, e8, e8]
      exact q4.2.1 i hi'
  · rw [f1]
    have e9 : (fun i => Value.ref (mix (nm A 18 (zf z) x) (Bup B 23 0 b) 18 i)) = fun i => if i = zf z then .ref x else .ref (A 18 i) := by
      funext i
      by_cases e : i = zf z
      · rw [if_pos e, e, at18]
      · rw [if_neg e, ne18 i e]
    rw [e9]
    have e10 : mix (nm A 18 (zf z) x) (Bup B 23 0 b) 3 0 = A 3 0 := gM 3 0 (by decide) (by decide)
    have e11 : mix (nm A 18 (zf z) x) (Bup B 23 0 b) 23 0 = b := Bup_at B 23 0 b
    rw [e10, e11]
    exact hl
  · rw [n1] at hk
    refine gc_z (gc_a (gc_kp (q5 k hk) q (fun r hr _ => i3 r k (fun e => ?_) (fun e => ?_)) (fun y e _ => Or.inr (hG y e)) hAN) (fun r hr => ?_)) ⟨fun κ hκ => ?_, ?_, ?_, ?_⟩
    · rw [e.1] at hr; revert hr; decide
    · rw [e.1] at hr; revert hr; decide
    · rw [m2, nm_ne (fun e => by rw [e.1] at hr; revert hr; decide), m1, nm_ne (fun e => by rw [e.1] at hr; revert hr; decide)]
    · rw [k8 κ (by omega)]
    · unfold up1Z; rw [zl_k _ (by decide)]; rfl
    · unfold up1Z; rw [zl_k _ (by decide)]; rfl
    · unfold up1Z; rw [zl_k _ (by decide)]; rfl
/-- a new frame's cell -/
def nfH (σ : AH) : AH := hput (hput (hnew σ 2 0 (fun k => defaultValue (tyX3 k)) 3) 2 (hsz σ) 1 (.int (-1))) 2 (hsz σ) 2 (.int (-1))
theorem nfH_kp (W : Nat → Prop) : kp W 1 3 σ (nfH σ) := kp_then (kp_new (W := W)) (kp_trans (kp_put (W := fun x => x = hsz σ) (fun _ => rfl)) (kp_put (W := fun x => x = hsz σ) (fun _ => rfl))) (fun x hx e => by omega)
theorem nfH_t : hty (nfH σ) (hsz σ) = some 2 := by unfold nfH; rw [hty_put, hty_put, hty_new, if_pos rfl]
theorem nfH_0 : hv (nfH σ) 2 (hsz σ) 0 = .null := by unfold nfH; rw [hv_kne _ (by decide), hv_kne _ (by decide), hv_nsame]; rfl
theorem nfH_1 : hv (nfH σ) 2 (hsz σ) 1 = .int (-1) := by unfold nfH; rw [hv_kne _ (by decide), hv_same]
theorem nfH_2 : hv (nfH σ) 2 (hsz σ) 2 = .int (-1) := by unfold nfH; rw [hv_same]
theorem nfH_sz : hsz (nfH σ) = hsz σ + 1 := rfl
theorem nfH_sl : hsl (nfH σ) = hsl σ + 3 := rfl
theorem WI_dn1 (h : WI z) (hf : 1 < zf z) : WI (dn1Z z) := by
  have h1 : WI (zl z 1 0 (zf z - 1)) := by
    obtain ⟨a, b, c, d, f⟩ := h
    have n1 : zn (zl z 1 0 (zf z - 1)) = zn z := by unfold zn; rw [zl_k _ (by decide)]
    have f1 : zf (zl z 1 0 (zf z - 1)) = zf z - 1 := by unfold zf; rw [zl_at]
    refine ⟨⟨by omega, by omega, by omega, okR_2 (by rw [zl_k _ (by decide)]) a.2.2.2⟩, ⟨by have := b.1; omega, by have := b.2.1; omega, fun i hi => ?_⟩, okR_2 (by rw [zl_k _ (by decide)]) c, okR_2 (by rw [zl_k _ (by decide)]) d, fun k hk => WG_of (f k (by omega)) (by rw [zl_k _ (by decide)]) (by rw [zl_k _ (by decide)]) rfl rfl (fun _ _ => rfl)⟩
    unfold okFi
    rw [n1]
    exact b.2.2 i (by omega)
  unfold dn1Z
  split
  · exact h1
  · exact WI_toDisk h1 _
theorem dn1Z_n (z : ZT) : zn (dn1Z z) = zn z ∧ zf (dn1Z z) = zf z - 1 := by
  unfold dn1Z zn zf
  split
  · exact ⟨by rw [zl_k _ (by decide)], by rw [zl_at]⟩
  · unfold toDiskZ
    exact ⟨by rw [zs_2, zs_2, zs_2, zs_2, zs_2, zs_2, zl_k _ (by decide)], by rw [zs_2, zs_2, zs_2, zs_2, zs_2, zs_2, zl_at]⟩
theorem up1Z_n (z : ZT) : zn (up1Z z) = zn z ∧ zf (up1Z z) = zf z + 1 := by
  unfold up1Z zn zf
  exact ⟨by rw [zl_k _ (by decide)]; rfl, by rw [zl_at]⟩
theorem WI_up1 (h : WI z) (hf : zf z < 10) : WI (up1Z z) := by
  obtain ⟨n1, f1⟩ := up1Z_n z
  obtain ⟨a, b, c, d, f⟩ := WI_free h (zf z)
  have e : up1Z z = zl (freeZ z (zf z)) 1 0 (zf z + 1) := rfl
  have n2 : zn (freeZ z (zf z)) = zn z := rfl
  have f2 : zf (freeZ z (zf z)) = zf z := rfl
  refine ⟨⟨by omega, by omega, by omega, okR_2 (by rw [e, zl_k _ (by decide)]) a.2.2.2⟩, ⟨by omega, by have := b.2.1; omega, fun i hi => ?_⟩, okR_2 (by rw [e, zl_k _ (by decide)]) c, okR_2 (by rw [e, zl_k _ (by decide)]) d, fun k hk => WG_of (f k (by omega)) (by rw [e, zl_k _ (by decide)]) (by rw [e, zl_k _ (by decide)]) rfl rfl (fun _ _ => rfl)⟩
  by_cases q : i = zf z
  · left
    rw [q]
    unfold up1Z freeZ
    rw [zl_1, zs_j _ (by decide), zs_j _ (by decide), zs_at]
  · unfold okFi
    rw [n1]
    exact b.2.2 i (by omega)
theorem upF_8 : ∀ n (z : ZT), (upF z n).1 0 = z.1 0 := by
  intro n
  induction n with
  | zero => intro z; rfl
  | succ n ih =>
    intro z
    refine (ih _).trans ?_
    unfold up1Z freeZ
    rw [zl_1, zs_k _ (by decide), zs_k _ (by decide), zs_k _ (by decide)]
theorem c_setFrames {m : Nat} (h : RepB g A B σ z) (hW : WI z) (hm : 0 < m ∧ m ≤ 10) (hc : hsz σ + 20 ≤ gC g) (hs : hsl σ + 280 ≤ gS g) (hQ : ∀ A' B' σ', SA g (FA A B) A A' B B' σ σ' (setFZ z m) 20 280 → Q (.inl (some (.int ((setFZ z m).1 0 0 8 - z.1 0 0 8)))) σ') : aw g 109 0 [some (.ref (A 1 0)), some (.int (Int32.ofNat m)), none, none] [] σ Q := by
  have up : ∀ n c z1 A1 B1 σ1 l3, zf z1 + n = m → c + n ≤ 10 → WI z1 → SA g (FA A B) A A1 B B1 σ σ1 z1 (2 * c) (28 * c) → setFZ z m = upF z1 n → aw g 109 51 [some (.ref (A 1 0)), some (.int (Int32.ofNat m)), some (.int (z.1 0 0 8)), l3] [] σ1 Q := by
    intro n
    induction n with
    | zero =>
      intro c z1 A1 B1 σ1 l3 hf hcn W1 S ez
      have e1 := fun Q' => l_size (Q := Q') (rLfb S.1)
      have t3 := (rLfb S.1).1
      have q1 : A1 1 = A 1 := S.2.2.2.2 1 (by decide)
      have q3 : A1 3 = A 3 := S.2.2.2.2 3 (by decide)
      have M1 := r1tb S.1
      have M2 := r11_b S.1
      have M3 := r1sb S.1 (j := 8) (by decide)
      rw [q1] at M1 M2 M3
      have e2 : (Int32.ofNat m ≤ Int32.ofNat (zf z1)) = True := by rw [n32_le (by omega) (by omega)]; exact eq_true (by omega)
      have := hQ A1 B1 σ1 (by rw [ez]; exact SA_mono S (by omega) (by omega) (fun _ e => e))
      rw [ez, show (upF z1 0) = z1 from rfl] at this
      simp (config := {decide := true}) only [vRf_r, vRf_n, vI_i, vL_l, vD_d, pI_i, pR_r, pR_n, vZ_0, vZ_1, ct_i, ct_r, ct_n, ct_l, ct_d, csum_n, csum_c, kt_v, kt_n, kt_e, oc_n, oc_i, oc_r, oc_l, oc_u, oc_d, true_and, and_true, Bool.and_true, Bool.true_and, ne_eq, not_false_eq_true, not_true_eq_false, implies_true, false_imp, true_imp_iff, hsz_put, hsl_put, hln_put, hty_put, hsz_new, hsl_new, hln_new, hty_new, Nat.zero_add, Nat.add_zero, eq_self, decide_true, t32_0, t32_1, t32_2, t32_3, t32_4, t32_5, t32_6, hv_same, hv_kne, hv_tne, hv_ntne, hv_nsame, hv_ctne, hty_cpy, hln_cpy, hsz_cpy, hsl_cpy, vrn, vnr, vrr, A109_51, A109_52, A109_55, A109_58, A109_59, A109_80, A109_81, A109_84, A109_85, A109_86, M1, M2, M3, e1, e2, t3]
      exact this
    | succ n ih =>
      intro c z1 A1 B1 σ1 l3 hf hcn W1 S ez
      have e1 := fun Q' => l_size (Q := Q') (rLfb S.1)
      have t3 := (rLfb S.1).1
      have q1 : A1 1 = A 1 := S.2.2.2.2 1 (by decide)
      have M1 := r1tb S.1
      have M2 := r11_b S.1
      rw [q1] at M1 M2
      have hgB := rgsb S.1
      have e2 : (Int32.ofNat m ≤ Int32.ofNat (zf z1)) = False := by rw [n32_le (by omega) (by omega)]; exact eq_false (by omega)
      have d1 := S.2.2.2.1.2.1
      have d2 := S.2.2.2.1.2.2.2.1
      have hc1 : hsz σ1 + 1 ≤ gC g := by omega
      have hs1 : hsl σ1 + 3 ≤ gS g := by omega
      have e3 : (A1 3 0 = hsz σ1) = False := eq_false (fun e => by have := hty_lt t3; omega)
      have hgw : gw (zf z1) ≤ 25 := by unfold gw; omega
      have eN : hput (hput (hnew σ1 2 0 (fun k => defaultValue (tyX3 k)) 3) 2 (hsz σ1) 1 (.int (-1))) 2 (hsz σ1) 2 (.int (-1)) = nfH σ1 := rfl
      have tN : hty (nfH σ1) (A1 3 0) = some 10 := kp_ty (nfH_kp (fun _ => False)) t3
      rw [A109_51]
      simp (config := {decide := true}) only [vRf_r, vRf_n, vI_i, vL_l, vD_d, pI_i, pR_r, pR_n, vZ_0, vZ_1, ct_i, ct_r, ct_n, ct_l, ct_d, csum_n, csum_c, kt_v, kt_n, kt_e, oc_n, oc_i, oc_r, oc_l, oc_u, oc_d, true_and, and_true, Bool.and_true, Bool.true_and, ne_eq, not_false_eq_true, not_true_eq_false, implies_true, false_imp, true_imp_iff, hsz_put, hsl_put, hln_put, hty_put, hsz_new, hsl_new, hln_new, hty_new, Nat.zero_add, Nat.add_zero, eq_self, decide_true, t32_0, t32_1, t32_2, t32_3, t32_4, t32_5, t32_6, hv_same, hv_kne, hv_tne, hv_ntne, hv_nsame, hv_ctne, hty_cpy, hln_cpy, hsz_cpy, hsl_cpy, vrn, vnr, vrr, A109_52, A109_55, A109_58, A109_59, A109_62, A109_63, A109_66, A109_69, A109_70, A109_73, A136_0, A136_1, A136_4, A136_5, A136_6, A136_9, A136_10, A136_11, A136_14, M1, M2, e1, e2, e3, t3, hc1, hs1, hgB, if_true, if_false, eN, tN]
      have w1 := nfH_kp (σ := σ1) (fun _ => False)
      have L1 := isL_kp (rLfb S.1) w1 (fun e => e) (fun e => e)
      refine l_add (v := .ref (hsz σ1)) L1 (by omega) (by rw [nfH_sz]; omega) (by rw [nfH_sz]; omega) (by rw [nfH_sl]; omega) ⟨2, nfH_t, Or.inl (by decide)⟩ ?_
      intro σ2 b' l1 k2 l2
      have q := kp_then (W := fun x => x = A1 3 0 ∨ x = B1 23 0) (kp_mono w1 (Nat.le_refl _) (Nat.le_refl _) (fun _ _ e => e.elim)) k2 (fun _ _ e => e)
      have nx : ¬ (hsz σ1 = A1 3 0 ∨ hsz σ1 = B1 23 0) := by
        rintro (e | e)
        · have := hty_lt t3; omega
        · rcases (S.1.2.1.2 23 0).2 with w | w
          · have w : B1 23 0 < hsz σ1 := w
            omega
          · have w : B1 23 0 = gC g + enc 23 0 := w
            omega
      have v2 := (k2.2.2.2.2 _ (hty_lt (nfH_t (σ := σ1)))).2.2 nx 2
      have R2 := rb_push (x := hsz σ1) (b := b') S.1 q (fun _ e => e) (Nat.le_refl _) (by have := k2.1; rw [nfH_sz] at this; omega) (by have := q.2.1; omega) (l2.imp_right (fun e => by rw [nfH_sz] at e; omega)) (kp_ty k2 nfH_t) (by rw [v2]; exact nfH_0) (by rw [v2]; exact nfH_1) (by rw [v2]; exact nfH_2) l1
      have S2 : SA g (FA A1 B1) A1 (nm A1 18 (zf z1) (hsz σ1)) B1 (Bup B1 23 0 b') σ1 σ2 (up1Z z1) 2 28 := ⟨R2, fun r k => by
        by_cases e : r = 18 ∧ k = zf z1
        · rw [e.1, e.2, nm_at]
          by_cases e5 : hsz σ1 = A1 18 (zf z1)
          · exact Or.inl e5
          · exact Or.inr ⟨by decide, e5, Nat.le_refl _⟩
        · rw [nm_ne e]; exact Or.inl rfl, BK_up (by decide) (l2.imp_right (fun e => by rw [nfH_sz] at e; omega)), kp_mono q (by omega) (by omega) (fun a _ e => by
        rcases e with e | e
        · rw [e]; exact FA_i 3 (by decide)
        · rw [e]; exact FA_b 23 (by decide)), fun r hr => by funext k; exact nm_ne (by omega)⟩
      have S3 := SA_mono (c' := 2 * (c + 1)) (s' := 28 * (c + 1)) (SA_FA S S2) (by omega) (by omega) (fun _ e => e)
      obtain ⟨n1, f1⟩ := up1Z_n z1
      simp (config := {decide := true}) only [vRf_r, vRf_n, vI_i, vL_l, vD_d, pI_i, pR_r, pR_n, vZ_0, vZ_1, ct_i, ct_r, ct_n, ct_l, ct_d, csum_n, csum_c, kt_v, kt_n, kt_e, oc_n, oc_i, oc_r, oc_l, oc_u, oc_d, true_and, and_true, Bool.and_true, Bool.true_and, ne_eq, not_false_eq_true, not_true_eq_false, implies_true, false_imp, true_imp_iff, hsz_put, hsl_put, hln_put, hty_put, hsz_new, hsl_new, hln_new, hty_new, Nat.zero_add, Nat.add_zero, eq_self, decide_true, t32_0, t32_1, t32_2, t32_3, t32_4, t32_5, t32_6, hv_same, hv_kne, hv_tne, hv_ntne, hv_nsame, hv_ctne, hty_cpy, hln_cpy, hsz_cpy, hsl_cpy, vrn, vnr, vrr, A109_76, A109_77]
      exact ih (c + 1) (up1Z z1) _ _ σ2 l3 (by omega) (by omega) (WI_up1 W1 (by omega)) S3 ez
  have dn : ∀ n z1 σ1 l3, (0 < n → zf z1 = m + n) → WI z1 → SA g (FA A B) A A B B σ σ1 z1 0 0 → setFZ z m = upF (dnF z1 n) (m - zf z) → (n = 0 → zf z1 + (m - zf z) = m) → (0 < n → m - zf z = 0) → aw g 109 5 [some (.ref (A 1 0)), some (.int (Int32.ofNat m)), some (.int (z.1 0 0 8)), l3] [] σ1 Q := by
    intro n
    induction n with
    | zero =>
      intro z1 σ1 l3 hf W1 S ez hz0 _
      have e1 := fun Q' => l_size (Q := Q') (rLfb S.1)
      have t3 := (rLfb S.1).1
      have e2 : (Int32.ofNat (zf z1) ≤ Int32.ofNat m) = True := by rw [n32_le (by have := W1.1; omega) (by omega)]; exact eq_true (by have := hz0 rfl; omega)
      have := up (m - zf z) 0 z1 A B σ1 l3 (hz0 rfl) (by omega) W1 S ez
      simp (config := {decide := true}) only [vRf_r, vRf_n, vI_i, vL_l, vD_d, pI_i, pR_r, pR_n, vZ_0, vZ_1, ct_i, ct_r, ct_n, ct_l, ct_d, csum_n, csum_c, kt_v, kt_n, kt_e, oc_n, oc_i, oc_r, oc_l, oc_u, oc_d, true_and, and_true, Bool.and_true, Bool.true_and, ne_eq, not_false_eq_true, not_true_eq_false, implies_true, false_imp, true_imp_iff, hsz_put, hsl_put, hln_put, hty_put, hsz_new, hsl_new, hln_new, hty_new, Nat.zero_add, Nat.add_zero, eq_self, decide_true, t32_0, t32_1, t32_2, t32_3, t32_4, t32_5, t32_6, hv_same, hv_kne, hv_tne, hv_ntne, hv_nsame, hv_ctne, hty_cpy, hln_cpy, hsz_cpy, hsl_cpy, vrn, vnr, vrr, A109_5, A109_6, A109_9, A109_12, A109_13, r1tb S.1, r10_b S.1, r11_b S.1, r13_b S.1, r14_b S.1, r1sb S.1, rgBA S.1, e1, e2, t3]
      exact this
    | succ n ih =>
      intro z1 σ1 l3 hf W1 S ez _ hz1
      have hb := W1.1
      have hf := hf (by omega)
      have hgB := rgsb S.1
      have e1 := fun Q' => l_size (Q := Q') (rLfb S.1)
      have t3 := (rLfb S.1).1
      have e2 : (Int32.ofNat (zf z1) ≤ Int32.ofNat m) = False := by rw [n32_le (by omega) (by omega)]; exact eq_false (by omega)
      have e3 : Int32.ofNat (zf z1) - 1 = Int32.ofNat (zf z1 - 1) := n32_sub (j := 1) (by omega)
      rw [A109_5]
      simp (config := {decide := true}) only [vRf_r, vRf_n, vI_i, vL_l, vD_d, pI_i, pR_r, pR_n, vZ_0, vZ_1, ct_i, ct_r, ct_n, ct_l, ct_d, csum_n, csum_c, kt_v, kt_n, kt_e, oc_n, oc_i, oc_r, oc_l, oc_u, oc_d, true_and, and_true, Bool.and_true, Bool.true_and, ne_eq, not_false_eq_true, not_true_eq_false, implies_true, false_imp, true_imp_iff, hsz_put, hsl_put, hln_put, hty_put, hsz_new, hsl_new, hln_new, hty_new, Nat.zero_add, Nat.add_zero, eq_self, decide_true, t32_0, t32_1, t32_2, t32_3, t32_4, t32_5, t32_6, hv_same, hv_kne, hv_tne, hv_ntne, hv_nsame, hv_ctne, hty_cpy, hln_cpy, hsz_cpy, hsl_cpy, vrn, vnr, vrr, A109_6, A109_9, A109_12, A109_13, A109_16, A109_17, A109_20, A109_21, A109_24, A109_27, A109_28, A109_29, r1tb S.1, r10_b S.1, r11_b S.1, r13_b S.1, r14_b S.1, r1sb S.1, rgBA S.1, e1, e2, e3, t3]
      refine l_remove (rLfb S.1) (by omega) ?_
      intro σ2 l2 k2
      have R2 := rb_pop S.1 k2 l2
      have hi : zf z1 - 1 < zf z1 := by omega
      have ft := kp_ty k2 (r18tb S.1 hi)
      have nW : ¬ (A 18 (zf z1 - 1) = A 3 0 ∨ A 18 (zf z1 - 1) = B 23 0) := by
        rintro (e | e)
        · exact absurd (S.1.2.1.1 18 (zf z1 - 1) 3 0 e).1 (by decide)
        · exact absurd (S.1.2.1.1 18 (zf z1 - 1) 23 0 e).1 (by decide)
      have v2 := (k2.2.2.2.2 _ (hty_lt (r18tb S.1 hi))).2.2 nW 2
      have f0 : hv σ2 2 (A 18 (zf z1 - 1)) 0 = gref A (z1.1 8 (zf z1 - 1) 0) := by rw [v2]; exact r20_b S.1 hi
      have f1 : hv σ2 2 (A 18 (zf z1 - 1)) 1 = .int (z1.1 8 (zf z1 - 1) 1) := by rw [v2]; exact r21_b S.1 hi
      have e7 : (∃ t, t ∈ [2] ∧ some 2 = some t) = True := eq_true ⟨2, by decide, rfl⟩
      have S2 : SA g (FA A B) A A B B σ1 σ2 (zl z1 1 0 (zf z1 - 1)) 0 0 := ⟨R2, BK_refl A _, BK_refl B _, kp_mono k2 (by omega) (by omega) (fun a _ e => by
        rcases e with e | e
        · rw [e]; exact FA_i 3 (by decide)
        · rw [e]; exact FA_b 23 (by decide)), fun _ _ => rfl⟩
      have S3 := SA_FA S S2
      obtain ⟨n1, n2⟩ := dn1Z_n z1
      have W2 := WI_dn1 W1 (by omega)
      have fin : ∀ σ3 l, SA g (FA A B) A A B B σ σ3 (dn1Z z1) 0 0 → aw g 109 5 [some (.ref (A 1 0)), some (.int (Int32.ofNat m)), some (.int (z.1 0 0 8)), l] [] σ3 Q := by
        intro σ3 l S4
        refine ih (dn1Z z1) σ3 l (fun _ => by omega) W2 S4 ez (fun e0 => ?_) (fun _ => hz1 (by omega))
        have := hz1 (by omega)
        omega
      by_cases g0 : z1.1 8 (zf z1 - 1) 0 = -1
      · have ez2 : dn1Z z1 = zl z1 1 0 (zf z1 - 1) := if_pos g0
        rw [ez2] at fin
        rw [g0, gref_m] at f0
        have := fin σ2 (some (.ref (A 18 (zf z1 - 1)))) S3
        simp (config := {decide := true}) only [vRf_r, vRf_n, vI_i, vL_l, vD_d, pI_i, pR_r, pR_n, vZ_0, vZ_1, ct_i, ct_r, ct_n, ct_l, ct_d, csum_n, csum_c, kt_v, kt_n, kt_e, oc_n, oc_i, oc_r, oc_l, oc_u, oc_d, true_and, and_true, Bool.and_true, Bool.true_and, ne_eq, not_false_eq_true, not_true_eq_false, implies_true, false_imp, true_imp_iff, hsz_put, hsl_put, hln_put, hty_put, hsz_new, hsl_new, hln_new, hty_new, Nat.zero_add, Nat.add_zero, eq_self, decide_true, t32_0, t32_1, t32_2, t32_3, t32_4, t32_5, t32_6, hv_same, hv_kne, hv_tne, hv_ntne, hv_nsame, hv_ctne, hty_cpy, hln_cpy, hsz_cpy, hsl_cpy, vrn, vnr, vrr, A109_32, A109_32r, A109_35, A109_36, A109_37, A109_40, A109_48, e7, f0, ft]
        exact this
      · have ez2 : dn1Z z1 = toDiskZ (zl z1 1 0 (zf z1 - 1)) (zf z1 - 1) := if_neg g0
        rw [ez2] at fin
        have f0' := f0
        rw [gref_k _ g0] at f0'
        have oF : okFi (zl z1 1 0 (zf z1 - 1)) (zf z1 - 1) := by
          rcases W1.2.1.2.2 _ hi with e | ⟨j, p, j1, j2, j3, j4⟩
          · exact absurd e g0
          · exact ⟨j, p, by unfold zn at j1 ⊢; rw [zl_k _ (by decide)]; exact j1, j2, j3, j4⟩
        have z1n : zn (zl z1 1 0 (zf z1 - 1)) = zn z1 := by unfold zn; rw [zl_k _ (by decide)]
        have z1f : zf (zl z1 1 0 (zf z1 - 1)) = zf z1 - 1 := by unfold zf; rw [zl_at]
        simp (config := {decide := true}) only [vRf_r, vRf_n, vI_i, vL_l, vD_d, pI_i, pR_r, pR_n, vZ_0, vZ_1, ct_i, ct_r, ct_n, ct_l, ct_d, csum_n, csum_c, kt_v, kt_n, kt_e, oc_n, oc_i, oc_r, oc_l, oc_u, oc_d, true_and, and_true, Bool.and_true, Bool.true_and, ne_eq, not_false_eq_true, not_true_eq_false, implies_true, false_imp, true_imp_iff, hsz_put, hsl_put, hln_put, hty_put, hsz_new, hsl_new, hln_new, hty_new, Nat.zero_add, Nat.add_zero, eq_self, decide_true, t32_0, t32_1, t32_2, t32_3, t32_4, t32_5, t32_6, hv_same, hv_kne, hv_tne, hv_ntne, hv_nsame, hv_ctne, hty_cpy, hln_cpy, hsz_cpy, hsl_cpy, vrn, vnr, vrr, A109_32, A109_32r, A109_35, A109_36, A109_37, A109_40, A109_43, A109_44, A109_45, r1tb R2, r10_b R2, r11_b R2, r13_b R2, r14_b R2, r1sb R2, rgBA R2, e7, f0', ft]
        refine c_toDisk2 (i := zf z1 - 1) R2 (by omega) (by omega) oF ft f0 f1 ?_
        intro σ3 S4
        have := fin σ3 (some (.ref (A 18 (zf z1 - 1)))) (SA_FA S3 (SA_Sa S4))
        simp (config := {decide := true}) only [vRf_r, vRf_n, vI_i, vL_l, vD_d, pI_i, pR_r, pR_n, vZ_0, vZ_1, ct_i, ct_r, ct_n, ct_l, ct_d, csum_n, csum_c, kt_v, kt_n, kt_e, oc_n, oc_i, oc_r, oc_l, oc_u, oc_d, true_and, and_true, Bool.and_true, Bool.true_and, ne_eq, not_false_eq_true, not_true_eq_false, implies_true, false_imp, true_imp_iff, hsz_put, hsl_put, hln_put, hty_put, hsz_new, hsl_new, hln_new, hty_new, Nat.zero_add, Nat.add_zero, eq_self, decide_true, t32_0, t32_1, t32_2, t32_3, t32_4, t32_5, t32_6, hv_same, hv_kne, hv_tne, hv_ntne, hv_nsame, hv_ctne, hty_cpy, hln_cpy, hsz_cpy, hsl_cpy, vrn, vnr, vrr, A109_48]
        exact this
  have hb := hW.1
  simp (config := {decide := true}) only [vRf_r, vRf_n, vI_i, vL_l, vD_d, pI_i, pR_r, pR_n, vZ_0, vZ_1, ct_i, ct_r, ct_n, ct_l, ct_d, csum_n, csum_c, kt_v, kt_n, kt_e, oc_n, oc_i, oc_r, oc_l, oc_u, oc_d, true_and, and_true, Bool.and_true, Bool.true_and, ne_eq, not_false_eq_true, not_true_eq_false, implies_true, false_imp, true_imp_iff, hsz_put, hsl_put, hln_put, hty_put, hsz_new, hsl_new, hln_new, hty_new, Nat.zero_add, Nat.add_zero, eq_self, decide_true, t32_0, t32_1, t32_2, t32_3, t32_4, t32_5, t32_6, hv_same, hv_kne, hv_tne, hv_ntne, hv_nsame, hv_ctne, hty_cpy, hln_cpy, hsz_cpy, hsl_cpy, vrn, vnr, vrr, A109_0, A109_1, A109_4, r1tb h, r10_b h, r11_b h, r13_b h, r14_b h, r1sb h, rgBA h]
  exact dn (zf z - m) z σ _ (fun _ => by omega) hW (SA_Sa (St_refl h)) rfl (fun _ => by omega) (fun _ => by omega)
end FRAMES
