/-! the clauses of one guest; one guest changes, a guest comes, a frame comes or goes -/
/-- a guest's cells by their roles a -/
def gcH (a : Nat → Nat) (σ : AH) (z : ZT) (k : Nat) : Prop :=
  (hty σ (a 4) = some 5 ∧ hty σ (a 5) = some 6 ∧ (hty σ (a 7) = some 20 ∧ hln σ (a 7) = 6) ∧ (hty σ (a 8) = some 20 ∧ hln σ (a 8) = 5) ∧ (hty σ (a 9) = some 21 ∧ hln σ (a 9) = 6) ∧ (hty σ (a 10) = some 21 ∧ hln σ (a 10) = 6) ∧ (z.1 1 k 30 = 1 → hty σ (a 11) = some 21 ∧ hln σ (a 11) = 6) ∧ (z.1 1 k 31 = 1 → hty σ (a 12) = some 9 ∧ hty σ (a 15) = some 6 ∧ hty σ (a 17) = some 20 ∧ hln σ (a 17) = 6)) ∧
  (hv σ 5 (a 4) 0 = .int (Int32.ofNat k) ∧ hv σ 5 (a 4) 2 = .ref (a 5) ∧ hv σ 5 (a 4) 13 = .ref (a 8) ∧ hv σ 5 (a 4) 14 = .ref (a 9) ∧ hv σ 5 (a 4) 15 = .ref (a 10) ∧ hv σ 5 (a 4) 16 = (if z.1 1 k 30 = 1 then .ref (a 11) else .null) ∧ hv σ 5 (a 4) 21 = (if z.1 1 k 31 = 1 then .ref (a 12) else .null) ∧ ∀ j, gsc j = true → hv σ 5 (a 4) j = .int (z.1 1 k j)) ∧
  ((hv σ 6 (a 5) 0 = .ref (a 6) ∧ hv σ 6 (a 5) 1 = .ref (a 7) ∧ hv σ 6 (a 5) 2 = .int (z.1 1 k 22) ∧ hv σ 6 (a 5) 3 = .int (z.1 1 k 23)) ∧ (z.1 1 k 31 = 1 → hv σ 6 (a 15) 0 = .ref (a 16) ∧ hv σ 6 (a 15) 1 = .ref (a 17) ∧ hv σ 6 (a 15) 2 = .int (z.1 1 k 32) ∧ hv σ 6 (a 15) 3 = .int (z.1 1 k 33))) ∧
  (z.1 1 k 31 = 1 → hv σ 9 (a 12) 0 = .ref (a 15) ∧ hv σ 9 (a 12) 1 = .ref (a 13) ∧ hv σ 9 (a 12) 2 = .ref (a 14) ∧ hv σ 9 (a 12) 3 = .int (z.1 1 k 24) ∧ hv σ 9 (a 12) 4 = .int (z.1 1 k 25)) ∧
  ((∀ p, p < 6 → hv σ 20 (a 7) p = .int (z.1 2 k p)) ∧ (∀ p, p < 5 → hv σ 20 (a 8) p = .int (z.1 3 k p)) ∧ (z.1 1 k 31 = 1 → ∀ p, p < 6 → hv σ 20 (a 17) p = .int (z.1 7 k p))) ∧
  ((∀ p, p < 6 → hv σ 21 (a 9) p = .int (z.1 4 k p)) ∧ (∀ p, p < 6 → hv σ 21 (a 10) p = .int (z.1 5 k p)) ∧ (z.1 1 k 30 = 1 → ∀ p, p < 6 → hv σ 21 (a 11) p = .int (z.1 6 k p)))
def gcT (g : GC) (N : Nat → Nat → Nat) (a : Nat → Nat) (σ : AH) (z : ZT) (k : Nat) : Prop := ∃ f, isL g σ (a 6) (a 26) (z.2 2 k) f ∧ ∀ i, i < z.2 2 k → OpAt N σ (f i) (z.1 9 k i) (z.1 10 k i)
def gcP (g : GC) (N : Nat → Nat → Nat) (a : Nat → Nat) (σ : AH) (z : ZT) (k : Nat) : Prop := (∃ f, isL g σ (a 16) (a 36) (z.2 2 k) f ∧ ∀ i, i < z.2 2 k → OpAt N σ (f i) (z.1 9 k i) (z.1 10 k i)) ∧ (∃ f, isL g σ (a 13) (a 33) (z.2 3 k) f ∧ ∀ i, i < z.2 3 k → InAt N σ (f i) (z.1 11 k i)) ∧ ∃ f, isL g σ (a 14) (a 34) (z.2 4 k) f ∧ ∀ i, i < z.2 4 k → RwAt N σ (f i) (z.1 12 k i) (z.1 13 k i)
def gc (g : GC) (N : Nat → Nat → Nat) (a : Nat → Nat) (σ : AH) (z : ZT) (k : Nat) : Prop := gcH a σ z k ∧ gcT g N a σ z k ∧ (z.1 1 k 31 = 1 → gcP g N a σ z k)
/-- the machine's clauses, the frames' -/
def mc (g : GC) (A : Nat → Nat → Nat) (σ : AH) (z : ZT) : Prop := hty σ (A 1 0) = some 1 ∧ cH1 A (hv σ 1) z ∧ isL g σ (A 2 0) (A 22 0) (zn z) (fun k => .ref (A 4 k))
def fc (g : GC) (A : Nat → Nat → Nat) (σ : AH) (z : ZT) : Prop := (∀ i, i < zf z → hty σ (A 18 i) = some 2) ∧ cH2 A (hv σ 2) z ∧ isL g σ (A 3 0) (A 23 0) (zf z) (fun i => .ref (A 18 i))
/-- names of one guest that may change: not the guest's own -/
def gmr (r : Nat) : Bool := (Nat.ble 5 r && Nat.ble r 17) || r == 26 || r == 33 || r == 34 || r == 36
def gwr (r : Nat) : Bool := r == 4 || gmr r
section GCL
variable {g : GC} {A A' N N' : Nat → Nat → Nat} {a : Nat → Nat} {σ σ' : AH} {z z' : ZT} {k : Nat} {W : Nat → Prop} {c s : Nat}
theorem RepC_out (h : RepC g A σ z) : Bas g σ ∧ cA g A σ ∧ mc g A σ z ∧ fc g A σ z ∧ ∀ k, k < zn z → gc g A (fun r => A r k) σ z k := by
  obtain ⟨q1, q2, ⟨t1, t2, t3⟩, q4, q5, q6, q7, q8, q9, q10, ⟨l1, l2⟩, l3⟩ := h
  exact ⟨q1, q2, ⟨t1, q4, l1⟩, ⟨t2, q5, l2⟩, fun k hk => ⟨⟨t3 k hk, q6 k hk, q7 k hk, q8 k hk, q9 k hk, q10 k hk⟩, (l3 k hk).1, (l3 k hk).2⟩⟩
theorem RepC_in (h1 : Bas g σ) (h2 : cA g A σ) (h3 : mc g A σ z) (h4 : fc g A σ z) (h5 : ∀ k, k < zn z → gc g A (fun r => A r k) σ z k) : RepC g A σ z :=
  ⟨h1, h2, ⟨h3.1, h4.1, fun k hk => (h5 k hk).1.1⟩, h3.2.1, h4.2.1, fun k hk => (h5 k hk).1.2.1, fun k hk => (h5 k hk).1.2.2.1, fun k hk => (h5 k hk).1.2.2.2.1, fun k hk => (h5 k hk).1.2.2.2.2.1, fun k hk => (h5 k hk).1.2.2.2.2.2, ⟨h3.2.2, h4.2.2⟩, fun k hk => ⟨(h5 k hk).2.1, (h5 k hk).2.2⟩⟩
/-- a list, where its cell is not written, and its own array not if it is there -/
theorem isL_kq {b n l : Nat} {f : Nat → Value} (h : isL g σ l b n f) (k : kp W c s σ σ') (ha : ¬ W l) (hb : b < hsz σ → ¬ W b) : isL g σ' l b n f := by
  by_cases hb' : b < hsz σ
  · exact isL_kp h k ha (hb hb')
  · obtain ⟨h1, h2, h3, ⟨m, h4⟩, h5, d, h6, h7, h8, h9, h10, h11⟩ := h
    obtain ⟨x1, x2, x3⟩ := k.2.2.2.2 l (hty_lt h1)
    have x3 := x3 ha
    obtain ⟨y1, y2, y3⟩ := k.2.2.2.2 d (hty_lt h7)
    rcases h11 with ⟨e, _, _⟩ | ⟨z1, z2, z3⟩
    · have := hty_lt h7
      omega
    · exact ⟨kp_ty k h1, h2, by rw [x3]; exact h3, ⟨m, by rw [x3]; exact h4⟩, fun i hi => kp_vOb k (h5 i hi), d, by rw [x3]; exact h6, kp_ty k h7, by rw [y2]; exact h8, by rw [y2]; exact h9, fun i hi => by omega, Or.inr ⟨by rw [y2]; exact z1, z2, z3.imp_right (fun q => kp_ty k q)⟩⟩
/-- the leaves are none of what is written -/
def Lf (N : Nat → Nat → Nat) (σ : AH) (W : Nat → Prop) : Prop := ∀ x, W x → x < hsz σ → (hty σ x ≠ some 8 ∧ hty σ x ≠ some 12 ∧ hty σ x ≠ some 20) ∨ ∃ r k, x = N r k
/-- a guest's clauses, where none of its cells is written -/
theorem gcH_kp (h : gcH a σ z k) (q : kp W c s σ σ') (hn : ∀ r, gwr r = true ∧ r ≠ 6 ∧ r ≠ 13 ∧ r ≠ 14 ∧ r ≠ 16 ∧ r ≠ 26 ∧ r ≠ 33 ∧ r ≠ 34 ∧ r ≠ 36 → a r < hsz σ → ¬ W (a r)) : gcH a σ' z k := by
  obtain ⟨⟨x0, x1, ⟨x2, x2'⟩, ⟨x3, x3'⟩, ⟨x4, x4'⟩, ⟨x5, x5'⟩, x6, x7⟩, h5, h6, h9, h20, h21⟩ := h
  have S : ∀ r t, hty σ (a r) = some t → (gwr r = true ∧ r ≠ 6 ∧ r ≠ 13 ∧ r ≠ 14 ∧ r ≠ 16 ∧ r ≠ 26 ∧ r ≠ 33 ∧ r ≠ 34 ∧ r ≠ 36) → ∀ t' i, hv σ' t' (a r) i = hv σ t' (a r) i := fun r t e e2 => (q.2.2.2.2 _ (hty_lt e)).2.2 (hn r e2 (hty_lt e))
  have N1 : ∀ r t, hty σ (a r) = some t → hln σ' (a r) = hln σ (a r) := fun r t e => (q.2.2.2.2 _ (hty_lt e)).2.1
  refine ⟨⟨kp_ty q x0, kp_ty q x1, ⟨kp_ty q x2, by rw [N1 _ _ x2]; exact x2'⟩, ⟨kp_ty q x3, by rw [N1 _ _ x3]; exact x3'⟩, ⟨kp_ty q x4, by rw [N1 _ _ x4]; exact x4'⟩, ⟨kp_ty q x5, by rw [N1 _ _ x5]; exact x5'⟩, fun hs => ⟨kp_ty q (x6 hs).1, by rw [N1 _ _ (x6 hs).1]; exact (x6 hs).2⟩, fun hs => ?_⟩, ?_, ?_, ?_, ?_, ?_⟩
  · obtain ⟨y1, y2, y3, y4⟩ := x7 hs
    exact ⟨kp_ty q y1, kp_ty q y2, kp_ty q y3, by rw [N1 _ _ y3]; exact y4⟩
  · have S4 := S 4 5 x0 (by decide) 5
    obtain ⟨y0, y1, y2, y3, y4, y5, y6, y7⟩ := h5
    exact ⟨by rw [S4]; exact y0, by rw [S4]; exact y1, by rw [S4]; exact y2, by rw [S4]; exact y3, by rw [S4]; exact y4, by rw [S4]; exact y5, by rw [S4]; exact y6, fun j hj => by rw [S4]; exact y7 j hj⟩
  · have S5 := S 5 6 x1 (by decide) 6
    refine ⟨by rw [S5, S5, S5, S5]; exact h6.1, fun hs => ?_⟩
    have S15 := S 15 6 (x7 hs).2.1 (by decide) 6
    rw [S15, S15, S15, S15]
    exact h6.2 hs
  · intro hs
    have S12 := S 12 9 (x7 hs).1 (by decide) 9
    rw [S12, S12, S12, S12, S12]
    exact h9 hs
  · have S7 := S 7 20 x2 (by decide) 20
    have S8 := S 8 20 x3 (by decide) 20
    refine ⟨fun p hp => by rw [S7]; exact h20.1 p hp, fun p hp => by rw [S8]; exact h20.2.1 p hp, fun hs p hp => ?_⟩
    rw [S 17 20 (x7 hs).2.2.1 (by decide) 20]
    exact h20.2.2 hs p hp
  · have S9 := S 9 21 x4 (by decide) 21
    have S10 := S 10 21 x5 (by decide) 21
    refine ⟨fun p hp => by rw [S9]; exact h21.1 p hp, fun p hp => by rw [S10]; exact h21.2.1 p hp, fun hs p hp => ?_⟩
    rw [S 11 21 (x6 hs).1 (by decide) 21]
    exact h21.2.2 hs p hp
theorem gcT_kp (h : gcT g N a σ z k) (q : kp W c s σ σ') (h6 : ¬ W (a 6)) (h26 : a 26 < hsz σ → ¬ W (a 26)) (hL : Lf N σ W) (hA : AN N N' σ) : gcT g N' a σ' z k := by
  obtain ⟨f, u1, u2⟩ := h
  exact ⟨f, isL_kq u1 q h6 h26, fun i hi => OpAt_kp (u2 i hi) q hA (fun x w l => (hL x w l).imp_left (fun e => e.1))⟩
theorem gc_kp (h : gc g N a σ z k) (q : kp W c s σ σ') (hn : ∀ r, gwr r = true → a r < hsz σ → ¬ W (a r)) (hL : Lf N σ W) (hA : AN N N' σ) : gc g N' a σ' z k := by
  have hl : ∀ r b n f, gwr r = true → gwr b = true → isL g σ (a r) (a b) n f → isL g σ' (a r) (a b) n f := fun r b n f e1 e2 e => isL_kq e q (hn r e1 (hty_lt e.1)) (hn b e2)
  refine ⟨gcH_kp h.1 q (fun r e => hn r e.1), ?_, fun hs => ?_⟩
  · obtain ⟨f, u1, u2⟩ := h.2.1
    exact ⟨f, hl 6 26 _ _ (by decide) (by decide) u1, fun i hi => OpAt_kp (u2 i hi) q hA (fun x w l => (hL x w l).imp_left (fun e => e.1))⟩
  · obtain ⟨⟨f1, u1, u2⟩, ⟨f2, u3, u4⟩, ⟨f3, u5, u6⟩⟩ := h.2.2 hs
    exact ⟨⟨f1, hl 16 36 _ _ (by decide) (by decide) u1, fun i hi => OpAt_kp (u2 i hi) q hA (fun x w l => (hL x w l).imp_left (fun e => e.1))⟩, ⟨f2, hl 13 33 _ _ (by decide) (by decide) u3, fun i hi => InAt_kp (u4 i hi) q hA (fun x w l => (hL x w l).imp_left (fun e => e.2.1))⟩, ⟨f3, hl 14 34 _ _ (by decide) (by decide) u5, fun i hi => RwAt_kp (u6 i hi) q hA (fun x w l => (hL x w l).imp_left (fun e => e.2.2))⟩⟩
/-- what a guest's clauses see of the state -/
def zsame (z z' : ZT) (k : Nat) : Prop := (∀ κ, κ = 1 ∨ κ = 2 ∨ κ = 3 ∨ κ = 4 ∨ κ = 5 ∨ κ = 6 ∨ κ = 7 ∨ κ = 9 ∨ κ = 10 ∨ κ = 11 ∨ κ = 12 ∨ κ = 13 → z'.1 κ k = z.1 κ k) ∧ z'.2 2 k = z.2 2 k ∧ z'.2 3 k = z.2 3 k ∧ z'.2 4 k = z.2 4 k
theorem gc_z (h : gc g N a σ z k) (e : zsame z z' k) : gc g N a σ z' k := by
  obtain ⟨e1, e2, e3, e4⟩ := e
  unfold gc gcH gcT gcP
  rw [e1 1 (by decide), e1 2 (by decide), e1 3 (by decide), e1 4 (by decide), e1 5 (by decide), e1 6 (by decide), e1 7 (by decide), e1 9 (by decide), e1 10 (by decide), e1 11 (by decide), e1 12 (by decide), e1 13 (by decide), e2, e3, e4]
  exact h
theorem gc_a {a' : Nat → Nat} (h : gc g N a σ z k) (e : ∀ r, gwr r = true → a' r = a r) : gc g N a' σ z k := by
  unfold gc gcH gcT gcP
  rw [e 4 rfl, e 5 rfl, e 6 rfl, e 7 rfl, e 8 rfl, e 9 rfl, e 10 rfl, e 11 rfl, e 12 rfl, e 13 rfl, e 14 rfl, e 15 rfl, e 16 rfl, e 17 rfl, e 26 rfl, e 33 rfl, e 34 rfl, e 36 rfl]
  exact h
/-- the machine's clauses, where none of its cells is written; other names for what it does not hold -/
theorem mc_kp (h : mc g A σ z) (q : kp W c s σ σ') (h1 : ¬ W (A 1 0)) (h2 : ¬ W (A 2 0)) (h3 : A 22 0 < hsz σ → ¬ W (A 22 0)) (e1 : A' 1 = A 1) (e2 : A' 2 = A 2) (e3 : A' 3 = A 3) (e4 : A' 4 = A 4) (e5 : A' 22 = A 22) (ez : z'.1 0 = z.1 0) (en : zn z' = zn z) : mc g A' σ' z' := by
  obtain ⟨t1, ⟨x0, x1, x2, x3, x4⟩, l1⟩ := h
  have S := (q.2.2.2.2 _ (hty_lt t1)).2.2 h1 1
  unfold mc cH1 gref
  rw [e1, e2, e3, e4, e5, ez, en]
  exact ⟨kp_ty q t1, ⟨by rw [S]; exact x0, by rw [S]; exact x1, by rw [S]; exact x2, by rw [S]; exact x3, fun j hj => by rw [S]; exact x4 j hj⟩, isL_kq l1 q h2 h3⟩
theorem fc_kp (h : fc g A σ z) (q : kp W c s σ σ') (h1 : ∀ i, i < zf z → ¬ W (A 18 i)) (h2 : ¬ W (A 3 0)) (h3 : A 23 0 < hsz σ → ¬ W (A 23 0)) (e2 : A' 18 = A 18) (e3 : A' 3 = A 3) (e4 : A' 4 = A 4) (e5 : A' 23 = A 23) (ez : z'.1 8 = z.1 8) (en : zf z' = zf z) : fc g A' σ' z' := by
  obtain ⟨t1, x0, l1⟩ := h
  unfold fc cH2 gref
  rw [e2, e3, e4, e5, ez, en]
  refine ⟨fun i hi => kp_ty q (t1 i hi), fun i hi => ?_, isL_kq l1 q h2 h3⟩
  have S := (q.2.2.2.2 _ (hty_lt (t1 i hi))).2.2 (h1 i hi) 2
  rw [S, S, S]
  exact x0 i hi
/-- new names for one guest -/
def AK (A A' : Nat → Nat → Nat) (σ : AH) (k : Nat) : Prop := ∀ r i, A' r i = A r i ∨ (i = k ∧ gmr r = true ∧ hsz σ ≤ A' r i)
theorem AK_AN (h : AK A A' σ k) : AN A A' σ := fun r i => (h r i).imp_right (fun e => e.2.2)
theorem AK_r (h : AK A A' σ k) {r : Nat} (hr : gmr r = false) : A' r = A r := by
  funext i
  rcases h r i with e | ⟨_, e, _⟩
  · exact e
  · rw [hr] at e; cases e
theorem AK_i (h : AK A A' σ k) {i : Nat} (hi : i ≠ k) : (fun r => A' r i) = fun r => A r i := by
  funext r
  rcases h r i with e | ⟨e, _, _⟩
  · exact e
  · exact absurd e hi
/-- one guest changes: its clauses are shown anew -/
theorem RepC_one (h : RepC g A σ z) (q : kp W c s σ σ') (hk : k < zn z) (hW : ∀ x, W x → ∃ r, x = A r k ∧ gwr r = true) (hA : AK A A' σ k) (hcA : cA g A' σ') (hz : ∀ i, i ≠ k → zsame z z' i) (h0 : z'.1 0 = z.1 0) (h8 : z'.1 8 = z.1 8) (hn : zn z' = zn z) (hf : zf z' = zf z) (hg : gc g A' (fun r => A' r k) σ' z' k) : RepC g A' σ' z' := by
  obtain ⟨q1, q2, q3, q4, q5⟩ := RepC_out h
  have nW : ∀ r i, (gwr r = false ∨ i ≠ k) → ¬ W (A r i) := by
    intro r i hr w
    obtain ⟨r', e, e2⟩ := hW _ w
    obtain ⟨e3, e4⟩ := q2.1 _ _ _ _ e
    rcases hr with hr | hr
    · rw [e3, e2] at hr; cases hr
    · exact hr e4
  refine RepC_in (Bas_kp q1 q (fun x w => ?_)) hcA (mc_kp q3 q (nW _ _ (Or.inl rfl)) (nW _ _ (Or.inl rfl)) (fun _ => nW _ _ (Or.inl rfl)) (AK_r hA rfl) (AK_r hA rfl) (AK_r hA rfl) (AK_r hA rfl) (AK_r hA rfl) h0 hn) (fc_kp q4 q (fun i _ => nW _ _ (Or.inl rfl)) (nW _ _ (Or.inl rfl)) (fun _ => nW _ _ (Or.inl rfl)) (AK_r hA rfl) (AK_r hA rfl) (AK_r hA rfl) (AK_r hA rfl) h8 hf) (fun i hi => ?_)
  · obtain ⟨r, e, _⟩ := hW x w
    rw [e]; exact (q2.2 r k).1
  · by_cases e : i = k
    · subst e; exact hg
    · rw [AK_i hA e]
      rw [hn] at hi
      exact gc_z (gc_kp (q5 i hi) q (fun r _ _ => nW r i (Or.inr e)) (fun x w _ => Or.inr (by
        obtain ⟨r, e, _⟩ := hW x w
        exact ⟨r, k, e⟩)) (AK_AN hA)) (hz i e)
/-- one name more, for a new cell -/
theorem cA_1 {M M' : Nat → Nat → Nat} (h : cA g M σ) (hl : hsz σ ≤ hsz σ') (hC : hsz σ' ≤ gC g) (hB : gB g ≤ hsz σ) {r0 k0 : Nat} (hM : ∀ r k, ¬ (r = r0 ∧ k = k0) → M' r k = M r k) (hx : hsz σ ≤ M' r0 k0) (hx2 : M' r0 k0 < hsz σ') : cA g M' σ' := by
  have hd : ∀ r k, ¬ (r = r0 ∧ k = k0) → M' r k ≠ M' r0 k0 := by
    intro r k hn e
    rw [hM r k hn] at e
    rcases (h.2 r k).2 with q | q <;> omega
  refine ⟨fun r1 k1 r2 k2 he => ?_, fun r k => ?_⟩
  · by_cases h1 : r1 = r0 ∧ k1 = k0
    · by_cases h2 : r2 = r0 ∧ k2 = k0
      · exact ⟨by omega, by omega⟩
      · rw [h1.1, h1.2] at he
        exact absurd he.symm (hd _ _ h2)
    · by_cases h2 : r2 = r0 ∧ k2 = k0
      · rw [h2.1, h2.2] at he
        exact absurd he (hd _ _ h1)
      · rw [hM _ _ h1, hM _ _ h2] at he
        exact h.1 _ _ _ _ he
  · by_cases h1 : r = r0 ∧ k = k0
    · rw [h1.1, h1.2]; exact ⟨by omega, Or.inl hx2⟩
    · rw [hM _ _ h1]
      refine ⟨(h.2 r k).1, ?_⟩
      rcases (h.2 r k).2 with q | q
      · exact Or.inl (by omega)
      · exact Or.inr q
/-- a name for a new cell -/
def nm (A : Nat → Nat → Nat) (r0 k0 x : Nat) : Nat → Nat → Nat := fun r k => if r = r0 ∧ k = k0 then x else A r k
theorem nm_at (A : Nat → Nat → Nat) (r k x : Nat) : nm A r k x r k = x := if_pos ⟨rfl, rfl⟩
theorem nm_ne {r0 k0 x r k' : Nat} (h : ¬ (r = r0 ∧ k' = k0)) : nm A r0 k0 x r k' = A r k' := if_neg h
theorem cA_nm {r0 k0 x : Nat} (h : cA g A σ) (hl : hsz σ ≤ hsz σ') (hC : hsz σ' ≤ gC g) (hB : gB g ≤ hsz σ) (hx : hsz σ ≤ x) (hx2 : x < hsz σ') : cA g (nm A r0 k0 x) σ' :=
  cA_1 (r0 := r0) (k0 := k0) h hl hC hB (fun r k hn => nm_ne hn) (by rw [nm_at]; exact hx) (by rw [nm_at]; exact hx2)
theorem cA_le (h : cA g A σ) (hl : hsz σ ≤ hsz σ') : cA g A σ' := ⟨h.1, fun r k => ⟨(h.2 r k).1, by
  rcases (h.2 r k).2 with q | q
  · exact Or.inl (by omega)
  · exact Or.inr q⟩⟩
theorem AN_nm {r0 k0 x : Nat} (hx : hsz σ ≤ x) : AN A (nm A r0 k0 x) σ := by
  intro r k
  by_cases e : r = r0 ∧ k = k0
  · rw [e.1, e.2, nm_at]; exact Or.inr hx
  · rw [nm_ne e]; exact Or.inl rfl
theorem AN_tr {A1 : Nat → Nat → Nat} {σ1 : AH} (h : AN A A1 σ) (k : AN A1 A' σ1) (hl : hsz σ ≤ hsz σ1) : AN A A' σ := by
  intro r j
  rcases k r j with e | e
  · rw [e]; exact h r j
  · exact Or.inr (by omega)
theorem enc_inj {r k r' k' : Nat} (h : enc r k = enc r' k') : r = r' ∧ k = k' := by
  unfold enc at h
  have key : ∀ a b x y : Nat, x ≤ a → a < b → a * a + x = b * b + y → False := by
    intro a b x y h1 h2 h3
    have h4 : (a + 1) * (a + 1) ≤ b * b := Nat.mul_le_mul h2 h2
    have h5 : (a + 1) * (a + 1) = a * a + a + a + 1 := by rw [Nat.add_mul, Nat.mul_add]; omega
    omega
  rcases Nat.lt_trichotomy (r + k) (r' + k') with q | q | q
  · exact (key _ _ r r' (by omega) q h).elim
  · rw [q] at h
    exact ⟨by omega, by omega⟩
  · exact (key _ _ r' r (by omega) q h.symm).elim
theorem gcH_a {a' : Nat → Nat} (h : gcH a σ z k) (e : ∀ r, gwr r = true ∧ r ≠ 26 ∧ r ≠ 33 ∧ r ≠ 34 ∧ r ≠ 36 → a' r = a r) : gcH a' σ z k := by
  unfold gcH
  rw [e 4 (by decide), e 5 (by decide), e 6 (by decide), e 7 (by decide), e 8 (by decide), e 9 (by decide), e 10 (by decide), e 11 (by decide), e 12 (by decide), e 13 (by decide), e 14 (by decide), e 15 (by decide), e 16 (by decide), e 17 (by decide)]
  exact h
theorem gcH_z (h : gcH a σ z k) (e : ∀ κ, κ = 1 ∨ κ = 2 ∨ κ = 3 ∨ κ = 4 ∨ κ = 5 ∨ κ = 6 ∨ κ = 7 → z'.1 κ k = z.1 κ k) : gcH a σ z' k := by
  unfold gcH
  rw [e 1 (by decide), e 2 (by decide), e 3 (by decide), e 4 (by decide), e 5 (by decide), e 6 (by decide), e 7 (by decide)]
  exact h
/-- the tape's clause, the log's, the given rows' -/
def P16 (g : GC) (N : Nat → Nat → Nat) (a : Nat → Nat) (σ : AH) (z : ZT) (k : Nat) : Prop := ∃ f, isL g σ (a 16) (a 36) (z.2 2 k) f ∧ ∀ i, i < z.2 2 k → OpAt N σ (f i) (z.1 9 k i) (z.1 10 k i)
def P13 (g : GC) (N : Nat → Nat → Nat) (a : Nat → Nat) (σ : AH) (z : ZT) (k : Nat) : Prop := ∃ f, isL g σ (a 13) (a 33) (z.2 3 k) f ∧ ∀ i, i < z.2 3 k → InAt N σ (f i) (z.1 11 k i)
def P14 (g : GC) (N : Nat → Nat → Nat) (a : Nat → Nat) (σ : AH) (z : ZT) (k : Nat) : Prop := ∃ f, isL g σ (a 14) (a 34) (z.2 4 k) f ∧ ∀ i, i < z.2 4 k → RwAt N σ (f i) (z.1 12 k i) (z.1 13 k i)
theorem gcP_iff : gcP g N a σ z k = (P16 g N a σ z k ∧ P13 g N a σ z k ∧ P14 g N a σ z k) := rfl
theorem P16_kp (h : P16 g N a σ z k) (q : kp W c s σ σ') (h1 : ¬ W (a 16)) (h2 : a 36 < hsz σ → ¬ W (a 36)) (hL : Lf N σ W) (hA : AN N N' σ) : P16 g N' a σ' z k := by
  obtain ⟨f, u1, u2⟩ := h
  exact ⟨f, isL_kq u1 q h1 h2, fun i hi => OpAt_kp (u2 i hi) q hA (fun x w l => (hL x w l).imp_left (fun e => e.1))⟩
theorem P13_kp (h : P13 g N a σ z k) (q : kp W c s σ σ') (h1 : ¬ W (a 13)) (h2 : a 33 < hsz σ → ¬ W (a 33)) (hL : Lf N σ W) (hA : AN N N' σ) : P13 g N' a σ' z k := by
  obtain ⟨f, u1, u2⟩ := h
  exact ⟨f, isL_kq u1 q h1 h2, fun i hi => InAt_kp (u2 i hi) q hA (fun x w l => (hL x w l).imp_left (fun e => e.2.1))⟩
theorem P14_kp (h : P14 g N a σ z k) (q : kp W c s σ σ') (h1 : ¬ W (a 14)) (h2 : a 34 < hsz σ → ¬ W (a 34)) (hL : Lf N σ W) (hA : AN N N' σ) : P14 g N' a σ' z k := by
  obtain ⟨f, u1, u2⟩ := h
  exact ⟨f, isL_kq u1 q h1 h2, fun i hi => RwAt_kp (u2 i hi) q hA (fun x w l => (hL x w l).imp_left (fun e => e.2.2))⟩
theorem zsame_refl (z : ZT) (i : Nat) : zsame z z i := ⟨fun _ _ => rfl, rfl, rfl, rfl⟩
theorem zsame_zs {i κ j : Nat} {v : Int32} (h : zsame z z' i) (hi : i ≠ k) : zsame z (zs z' κ k j v) i := ⟨fun a ha => by
  funext b
  rw [zs_i _ hi, h.1 a ha], h.2⟩
theorem zsame_z0 {i κ b j : Nat} {v : Int32} (h : zsame z z' i) (hκ : κ = 0 ∨ κ = 8 ∨ 14 ≤ κ) : zsame z (zs z' κ b j v) i := ⟨fun a ha => by
  rw [zs_k _ (by omega), h.1 a ha], h.2⟩
theorem zsame_zl {i κ v : Nat} (h : zsame z z' i) (hi : i ≠ k) : zsame z (zl z' κ k v) i := ⟨h.1, by rw [zl_i _ hi]; exact h.2.1, by rw [zl_i _ hi]; exact h.2.2.1, by rw [zl_i _ hi]; exact h.2.2.2⟩
theorem zsame_l0 {i κ b v : Nat} (h : zsame z z' i) (hκ : κ = 0 ∨ κ = 1) : zsame z (zl z' κ b v) i := ⟨h.1, by rw [zl_k _ (by omega)]; exact h.2.1, by rw [zl_k _ (by omega)]; exact h.2.2.1, by rw [zl_k _ (by omega)]; exact h.2.2.2⟩
theorem mix_nm {A B : Nat → Nat → Nat} {r0 k0 x : Nat} (hr : r0 < 20) : mix (nm A r0 k0 x) B = nm (mix A B) r0 k0 x := by
  funext r k
  unfold mix nm
  by_cases e : r = r0 ∧ k = k0
  · rw [if_pos e, if_pos e, if_pos (by omega)]
  · rw [if_neg e, if_neg e]
theorem mix_Bup {A B : Nat → Nat → Nat} {r0 k0 x : Nat} (hr : 20 ≤ r0) : mix A (Bup B r0 k0 x) = nm (mix A B) r0 k0 x := by
  funext r k
  unfold mix nm Bup
  by_cases e : r = r0 ∧ k = k0
  · rw [if_pos e, if_neg (by omega), if_pos e]
  · rw [if_neg e, if_neg e]
theorem AK_nm {r0 x : Nat} (hr : gmr r0 = true) (hx : x = A r0 k ∨ hsz σ ≤ x) : AK A (nm A r0 k x) σ k := by
  intro r i
  by_cases e : r = r0 ∧ i = k
  · rw [e.1, e.2, nm_at]
    exact hx.imp_right (fun q => ⟨rfl, hr, q⟩)
  · rw [nm_ne e]; exact Or.inl rfl
theorem AK_tr {A1 : Nat → Nat → Nat} {σ1 : AH} (h : AK A A1 σ k) (q : AK A1 A' σ1 k) (hl : hsz σ ≤ hsz σ1) : AK A A' σ k := by
  intro r i
  rcases q r i with e | ⟨e1, e2, e3⟩
  · rw [e]; exact h r i
  · exact Or.inr ⟨e1, e2, by omega⟩
theorem cA_nm' {r0 k0 x : Nat} (h : cA g A σ) (hl : hsz σ ≤ hsz σ') (hC : hsz σ' ≤ gC g) (hB : gB g ≤ hsz σ) (hx : x = A r0 k0 ∨ hsz σ ≤ x ∧ x < hsz σ') : cA g (nm A r0 k0 x) σ' := by
  rcases hx with e | ⟨e1, e2⟩
  · have : nm A r0 k0 x = A := by
      funext r k
      unfold nm
      by_cases q : r = r0 ∧ k = k0
      · rw [if_pos q, q.1, q.2, e]
      · rw [if_neg q]
    rw [this]
    exact cA_le h hl
  · exact cA_nm h hl hC hB e1 e2
theorem BK_nm {r0 k0 x : Nat} (hr : r0 < 40) (hx : x = A r0 k0 ∨ hsz σ ≤ x) : BK A (nm A r0 k0 x) σ := by
  intro r k
  by_cases e : r = r0 ∧ k = k0
  · rw [e.1, e.2, nm_at]
    by_cases q : x = A r0 k0
    · exact Or.inl q
    · exact Or.inr ⟨hr, q, hx.resolve_left q⟩
  · rw [nm_ne e]; exact Or.inl rfl
end GCL
