/-! a machine's copy -/
/-- what the copy shares with it, or what is not the component's -/
def shr (r : Nat) : Prop := r = 15 ∨ r = 16 ∨ r = 17 ∨ r = 36 ∨ 40 ≤ r
/-- the frames so far -/
def fP (X : Nat → Nat → Nat) (σ : AH) (z : ZT) (f : Nat) : Prop := ∀ i, i < f → hty σ (X 18 i) = some 2 ∧ hv σ 2 (X 18 i) 0 = gref X (z.1 8 i 0) ∧ hv σ 2 (X 18 i) 1 = .int (z.1 8 i 1) ∧ hv σ 2 (X 18 i) 2 = .int (z.1 8 i 2)
/-- the copy so far: c guests, f frames -/
def PC (g : GC) (X : Nat → Nat → Nat) (σ : AH) (z : ZT) (c f : Nat) : Prop := Bas g σ ∧ cA g X σ ∧ (hty σ (X 1 0) = some 1 ∧ hv σ 1 (X 1 0) 0 = .ref (X 2 0) ∧ hv σ 1 (X 1 0) 1 = .ref (X 3 0)) ∧ isL g σ (X 2 0) (X 22 0) c (fun k => .ref (X 4 k)) ∧ isL g σ (X 3 0) (X 23 0) f (fun i => .ref (X 18 i)) ∧ fP X σ z f ∧ ∀ k, k < c → gc g X (fun r => X r k) σ z k
def XI (M X : Nat → Nat → Nat) (n : Nat) : Prop := ∀ r k, (shr r → X r k = M r k) ∧ (¬ shr r → n ≤ X r k)
/-- names of a copy that is not made yet -/
def selX (g : GC) (M : Nat → Nat → Nat) : Nat → Nat → Nat := fun r k => if r = 15 ∨ r = 16 ∨ r = 17 ∨ r = 36 ∨ 40 ≤ r then M r k else gC g + enc r k
section MCOPY
variable {g : GC} {A B M X X' : Nat → Nat → Nat} {σ σ' σ0 : AH} {z : ZT} {k p x y u b n c f : Nat} {W : Nat → Prop} {Q : AQ}
theorem isL_f {a b n : Nat} {f f' : Nat → Value} (h : isL g σ a b n f) (e : ∀ i, i < n → f' i = f i) : isL g σ a b n f' := by
  obtain ⟨h1, h2, h3, h4, h5, d, h6, h7, h8, h9, h10, h11⟩ := h
  exact ⟨h1, h2, h3, h4, fun i hi => by rw [e i hi]; exact h5 i hi, d, h6, h7, h8, h9, fun i hi => by rw [e i hi]; exact h10 i hi, h11⟩
theorem AN_up2 {r0 k0 x : Nat} (hx : x = X r0 k0 ∨ hsz σ ≤ x ∧ x < hsz σ') : AN X (nm X r0 k0 x) σ := by
  intro r k
  by_cases e : r = r0 ∧ k = k0
  · rw [e.1, e.2, nm_at]; exact hx.imp_right (fun e => e.1)
  · rw [nm_ne e]; exact Or.inl rfl
theorem shr_d (r : Nat) : shr r ∨ ¬ shr r := Classical.em _
theorem selX_cA (h : cA g M σ) (hB : gB g ≤ gC g) (hC : hsz σ ≤ gC g) : cA g (selX g M) σ ∧ XI M (selX g M) (hsz σ) := by
  have e1 : ∀ r k, shr r → selX g M r k = M r k := fun r k h => if_pos h
  have e2 : ∀ r k, ¬ shr r → selX g M r k = gC g + enc r k := fun r k h => if_neg h
  have key : ∀ r k r' k', shr r → ¬ shr r' → selX g M r k = selX g M r' k' → False := by
    intro r k r' k' h1 h2 e
    rw [e1 _ _ h1, e2 _ _ h2] at e
    rcases (h.2 r k).2 with q | q
    · omega
    · have := enc_inj (r := r) (k := k) (r' := r') (k' := k') (by omega)
      rw [this.1] at h1
      exact h2 h1
  refine ⟨⟨fun r k r' k' e => ?_, fun r k => ?_⟩, fun r k => ⟨fun h1 => e1 r k h1, fun h1 => by rw [e2 r k h1]; omega⟩⟩
  · rcases shr_d r with h1 | h1
    · rcases shr_d r' with h2 | h2
      · rw [e1 _ _ h1, e1 _ _ h2] at e; exact h.1 _ _ _ _ e
      · exact (key _ _ _ _ h1 h2 e).elim
    · rcases shr_d r' with h2 | h2
      · exact (key _ _ _ _ h2 h1 e.symm).elim
      · rw [e2 _ _ h1, e2 _ _ h2] at e
        exact enc_inj (by omega)
  · rcases shr_d r with h1 | h1
    · rw [e1 _ _ h1]; exact h.2 r k
    · rw [e2 _ _ h1]; exact ⟨by omega, Or.inr rfl⟩
theorem XI_nm {r0 k0 x : Nat} (h : XI M X n) (hr : ¬ shr r0) (hx : n ≤ x) : XI M (nm X r0 k0 x) n := by
  intro r k
  by_cases e : r = r0 ∧ k = k0
  · refine ⟨fun q => ?_, fun _ => ?_⟩
    · rw [e.1] at q; exact absurd q hr
    · rw [e.1, e.2, nm_at]; exact hx
  · rw [nm_ne e]; exact h r k
theorem XI_AN (h : XI M X (hsz σ)) : AN M X σ := fun r k => by
  rcases shr_d r with q | q
  · exact Or.inl ((h r k).1 q)
  · exact Or.inr ((h r k).2 q)
theorem XI_AG (h : XI M X n) (hA : AG X X' σ k) (h15 : X' 15 k = X 15 k ∧ X' 16 k = X 16 k ∧ X' 17 k = X 17 k ∧ X' 36 k = X 36 k) (hn : n ≤ hsz σ) : XI M X' n := by
  intro r i
  rcases hA r i with e | ⟨e1, e2, e3⟩
  · rw [e]; exact h r i
  · refine ⟨fun q => ?_, fun _ => by omega⟩
    rw [e1]
    rcases q with q | q | q | q | q
    · rw [q, h15.1]; exact (h 15 k).1 (Or.inl rfl)
    · rw [q, h15.2.1]; exact (h 16 k).1 (Or.inr (Or.inl rfl))
    · rw [q, h15.2.2.1]; exact (h 17 k).1 (Or.inr (Or.inr (Or.inl rfl)))
    · rw [q, h15.2.2.2]; exact (h 36 k).1 (Or.inr (Or.inr (Or.inr (Or.inl rfl))))
    · exfalso
      have : r = 4 ∨ r ≤ 17 ∨ r = 26 ∨ r = 33 ∨ r = 34 ∨ r = 36 := by
        simp [gwr, gmr] at e2
        omega
      omega
theorem gref_X {x : Int32} {n : Nat} (hx : x = -1 ∨ ∃ j, j < n ∧ x = Int32.ofNat j) (hn : n ≤ 1000) (h : ∀ j, j < n → X' 4 j = X 4 j) : gref X' x = gref X x := by
  unfold gref
  rcases hx with e | ⟨j, j1, e⟩
  · rw [if_pos e, if_pos e]
  · have e0 : x ≠ -1 := fun e2 => by rw [e] at e2; rw [n32_m1 (by omega)] at e2; exact e2
    rw [if_neg e0, if_neg e0, e, n32_nat (by omega), h j j1]
/-- only new cells come; names of one guest more -/
theorem PC_kp {cc ss : Nat} (h : PC g X σ z c f) (q : kp W cc ss σ σ') (hWB : ∀ a, W a → gB g ≤ a) (hWn : ∀ r i, X r i < hsz σ → ¬ W (X r i)) (hL : Lf X σ W) (hA : AG X X' σ k) (hk : c ≤ k) (hcA : cA g X' σ') (hfz : ∀ i, i < f → z.1 8 i 0 = -1 ∨ ∃ j, j < c ∧ z.1 8 i 0 = Int32.ofNat j) (hc : c ≤ 1000) : PC g X' σ' z c f := by
  obtain ⟨q1, q2, ⟨m1, m2, m3⟩, l1, l2, hf, hg⟩ := h
  have e : ∀ r i, (gwr r = false ∨ i ≠ k) → X' r i = X r i := by
    intro r i hr
    rcases hA r i with e | ⟨e1, e2, _⟩
    · exact e
    · rcases hr with hr | hr
      · rw [hr] at e2; cases e2
      · exact absurd e1 hr
  have S : ∀ r i t, hty σ (X r i) = some t → ∀ t' j, hv σ' t' (X r i) j = hv σ t' (X r i) j := fun r i t e => (q.2.2.2.2 _ (hty_lt e)).2.2 (hWn r i (hty_lt e))
  refine ⟨Bas_kp q1 q hWB, hcA, ⟨by rw [e 1 0 (Or.inl rfl)]; exact kp_ty q m1, by rw [e 1 0 (Or.inl rfl), e 2 0 (Or.inl rfl), S _ _ 1 m1]; exact m2, by rw [e 1 0 (Or.inl rfl), e 3 0 (Or.inl rfl), S _ _ 1 m1]; exact m3⟩, ?_, ?_, fun i hi => ?_, fun j hj => ?_⟩
  · rw [e 2 0 (Or.inl rfl), e 22 0 (Or.inl rfl)]
    have := isL_kq l1 q (hWn _ _ (hty_lt l1.1)) (hWn _ _)
    exact isL_f this (fun j hj => by show Value.ref _ = Value.ref _; rw [e 4 j (Or.inr (by omega))])
  · rw [e 3 0 (Or.inl rfl), e 23 0 (Or.inl rfl)]
    have := isL_kq l2 q (hWn _ _ (hty_lt l2.1)) (hWn _ _)
    exact isL_f this (fun j hj => by show Value.ref _ = Value.ref _; rw [e 18 j (Or.inl rfl)])
  · obtain ⟨x0, x1, x2, x3⟩ := hf i hi
    rw [e 18 i (Or.inl rfl), S _ _ 2 x0, S _ _ 2 x0, S _ _ 2 x0, gref_X (hfz i hi) hc (fun j hj => e 4 j (Or.inr (by omega)))]
    exact ⟨kp_ty q x0, x1, x2, x3⟩
  · have ea : (fun r => X' r j) = fun r => X r j := by funext r; exact e r j (Or.inr (by omega))
    rw [ea]
    exact gc_kp (hg j hj) q (fun r _ => hWn r j) hL (AG_AN hA)
/-- the list of guests grows -/
theorem PC_guest {cc ss b' : Nat} (h : PC g X σ z c 0) (hG : gc g X (fun r => X r c) σ z c) (q : kp (fun a => a = X 2 0 ∨ a = X 22 0) cc ss σ σ') (hC : hsz σ' ≤ gC g) (hl : isL g σ' (X 2 0) b' (c + 1) (fun i => if i = c then .ref (X 4 c) else .ref (X 4 i))) (hb : b' = X 22 0 ∨ hsz σ ≤ b' ∧ b' < hsz σ') : PC g (nm X 22 0 b') σ' z (c + 1) 0 := by
  obtain ⟨q1, q2, ⟨m1, m2, m3⟩, l1, l2, hf, hg⟩ := h
  have nW : ∀ r i, ¬ (r = 2 ∧ i = 0) → ¬ (r = 22 ∧ i = 0) → ¬ (X r i = X 2 0 ∨ X r i = X 22 0) := by
    rintro r i h1 h2 (e | e)
    · exact h1 (q2.1 _ _ _ _ e)
    · exact h2 (q2.1 _ _ _ _ e)
  have S1 := (q.2.2.2.2 _ (hty_lt m1)).2.2 (nW 1 0 (by decide) (by decide)) 1
  have ne : ∀ r i, r ≠ 22 → nm X 22 0 b' r i = X r i := fun r i hr => nm_ne (by omega)
  refine ⟨Bas_kp q1 q (fun a e => ?_), cA_nm' q2 q.1 hC q1.1 hb, ⟨by rw [ne 1 0 (by decide)]; exact kp_ty q m1, by rw [ne 1 0 (by decide), ne 2 0 (by decide), S1]; exact m2, by rw [ne 1 0 (by decide), ne 3 0 (by decide), S1]; exact m3⟩, ?_, ?_, fun i hi => by omega, fun j hj => ?_⟩
  · rcases e with e | e
    · rw [e]; exact (q2.2 2 0).1
    · rw [e]; exact (q2.2 22 0).1
  · rw [ne 2 0 (by decide), nm_at]
    exact isL_f hl (fun j hj => by
      show Value.ref _ = if j = c then Value.ref _ else Value.ref _
      rw [ne 4 j (by decide)]
      by_cases e : j = c
      · rw [if_pos e, e]
      · rw [if_neg e])
  · rw [ne 3 0 (by decide), ne 23 0 (by decide)]
    exact isL_f (isL_kq l2 q (nW 3 0 (by decide) (by decide)) (fun _ => nW 23 0 (by decide) (by decide))) (fun j hj => by omega)
  · have hg' : gc g X (fun r => X r j) σ z j := by
      by_cases e : j = c
      · rw [e]; exact hG
      · exact hg j (by omega)
    refine gc_a (gc_kp hg' q (fun r hr _ => nW r j (fun e => ?_) (fun e => ?_)) (fun a e _ => Or.inr ?_) (AN_up2 hb)) (fun r hr => ne r j (fun e => ?_))
    · rw [e.1] at hr; revert hr; decide
    · rw [e.1] at hr; revert hr; decide
    · rcases e with e | e
      · exact ⟨2, 0, e⟩
      · exact ⟨22, 0, e⟩
    · rw [e] at hr; revert hr; decide
/-- the list of frames grows -/
theorem PC_frame {cc ss b' x : Nat} (h : PC g X σ z c f) (q : kp (fun a => a = X 3 0 ∨ a = X 23 0) cc ss σ σ') (hC : hsz σ' ≤ gC g) (hx : hsz σ ≤ x) (hx2 : x < hsz σ') (hb : b' = X 23 0 ∨ x < b' ∧ b' < hsz σ') (hl : isL g σ' (X 3 0) b' (f + 1) (fun i => if i = f then .ref x else .ref (X 18 i))) (hxt : hty σ' x = some 2 ∧ hv σ' 2 x 0 = gref X (z.1 8 f 0) ∧ hv σ' 2 x 1 = .int (z.1 8 f 1) ∧ hv σ' 2 x 2 = .int (z.1 8 f 2)) : PC g (nm (nm X 18 f x) 23 0 b') σ' z c (f + 1) := by
  obtain ⟨q1, q2, ⟨m1, m2, m3⟩, l1, l2, hf, hg⟩ := h
  have hgB := q1.1
  have nW : ∀ r i, ¬ (r = 3 ∧ i = 0) → ¬ (r = 23 ∧ i = 0) → ¬ (X r i = X 3 0 ∨ X r i = X 23 0) := by
    rintro r i h1 h2 (e | e)
    · exact h1 (q2.1 _ _ _ _ e)
    · exact h2 (q2.1 _ _ _ _ e)
  have S1 := (q.2.2.2.2 _ (hty_lt m1)).2.2 (nW 1 0 (by decide) (by decide)) 1
  have ne : ∀ r i, r ≠ 23 → ¬ (r = 18 ∧ i = f) → nm (nm X 18 f x) 23 0 b' r i = X r i := fun r i hr h2 => by rw [nm_ne (by omega), nm_ne h2]
  have at18 : nm (nm X 18 f x) 23 0 b' 18 f = x := by rw [nm_ne (by omega), nm_at]
  have at23 : nm (nm X 18 f x) 23 0 b' 23 0 = b' := nm_at _ _ _ _
  have hcA : cA g (nm (nm X 18 f x) 23 0 b') σ' := by
    have C1 := cAs_nm (r0 := 18) (k0 := f) (x := x) (cAs_of q2) hx (by omega) hgB
    rcases hb with hb | ⟨hb1, hb2⟩
    · have : nm (nm X 18 f x) 23 0 b' = nm X 18 f x := by
        funext r i
        by_cases e : r = 23 ∧ i = 0
        · rw [e.1, e.2, at23, nm_ne (by omega), hb]
        · rw [nm_ne e]
      rw [this]
      exact cAs_to C1 (by omega)
    · exact cAs_to (cAs_nm (r0 := 23) (k0 := 0) (x := b') C1 (by omega) (by omega) (by omega)) (by omega)
  have hAN : AN X (nm (nm X 18 f x) 23 0 b') σ := by
    intro r i
    by_cases e : r = 23 ∧ i = 0
    · rw [e.1, e.2, at23]
      rcases hb with hb | hb
      · exact Or.inl hb
      · exact Or.inr (by omega)
    · rw [nm_ne e]; exact AN_nm hx r i
  refine ⟨Bas_kp q1 q (fun a e => ?_), hcA, ⟨by rw [ne 1 0 (by decide) (by omega)]; exact kp_ty q m1, by rw [ne 1 0 (by decide) (by omega), ne 2 0 (by decide) (by omega), S1]; exact m2, by rw [ne 1 0 (by decide) (by omega), ne 3 0 (by decide) (by omega), S1]; exact m3⟩, ?_, ?_, fun i hi => ?_, fun j hj => ?_⟩
  · rcases e with e | e
    · rw [e]; exact (q2.2 3 0).1
    · rw [e]; exact (q2.2 23 0).1
  · rw [ne 2 0 (by decide) (by omega), ne 22 0 (by decide) (by omega)]
    exact isL_f (isL_kq l1 q (nW 2 0 (by decide) (by decide)) (fun _ => nW 22 0 (by decide) (by decide))) (fun j hj => by show Value.ref _ = Value.ref _; rw [ne 4 j (by decide) (by omega)])
  · rw [ne 3 0 (by decide) (by omega), at23]
    exact isL_f hl (fun j hj => by
      show Value.ref _ = if j = f then Value.ref _ else Value.ref _
      by_cases e : j = f
      · rw [if_pos e, e, at18]
      · rw [if_neg e, ne 18 j (by decide) (by omega)])
  · have eg : ∀ x, gref (nm (nm X 18 f x) 23 0 b') = gref X := fun x => rfl
    by_cases e : i = f
    · rw [e, at18]
      exact hxt
    · rw [ne 18 i (by decide) (by omega)]
      obtain ⟨x0, x1, x2, x3⟩ := hf i (by omega)
      have S := (q.2.2.2.2 _ (hty_lt x0)).2.2 (nW 18 i (by omega) (by omega)) 2
      rw [S, S, S]
      exact ⟨kp_ty q x0, x1, x2, x3⟩
  · refine gc_a (gc_kp (hg j hj) q (fun r hr _ => nW r j (fun e => ?_) (fun e => ?_)) (fun a e _ => Or.inr ?_) hAN) (fun r hr => ne r j (fun e => ?_) (fun e => ?_))
    · rw [e.1] at hr; revert hr; decide
    · rw [e.1] at hr; revert hr; decide
    · rcases e with e | e
      · exact ⟨3, 0, e⟩
      · exact ⟨23, 0, e⟩
    · rw [e] at hr; revert hr; decide
    · rw [e.1] at hr; revert hr; decide
end MCOPY
