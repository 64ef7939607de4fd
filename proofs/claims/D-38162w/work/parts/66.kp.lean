/-! what stays of the component where only a list, or what is new, is written -/
section KPX
variable {g : GC} {A B : Nat → Nat → Nat} {σ σ' : AH} {z : ZT} {W : Nat → Prop} {c s r0 k0 : Nat}
def AN (A A' : Nat → Nat → Nat) (σ : AH) : Prop := ∀ r k, A' r k = A r k ∨ hsz σ ≤ A' r k
theorem AN_refl (A : Nat → Nat → Nat) (σ : AH) : AN A A σ := fun _ _ => Or.inl rfl
theorem AN_q {A A' : Nat → Nat → Nat} (h : AN A A' σ) {q : Nat} (hq : q < hsz σ) (n : ∀ r k, q ≠ A r k) : ∀ r k, q ≠ A' r k := by
  intro r k e
  rcases h r k with x | x
  · exact n r k (e.trans x)
  · omega
theorem OpAt_kp {A A' : Nat → Nat → Nat} {v : Value} {x y : Int32} (h : OpAt A σ v x y) (k : kp W c s σ σ') (hA : AN A A' σ) (hW : ∀ a, W a → a < hsz σ → hty σ a ≠ some 8 ∨ ∃ r k, a = A r k) : OpAt A' σ' v x y := by
  obtain ⟨q, q1, q2, q3, q4, q5⟩ := h
  have e := (k.2.2.2.2 q (hty_lt q2)).2.2 (fun w => (hW q w (hty_lt q2)).elim (fun n => n q2) (fun ⟨r, k, e⟩ => q5 r k e))
  exact ⟨q, q1, kp_ty k q2, by rw [e]; exact q3, by rw [e]; exact q4, AN_q hA (hty_lt q2) q5⟩
theorem InAt_kp {A A' : Nat → Nat → Nat} {v : Value} {x : Int32} (h : InAt A σ v x) (k : kp W c s σ σ') (hA : AN A A' σ) (hW : ∀ a, W a → a < hsz σ → hty σ a ≠ some 12 ∨ ∃ r k, a = A r k) : InAt A' σ' v x := by
  obtain ⟨q, q1, q2, q3, q5⟩ := h
  have e := (k.2.2.2.2 q (hty_lt q2)).2.2 (fun w => (hW q w (hty_lt q2)).elim (fun n => n q2) (fun ⟨r, k, e⟩ => q5 r k e))
  exact ⟨q, q1, kp_ty k q2, by rw [e]; exact q3, AN_q hA (hty_lt q2) q5⟩
theorem RwAt_kp {A A' : Nat → Nat → Nat} {v : Value} {x y : Int32} (h : RwAt A σ v x y) (k : kp W c s σ σ') (hA : AN A A' σ) (hW : ∀ a, W a → a < hsz σ → hty σ a ≠ some 20 ∨ ∃ r k, a = A r k) : RwAt A' σ' v x y := by
  obtain ⟨q, q1, q2, q3, q4, q5, q6⟩ := h
  have e := k.2.2.2.2 q (hty_lt q2)
  have e2 := e.2.2 (fun w => (hW q w (hty_lt q2)).elim (fun n => n q2) (fun ⟨r, k, e⟩ => q6 r k e))
  exact ⟨q, q1, kp_ty k q2, by rw [e.2.1]; exact q3, by rw [e2]; exact q4, by rw [e2]; exact q5, AN_q hA (hty_lt q2) q6⟩
/-- all but the list of the role r0 at k0 -/
def RX (g : GC) (A A' : Nat → Nat → Nat) (σ : AH) (z : ZT) (r0 k0 : Nat) : Prop := (Bas g σ ∧ cA g A σ ∧ cT A σ z ∧ cH1 A (hv σ 1) z ∧ cH2 A (hv σ 2) z ∧ cH5 A (hv σ 5) z ∧ cH6 A (hv σ 6) z ∧ cH9 A (hv σ 9) z ∧ cH20 A (hv σ 20) z ∧ cH21 A (hv σ 21) z) ∧ (r0 ≠ 2 → isL g σ (A 2 0) (A 22 0) (zn z) (fun k => .ref (A 4 k))) ∧ (r0 ≠ 3 → isL g σ (A 3 0) (A 23 0) (zf z) (fun i => .ref (A 18 i))) ∧ ∀ k, k < zn z → (¬ (r0 = 6 ∧ k = k0) → ∃ f, isL g σ (A 6 k) (A 26 k) (z.2 2 k) f ∧ ∀ i, i < z.2 2 k → OpAt A' σ (f i) (z.1 9 k i) (z.1 10 k i)) ∧ (z.1 1 k 31 = 1 → (∃ f, isL g σ (A 16 k) (A 36 k) (z.2 2 k) f ∧ ∀ i, i < z.2 2 k → OpAt A' σ (f i) (z.1 9 k i) (z.1 10 k i)) ∧ (¬ (r0 = 13 ∧ k = k0) → ∃ f, isL g σ (A 13 k) (A 33 k) (z.2 3 k) f ∧ ∀ i, i < z.2 3 k → InAt A' σ (f i) (z.1 11 k i)) ∧ (¬ (r0 = 14 ∧ k = k0) → ∃ f, isL g σ (A 14 k) (A 34 k) (z.2 4 k) f ∧ ∀ i, i < z.2 4 k → RwAt A' σ (f i) (z.1 12 k i) (z.1 13 k i)))
theorem cA_kp {A : Nat → Nat → Nat} (h : cA g A σ) (k : kp W c s σ σ') : cA g A σ' := ⟨h.1, fun r j => ⟨(h.2 r j).1, by
  have := k.1
  rcases (h.2 r j).2 with e | e
  · exact Or.inl (by omega)
  · exact Or.inr e⟩⟩
theorem RX_kp {A A' : Nat → Nat → Nat} (h : RepC g A σ z) (k : kp W c s σ σ') (hA : AN A A' σ) (hr : r0 = 2 ∨ r0 = 3 ∨ r0 = 6 ∨ r0 = 13 ∨ r0 = 14 ∨ r0 = 99) (hW : ∀ a, W a → gB g ≤ a) (hn : ∀ r j, ¬ (r = r0 ∧ j = k0) → ¬ (r = r0 + 20 ∧ j = k0) → A r j < hsz σ → ¬ W (A r j)) (ht : ∀ a, W a → a < hsz σ → (hty σ a ≠ some 8 ∧ hty σ a ≠ some 12 ∧ hty σ a ≠ some 20) ∨ ∃ r k, a = A r k) : RX g A A' σ' z r0 k0 := by
  obtain ⟨q1, q2, q3, q4, q5, q6, q7, q8, q9, q10, q11⟩ := h
  have S : ∀ r j t, hty σ (A r j) = some t → (r ≠ 2 ∧ r ≠ 3 ∧ r ≠ 6 ∧ r ≠ 13 ∧ r ≠ 14 ∧ r < 20) → hv σ' = hv σ' ∧ ∀ t' i, hv σ' t' (A r j) i = hv σ t' (A r j) i := by
    intro r j t e1 e2
    refine ⟨rfl, (k.2.2.2.2 _ (hty_lt e1)).2.2 (hn r j (by omega) (by omega) (hty_lt e1))⟩
  have N : ∀ r j t, hty σ (A r j) = some t → hln σ' (A r j) = hln σ (A r j) := fun r j t e1 => (k.2.2.2.2 _ (hty_lt e1)).2.1
  have L : ∀ r j n f, ¬ (r = r0 ∧ j = k0) → (r = 2 ∨ r = 3 ∨ r = 6 ∨ r = 13 ∨ r = 14 ∨ r = 16) → isL g σ (A r j) (A (r + 20) j) n f → isL g σ' (A r j) (A (r + 20) j) n f := by
    intro r j n f e1 e2 e3
    have b1 := e3.1
    by_cases hb : A (r + 20) j < hsz σ
    · exact isL_kp e3 k (hn r j e1 (by omega) (hty_lt b1)) (hn (r + 20) j (by omega) (by omega) hb)
    · obtain ⟨h1, h2, h3, ⟨m, h4⟩, h5, d, h6, h7, h8, h9, h10, h11⟩ := e3
      obtain ⟨x1, x2, x3⟩ := k.2.2.2.2 _ (hty_lt h1)
      have x3 := x3 (hn r j e1 (by omega) (hty_lt b1))
      obtain ⟨y1, y2, y3⟩ := k.2.2.2.2 d (hty_lt h7)
      rcases h11 with ⟨e, _, _⟩ | ⟨z1, z2, z3⟩
      · have := hty_lt h7
        omega
      · exact ⟨kp_ty k h1, h2, by rw [x3]; exact h3, ⟨m, by rw [x3]; exact h4⟩, fun i hi => kp_vOb k (h5 i hi), d, by rw [x3]; exact h6, kp_ty k h7, by rw [y2]; exact h8, by rw [y2]; exact h9, fun i hi => by omega, Or.inr ⟨by rw [y2]; exact z1, z2, z3.imp_right (fun q => kp_ty k q)⟩⟩
  obtain ⟨t1, t2, t3⟩ := q3
  have S1 := (S 1 0 1 t1 (by decide)).2
  refine ⟨⟨Bas_kp q1 k hW, cA_kp q2 k, ⟨kp_ty k t1, fun i hi => kp_ty k (t2 i hi), fun j hj => ?_⟩, ?_, ?_, ?_, ?_, ?_, ?_, ?_⟩, fun e => L 2 0 _ _ (by omega) (by decide) q11.1.1, fun e => L 3 0 _ _ (by omega) (by decide) q11.1.2, fun j hj => ?_⟩
  · obtain ⟨x0, x1, ⟨x2, x2'⟩, ⟨x3, x3'⟩, ⟨x4, x4'⟩, ⟨x5, x5'⟩, x6, x7⟩ := t3 j hj
    refine ⟨kp_ty k x0, kp_ty k x1, ⟨kp_ty k x2, by rw [N _ _ _ x2]; exact x2'⟩, ⟨kp_ty k x3, by rw [N _ _ _ x3]; exact x3'⟩, ⟨kp_ty k x4, by rw [N _ _ _ x4]; exact x4'⟩, ⟨kp_ty k x5, by rw [N _ _ _ x5]; exact x5'⟩, fun hs => ⟨kp_ty k (x6 hs).1, by rw [N _ _ _ (x6 hs).1]; exact (x6 hs).2⟩, fun hs => ?_⟩
    obtain ⟨y1, y2, y3, y4⟩ := x7 hs
    exact ⟨kp_ty k y1, kp_ty k y2, kp_ty k y3, by rw [N _ _ _ y3]; exact y4⟩
  · obtain ⟨x0, x1, x2, x3, x4⟩ := q4
    exact ⟨by rw [S1]; exact x0, by rw [S1]; exact x1, by rw [S1]; exact x2, by rw [S1]; exact x3, fun j hj => by rw [S1]; exact x4 j hj⟩
  · intro i hi
    have S2 := (S 18 i 2 (t2 i hi) (by omega)).2
    rw [S2, S2, S2]
    exact q5 i hi
  · intro j hj
    have S2 := (S 4 j 5 (t3 j hj).1 (by omega)).2
    obtain ⟨x0, x1, x2, x3, x4, x5, x6, x7⟩ := q6 j hj
    rw [S2, S2, S2, S2, S2, S2, S2]
    exact ⟨x0, x1, x2, x3, x4, x5, x6, fun i hi => by rw [S2]; exact x7 i hi⟩
  · intro j hj
    have S2 := (S 5 j 6 (t3 j hj).2.1 (by omega)).2
    obtain ⟨x0, x1⟩ := q7 j hj
    refine ⟨by rw [S2, S2, S2, S2]; exact x0, fun hs => ?_⟩
    have S3 := (S 15 j 6 ((t3 j hj).2.2.2.2.2.2.2 hs).2.1 (by omega)).2
    rw [S3, S3, S3, S3]
    exact x1 hs
  · intro j hj hs
    have S3 := (S 12 j 9 ((t3 j hj).2.2.2.2.2.2.2 hs).1 (by omega)).2
    rw [S3, S3, S3, S3, S3]
    exact q8 j hj hs
  · intro j hj
    obtain ⟨x0, x1, x2⟩ := q9 j hj
    have S2 := (S 7 j 20 (t3 j hj).2.2.1.1 (by omega)).2
    have S3 := (S 8 j 20 (t3 j hj).2.2.2.1.1 (by omega)).2
    refine ⟨fun p hp => by rw [S2]; exact x0 p hp, fun p hp => by rw [S3]; exact x1 p hp, fun hs p hp => ?_⟩
    have S4 := (S 17 j 20 ((t3 j hj).2.2.2.2.2.2.2 hs).2.2.1 (by omega)).2
    rw [S4]; exact x2 hs p hp
  · intro j hj
    obtain ⟨x0, x1, x2⟩ := q10 j hj
    have S2 := (S 9 j 21 (t3 j hj).2.2.2.2.1.1 (by omega)).2
    have S3 := (S 10 j 21 (t3 j hj).2.2.2.2.2.1.1 (by omega)).2
    refine ⟨fun p hp => by rw [S2]; exact x0 p hp, fun p hp => by rw [S3]; exact x1 p hp, fun hs p hp => ?_⟩
    have S4 := (S 11 j 21 ((t3 j hj).2.2.2.2.2.2.1 hs).1 (by omega)).2
    rw [S4]; exact x2 hs p hp
  · obtain ⟨⟨f, y1, y2⟩, y3⟩ := q11.2 j hj
    refine ⟨fun e => ⟨f, L 6 j _ _ (by omega) (by decide) y1, fun i hi => OpAt_kp (y2 i hi) k hA (fun a w l => (ht a w l).imp_left (fun q => q.1))⟩, fun hs => ?_⟩
    obtain ⟨⟨f1, u1, u2⟩, ⟨f2, u3, u4⟩, ⟨f3, u5, u6⟩⟩ := y3 hs
    exact ⟨⟨f1, L 16 j _ _ (by omega) (by decide) u1, fun i hi => OpAt_kp (u2 i hi) k hA (fun a w l => (ht a w l).imp_left (fun q => q.1))⟩, fun e => ⟨f2, L 13 j _ _ (by omega) (by decide) u3, fun i hi => InAt_kp (u4 i hi) k hA (fun a w l => (ht a w l).imp_left (fun q => q.2.1))⟩, fun e => ⟨f3, L 14 j _ _ (by omega) (by decide) u5, fun i hi => RwAt_kp (u6 i hi) k hA (fun a w l => (ht a w l).imp_left (fun q => q.2.2))⟩⟩
/-- where nothing of it is written -/
theorem RepC_kp {A : Nat → Nat → Nat} (h : RepC g A σ z) (k : kp W c s σ σ') (hW : ∀ a, W a → gB g ≤ a) (hn : ∀ r j, A r j < hsz σ → ¬ W (A r j)) (ht : ∀ a, W a → a < hsz σ → (hty σ a ≠ some 8 ∧ hty σ a ≠ some 12 ∧ hty σ a ≠ some 20) ∨ ∃ r k, a = A r k) : RepC g A σ' z := by
  obtain ⟨⟨q1, q2, q3, q4, q5, q6, q7, q8, q9, q10⟩, x1, x2, x3⟩ := RX_kp (r0 := 99) (k0 := 0) h k (AN_refl A σ) (by decide) hW (fun r j _ _ => hn r j) ht
  exact ⟨q1, q2, q3, q4, q5, q6, q7, q8, q9, q10, ⟨x1 (by decide), x2 (by decide)⟩, fun j hj => ⟨(x3 j hj).1 (by omega), fun hs => ⟨((x3 j hj).2 hs).1, ((x3 j hj).2 hs).2.1 (by omega), ((x3 j hj).2 hs).2.2 (by omega)⟩⟩⟩
/-- where only new cells come -/
theorem RepC_kp0 {A : Nat → Nat → Nat} (h : RepC g A σ z) (k : kp (fun _ => False) c s σ σ') : RepC g A σ' z := RepC_kp h k (fun _ e => e.elim) (fun _ _ _ e => e) (fun _ e => e.elim)
/-- an iterator, or what else is none of the component's -/
theorem RepC_kp1 {A : Nat → Nat → Nat} {x : Nat} (h : RepC g A σ z) (k : kp (fun y => y = x) c s σ σ') (hx : gB g ≤ x) (hn : ∀ r j, A r j ≠ x) (ht : x < hsz σ → hty σ x = some 11) : RepC g A σ' z := RepC_kp h k (fun _ e => by rw [e]; exact hx) (fun r j _ e => hn r j e) (fun a e l => by left; subst e; rw [ht l]; decide)
end KPX
