/-! the math state; how the component's objects hold it -/
abbrev ZT : Type := (Nat → Nat → Nat → Int32) × (Nat → Nat → Nat)
def zs (z : ZT) (κ i j : Nat) (v : Int32) : ZT := (fun a b c => if a = κ ∧ b = i ∧ c = j then v else z.1 a b c, z.2)
def zl (z : ZT) (κ i v : Nat) : ZT := (z.1, fun a b => if a = κ ∧ b = i then v else z.2 a b)
theorem zs_at (z : ZT) (κ i j : Nat) (v : Int32) : (zs z κ i j v).1 κ i j = v := if_pos ⟨rfl, rfl, rfl⟩
theorem zs_k (z : ZT) {κ i j a : Nat} {v : Int32} (h : a ≠ κ) : (zs z κ i j v).1 a = z.1 a := by funext b c; exact if_neg (fun q => h q.1)
theorem zs_j (z : ZT) {κ i j a b c : Nat} {v : Int32} (h : c ≠ j) : (zs z κ i j v).1 a b c = z.1 a b c := if_neg (fun q => h q.2.2)
theorem zs_i (z : ZT) {κ i j a b c : Nat} {v : Int32} (h : b ≠ i) : (zs z κ i j v).1 a b c = z.1 a b c := if_neg (fun q => h q.2.1)
theorem zs_2 (z : ZT) (κ i j : Nat) (v : Int32) : (zs z κ i j v).2 = z.2 := rfl
theorem zl_1 (z : ZT) (κ i v : Nat) : (zl z κ i v).1 = z.1 := rfl
theorem zl_at (z : ZT) (κ i v : Nat) : (zl z κ i v).2 κ i = v := if_pos ⟨rfl, rfl⟩
theorem zl_k (z : ZT) {κ i v a : Nat} (h : a ≠ κ) : (zl z κ i v).2 a = z.2 a := by funext b; exact if_neg (fun q => h q.1)
theorem zl_i (z : ZT) {κ i v a b : Nat} (h : b ≠ i) : (zl z κ i v).2 a b = z.2 a b := if_neg (fun q => h q.2)
/-- the guests, the frames -/
abbrev zn (z : ZT) : Nat := z.2 0 0
abbrev zf (z : ZT) : Nat := z.2 1 0
/-- the places of a guest's scalars, of the machine's -/
def gsc (j : Nat) : Bool := j == 1 || j == 3 || j == 4 || j == 5 || j == 6 || j == 7 || j == 8 || j == 9 || j == 10 || j == 11 || j == 12 || j == 17 || j == 18 || j == 19 || j == 20
def msc (j : Nat) : Bool := j == 2 || j == 5 || j == 6 || j == 7 || j == 8 || j == 9
def gref (A : Nat → Nat → Nat) (x : Int32) : Value := if x = -1 then .null else .ref (A 4 x.toNatClampNeg)
def enc (r k : Nat) : Nat := (r + k) * (r + k) + r
/-- what the two share, or hold by a list: none of the cells that are named -/
def OpAt (A : Nat → Nat → Nat) (σ : AH) (v : Value) (x y : Int32) : Prop := ∃ q, v = .ref q ∧ hty σ q = some 8 ∧ hv σ 8 q 0 = .int x ∧ hv σ 8 q 1 = .int y ∧ ∀ r k, q ≠ A r k
def InAt (A : Nat → Nat → Nat) (σ : AH) (v : Value) (x : Int32) : Prop := ∃ q, v = .ref q ∧ hty σ q = some 12 ∧ hv σ 12 q 0 = .int x ∧ ∀ r k, q ≠ A r k
def RwAt (A : Nat → Nat → Nat) (σ : AH) (v : Value) (x y : Int32) : Prop := ∃ q, v = .ref q ∧ hty σ q = some 20 ∧ hln σ q = 2 ∧ hv σ 20 q 0 = .int x ∧ hv σ 20 q 1 = .int y ∧ ∀ r k, q ≠ A r k
def cA (g : GC) (A : Nat → Nat → Nat) (σ : AH) : Prop := (∀ r k r' k', A r k = A r' k' → r = r' ∧ k = k') ∧ ∀ r k, gB g ≤ A r k ∧ (A r k < hsz σ ∨ A r k = gC g + enc r k)
def cT (A : Nat → Nat → Nat) (σ : AH) (z : ZT) : Prop := (hty σ (A 1 0) = some 1) ∧ (∀ i, i < zf z → hty σ (A 18 i) = some 2) ∧ ∀ k, k < zn z → hty σ (A 4 k) = some 5 ∧ hty σ (A 5 k) = some 6 ∧ (hty σ (A 7 k) = some 20 ∧ hln σ (A 7 k) = 6) ∧ (hty σ (A 8 k) = some 20 ∧ hln σ (A 8 k) = 5) ∧ (hty σ (A 9 k) = some 21 ∧ hln σ (A 9 k) = 6) ∧ (hty σ (A 10 k) = some 21 ∧ hln σ (A 10 k) = 6) ∧ (z.1 1 k 30 = 1 → hty σ (A 11 k) = some 21 ∧ hln σ (A 11 k) = 6) ∧ (z.1 1 k 31 = 1 → hty σ (A 12 k) = some 9 ∧ hty σ (A 15 k) = some 6 ∧ hty σ (A 17 k) = some 20 ∧ hln σ (A 17 k) = 6)
def cH1 (A : Nat → Nat → Nat) (h : Nat → Nat → Value) (z : ZT) : Prop := h (A 1 0) 0 = .ref (A 2 0) ∧ h (A 1 0) 1 = .ref (A 3 0) ∧ h (A 1 0) 3 = gref A (z.1 0 0 3) ∧ h (A 1 0) 4 = gref A (z.1 0 0 4) ∧ ∀ j, msc j = true → h (A 1 0) j = .int (z.1 0 0 j)
def cH2 (A : Nat → Nat → Nat) (h : Nat → Nat → Value) (z : ZT) : Prop := ∀ i, i < zf z → h (A 18 i) 0 = gref A (z.1 8 i 0) ∧ h (A 18 i) 1 = .int (z.1 8 i 1) ∧ h (A 18 i) 2 = .int (z.1 8 i 2)
def cH5 (A : Nat → Nat → Nat) (h : Nat → Nat → Value) (z : ZT) : Prop := ∀ k, k < zn z → h (A 4 k) 0 = .int (Int32.ofNat k) ∧ h (A 4 k) 2 = .ref (A 5 k) ∧ h (A 4 k) 13 = .ref (A 8 k) ∧ h (A 4 k) 14 = .ref (A 9 k) ∧ h (A 4 k) 15 = .ref (A 10 k) ∧ h (A 4 k) 16 = (if z.1 1 k 30 = 1 then .ref (A 11 k) else .null) ∧ h (A 4 k) 21 = (if z.1 1 k 31 = 1 then .ref (A 12 k) else .null) ∧ ∀ j, gsc j = true → h (A 4 k) j = .int (z.1 1 k j)
def cH6 (A : Nat → Nat → Nat) (h : Nat → Nat → Value) (z : ZT) : Prop := ∀ k, k < zn z → (h (A 5 k) 0 = .ref (A 6 k) ∧ h (A 5 k) 1 = .ref (A 7 k) ∧ h (A 5 k) 2 = .int (z.1 1 k 22) ∧ h (A 5 k) 3 = .int (z.1 1 k 23)) ∧ (z.1 1 k 31 = 1 → h (A 15 k) 0 = .ref (A 16 k) ∧ h (A 15 k) 1 = .ref (A 17 k) ∧ h (A 15 k) 2 = .int (z.1 1 k 32) ∧ h (A 15 k) 3 = .int (z.1 1 k 33))
def cH9 (A : Nat → Nat → Nat) (h : Nat → Nat → Value) (z : ZT) : Prop := ∀ k, k < zn z → z.1 1 k 31 = 1 → h (A 12 k) 0 = .ref (A 15 k) ∧ h (A 12 k) 1 = .ref (A 13 k) ∧ h (A 12 k) 2 = .ref (A 14 k) ∧ h (A 12 k) 3 = .int (z.1 1 k 24) ∧ h (A 12 k) 4 = .int (z.1 1 k 25)
def cH20 (A : Nat → Nat → Nat) (h : Nat → Nat → Value) (z : ZT) : Prop := ∀ k, k < zn z → (∀ p, p < 6 → h (A 7 k) p = .int (z.1 2 k p)) ∧ (∀ p, p < 5 → h (A 8 k) p = .int (z.1 3 k p)) ∧ (z.1 1 k 31 = 1 → ∀ p, p < 6 → h (A 17 k) p = .int (z.1 7 k p))
def cH21 (A : Nat → Nat → Nat) (h : Nat → Nat → Value) (z : ZT) : Prop := ∀ k, k < zn z → (∀ p, p < 6 → h (A 9 k) p = .int (z.1 4 k p)) ∧ (∀ p, p < 6 → h (A 10 k) p = .int (z.1 5 k p)) ∧ (z.1 1 k 30 = 1 → ∀ p, p < 6 → h (A 11 k) p = .int (z.1 6 k p))
def cL0 (g : GC) (A : Nat → Nat → Nat) (σ : AH) (z : ZT) : Prop := isL g σ (A 2 0) (A 22 0) (zn z) (fun k => .ref (A 4 k)) ∧ isL g σ (A 3 0) (A 23 0) (zf z) (fun i => .ref (A 18 i))
def cL1 (g : GC) (A : Nat → Nat → Nat) (σ : AH) (z : ZT) (k : Nat) : Prop := ∃ f, isL g σ (A 6 k) (A 26 k) (z.2 2 k) f ∧ ∀ i, i < z.2 2 k → OpAt A σ (f i) (z.1 9 k i) (z.1 10 k i)
def cL2 (g : GC) (A : Nat → Nat → Nat) (σ : AH) (z : ZT) (k : Nat) : Prop := (∃ f, isL g σ (A 16 k) (A 36 k) (z.2 2 k) f ∧ ∀ i, i < z.2 2 k → OpAt A σ (f i) (z.1 9 k i) (z.1 10 k i)) ∧ (∃ f, isL g σ (A 13 k) (A 33 k) (z.2 3 k) f ∧ ∀ i, i < z.2 3 k → InAt A σ (f i) (z.1 11 k i)) ∧ ∃ f, isL g σ (A 14 k) (A 34 k) (z.2 4 k) f ∧ ∀ i, i < z.2 4 k → RwAt A σ (f i) (z.1 12 k i) (z.1 13 k i)
def cL (g : GC) (A : Nat → Nat → Nat) (σ : AH) (z : ZT) : Prop := cL0 g A σ z ∧ ∀ k, k < zn z → cL1 g A σ z k ∧ (z.1 1 k 31 = 1 → cL2 g A σ z k)
def RepC (g : GC) (A : Nat → Nat → Nat) (σ : AH) (z : ZT) : Prop := Bas g σ ∧ cA g A σ ∧ cT A σ z ∧ cH1 A (hv σ 1) z ∧ cH2 A (hv σ 2) z ∧ cH5 A (hv σ 5) z ∧ cH6 A (hv σ 6) z ∧ cH9 A (hv σ 9) z ∧ cH20 A (hv σ 20) z ∧ cH21 A (hv σ 21) z ∧ cL g A σ z
section REP
variable {g : GC} {A : Nat → Nat → Nat} {σ : AH} {z : ZT} {a b n : Nat} {f : Nat → Value}
theorem Aeq (h : cA g A σ) (r k r' k' : Nat) : (A r k = A r' k') = (r = r' ∧ k = k') := propext ⟨h.1 r k r' k', fun e => by rw [e.1, e.2]⟩
theorem isL_tag (h : isL g σ a b n f) {t x k : Nat} {v : Value} (h1 : t ≠ 10) (h2 : t ≠ 24) : isL g (hput σ t x k v) a b n f := by
  obtain ⟨q1, q2, q3, q4, q5, d, q6, q7, q8, q9, q10, q11⟩ := h
  exact ⟨q1, q2, by rw [hv_tne _ (Ne.symm h1)]; exact q3, by rw [hv_tne _ (Ne.symm h1)]; exact q4, q5, d, by rw [hv_tne _ (Ne.symm h1)]; exact q6, q7, q8, q9, fun i hi => by rw [hv_tne _ (Ne.symm h2)]; exact q10 i hi, q11⟩
theorem OpAt_tag {v : Value} {x y : Int32} (h : OpAt A σ v x y) {t c k : Nat} {w : Value} (h1 : t ≠ 8) : OpAt A (hput σ t c k w) v x y := by
  obtain ⟨q, q1, q2, q3, q4, q5⟩ := h
  exact ⟨q, q1, q2, by rw [hv_tne _ (Ne.symm h1)]; exact q3, by rw [hv_tne _ (Ne.symm h1)]; exact q4, q5⟩
theorem InAt_tag {v : Value} {x : Int32} (h : InAt A σ v x) {t c k : Nat} {w : Value} (h1 : t ≠ 12) : InAt A (hput σ t c k w) v x := by
  obtain ⟨q, q1, q2, q3, q4⟩ := h
  exact ⟨q, q1, q2, by rw [hv_tne _ (Ne.symm h1)]; exact q3, q4⟩
theorem RwAt_tag {v : Value} {x y : Int32} (h : RwAt A σ v x y) {t c k : Nat} {w : Value} (h1 : t ≠ 20) : RwAt A (hput σ t c k w) v x y := by
  obtain ⟨q, q1, q2, q3, q4, q5, q6⟩ := h
  exact ⟨q, q1, q2, q3, by rw [hv_tne _ (Ne.symm h1)]; exact q4, by rw [hv_tne _ (Ne.symm h1)]; exact q5, q6⟩
theorem RwAt_arr {v : Value} {x y : Int32} (h : RwAt A σ v x y) {c k : Nat} {w : Value} (h1 : ∀ q, (∀ r k, q ≠ A r k) → q ≠ c) : RwAt A (hput σ 20 c k w) v x y := by
  obtain ⟨q, q1, q2, q3, q4, q5, q6⟩ := h
  exact ⟨q, q1, q2, q3, by rw [hv_ane _ (h1 q q6)]; exact q4, by rw [hv_ane _ (h1 q q6)]; exact q5, q6⟩
/-- the lists, where neither they nor what lies in them is written -/
theorem cL_tag (h : cL g A σ z) {t c k : Nat} {v : Value} (h1 : t ≠ 10) (h2 : t ≠ 24) (h3 : t ≠ 8) (h4 : t ≠ 12) (h5 : t ≠ 20) : cL g A (hput σ t c k v) z := by
  obtain ⟨⟨q1, q2⟩, q3⟩ := h
  refine ⟨⟨isL_tag q1 h1 h2, isL_tag q2 h1 h2⟩, fun k' hk' => ?_⟩
  obtain ⟨⟨f, x1, x2⟩, x3⟩ := q3 k' hk'
  refine ⟨⟨f, isL_tag x1 h1 h2, fun i hi => OpAt_tag (x2 i hi) h3⟩, fun hs => ?_⟩
  obtain ⟨⟨f1, y1, y2⟩, ⟨f2, y3, y4⟩, ⟨f3, y5, y6⟩⟩ := x3 hs
  exact ⟨⟨f1, isL_tag y1 h1 h2, fun i hi => OpAt_tag (y2 i hi) h3⟩, ⟨f2, isL_tag y3 h1 h2, fun i hi => InAt_tag (y4 i hi) h4⟩, ⟨f3, isL_tag y5 h1 h2, fun i hi => RwAt_tag (y6 i hi) h5⟩⟩
theorem cL_arr (h : cL g A σ z) {c k : Nat} {v : Value} (hc : ∀ q, (∀ r k, q ≠ A r k) → q ≠ c) : cL g A (hput σ 20 c k v) z := by
  obtain ⟨⟨q1, q2⟩, q3⟩ := h
  refine ⟨⟨isL_tag q1 (by decide) (by decide), isL_tag q2 (by decide) (by decide)⟩, fun k' hk' => ?_⟩
  obtain ⟨⟨f, x1, x2⟩, x3⟩ := q3 k' hk'
  refine ⟨⟨f, isL_tag x1 (by decide) (by decide), fun i hi => OpAt_tag (x2 i hi) (by decide)⟩, fun hs => ?_⟩
  obtain ⟨⟨f1, y1, y2⟩, ⟨f2, y3, y4⟩, ⟨f3, y5, y6⟩⟩ := x3 hs
  exact ⟨⟨f1, isL_tag y1 (by decide) (by decide), fun i hi => OpAt_tag (y2 i hi) (by decide)⟩, ⟨f2, isL_tag y3 (by decide) (by decide), fun i hi => InAt_tag (y4 i hi) (by decide)⟩, ⟨f3, isL_tag y5 (by decide) (by decide), fun i hi => RwAt_arr (y6 i hi) hc⟩⟩
/-- the lists do not see the scalars -/
theorem cL_zs (h : cL g A σ z) {κ i j : Nat} {v : Int32} (h1 : κ ≠ 1 ∨ j ≠ 31) (h2 : κ ≠ 9) (h3 : κ ≠ 10) (h4 : κ ≠ 11) (h5 : κ ≠ 12) (h6 : κ ≠ 13) : cL g A σ (zs z κ i j v) := by
  obtain ⟨q1, q3⟩ := h
  refine ⟨q1, fun k' hk' => ?_⟩
  obtain ⟨x1, x3⟩ := q3 k' hk'
  unfold cL1 at x1 ⊢
  unfold cL2 at x3 ⊢
  rw [zs_k _ (Ne.symm h2), zs_k _ (Ne.symm h3), zs_k _ (Ne.symm h4), zs_k _ (Ne.symm h5), zs_k _ (Ne.symm h6)]
  refine ⟨x1, fun hs => x3 ?_⟩
  rcases h1 with h1 | h1
  · rw [zs_k _ (Ne.symm h1)] at hs; exact hs
  · rw [zs_j _ (Ne.symm h1)] at hs; exact hs
end REP
