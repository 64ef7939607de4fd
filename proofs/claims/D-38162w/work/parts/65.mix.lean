/-! the lists' own arrays apart -/
def mix (A B : Nat → Nat → Nat) : Nat → Nat → Nat := fun r k => if r < 20 then A r k else B r k
def RepB (g : GC) (A B : Nat → Nat → Nat) (σ : AH) (z : ZT) : Prop := RepC g (mix A B) σ z
def FB (A B : Nat → Nat → Nat) (a : Nat) : Prop := FC (mix A B) a
/-- arrays are as they were, or new -/
def BK (B B' : Nat → Nat → Nat) (σ : AH) : Prop := ∀ r k, B' r k = B r k ∨ (r < 40 ∧ B' r k ≠ B r k ∧ hsz σ ≤ B' r k)
section MIX
variable {g : GC} {A B : Nat → Nat → Nat} {σ : AH} {z : ZT} {k p j κ i : Nat} {v : Int32}
theorem rgBb (h : RepB g A B σ z) (r k : Nat) : gB g ≤ mix A B r k := rgB (A := mix A B) h r k
theorem rgsb (h : RepB g A B σ z) : gB g ≤ hsz σ := rgs (A := mix A B) h 
theorem r5tb (h : RepB g A B σ z) (hk : k < zn z) : hty σ (A 4 k) = some 5 := r5t (A := mix A B) h hk
theorem r6tb (h : RepB g A B σ z) (hk : k < zn z) : hty σ (A 5 k) = some 6 := r6t (A := mix A B) h hk
theorem r7tb (h : RepB g A B σ z) (hk : k < zn z) : hty σ (A 7 k) = some 20 := r7t (A := mix A B) h hk
theorem r7lb (h : RepB g A B σ z) (hk : k < zn z) : hln σ (A 7 k) = 6 := r7l (A := mix A B) h hk
theorem r8tb (h : RepB g A B σ z) (hk : k < zn z) : hty σ (A 8 k) = some 20 := r8t (A := mix A B) h hk
theorem r8lb (h : RepB g A B σ z) (hk : k < zn z) : hln σ (A 8 k) = 5 := r8l (A := mix A B) h hk
theorem r9tb (h : RepB g A B σ z) (hk : k < zn z) : hty σ (A 9 k) = some 21 := r9t (A := mix A B) h hk
theorem r9lb (h : RepB g A B σ z) (hk : k < zn z) : hln σ (A 9 k) = 6 := r9l (A := mix A B) h hk
theorem r10tb (h : RepB g A B σ z) (hk : k < zn z) : hty σ (A 10 k) = some 21 := r10t (A := mix A B) h hk
theorem r10lb (h : RepB g A B σ z) (hk : k < zn z) : hln σ (A 10 k) = 6 := r10l (A := mix A B) h hk
theorem r11tb (h : RepB g A B σ z) (hk : k < zn z) (hs : z.1 1 k 30 = 1) : hty σ (A 11 k) = some 21 := r11t (A := mix A B) h hk hs
theorem r11lb (h : RepB g A B σ z) (hk : k < zn z) (hs : z.1 1 k 30 = 1) : hln σ (A 11 k) = 6 := r11l (A := mix A B) h hk hs
theorem r12tb (h : RepB g A B σ z) (hk : k < zn z) (hs : z.1 1 k 31 = 1) : hty σ (A 12 k) = some 9 := r12t (A := mix A B) h hk hs
theorem r15tb (h : RepB g A B σ z) (hk : k < zn z) (hs : z.1 1 k 31 = 1) : hty σ (A 15 k) = some 6 := r15t (A := mix A B) h hk hs
theorem r17tb (h : RepB g A B σ z) (hk : k < zn z) (hs : z.1 1 k 31 = 1) : hty σ (A 17 k) = some 20 := r17t (A := mix A B) h hk hs
theorem r17lb (h : RepB g A B σ z) (hk : k < zn z) (hs : z.1 1 k 31 = 1) : hln σ (A 17 k) = 6 := r17l (A := mix A B) h hk hs
theorem r18tb (h : RepB g A B σ z) {i : Nat} (hi : i < zf z) : hty σ (A 18 i) = some 2 := r18t (A := mix A B) h hi
theorem r1tb (h : RepB g A B σ z) : hty σ (A 1 0) = some 1 := r1t (A := mix A B) h 
theorem r10_b (h : RepB g A B σ z) : hv σ 1 (A 1 0) 0 = .ref (A 2 0) := r10_ (A := mix A B) h 
theorem r11_b (h : RepB g A B σ z) : hv σ 1 (A 1 0) 1 = .ref (A 3 0) := r11_ (A := mix A B) h 
theorem r13_b (h : RepB g A B σ z) : hv σ 1 (A 1 0) 3 = gref A (z.1 0 0 3) := r13_ (A := mix A B) h 
theorem r14_b (h : RepB g A B σ z) : hv σ 1 (A 1 0) 4 = gref A (z.1 0 0 4) := r14_ (A := mix A B) h 
theorem r1sb (h : RepB g A B σ z) {j : Nat} (hj : msc j = true) : hv σ 1 (A 1 0) j = .int (z.1 0 0 j) := r1s (A := mix A B) h hj
theorem r20_b (h : RepB g A B σ z) {i : Nat} (hi : i < zf z) : hv σ 2 (A 18 i) 0 = gref A (z.1 8 i 0) := r20_ (A := mix A B) h hi
theorem r21_b (h : RepB g A B σ z) {i : Nat} (hi : i < zf z) : hv σ 2 (A 18 i) 1 = .int (z.1 8 i 1) := r21_ (A := mix A B) h hi
theorem r22_b (h : RepB g A B σ z) {i : Nat} (hi : i < zf z) : hv σ 2 (A 18 i) 2 = .int (z.1 8 i 2) := r22_ (A := mix A B) h hi
theorem r5nb (h : RepB g A B σ z) (hk : k < zn z) : hv σ 5 (A 4 k) 0 = .int (Int32.ofNat k) := r5n (A := mix A B) h hk
theorem r5mb (h : RepB g A B σ z) (hk : k < zn z) : hv σ 5 (A 4 k) 2 = .ref (A 5 k) := r5m (A := mix A B) h hk
theorem r5eb (h : RepB g A B σ z) (hk : k < zn z) : hv σ 5 (A 4 k) 13 = .ref (A 8 k) := r5e (A := mix A B) h hk
theorem r5db (h : RepB g A B σ z) (hk : k < zn z) : hv σ 5 (A 4 k) 14 = .ref (A 9 k) := r5d (A := mix A B) h hk
theorem r5vb (h : RepB g A B σ z) (hk : k < zn z) : hv σ 5 (A 4 k) 15 = .ref (A 10 k) := r5v (A := mix A B) h hk
theorem r5lb (h : RepB g A B σ z) (hk : k < zn z) : hv σ 5 (A 4 k) 16 = if z.1 1 k 30 = 1 then .ref (A 11 k) else .null := r5l (A := mix A B) h hk
theorem r5pb (h : RepB g A B σ z) (hk : k < zn z) : hv σ 5 (A 4 k) 21 = if z.1 1 k 31 = 1 then .ref (A 12 k) else .null := r5p (A := mix A B) h hk
theorem r5gb (h : RepB g A B σ z) (hk : k < zn z) {j : Nat} (hj : gsc j = true) : hv σ 5 (A 4 k) j = .int (z.1 1 k j) := r5g (A := mix A B) h hk hj
theorem r60b (h : RepB g A B σ z) (hk : k < zn z) : hv σ 6 (A 5 k) 0 = .ref (A 6 k) := r60 (A := mix A B) h hk
theorem r61b (h : RepB g A B σ z) (hk : k < zn z) : hv σ 6 (A 5 k) 1 = .ref (A 7 k) := r61 (A := mix A B) h hk
theorem r62b (h : RepB g A B σ z) (hk : k < zn z) : hv σ 6 (A 5 k) 2 = .int (z.1 1 k 22) := r62 (A := mix A B) h hk
theorem r63b (h : RepB g A B σ z) (hk : k < zn z) : hv σ 6 (A 5 k) 3 = .int (z.1 1 k 23) := r63 (A := mix A B) h hk
theorem r15_b (h : RepB g A B σ z) (hk : k < zn z) (hs : z.1 1 k 31 = 1) : hv σ 6 (A 15 k) 0 = .ref (A 16 k) ∧ hv σ 6 (A 15 k) 1 = .ref (A 17 k) ∧ hv σ 6 (A 15 k) 2 = .int (z.1 1 k 32) ∧ hv σ 6 (A 15 k) 3 = .int (z.1 1 k 33) := r15_ (A := mix A B) h hk hs
theorem r9_b (h : RepB g A B σ z) (hk : k < zn z) (hs : z.1 1 k 31 = 1) : hv σ 9 (A 12 k) 0 = .ref (A 15 k) ∧ hv σ 9 (A 12 k) 1 = .ref (A 13 k) ∧ hv σ 9 (A 12 k) 2 = .ref (A 14 k) ∧ hv σ 9 (A 12 k) 3 = .int (z.1 1 k 24) ∧ hv σ 9 (A 12 k) 4 = .int (z.1 1 k 25) := r9_ (A := mix A B) h hk hs
theorem r7vb (h : RepB g A B σ z) (hk : k < zn z) {p : Nat} (hp : p < 6) : hv σ 20 (A 7 k) p = .int (z.1 2 k p) := r7v (A := mix A B) h hk hp
theorem r8vb (h : RepB g A B σ z) (hk : k < zn z) {p : Nat} (hp : p < 5) : hv σ 20 (A 8 k) p = .int (z.1 3 k p) := r8v (A := mix A B) h hk hp
theorem r17vb (h : RepB g A B σ z) (hk : k < zn z) (hs : z.1 1 k 31 = 1) {p : Nat} (hp : p < 6) : hv σ 20 (A 17 k) p = .int (z.1 7 k p) := r17v (A := mix A B) h hk hs hp
theorem r9vb (h : RepB g A B σ z) (hk : k < zn z) {p : Nat} (hp : p < 6) : hv σ 21 (A 9 k) p = .int (z.1 4 k p) := r9v (A := mix A B) h hk hp
theorem r10vb (h : RepB g A B σ z) (hk : k < zn z) {p : Nat} (hp : p < 6) : hv σ 21 (A 10 k) p = .int (z.1 5 k p) := r10v (A := mix A B) h hk hp
theorem r11vb (h : RepB g A B σ z) (hk : k < zn z) (hs : z.1 1 k 30 = 1) {p : Nat} (hp : p < 6) : hv σ 21 (A 11 k) p = .int (z.1 6 k p) := r11v (A := mix A B) h hk hs hp
theorem rLgb (h : RepB g A B σ z) : isL g σ (A 2 0) (B 22 0) (zn z) (fun k => .ref (A 4 k)) := rLg (A := mix A B) h 
theorem rLfb (h : RepB g A B σ z) : isL g σ (A 3 0) (B 23 0) (zf z) (fun i => .ref (A 18 i)) := rLf (A := mix A B) h 
theorem rgBA (h : RepB g A B σ z) (r k : Nat) (hr : r < 20) : gB g ≤ A r k := by have q := rgB (A := mix A B) h r k; unfold mix at q; rw [if_pos hr] at q; exact q
theorem rb_mod (q : RepB g A B σ z) (hm : mod1 κ j = true) : RepB g A B σ (zs z κ i j v) := rc_mod (A := mix A B) q hm
theorem rb_g (q : RepB g A B σ z) {k : Nat} (hk : k < zn z) (hj : gsc j = true) : RepB g A B (hput σ 5 (A 4 k) j (.int v)) (zs z 1 k j v) := rc_g (A := mix A B) q hk hj
theorem rb_m (q : RepB g A B σ z) (hj : msc j = true) : RepB g A B (hput σ 1 (A 1 0) j (.int v)) (zs z 0 0 j v) := rc_m (A := mix A B) q hj
theorem rb_r (q : RepB g A B σ z) (hj : j = 3 ∨ j = 4) {w : Value} (hw : w = gref A v) : RepB g A B (hput σ 1 (A 1 0) j w) (zs z 0 0 j v) := rc_r (A := mix A B) q hj hw
theorem rb_mi (q : RepB g A B σ z) {k : Nat} (hk : k < zn z) (hj : j = 2 ∨ j = 3) : RepB g A B (hput σ 6 (A 5 k) j (.int v)) (zs z 1 k (j + 20) v) := rc_mi (A := mix A B) q hk hj
theorem rb_val (q : RepB g A B σ z) (hk : k < zn z) (hp : p < 6) : RepB g A B (hput σ 20 (A 7 k) p (.int v)) (zs z 2 k p v) := rc_val (A := mix A B) q hk hp
theorem rb_ex (q : RepB g A B σ z) (hk : k < zn z) (hp : p < 5) : RepB g A B (hput σ 20 (A 8 k) p (.int v)) (zs z 3 k p v) := rc_ex (A := mix A B) q hk hp
theorem rb_dsk (q : RepB g A B σ z) (hk : k < zn z) (hp : p < 6) : RepB g A B (hput σ 21 (A 9 k) p (.int v)) (zs z 4 k p v) := rc_dsk (A := mix A B) q hk hp
theorem rb_giv (q : RepB g A B σ z) (hk : k < zn z) (hp : p < 6) : RepB g A B (hput σ 21 (A 10 k) p (.int v)) (zs z 5 k p v) := rc_giv (A := mix A B) q hk hp
theorem rb_left (q : RepB g A B σ z) (hk : k < zn z) (hp : p < 6) : RepB g A B (hput σ 21 (A 11 k) p (.int v)) (zs z 6 k p v) := rc_left (A := mix A B) q hk hp
theorem rb_f0 (q : RepB g A B σ z) (hk : k < zf z) {w : Value} (hw : w = gref A v) : RepB g A B (hput σ 2 (A 18 k) 0 w) (zs z 8 k 0 v) := rc_f0 (A := mix A B) q hk hw
theorem rb_f1 (q : RepB g A B σ z) (hk : k < zf z) : RepB g A B (hput σ 2 (A 18 k) 1 (.int v)) (zs z 8 k 1 v) := rc_f1 (A := mix A B) q hk
theorem rb_f2 (q : RepB g A B σ z) (hk : k < zf z) : RepB g A B (hput σ 2 (A 18 k) 2 (.int v)) (zs z 8 k 2 v) := rc_f2 (A := mix A B) q hk
theorem rb_p3 (q : RepB g A B σ z) (hk : k < zn z) : RepB g A B (hput σ 9 (A 12 k) 3 (.int v)) (zs z 1 k 24 v) := rc_p3 (A := mix A B) q hk
theorem rb_p4 (q : RepB g A B σ z) (hk : k < zn z) : RepB g A B (hput σ 9 (A 12 k) 4 (.int v)) (zs z 1 k 25 v) := rc_p4 (A := mix A B) q hk
theorem rb_p0 (q : RepB g A B σ z) (hs : z.1 1 k 31 ≠ 1) (hj : j = 24 ∨ j = 25) : RepB g A B σ (zs z 1 k j v) := rc_p0 (A := mix A B) q hs hj
theorem rb_left0 (q : RepB g A B σ z) (hk : k < zn z) : RepB g A B (hput σ 5 (A 4 k) 16 .null) (zs z 1 k 30 0) := rc_left0 (A := mix A B) q hk
theorem rb_past0 (q : RepB g A B σ z) (hk : k < zn z) : RepB g A B (hput σ 5 (A 4 k) 21 .null) (zs z 1 k 31 0) := rc_past0 (A := mix A B) q hk
theorem FB_i (r : Nat) {k : Nat} (h : r < 20 ∧ mutR r = true) : FB A B (A r k) := ⟨r, k, by unfold mix; rw [if_pos h.1], h.2⟩
theorem FB_b (r : Nat) {k : Nat} (h : 20 ≤ r ∧ mutR r = true) : FB A B (B r k) := ⟨r, k, by unfold mix; rw [if_neg (by omega)], h.2⟩
theorem kp_FB (r : Nat) {k t j : Nat} {x : Value} (h : r < 20 ∧ mutR r = true) : kp (FB A B) 0 0 σ (hput σ t (A r k) j x) := kp_put (fun _ => FB_i r h)
theorem BK_refl (B : Nat → Nat → Nat) (σ : AH) : BK B B σ := fun _ _ => Or.inl rfl
theorem BK_trans {B1 B2 B3 : Nat → Nat → Nat} {σ1 σ2 : AH} (h : BK B1 B2 σ1) (k : BK B2 B3 σ2) (hs : hsz σ1 ≤ hsz σ2) : BK B1 B3 σ1 := by
  intro r j
  by_cases e : B3 r j = B1 r j
  · exact Or.inl e
  · rcases k r j with e1 | ⟨e0, e1, e2⟩
    · rcases h r j with e3 | ⟨e0, e3, e4⟩
      · exact absurd (e1.trans e3) e
      · exact Or.inr ⟨e0, e, by rw [e1]; exact e4⟩
    · exact Or.inr ⟨e0, e, by omega⟩
theorem FB_BK {B' : Nat → Nat → Nat} (h : BK B B' σ) {a : Nat} (ha : a < hsz σ) (q : FB A B' a) : FB A B a := by
  obtain ⟨r, k, e, q1⟩ := q
  refine ⟨r, k, ?_, q1⟩
  unfold mix at e ⊢
  by_cases hr : r < 20
  · rw [if_pos hr] at e ⊢; exact e
  · rw [if_neg hr] at e ⊢
    rcases h r k with x | ⟨_, x, y⟩
    · rw [← x]; exact e
    · omega
/-- a step of the component: from B, σ to B', σ' with z' -/
def St (g : GC) (A B B' : Nat → Nat → Nat) (σ σ' : AH) (z' : ZT) (c s : Nat) : Prop := RepB g A B' σ' z' ∧ BK B B' σ ∧ kp (FB A B) c s σ σ'
theorem St_refl (h : RepB g A B σ z) : St g A B B σ σ z 0 0 := ⟨h, BK_refl B σ, kp_refl _ σ⟩
theorem St_mono {B' : Nat → Nat → Nat} {σ' : AH} {z' : ZT} {c s c' s' : Nat} (h : St g A B B' σ σ' z' c s) (hc : c ≤ c') (hs : s ≤ s') : St g A B B' σ σ' z' c' s' := ⟨h.1, h.2.1, kp_mono h.2.2 hc hs (fun _ _ e => e)⟩
theorem St_trans {B1 B2 : Nat → Nat → Nat} {σ1 σ2 : AH} {z1 z2 : ZT} {c1 s1 c2 s2 : Nat} (h : St g A B B1 σ σ1 z1 c1 s1) (k : St g A B1 B2 σ1 σ2 z2 c2 s2) : St g A B B2 σ σ2 z2 (c1 + c2) (s1 + s2) :=
  ⟨k.1, BK_trans h.2.1 k.2.1 h.2.2.1, kp_then h.2.2 k.2.2 (fun _ ha q => FB_BK h.2.1 ha q)⟩
/-- one write -/
theorem St_put {σ' : AH} {z1 z2 : ZT} {B1 : Nat → Nat → Nat} {c s : Nat} (h : St g A B B1 σ σ' z1 c s) (r : Nat) {k t j : Nat} {x : Value} (hr : r < 20 ∧ mutR r = true) (q : RepB g A B1 (hput σ' t (A r k) j x) z2) : St g A B B1 σ (hput σ' t (A r k) j x) z2 c s := by
  have := St_trans h (⟨q, BK_refl _ _, kp_FB r hr⟩ : St g A B1 B1 σ' _ z2 0 0)
  rwa [Nat.add_zero, Nat.add_zero] at this
theorem St_z {σ' : AH} {z1 z2 : ZT} {B1 : Nat → Nat → Nat} {c s : Nat} (h : St g A B B1 σ σ' z1 c s) (q : RepB g A B1 σ' z2) : St g A B B1 σ σ' z2 c s := ⟨q, h.2.1, h.2.2⟩
theorem rbL (h : RepB g A B σ z) : cL g (mix A B) σ z := rL (A := mix A B) h
theorem cb_finish {Q : AQ} (h : RepB g A B σ z) (hk : k < zn z) (ht : okT z k) (hp : zpl z k < z.2 2 k) {told : Int32}
    (hQ : ∀ σ', St g A B B σ σ' (finishZ z k told) 0 0 → Q (.inl none) σ') : aw g 120 0 [some (.ref (A 4 k)), some (.int told)] [] σ Q :=
  c_finish (A := mix A B) h hk ht hp (fun σ' x y => hQ σ' ⟨x, BK_refl B σ, y⟩)
/-- none of the component's cells -/
def nIn (A B : Nat → Nat → Nat) (x : Nat) : Prop := ∀ r k, mix A B r k ≠ x
theorem nIn_new (h : RepB g A B σ z) (hc : hsz σ + 1 ≤ gC g) : nIn A B (hsz σ) := fun r k e => by
  rcases (h.2.1.2 r k).2 with q | q <;> omega
theorem nIn_BK {B' : Nat → Nat → Nat} {x : Nat} (h : nIn A B x) (k : BK B B' σ) (hx : x < hsz σ) : nIn A B' x := by
  intro r j e
  have h1 := h r j
  unfold mix at e h1
  by_cases hr : r < 20
  · rw [if_pos hr] at e h1; exact h1 e
  · rw [if_neg hr] at e h1
    rcases k r j with q | ⟨_, q1, q2⟩
    · rw [q] at e; exact h1 e
    · omega
theorem nIn_FB {x : Nat} (h : nIn A B x) : ¬ FB A B x := fun ⟨r, k, e, _⟩ => h r k e.symm
/-- the lists of guests and frames are none of the cells that a tick writes -/
theorem FB_no (h : RepB g A B σ z) (r k : Nat) (hr : r < 20) (hm : mutR r = false) : ¬ FB A B (A r k) := by
  rintro ⟨r', k', e, hm'⟩
  have e2 : mix A B r k = A r k := by unfold mix; rw [if_pos hr]
  have := (h.2.1.1 r k r' k' (e2.trans e)).1
  rw [this, hm'] at hm
  cases hm
theorem isI_St {it c r : Nat} {B' : Nat → Nat → Nat} {σ' : AH} {z' : ZT} {c1 s1 : Nat} (hi : isI g σ it (A r 0) c) (h : RepB g A B σ z) (hs : St g A B B' σ σ' z' c1 s1) (hn : nIn A B it) (hr : r = 2 ∨ r = 3) : isI g σ' it (A r 0) c := by
  have hl : hty σ (A r 0) = some 10 := by
    rcases hr with e | e
    · subst e; exact (rLg (A := mix A B) h).1
    · subst e; exact (rLf (A := mix A B) h).1
  have hm : mutR r = false := by
    rcases hr with e | e <;> subst e <;> rfl
  exact isI_kp hi hs.2.2 (hty_lt hl) (nIn_FB hn) ((hs.2.2.2.2.2.2 _ (hty_lt hl)).2.2 (FB_no h r 0 (by omega) hm) 10 0)
theorem isI_put {it a c t x j : Nat} {v : Value} (hi : isI g σ it a c) (h1 : t ≠ 10) (h2 : t ≠ 11) : isI g (hput σ t x j v) it a c := by
  obtain ⟨q1, q2, q3, q4, q5⟩ := hi
  exact ⟨q1, q2, by rw [hv_tne _ (Ne.symm h2)]; exact q3, by rw [hv_tne _ (Ne.symm h2), hv_tne _ (Ne.symm h1)]; exact q4, by rw [hv_tne _ (Ne.symm h2)]; exact q5⟩
end MIX
