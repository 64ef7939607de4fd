/-! how the model's objects hold the math state -/
/-- which of z.1 1 k lies at which place of a guest; which of z.1 0 0 at which of the world -/
def mgpL : List Nat := [1, 0, 22, 23, 7, 8, 3, 36, 35, 9, 10, 11, 12, 0, 0, 0, 0, 0, 30, 19, 5, 17, 34, 18, 20, 31, 32, 33, 0, 24]
def mwpL : List Nat := [0, 2, 0, 3, 4, 10, 11, 7, 8, 9]
def mgp (j : Nat) : Nat := mgpL.getD j 0
def mwp (j : Nat) : Nat := mwpL.getD j 0
/-- a guest's arrays 47..52: their lengths, their kinds, their places in the guest -/
def mal (r : Nat) : Nat := if r = 51 then 5 else 6
def mak (r : Nat) : Nat := [2, 14, 15, 16, 3, 7].getD (r - 47) 0
def mpl (r : Nat) : Nat := if r = 52 then 28 else r - 34
def mG (g : GC) (N : Nat → Nat → Nat) (a : Nat → Nat) (σ : AH) (z : ZT) (k : Nat) : Prop :=
  hty σ (a 44) = some 7 ∧
  (∀ r, 47 ≤ r → r ≤ 52 → hty σ (a r) = some 20 ∧ hln σ (a r) = mal r ∧ hv σ 7 (a 44) (mpl r) = .ref (a r) ∧ ∀ p, p < mal r → hv σ 20 (a r) p = .int (z.1 (mak r) k p)) ∧
  (∀ j, mgp j ≠ 0 → hv σ 7 (a 44) j = .int (z.1 1 k (mgp j))) ∧
  (hv σ 7 (a 44) 1 = .ref (a 46) ∧ hv σ 7 (a 44) 30 = .ref (a 53) ∧ hv σ 7 (a 44) 31 = .ref (a 54)) ∧
  (∃ f, isL g σ (a 46) (a 66) (z.2 2 k) f ∧ ∀ i, i < z.2 2 k → RwAt N σ (f i) (z.1 9 k i) (z.1 10 k i)) ∧
  (∃ f, isL g σ (a 53) (a 73) (z.2 3 k) f ∧ ∀ i, i < z.2 3 k → InAt N σ (f i) (z.1 11 k i)) ∧
  ∃ f, isL g σ (a 54) (a 74) (z.2 4 k) f ∧ ∀ i, i < z.2 4 k → RwAt N σ (f i) (z.1 12 k i) (z.1 13 k i)
def mW (g : GC) (M : Nat → Nat → Nat) (σ : AH) (z : ZT) : Prop := hty σ (M 41 0) = some 4 ∧ hv σ 4 (M 41 0) 0 = .ref (M 42 0) ∧ hv σ 4 (M 41 0) 2 = .int (Int32.ofNat (zf z)) ∧ (∀ j, mwp j ≠ 0 → hv σ 4 (M 41 0) j = .int (z.1 0 0 (mwp j))) ∧ isL g σ (M 42 0) (M 62 0) (zn z) (fun k => .ref (M 44 k))
def RepW (g : GC) (M : Nat → Nat → Nat) (σ : AH) (z : ZT) : Prop := Bas g σ ∧ cA g M σ ∧ mW g M σ z ∧ ∀ k, k < zn z → mG g M (fun r => M r k) σ z k
/-- what a guest's clauses see of the state -/
def msame (z z' : ZT) (k : Nat) : Prop := (∀ j, mgp j ≠ 0 → z'.1 1 k (mgp j) = z.1 1 k (mgp j)) ∧ (∀ κ, κ = 2 ∨ κ = 3 ∨ κ = 7 ∨ κ = 9 ∨ κ = 10 ∨ κ = 11 ∨ κ = 12 ∨ κ = 13 ∨ κ = 14 ∨ κ = 15 ∨ κ = 16 → z'.1 κ k = z.1 κ k) ∧ z'.2 2 k = z.2 2 k ∧ z'.2 3 k = z.2 3 k ∧ z'.2 4 k = z.2 4 k
def wsame (z z' : ZT) : Prop := zn z' = zn z ∧ zf z' = zf z ∧ ∀ j, mwp j ≠ 0 → z'.1 0 0 (mwp j) = z.1 0 0 (mwp j)
/-- what the model does not hold -/
def mhid (κ j : Nat) : Bool := κ == 4 || κ == 5 || κ == 6 || κ == 8 || (κ == 0 && (j == 5 || j == 6)) || (κ == 1 && (j == 4 || j == 6 || j == 25))
section MREP
variable {g : GC} {M M' N N' : Nat → Nat → Nat} {a : Nat → Nat} {σ σ' : AH} {z z' : ZT} {k : Nat} {W : Nat → Prop} {c s : Nat}
theorem mgp_lt {j : Nat} (h : mgp j ≠ 0) : j < 30 := by
  rcases Nat.lt_or_ge j 30 with e | e
  · exact e
  · exact absurd (by unfold mgp; rw [List.getD_eq_getElem?_getD, List.getElem?_eq_none (show mgpL.length ≤ j from e)]; rfl) h
theorem mwp_lt {j : Nat} (h : mwp j ≠ 0) : j < 10 := by
  rcases Nat.lt_or_ge j 10 with e | e
  · exact e
  · exact absurd (by unfold mwp; rw [List.getD_eq_getElem?_getD, List.getElem?_eq_none (show mwpL.length ≤ j from e)]; rfl) h
theorem mgp_inj {j j' : Nat} (h : mgp j ≠ 0) (e : mgp j = mgp j') : j = j' :=
  (by decide : ∀ j : Fin 30, ∀ j' : Fin 30, mgp j.1 ≠ 0 → mgp j.1 = mgp j'.1 → j.1 = j'.1) ⟨j, mgp_lt h⟩ ⟨j', mgp_lt (by rw [← e]; exact h)⟩ h e
theorem mwp_inj {j j' : Nat} (h : mwp j ≠ 0) (e : mwp j = mwp j') : j = j' :=
  (by decide : ∀ j : Fin 10, ∀ j' : Fin 10, mwp j.1 ≠ 0 → mwp j.1 = mwp j'.1 → j.1 = j'.1) ⟨j, mwp_lt h⟩ ⟨j', mwp_lt (by rw [← e]; exact h)⟩ h e
theorem mG_z (h : mG g N a σ z k) (e : msame z z' k) : mG g N a σ z' k := by
  obtain ⟨e1, e2, e3, e4, e5⟩ := e
  obtain ⟨q1, q2, q3, q4, q5, q6, q7⟩ := h
  refine ⟨q1, fun r h1 h2 => ?_, fun j hj => by rw [e1 j hj]; exact q3 j hj, q4, ?_, ?_, ?_⟩
  · have : mak r = 2 ∨ mak r = 3 ∨ mak r = 7 ∨ mak r = 9 ∨ mak r = 10 ∨ mak r = 11 ∨ mak r = 12 ∨ mak r = 13 ∨ mak r = 14 ∨ mak r = 15 ∨ mak r = 16 := by
      have h : r = 47 ∨ r = 48 ∨ r = 49 ∨ r = 50 ∨ r = 51 ∨ r = 52 := by omega
      rcases h with h | h | h | h | h | h <;> subst h <;> decide
    rw [e2 _ this]; exact q2 r h1 h2
  · rw [e3, e2 9 (by decide), e2 10 (by decide)]; exact q5
  · rw [e4, e2 11 (by decide)]; exact q6
  · rw [e5, e2 12 (by decide), e2 13 (by decide)]; exact q7
theorem mW_z (h : mW g M σ z) (e : wsame z z') : mW g M σ z' := by
  obtain ⟨e1, e2, e3⟩ := e
  obtain ⟨q1, q2, q3, q4, q5⟩ := h
  exact ⟨q1, q2, by rw [e2]; exact q3, fun j hj => by rw [e3 j hj]; exact q4 j hj, by rw [e1]; exact q5⟩
theorem RepW_z (h : RepW g M σ z) (e : wsame z z') (e2 : ∀ k, k < zn z → msame z z' k) : RepW g M σ z' :=
  ⟨h.1, h.2.1, mW_z h.2.2.1 e, fun k hk => by rw [e.1] at hk; exact mG_z (h.2.2.2 k hk) (e2 k hk)⟩
theorem msame_zs {κ i j : Nat} {v : Int32} (hh : κ = 0 ∨ mhid κ j = true ∨ i ≠ k) : msame z (zs z κ i j v) k := by
  refine ⟨fun j' hj' => ?_, fun κ' hκ' => ?_, rfl, rfl, rfl⟩
  · rcases hh with e | e | e
    · rw [zs_k _ (by omega)]
    · by_cases e1 : (1 : Nat) = κ
      · subst e1
        refine zs_j _ (fun e2 => ?_)
        rw [← e2] at e
        have : mgp j' = 4 ∨ mgp j' = 6 ∨ mgp j' = 25 := by
          simp [mhid] at e
          omega
        exact (by decide : ∀ j : Fin 30, ¬ (mgp j.1 = 4 ∨ mgp j.1 = 6 ∨ mgp j.1 = 25)) ⟨j', mgp_lt hj'⟩ this
      · rw [zs_k _ e1]
    · exact zs_i _ (Ne.symm e)
  · rcases hh with e | e | e
    · rw [zs_k _ (by omega)]
    · refine congrFun (zs_k _ (fun e1 => ?_)) k
      subst e1
      rcases hκ' with e1 | e1 | e1 | e1 | e1 | e1 | e1 | e1 | e1 | e1 | e1 <;> subst e1 <;> simp [mhid] at e
    · funext j'; exact zs_i _ (Ne.symm e)
theorem wsame_zs {κ i j : Nat} {v : Int32} (hh : κ ≠ 0 ∨ j = 5 ∨ j = 6) : wsame z (zs z κ i j v) := by
  refine ⟨rfl, rfl, fun j' hj' => ?_⟩
  rcases hh with e | e
  · rw [zs_k _ (Ne.symm e)]
  · refine zs_j _ (fun e2 => ?_)
    rw [← e2] at e
    exact (by decide : ∀ j : Fin 10, ¬ (mwp j.1 = 5 ∨ mwp j.1 = 6)) ⟨j', mwp_lt hj'⟩ e
theorem RepW_mod {κ i j : Nat} {v : Int32} (h : RepW g M σ z) (hh : mhid κ j = true) : RepW g M σ (zs z κ i j v) := by
  refine RepW_z h (wsame_zs ?_) (fun k _ => msame_zs (Or.inr (Or.inl hh)))
  by_cases e : κ = 0
  · subst e
    simp [mhid] at hh
    exact Or.inr hh
  · exact Or.inl e
/-- what is written is none of its cells -/
theorem mG_kp (h : mG g N a σ z k) (q : kp W c s σ σ') (hn : ∀ r, 43 < r → a r < hsz σ → ¬ W (a r)) (hL : Lf N σ W) (hA : AN N N' σ) : mG g N' a σ' z k := by
  obtain ⟨q1, q2, q3, ⟨l1, l2, l3⟩, ⟨f1, u1, u2⟩, ⟨f2, u3, u4⟩, ⟨f3, u5, u6⟩⟩ := h
  have S := (q.2.2.2.2 _ (hty_lt q1)).2.2 (hn 44 (by decide) (hty_lt q1)) 7
  refine ⟨kp_ty q q1, fun r h1 h2 => ?_, fun j hj => by rw [S]; exact q3 j hj, ⟨by rw [S]; exact l1, by rw [S]; exact l2, by rw [S]; exact l3⟩, ⟨f1, isL_kq u1 q (hn 46 (by decide) (hty_lt u1.1)) (hn 66 (by decide)), fun i hi => RwAt_kp (u2 i hi) q hA (fun x w l => (hL x w l).imp_left (fun e => e.2.2))⟩, ⟨f2, isL_kq u3 q (hn 53 (by decide) (hty_lt u3.1)) (hn 73 (by decide)), fun i hi => InAt_kp (u4 i hi) q hA (fun x w l => (hL x w l).imp_left (fun e => e.2.1))⟩, ⟨f3, isL_kq u5 q (hn 54 (by decide) (hty_lt u5.1)) (hn 74 (by decide)), fun i hi => RwAt_kp (u6 i hi) q hA (fun x w l => (hL x w l).imp_left (fun e => e.2.2))⟩⟩
  obtain ⟨x1, x2, x3, x4⟩ := q2 r h1 h2
  have T := q.2.2.2.2 _ (hty_lt x1)
  have T3 := T.2.2 (hn r (by omega) (hty_lt x1)) 20
  exact ⟨kp_ty q x1, by rw [T.2.1]; exact x2, by rw [S]; exact x3, fun p hp => by rw [T3]; exact x4 p hp⟩
theorem mG_a {a' : Nat → Nat} (h : mG g N a σ z k) (e : ∀ r, 43 < r → a' r = a r) : mG g N a' σ z k := by
  obtain ⟨q1, q2, q3, q4, q5, q6, q7⟩ := h
  unfold mG
  rw [e 44 (by decide), e 46 (by decide), e 66 (by decide), e 53 (by decide), e 73 (by decide), e 54 (by decide), e 74 (by decide)]
  exact ⟨q1, fun r h1 h2 => by rw [e r (by omega)]; exact q2 r h1 h2, q3, q4, q5, q6, q7⟩
theorem mW_kp (h : mW g M σ z) (q : kp W c s σ σ') (h1 : ¬ W (M 41 0)) (h2 : ¬ W (M 42 0)) (h3 : M 62 0 < hsz σ → ¬ W (M 62 0)) : mW g M σ' z := by
  obtain ⟨q1, q2, q3, q4, q5⟩ := h
  have S := (q.2.2.2.2 _ (hty_lt q1)).2.2 h1 4
  exact ⟨kp_ty q q1, by rw [S]; exact q2, by rw [S]; exact q3, fun j hj => by rw [S]; exact q4 j hj, isL_kq q5 q h2 h3⟩
theorem mW_a (h : mW g M σ z) (e41 : M' 41 0 = M 41 0) (e42 : M' 42 0 = M 42 0) (e62 : M' 62 0 = M 62 0) (e44 : ∀ k, k < zn z → M' 44 k = M 44 k) : mW g M' σ z := by
  obtain ⟨q1, q2, q3, q4, q5⟩ := h
  unfold mW
  rw [e41, e42, e62]
  exact ⟨q1, q2, q3, q4, isL_f q5 (fun j hj => by show Value.ref _ = Value.ref _; rw [e44 j hj])⟩
/-- what the model does not name is written -/
theorem RepW_kp (h : RepW g M σ z) (q : kp W c s σ σ') (hB : ∀ x, W x → gB g ≤ x) (hW : ∀ r k, 40 < r → ¬ W (M r k)) (hL : Lf M σ W) (hA : AN M M' σ) (hr : ∀ r k, 40 < r → M' r k = M r k) (hc : cA g M' σ') : RepW g M' σ' z :=
  ⟨Bas_kp h.1 q hB, hc, mW_a (mW_kp h.2.2.1 q (hW _ _ (by decide)) (hW _ _ (by decide)) (fun _ => hW _ _ (by decide))) (hr _ _ (by decide)) (hr _ _ (by decide)) (hr _ _ (by decide)) (fun k _ => hr _ _ (by decide)), fun k hk => mG_a (mG_kp (h.2.2.2 k hk) q (fun r h1 _ => hW r k (by omega)) hL hA) (fun r hr' => hr r k (by omega))⟩
theorem RepW_kp0 (h : RepW g M σ z) (q : kp (fun _ => False) c s σ σ') : RepW g M σ' z :=
  RepW_kp h q (fun _ e => e.elim) (fun _ _ _ e => e) (fun _ e => e.elim) (AN_refl M σ) (fun _ _ _ => rfl) (cA_le h.2.1 q.1)
/-- one guest changes -/
theorem RepW_one (h : RepW g M σ z) (q : kp W c s σ σ') (hk : k < zn z) (hW : ∀ x, W x → ∃ r, x = M r k ∧ 43 < r ∧ r ≠ 62) (hA : ∀ r i, M' r i = M r i ∨ (i = k ∧ 44 < r ∧ r ≠ 62 ∧ hsz σ ≤ M' r i)) (hcA : cA g M' σ') (hz : ∀ i, i ≠ k → msame z z' i) (hw : wsame z z') (hg : mG g M' (fun r => M' r k) σ' z' k) : RepW g M' σ' z' := by
  obtain ⟨q1, q2, q3, q5⟩ := h
  have nW : ∀ r i, (r ≤ 43 ∨ r = 62 ∨ i ≠ k) → ¬ W (M r i) := by
    intro r i hr w
    obtain ⟨r', e, e2⟩ := hW _ w
    obtain ⟨e3, e4⟩ := q2.1 _ _ _ _ e
    omega
  have hr : ∀ r i, (r ≤ 44 ∨ r = 62 ∨ i ≠ k) → M' r i = M r i := by
    intro r i hr
    rcases hA r i with e | e
    · exact e
    · omega
  refine ⟨Bas_kp q1 q (fun x w => ?_), hcA, mW_z (mW_a (mW_kp q3 q (nW _ _ (by omega)) (nW _ _ (by omega)) (fun _ => nW _ _ (by omega))) (hr _ _ (by omega)) (hr _ _ (by omega)) (hr _ _ (by omega)) (fun k _ => hr _ _ (by omega))) hw, fun i hi => ?_⟩
  · obtain ⟨r, e, _⟩ := hW x w
    rw [e]; exact (q2.2 r k).1
  · by_cases e : i = k
    · subst e; exact hg
    · rw [hw.1] at hi
      exact mG_z (mG_a (mG_kp (q5 i hi) q (fun r _ _ => nW r i (by omega)) (fun x w _ => Or.inr (by
        obtain ⟨r, e, _⟩ := hW x w
        exact ⟨r, k, e⟩)) (fun r j => (hA r j).imp_right (fun e => e.2.2.2))) (fun r _ => hr r i (by omega))) (hz i e)
/-- a scalar of a guest is written -/
theorem rw_s (h : RepW g M σ z) (hk : k < zn z) (j q : Nat) {v : Int32} (e : mgp j = q) (h0 : q ≠ 0) : RepW g M (hput σ 7 (M 44 k) j (.int v)) (zs z 1 k q v) := by
  have hg := h.2.2.2 k hk
  have e30 : j ≠ 30 ∧ j ≠ 31 ∧ j ≠ 1 ∧ ∀ r, 47 ≤ r → r ≤ 52 → mpl r ≠ j := by
    subst e
    obtain ⟨a1, a2, a3, a4⟩ := (by decide : ∀ j : Fin 30, mgp j.1 ≠ 0 → j.1 ≠ 30 ∧ j.1 ≠ 31 ∧ j.1 ≠ 1 ∧ ∀ r : Fin 53, 47 ≤ r.1 → mpl r.1 ≠ j.1) ⟨j, mgp_lt h0⟩ h0
    exact ⟨a1, a2, a3, fun r h1 h2 => a4 ⟨r, by omega⟩ h1⟩
  refine RepW_one h (kp_put (W := fun x => x = M 44 k) (fun _ => rfl)) hk (fun x e => ⟨44, e, by decide, by decide⟩) (fun _ _ => Or.inl rfl) (cA_le h.2.1 (Nat.le_refl _)) (fun i hi => msame_zs (Or.inr (Or.inr (Ne.symm hi)))) (wsame_zs (Or.inl (by decide))) ?_
  obtain ⟨q1, q2, q3, ⟨l1, l2, l3⟩, ⟨f1, u1, u2⟩, ⟨f2, u3, u4⟩, ⟨f3, u5, u6⟩⟩ := hg
  refine ⟨q1, fun r h1 h2 => ?_, fun j' hj' => ?_, ⟨by rw [hv_kne _ (Ne.symm e30.2.2.1)]; exact l1, by rw [hv_kne _ (Ne.symm e30.1)]; exact l2, by rw [hv_kne _ (Ne.symm e30.2.1)]; exact l3⟩, ⟨f1, isL_tag u1 (by decide) (by decide), fun i hi => RwAt_tag (u2 i hi) (by decide)⟩, ⟨f2, isL_tag u3 (by decide) (by decide), fun i hi => InAt_tag (u4 i hi) (by decide)⟩, ⟨f3, isL_tag u5 (by decide) (by decide), fun i hi => RwAt_tag (u6 i hi) (by decide)⟩⟩
  · obtain ⟨x1, x2, x3, x4⟩ := q2 r h1 h2
    refine ⟨x1, x2, by rw [hv_kne _ (e30.2.2.2 r h1 h2)]; exact x3, fun p hp => ?_⟩
    rw [hv_tne _ (by decide)]
    have : mak r ≠ 1 := by
      have h : r = 47 ∨ r = 48 ∨ r = 49 ∨ r = 50 ∨ r = 51 ∨ r = 52 := by omega
      rcases h with h | h | h | h | h | h <;> subst h <;> decide
    rw [zs_k _ this]
    exact x4 p hp
  · by_cases ej : j' = j
    · rw [ej, hv_same, e, zs_at]
    · rw [hv_kne _ ej, zs_j _ (fun e2 => ej (mgp_inj hj' (e2.trans e.symm)))]
      exact q3 j' hj'
/-- an array of a guest is written -/
theorem rw_a (h : RepW g M σ z) (hk : k < zn z) (r κ : Nat) {p : Nat} {v : Int32} (h1 : 47 ≤ r ∧ r ≤ 52) (e : mak r = κ) (hp : p < mal r) : RepW g M (hput σ 20 (M r k) p (.int v)) (zs z κ k p v) := by
  subst e
  have hr : r = 47 ∨ r = 48 ∨ r = 49 ∨ r = 50 ∨ r = 51 ∨ r = 52 := by omega
  have hg := h.2.2.2 k hk
  have hkx : mak r ≠ 0 ∧ mak r ≠ 1 ∧ mak r ≠ 9 ∧ mak r ≠ 10 ∧ mak r ≠ 11 ∧ mak r ≠ 12 ∧ mak r ≠ 13 := by
    rcases hr with h | h | h | h | h | h <;> subst h <;> decide
  refine RepW_one h (kp_put (W := fun x => x = M r k) (fun _ => rfl)) hk (fun x e => ⟨r, e, by omega, by omega⟩) (fun _ _ => Or.inl rfl) (cA_le h.2.1 (Nat.le_refl _)) (fun i hi => msame_zs (Or.inr (Or.inr (Ne.symm hi)))) (wsame_zs (Or.inl hkx.1)) ?_
  have hq : ∀ q, (∀ r k, q ≠ M r k) → q ≠ M r k := fun q e => e r k
  obtain ⟨q1, q2, q3, l, ⟨f1, u1, u2⟩, ⟨f2, u3, u4⟩, ⟨f3, u5, u6⟩⟩ := hg
  refine ⟨q1, fun r' h1' h2' => ?_, fun j' hj' => ?_, by rw [hv_tne _ (by decide)]; exact l, ⟨f1, isL_tag u1 (by decide) (by decide), fun i hi => ?_⟩, ⟨f2, isL_tag u3 (by decide) (by decide), fun i hi => ?_⟩, ⟨f3, isL_tag u5 (by decide) (by decide), fun i hi => ?_⟩⟩
  · obtain ⟨x1, x2, x3, x4⟩ := q2 r' h1' h2'
    refine ⟨x1, x2, by rw [hv_tne _ (by decide)]; exact x3, fun p' hp' => ?_⟩
    by_cases er : r' = r
    · subst er
      by_cases ep : p' = p
      · rw [ep, hv_same, zs_at]
      · rw [hv_kne _ ep, zs_j _ ep]; exact x4 p' hp'
    · have : mak r' ≠ mak r := by
        have hr' : r' = 47 ∨ r' = 48 ∨ r' = 49 ∨ r' = 50 ∨ r' = 51 ∨ r' = 52 := by omega
        rcases hr with h | h | h | h | h | h <;> subst h <;> rcases hr' with h | h | h | h | h | h <;> subst h <;> first | decide | exact absurd rfl er
      rw [hv_ane _ (fun e => er (h.2.1.1 _ _ _ _ e).1), zs_k _ this]
      exact x4 p' hp'
  · rw [hv_tne _ (by decide), zs_k _ (Ne.symm hkx.2.1)]; exact q3 j' hj'
  · rw [zs_k _ (Ne.symm hkx.2.2.1), zs_k _ (Ne.symm hkx.2.2.2.1)]; exact RwAt_arr (u2 i hi) hq
  · rw [zs_k _ (Ne.symm hkx.2.2.2.2.1)]; exact InAt_tag (u4 i hi) (by decide)
  · rw [zs_k _ (Ne.symm hkx.2.2.2.2.2.1), zs_k _ (Ne.symm hkx.2.2.2.2.2.2)]; exact RwAt_arr (u6 i hi) hq
/-- a scalar of the world is written -/
theorem mG_tag {t x j : Nat} {v : Value} (h : mG g N a σ z k) (h1 : t = 4 ∨ t = 3) : mG g N a (hput σ t x j v) z k := by
  obtain ⟨q1, q2, q3, l, ⟨f1, u1, u2⟩, ⟨f2, u3, u4⟩, ⟨f3, u5, u6⟩⟩ := h
  refine ⟨q1, fun r h1' h2 => ?_, by rw [hv_tne _ (by omega)]; exact q3, by rw [hv_tne _ (by omega)]; exact l, ⟨f1, isL_tag u1 (by omega) (by omega), fun i hi => RwAt_tag (u2 i hi) (by omega)⟩, ⟨f2, isL_tag u3 (by omega) (by omega), fun i hi => InAt_tag (u4 i hi) (by omega)⟩, ⟨f3, isL_tag u5 (by omega) (by omega), fun i hi => RwAt_tag (u6 i hi) (by omega)⟩⟩
  rw [hv_tne _ (by omega), hv_tne _ (by omega)]
  exact q2 r h1' h2
theorem rw_w (h : RepW g M σ z) (j q : Nat) {v : Int32} (e : mwp j = q) (h0 : q ≠ 0) : RepW g M (hput σ 4 (M 41 0) j (.int v)) (zs z 0 0 q v) := by
  obtain ⟨q1, q2, ⟨w1, w2, w3, w4, w5⟩, q4⟩ := h
  have e30 : j ≠ 0 ∧ j ≠ 2 := by
    subst e
    refine (by decide : ∀ j : Fin 10, mwp j.1 ≠ 0 → j.1 ≠ 0 ∧ j.1 ≠ 2) ⟨j, mwp_lt h0⟩ h0
  refine ⟨Bas_put q1 (q2.2 41 0).1, cA_le q2 (Nat.le_refl _), ⟨w1, by rw [hv_kne _ (Ne.symm e30.1)]; exact w2, by rw [hv_kne _ (Ne.symm e30.2)]; exact w3, fun j' hj' => ?_, isL_tag w5 (by decide) (by decide)⟩, fun k hk => mG_z (mG_tag (q4 k hk) (by decide)) (msame_zs (Or.inl rfl))⟩
  by_cases ej : j' = j
  · rw [ej, hv_same, e, zs_at]
  · rw [hv_kne _ ej, zs_j _ (fun e2 => ej (mwp_inj hj' (e2.trans e.symm)))]
    exact w4 j' hj'
theorem rw_f (h : RepW g M σ z) (n : Nat) : RepW g M (hput σ 4 (M 41 0) 2 (.int (Int32.ofNat n))) (zl z 1 0 n) := by
  obtain ⟨q1, q2, ⟨w1, w2, w3, w4, w5⟩, q4⟩ := h
  have n1 : zn (zl z 1 0 n) = zn z := by unfold zn; rw [zl_k _ (by decide)]
  refine ⟨Bas_put q1 (q2.2 41 0).1, cA_le q2 (Nat.le_refl _), ⟨w1, by rw [hv_kne _ (by decide)]; exact w2, by rw [hv_same]; unfold zf; rw [zl_at], fun j' hj' => ?_, by rw [n1]; exact isL_tag w5 (by decide) (by decide)⟩, fun k hk => mG_z (mG_tag (q4 k (by rw [n1] at hk; exact hk)) (by decide)) ⟨fun _ _ => rfl, fun _ _ => rfl, ?_, ?_, ?_⟩⟩
  · have : j' ≠ 2 := fun e => by subst e; exact hj' rfl
    rw [hv_kne _ this]
    exact w4 j' hj'
  · rw [zl_k _ (by decide)]
  · rw [zl_k _ (by decide)]
  · rw [zl_k _ (by decide)]
/-- reading -/
theorem wgt (h : RepW g M σ z) (hk : k < zn z) : hty σ (M 44 k) = some 7 := (h.2.2.2 k hk).1
theorem wg_0 (h : RepW g M σ z) (hk : k < zn z) : hv σ 7 (M 44 k) 0 = .int (z.1 1 k 1) := (h.2.2.2 k hk).2.2.1 0 (by decide)
theorem wg_2 (h : RepW g M σ z) (hk : k < zn z) : hv σ 7 (M 44 k) 2 = .int (z.1 1 k 22) := (h.2.2.2 k hk).2.2.1 2 (by decide)
theorem wg_3 (h : RepW g M σ z) (hk : k < zn z) : hv σ 7 (M 44 k) 3 = .int (z.1 1 k 23) := (h.2.2.2 k hk).2.2.1 3 (by decide)
theorem wg_4 (h : RepW g M σ z) (hk : k < zn z) : hv σ 7 (M 44 k) 4 = .int (z.1 1 k 7) := (h.2.2.2 k hk).2.2.1 4 (by decide)
theorem wg_5 (h : RepW g M σ z) (hk : k < zn z) : hv σ 7 (M 44 k) 5 = .int (z.1 1 k 8) := (h.2.2.2 k hk).2.2.1 5 (by decide)
theorem wg_6 (h : RepW g M σ z) (hk : k < zn z) : hv σ 7 (M 44 k) 6 = .int (z.1 1 k 3) := (h.2.2.2 k hk).2.2.1 6 (by decide)
theorem wg_7 (h : RepW g M σ z) (hk : k < zn z) : hv σ 7 (M 44 k) 7 = .int (z.1 1 k 36) := (h.2.2.2 k hk).2.2.1 7 (by decide)
theorem wg_8 (h : RepW g M σ z) (hk : k < zn z) : hv σ 7 (M 44 k) 8 = .int (z.1 1 k 35) := (h.2.2.2 k hk).2.2.1 8 (by decide)
theorem wg_9 (h : RepW g M σ z) (hk : k < zn z) : hv σ 7 (M 44 k) 9 = .int (z.1 1 k 9) := (h.2.2.2 k hk).2.2.1 9 (by decide)
theorem wg_10 (h : RepW g M σ z) (hk : k < zn z) : hv σ 7 (M 44 k) 10 = .int (z.1 1 k 10) := (h.2.2.2 k hk).2.2.1 10 (by decide)
theorem wg_11 (h : RepW g M σ z) (hk : k < zn z) : hv σ 7 (M 44 k) 11 = .int (z.1 1 k 11) := (h.2.2.2 k hk).2.2.1 11 (by decide)
theorem wg_12 (h : RepW g M σ z) (hk : k < zn z) : hv σ 7 (M 44 k) 12 = .int (z.1 1 k 12) := (h.2.2.2 k hk).2.2.1 12 (by decide)
theorem wg_18 (h : RepW g M σ z) (hk : k < zn z) : hv σ 7 (M 44 k) 18 = .int (z.1 1 k 30) := (h.2.2.2 k hk).2.2.1 18 (by decide)
theorem wg_19 (h : RepW g M σ z) (hk : k < zn z) : hv σ 7 (M 44 k) 19 = .int (z.1 1 k 19) := (h.2.2.2 k hk).2.2.1 19 (by decide)
theorem wg_20 (h : RepW g M σ z) (hk : k < zn z) : hv σ 7 (M 44 k) 20 = .int (z.1 1 k 5) := (h.2.2.2 k hk).2.2.1 20 (by decide)
theorem wg_21 (h : RepW g M σ z) (hk : k < zn z) : hv σ 7 (M 44 k) 21 = .int (z.1 1 k 17) := (h.2.2.2 k hk).2.2.1 21 (by decide)
theorem wg_22 (h : RepW g M σ z) (hk : k < zn z) : hv σ 7 (M 44 k) 22 = .int (z.1 1 k 34) := (h.2.2.2 k hk).2.2.1 22 (by decide)
theorem wg_23 (h : RepW g M σ z) (hk : k < zn z) : hv σ 7 (M 44 k) 23 = .int (z.1 1 k 18) := (h.2.2.2 k hk).2.2.1 23 (by decide)
theorem wg_24 (h : RepW g M σ z) (hk : k < zn z) : hv σ 7 (M 44 k) 24 = .int (z.1 1 k 20) := (h.2.2.2 k hk).2.2.1 24 (by decide)
theorem wg_25 (h : RepW g M σ z) (hk : k < zn z) : hv σ 7 (M 44 k) 25 = .int (z.1 1 k 31) := (h.2.2.2 k hk).2.2.1 25 (by decide)
theorem wg_26 (h : RepW g M σ z) (hk : k < zn z) : hv σ 7 (M 44 k) 26 = .int (z.1 1 k 32) := (h.2.2.2 k hk).2.2.1 26 (by decide)
theorem wg_27 (h : RepW g M σ z) (hk : k < zn z) : hv σ 7 (M 44 k) 27 = .int (z.1 1 k 33) := (h.2.2.2 k hk).2.2.1 27 (by decide)
theorem wg_29 (h : RepW g M σ z) (hk : k < zn z) : hv σ 7 (M 44 k) 29 = .int (z.1 1 k 24) := (h.2.2.2 k hk).2.2.1 29 (by decide)
theorem wg_1 (h : RepW g M σ z) (hk : k < zn z) : hv σ 7 (M 44 k) 1 = .ref (M 46 k) := (h.2.2.2 k hk).2.2.2.1.1
theorem wg_30 (h : RepW g M σ z) (hk : k < zn z) : hv σ 7 (M 44 k) 30 = .ref (M 53 k) := (h.2.2.2 k hk).2.2.2.1.2.1
theorem wg_31 (h : RepW g M σ z) (hk : k < zn z) : hv σ 7 (M 44 k) 31 = .ref (M 54 k) := (h.2.2.2 k hk).2.2.2.1.2.2
theorem wg_13 (h : RepW g M σ z) (hk : k < zn z) : hv σ 7 (M 44 k) 13 = .ref (M 47 k) := ((h.2.2.2 k hk).2.1 47 (by decide) (by decide)).2.2.1
theorem wt_47 (h : RepW g M σ z) (hk : k < zn z) : hty σ (M 47 k) = some 20 := ((h.2.2.2 k hk).2.1 47 (by decide) (by decide)).1
theorem wl_47 (h : RepW g M σ z) (hk : k < zn z) : hln σ (M 47 k) = 6 := ((h.2.2.2 k hk).2.1 47 (by decide) (by decide)).2.1
theorem wa_47 (h : RepW g M σ z) (hk : k < zn z) {p : Nat} (hp : p < 6) : hv σ 20 (M 47 k) p = .int (z.1 2 k p) := ((h.2.2.2 k hk).2.1 47 (by decide) (by decide)).2.2.2 p hp
theorem wg_14 (h : RepW g M σ z) (hk : k < zn z) : hv σ 7 (M 44 k) 14 = .ref (M 48 k) := ((h.2.2.2 k hk).2.1 48 (by decide) (by decide)).2.2.1
theorem wt_48 (h : RepW g M σ z) (hk : k < zn z) : hty σ (M 48 k) = some 20 := ((h.2.2.2 k hk).2.1 48 (by decide) (by decide)).1
theorem wl_48 (h : RepW g M σ z) (hk : k < zn z) : hln σ (M 48 k) = 6 := ((h.2.2.2 k hk).2.1 48 (by decide) (by decide)).2.1
theorem wa_48 (h : RepW g M σ z) (hk : k < zn z) {p : Nat} (hp : p < 6) : hv σ 20 (M 48 k) p = .int (z.1 14 k p) := ((h.2.2.2 k hk).2.1 48 (by decide) (by decide)).2.2.2 p hp
theorem wg_15 (h : RepW g M σ z) (hk : k < zn z) : hv σ 7 (M 44 k) 15 = .ref (M 49 k) := ((h.2.2.2 k hk).2.1 49 (by decide) (by decide)).2.2.1
theorem wt_49 (h : RepW g M σ z) (hk : k < zn z) : hty σ (M 49 k) = some 20 := ((h.2.2.2 k hk).2.1 49 (by decide) (by decide)).1
theorem wl_49 (h : RepW g M σ z) (hk : k < zn z) : hln σ (M 49 k) = 6 := ((h.2.2.2 k hk).2.1 49 (by decide) (by decide)).2.1
theorem wa_49 (h : RepW g M σ z) (hk : k < zn z) {p : Nat} (hp : p < 6) : hv σ 20 (M 49 k) p = .int (z.1 15 k p) := ((h.2.2.2 k hk).2.1 49 (by decide) (by decide)).2.2.2 p hp
theorem wg_16 (h : RepW g M σ z) (hk : k < zn z) : hv σ 7 (M 44 k) 16 = .ref (M 50 k) := ((h.2.2.2 k hk).2.1 50 (by decide) (by decide)).2.2.1
theorem wt_50 (h : RepW g M σ z) (hk : k < zn z) : hty σ (M 50 k) = some 20 := ((h.2.2.2 k hk).2.1 50 (by decide) (by decide)).1
theorem wl_50 (h : RepW g M σ z) (hk : k < zn z) : hln σ (M 50 k) = 6 := ((h.2.2.2 k hk).2.1 50 (by decide) (by decide)).2.1
theorem wa_50 (h : RepW g M σ z) (hk : k < zn z) {p : Nat} (hp : p < 6) : hv σ 20 (M 50 k) p = .int (z.1 16 k p) := ((h.2.2.2 k hk).2.1 50 (by decide) (by decide)).2.2.2 p hp
theorem wg_17 (h : RepW g M σ z) (hk : k < zn z) : hv σ 7 (M 44 k) 17 = .ref (M 51 k) := ((h.2.2.2 k hk).2.1 51 (by decide) (by decide)).2.2.1
theorem wt_51 (h : RepW g M σ z) (hk : k < zn z) : hty σ (M 51 k) = some 20 := ((h.2.2.2 k hk).2.1 51 (by decide) (by decide)).1
theorem wl_51 (h : RepW g M σ z) (hk : k < zn z) : hln σ (M 51 k) = 5 := ((h.2.2.2 k hk).2.1 51 (by decide) (by decide)).2.1
theorem wa_51 (h : RepW g M σ z) (hk : k < zn z) {p : Nat} (hp : p < 5) : hv σ 20 (M 51 k) p = .int (z.1 3 k p) := ((h.2.2.2 k hk).2.1 51 (by decide) (by decide)).2.2.2 p hp
theorem wg_28 (h : RepW g M σ z) (hk : k < zn z) : hv σ 7 (M 44 k) 28 = .ref (M 52 k) := ((h.2.2.2 k hk).2.1 52 (by decide) (by decide)).2.2.1
theorem wt_52 (h : RepW g M σ z) (hk : k < zn z) : hty σ (M 52 k) = some 20 := ((h.2.2.2 k hk).2.1 52 (by decide) (by decide)).1
theorem wl_52 (h : RepW g M σ z) (hk : k < zn z) : hln σ (M 52 k) = 6 := ((h.2.2.2 k hk).2.1 52 (by decide) (by decide)).2.1
theorem wa_52 (h : RepW g M σ z) (hk : k < zn z) {p : Nat} (hp : p < 6) : hv σ 20 (M 52 k) p = .int (z.1 7 k p) := ((h.2.2.2 k hk).2.1 52 (by decide) (by decide)).2.2.2 p hp
theorem wwt (h : RepW g M σ z) : hty σ (M 41 0) = some 4 := h.2.2.1.1
theorem ww_0 (h : RepW g M σ z) : hv σ 4 (M 41 0) 0 = .ref (M 42 0) := h.2.2.1.2.1
theorem ww_2 (h : RepW g M σ z) : hv σ 4 (M 41 0) 2 = .int (Int32.ofNat (zf z)) := h.2.2.1.2.2.1
theorem ww_1 (h : RepW g M σ z) : hv σ 4 (M 41 0) 1 = .int (z.1 0 0 2) := h.2.2.1.2.2.2.1 1 (by decide)
theorem ww_3 (h : RepW g M σ z) : hv σ 4 (M 41 0) 3 = .int (z.1 0 0 3) := h.2.2.1.2.2.2.1 3 (by decide)
theorem ww_4 (h : RepW g M σ z) : hv σ 4 (M 41 0) 4 = .int (z.1 0 0 4) := h.2.2.1.2.2.2.1 4 (by decide)
theorem ww_5 (h : RepW g M σ z) : hv σ 4 (M 41 0) 5 = .int (z.1 0 0 10) := h.2.2.1.2.2.2.1 5 (by decide)
theorem ww_6 (h : RepW g M σ z) : hv σ 4 (M 41 0) 6 = .int (z.1 0 0 11) := h.2.2.1.2.2.2.1 6 (by decide)
theorem ww_7 (h : RepW g M σ z) : hv σ 4 (M 41 0) 7 = .int (z.1 0 0 7) := h.2.2.1.2.2.2.1 7 (by decide)
theorem ww_8 (h : RepW g M σ z) : hv σ 4 (M 41 0) 8 = .int (z.1 0 0 8) := h.2.2.1.2.2.2.1 8 (by decide)
theorem ww_9 (h : RepW g M σ z) : hv σ 4 (M 41 0) 9 = .int (z.1 0 0 9) := h.2.2.1.2.2.2.1 9 (by decide)
theorem wL (h : RepW g M σ z) : isL g σ (M 42 0) (M 62 0) (zn z) (fun k => .ref (M 44 k)) := h.2.2.1.2.2.2.2
theorem wgB (h : RepW g M σ z) : gB g ≤ hsz σ := h.1.1
theorem wgA (h : RepW g M σ z) (r k : Nat) : gB g ≤ M r k := (h.2.1.2 r k).1
theorem wgAe (h : RepW g M σ z) (r k : Nat) : (gB g ≤ M r k) = True := eq_true (wgA h r k)
theorem wgBe (h : RepW g M σ z) : (gB g ≤ hsz σ) = True := eq_true h.1.1
end MREP
