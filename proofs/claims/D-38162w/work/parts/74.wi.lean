/-! what every state keeps, for the walks -/
def live (s : Int32) : Prop := s = 0 ∨ s = 1 ∨ s = 2
def WG (z : ZT) (k : Nat) : Prop := okT z k ∧ okLg z k ∧ ((live (z.1 1 k 3) ∨ (z.1 1 k 3 = 3 ∧ live (z.1 1 k 4))) → zpl z k < z.2 2 k)
def WI (z : ZT) : Prop := (zn z ≤ 3 ∧ 0 < zf z ∧ zf z ≤ 10 ∧ okR z (z.1 0 0 3)) ∧ okFr z ∧ okR z (z.1 0 0 4) ∧ okR z (z.1 0 0 6) ∧ ∀ k, k < zn z → WG z k
section WI
variable {z : ZT} {κ i j k : Nat} {v : Int32}
theorem okR_2 {z z' : ZT} (h : z'.2 0 0 = z.2 0 0) {x : Int32} (q : okR z x) : okR z' x := by
  rcases q with e | ⟨j, j1, j2⟩
  · exact Or.inl e
  · exact Or.inr ⟨j, by unfold zn; rw [h]; exact j1, j2⟩
/-- a guest's clause, where what it speaks of is the same -/
theorem WG_of {z z' : ZT} (h : WG z k) (h2 : z'.2 2 k = z.2 2 k) (h3 : z'.2 3 k = z.2 3 k) (h9 : z'.1 9 k = z.1 9 k) (h10 : z'.1 10 k = z.1 10 k) (e : ∀ j, j = 3 ∨ j = 4 ∨ j = 22 ∨ j = 25 ∨ j = 31 → z'.1 1 k j = z.1 1 k j) : WG z' k := by
  have p : zpl z' k = zpl z k := by unfold zpl; rw [e 22 (by decide)]
  unfold WG okT okLg
  rw [h2, h3, h9, h10, p, e 3 (by decide), e 4 (by decide), e 22 (by decide), e 25 (by decide), e 31 (by decide)]
  exact h
def harm (κ j : Nat) : Bool := κ == 8 || κ == 9 || κ == 10 || (κ == 1 && (j == 3 || j == 4 || j == 22 || j == 25 || j == 31)) || (κ == 0 && (j == 3 || j == 4 || j == 6))
theorem WI_of {z z' : ZT} (h : WI z) (h2 : z'.2 = z.2) (h8 : z'.1 8 = z.1 8) (h9 : z'.1 9 = z.1 9) (h10 : z'.1 10 = z.1 10) (e3 : z'.1 0 0 3 = z.1 0 0 3) (e0 : z'.1 0 0 4 = z.1 0 0 4) (e6 : z'.1 0 0 6 = z.1 0 0 6) (e : ∀ k j, j = 3 ∨ j = 4 ∨ j = 22 ∨ j = 25 ∨ j = 31 → z'.1 1 k j = z.1 1 k j) : WI z' := by
  obtain ⟨a, b, c, d, f⟩ := h
  refine ⟨⟨by unfold zn; rw [h2]; exact a.1, by unfold zf; rw [h2]; exact a.2.1, by unfold zf; rw [h2]; exact a.2.2.1, by rw [e3]; exact okR_2 (by rw [h2]) a.2.2.2⟩, ?_, by rw [e0]; exact okR_2 (by rw [h2]) c, by rw [e6]; exact okR_2 (by rw [h2]) d, fun k hk => WG_of (f k (by unfold zn at hk ⊢; rw [h2] at hk; exact hk)) (by rw [h2]) (by rw [h2]) (by rw [h9]) (by rw [h10]) (e k)⟩
  unfold okFr okFi zn zf
  rw [h2, h8]
  exact b
theorem WI_zs (h : WI z) (hh : harm κ j = false) : WI (zs z κ i j v) := by
  have hk : κ ≠ 8 ∧ κ ≠ 9 ∧ κ ≠ 10 ∧ (κ ≠ 1 ∨ (j ≠ 3 ∧ j ≠ 4 ∧ j ≠ 22 ∧ j ≠ 25 ∧ j ≠ 31)) ∧ (κ ≠ 0 ∨ (j ≠ 3 ∧ j ≠ 4 ∧ j ≠ 6)) := by
    simp [harm] at hh
    omega
  refine WI_of h rfl (zs_k _ (by omega)) (zs_k _ (by omega)) (zs_k _ (by omega)) ?_ ?_ ?_ ?_
  · rcases hk.2.2.2.2 with e | e
    · rw [zs_k _ (by omega)]
    · rw [zs_j _ (by omega)]
  · rcases hk.2.2.2.2 with e | e
    · rw [zs_k _ (by omega)]
    · rw [zs_j _ (by omega)]
  · rcases hk.2.2.2.2 with e | e
    · rw [zs_k _ (by omega)]
    · rw [zs_j _ (by omega)]
  · intro k' j' hj'
    rcases hk.2.2.2.1 with e | e
    · rw [zs_k _ (by omega)]
    · rw [zs_j _ (by omega)]
/-- one guest changes -/
theorem WI_g {z z' : ZT} (h : WI z) (hk : WG z' k) (h2 : z'.2 0 = z.2 0 ∧ z'.2 1 = z.2 1) (h22 : ∀ k', k' ≠ k → z'.2 2 k' = z.2 2 k' ∧ z'.2 3 k' = z.2 3 k') (h8 : z'.1 8 = z.1 8) (h9 : ∀ k', k' ≠ k → z'.1 9 k' = z.1 9 k' ∧ z'.1 10 k' = z.1 10 k') (e3 : z'.1 0 0 3 = z.1 0 0 3) (e0 : z'.1 0 0 4 = z.1 0 0 4) (e6 : z'.1 0 0 6 = z.1 0 0 6) (e : ∀ k', k' ≠ k → ∀ j, z'.1 1 k' j = z.1 1 k' j) : WI z' := by
  obtain ⟨a, b, c, d, f⟩ := h
  refine ⟨⟨by unfold zn; rw [h2.1]; exact a.1, by unfold zf; rw [h2.2]; exact a.2.1, by unfold zf; rw [h2.2]; exact a.2.2.1, by rw [e3]; exact okR_2 (by rw [h2.1]) a.2.2.2⟩, ?_, by rw [e0]; exact okR_2 (by rw [h2.1]) c, by rw [e6]; exact okR_2 (by rw [h2.1]) d, fun k' hk' => ?_⟩
  · unfold okFr okFi zn zf
    rw [h2.1, h2.2, h8]
    exact b
  · by_cases q : k' = k
    · rw [q]; exact hk
    · exact WG_of (f k' (by unfold zn at hk' ⊢; rw [h2.1] at hk'; exact hk')) (h22 k' q).1 (h22 k' q).2 (h9 k' q).1 (h9 k' q).2 (fun j _ => e k' q j)
theorem zs_1k {k' : Nat} (h : k' ≠ k) (j' : Nat) : (zs z 1 k j v).1 1 k' j' = z.1 1 k' j' := zs_i _ h
/-- the state changes -/
theorem WI_st (h : WI z) (hk : k < zn z) (hv : (live v ∨ (v = 3 ∧ live (z.1 1 k 4))) → zpl z k < z.2 2 k) : WI (zs z 1 k 3 v) := by
  obtain ⟨g1, g2, g3⟩ := h.2.2.2.2 k hk
  refine WI_g h (k := k) ⟨okT_zs g1 (by decide) (by decide) (by decide), ?_, ?_⟩ ⟨rfl, rfl⟩ (fun _ _ => ⟨rfl, rfl⟩) (zs_k _ (by decide)) (fun _ _ => ⟨by rw [zs_k _ (by decide)], by rw [zs_k _ (by decide)]⟩) (by rw [zs_k _ (by decide)]) (by rw [zs_k _ (by decide)]) (by rw [zs_k _ (by decide)]) (fun k' q j' => zs_1k q j')
  · unfold okLg; rw [zs_j _ (by decide), zs_j _ (by decide)]; exact g2
  · rw [zs_at, zs_j _ (by decide), zpl_zs (by decide)]; exact hv
/-- what was before the pause changes -/
theorem WI_bf (h : WI z) (hk : k < zn z) (hv : z.1 1 k 3 = 3 → live v → zpl z k < z.2 2 k) : WI (zs z 1 k 4 v) := by
  obtain ⟨g1, g2, g3⟩ := h.2.2.2.2 k hk
  refine WI_g h (k := k) ⟨okT_zs g1 (by decide) (by decide) (by decide), ?_, ?_⟩ ⟨rfl, rfl⟩ (fun _ _ => ⟨rfl, rfl⟩) (zs_k _ (by decide)) (fun _ _ => ⟨by rw [zs_k _ (by decide)], by rw [zs_k _ (by decide)]⟩) (by rw [zs_k _ (by decide)]) (by rw [zs_k _ (by decide)]) (by rw [zs_k _ (by decide)]) (fun k' q j' => zs_1k q j')
  · unfold okLg; rw [zs_j _ (by decide), zs_j _ (by decide)]; exact g2
  · rw [zs_at, zs_j _ (by decide), zpl_zs (by decide)]
    rintro (q | ⟨q1, q2⟩)
    · exact g3 (Or.inl q)
    · exact hv q1 q2
/-- the place changes -/
theorem WI_pl (h : WI z) (hk : k < zn z) {p : Nat} (hp : p < z.2 2 k) : WI (zs z 1 k 22 (Int32.ofNat p)) := by
  obtain ⟨g1, g2, g3⟩ := h.2.2.2.2 k hk
  have t1 := g1.1
  have e : zpl (zs z 1 k 22 (Int32.ofNat p)) k = p := by unfold zpl; rw [zs_at, n32_nat (by omega)]
  refine WI_g h (k := k) ⟨⟨t1, ?_, by rw [e, zs_at]⟩, ?_, ?_⟩ ⟨rfl, rfl⟩ (fun _ _ => ⟨rfl, rfl⟩) (zs_k _ (by decide)) (fun _ _ => ⟨by rw [zs_k _ (by decide)], by rw [zs_k _ (by decide)]⟩) (by rw [zs_k _ (by decide)]) (by rw [zs_k _ (by decide)]) (by rw [zs_k _ (by decide)]) (fun k' q j' => zs_1k q j')
  · rw [zs_k _ (by decide), zs_k _ (by decide)]; exact g1.2.1
  · unfold okLg; rw [zs_j _ (by decide), zs_j _ (by decide)]; exact g2
  · intro _; rw [e]; exact hp
theorem WI_work (h : WI z) (hk : k < zn z) (hp : zpl z k < z.2 2 k) (t : Int32) : WI (workZ z k t) := by
  have hm : (zpl z k + 1) % z.2 2 k < z.2 2 k := Nat.mod_lt _ (by omega)
  unfold workZ
  refine WI_pl ?_ ?_ ?_
  · split
    · exact WI_zs h (by decide)
    · split
      · exact WI_zs h rfl
      · split
        · exact WI_zs h (by decide)
        · split
          · exact WI_zs h (by decide)
          · exact h
  · show k < zn _
    split
    · exact hk
    · split
      · exact hk
      · split
        · exact hk
        · split
          · exact hk
          · exact hk
  · split
    · exact hm
    · split
      · exact hm
      · split
        · exact hm
        · split
          · exact hm
          · exact hm
theorem WI_finish (h : WI z) (hk : k < zn z) (hp : zpl z k < z.2 2 k) (t : Int32) : WI (finishZ z k t) := WI_zs (WI_zs (WI_work h hk hp t) (by decide)) (by decide)
theorem WI_log (h : WI z) (hk : k < zn z) (t : Int32) : WI (logZ z k t) := by
  obtain ⟨g1, g2, g3⟩ := h.2.2.2.2 k hk
  unfold logZ
  split
  · rename_i hs
    split
    · rename_i h60
      refine WI_g h (k := k) ⟨okT_zs g1 (by decide) (by decide) (by decide), ⟨g2.1, fun _ q => absurd h60 q⟩, ?_⟩ ⟨rfl, rfl⟩ (fun _ _ => ⟨rfl, rfl⟩) (zs_k _ (by decide)) (fun _ _ => ⟨by rw [zs_k _ (by decide)], by rw [zs_k _ (by decide)]⟩) (by rw [zs_k _ (by decide)]) (by rw [zs_k _ (by decide)]) (by rw [zs_k _ (by decide)]) (fun k' q j' => zs_1k q j')
      rw [zs_j _ (by decide), zs_j _ (by decide), zpl_zs (by decide)]; exact g3
    · rename_i h60
      have q1 : okT (zl (zs z 11 k (z.2 3 k) t) 3 k (z.2 3 k + 1)) k := by
        unfold okT zpl
        rw [zl_1, zl_k _ (by decide), zs_k _ (by decide), zs_k _ (by decide), zs_k _ (by decide)]
        exact g1
      refine WI_g h (k := k) ⟨q1, ⟨by rw [zl_at]; have := g2.1; omega, fun hs' _ => ?_⟩, ?_⟩ ⟨zl_k _ (by decide), zl_k _ (by decide)⟩ (fun k' q => ⟨by rw [zl_k _ (by decide)]; rfl, by rw [zl_i _ q]; rfl⟩) (by rw [zl_1, zs_k _ (by decide)]) (fun _ _ => ⟨by rw [zl_1, zs_k _ (by decide)], by rw [zl_1, zs_k _ (by decide)]⟩) (by rw [zl_1, zs_k _ (by decide)]) (by rw [zl_1, zs_k _ (by decide)]) (by rw [zl_1, zs_k _ (by decide)]) (fun k' q j' => by rw [zl_1, zs_k _ (by decide)])
      · rw [zl_1, zs_k _ (by decide)]; exact g2.2 hs h60
      · unfold zpl
        rw [zl_1, zl_k _ (by decide), zs_k _ (by decide)]
        exact g3
  · exact h
end WI
