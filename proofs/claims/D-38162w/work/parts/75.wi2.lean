/-! what every state keeps: the steps of a tick -/
section WI2
variable {z : ZT} {κ i j k : Nat} {v : Int32}
theorem WI_fset (h : WI z) {x y u : Int32} (hx : x = -1 ∨ ∃ j p, j < zn z ∧ p < 6 ∧ x = Int32.ofNat j ∧ y = Int32.ofNat p) : WI (zs (zs (zs z 8 i 0 x) 8 i 1 y) 8 i 2 u) := by
  obtain ⟨a, b, c, d, f⟩ := h
  refine ⟨⟨a.1, a.2.1, a.2.2.1, by rw [zs_k _ (by decide), zs_k _ (by decide), zs_k _ (by decide)]; exact a.2.2.2⟩, ⟨b.1, b.2.1, fun i' hi' => ?_⟩, by rw [zs_k _ (by decide), zs_k _ (by decide), zs_k _ (by decide)]; exact c, by rw [zs_k _ (by decide), zs_k _ (by decide), zs_k _ (by decide)]; exact d, fun k' hk' => WG_of (f k' hk') rfl rfl (by rw [zs_k _ (by decide), zs_k _ (by decide), zs_k _ (by decide)]) (by rw [zs_k _ (by decide), zs_k _ (by decide), zs_k _ (by decide)]) (fun j' _ => by rw [zs_k _ (by decide), zs_k _ (by decide), zs_k _ (by decide)])⟩
  unfold okFi
  by_cases e : i' = i
  · subst e
    rw [zs_j _ (by decide), zs_j _ (by decide), zs_at, zs_j _ (by decide), zs_at]
    exact hx
  · rw [zs_i _ e, zs_i _ e, zs_i _ e, zs_i _ e, zs_i _ e, zs_i _ e]
    exact b.2.2 i' hi'
theorem WI_f2 (h : WI z) {u : Int32} : WI (zs z 8 i 2 u) := by
  obtain ⟨a, b, c, d, f⟩ := h
  refine ⟨⟨a.1, a.2.1, a.2.2.1, by rw [zs_k _ (by decide)]; exact a.2.2.2⟩, ⟨b.1, b.2.1, fun i' hi' => ?_⟩, by rw [zs_k _ (by decide)]; exact c, by rw [zs_k _ (by decide)]; exact d, fun k' hk' => WG_of (f k' hk') rfl rfl (by rw [zs_k _ (by decide)]) (by rw [zs_k _ (by decide)]) (fun j' _ => by rw [zs_k _ (by decide)])⟩
  unfold okFi
  rw [zs_j _ (by decide), zs_j _ (by decide)]
  exact b.2.2 i' hi'
theorem WI_iw (h : WI z) (hv : okR z v) : WI (zs z 0 0 4 v) := by
  obtain ⟨a, b, c, d, f⟩ := h
  refine ⟨⟨a.1, a.2.1, a.2.2.1, by rw [zs_j _ (by decide)]; exact a.2.2.2⟩, ?_, by rw [zs_at]; exact hv, by rw [zs_j _ (by decide)]; exact d, fun k' hk' => WG_of (f k' hk') rfl rfl (by rw [zs_k _ (by decide)]) (by rw [zs_k _ (by decide)]) (fun j' _ => by rw [zs_k _ (by decide)])⟩
  unfold okFr okFi
  rw [zs_k _ (by decide)]
  exact b
theorem WI_ls (h : WI z) (hv : okR z v) : WI (zs z 0 0 6 v) := by
  obtain ⟨a, b, c, d, f⟩ := h
  refine ⟨⟨a.1, a.2.1, a.2.2.1, by rw [zs_j _ (by decide)]; exact a.2.2.2⟩, ?_, by rw [zs_j _ (by decide)]; exact c, by rw [zs_at]; exact hv, fun k' hk' => WG_of (f k' hk') rfl rfl (by rw [zs_k _ (by decide)]) (by rw [zs_k _ (by decide)]) (fun j' _ => by rw [zs_k _ (by decide)])⟩
  unfold okFr okFi
  rw [zs_k _ (by decide)]
  exact b
theorem WI_la (h : WI z) (hv : okR z v) : WI (zs z 0 0 3 v) := by
  obtain ⟨a, b, c, d, f⟩ := h
  refine ⟨⟨a.1, a.2.1, a.2.2.1, by rw [zs_at]; exact hv⟩, ?_, by rw [zs_j _ (by decide)]; exact c, by rw [zs_j _ (by decide)]; exact d, fun k' hk' => WG_of (f k' hk') rfl rfl (by rw [zs_k _ (by decide)]) (by rw [zs_k _ (by decide)]) (fun j' _ => by rw [zs_k _ (by decide)])⟩
  unfold okFr okFi
  rw [zs_k _ (by decide)]
  exact b
theorem WI_g0 (h : WI z) (hk : k < zn z) : okT z k ∧ okLg z k := ⟨(h.2.2.2.2 k hk).1, (h.2.2.2.2 k hk).2.1⟩
theorem WI_G (h : WI z) (hk : k < zn z) (hs : z.1 1 k 3 = 0) : okG z k := ⟨(WI_g0 h hk).1, (h.2.2.2.2 k hk).2.2 (Or.inl (Or.inl hs))⟩
theorem WI_send (h : WI z) (hk : k < zn z) (hp : zpl z k < z.2 2 k) : WI (sendZ z k) := by
  unfold sendZ
  split
  · exact WI_zs (WI_zs h rfl) rfl
  · refine WI_finish (WI_zs ?_ rfl) ?_ ?_ 0
    · split
      · exact WI_zs h rfl
      · exact h
    · show k < zn _
      split
      · exact hk
      · exact hk
    · rw [zpl_zs (by decide), zs_2]
      split
      · rw [zpl_zs (by decide), zs_2]; exact hp
      · exact hp
theorem WI_await (h : WI z) (hk : k < zn z) (hp : zpl z k < z.2 2 k) : WI (awaitZ z k) := by
  unfold awaitZ
  split
  · refine WI_st (WI_zs h rfl) hk (fun _ => ?_)
    rw [zpl_zs (by decide), zs_2]; exact hp
  · have h1 : WI (zs z 1 k 8 0) := WI_zs h (by decide)
    have g2 := okG_log (told := z.1 1 k 8) (k := k) ⟨(WI_g0 h1 hk).1, by rw [zpl_zs (by decide), zs_2]; exact hp⟩ k
    exact WI_finish (WI_log h1 hk _) (by rw [(logZ_n _ _ _).1]; exact hk) g2.2 _
theorem WI_toDisk (h : WI z) (i : Nat) : WI (toDiskZ z i) := WI_zs (WI_fset (WI_zs (WI_zs h rfl) rfl) (Or.inl rfl)) (by decide)
theorem WI_taken (h : WI z) : WI (takenZ z) := by
  unfold takenZ
  split
  · exact WI_toDisk h _
  · exact h
theorem toDiskZ_j (z : ZT) (i : Nat) {b j : Nat} : (toDiskZ z i).1 1 b j = z.1 1 b j := by
  unfold toDiskZ
  rw [zs_k _ (by decide), zs_k _ (by decide), zs_k _ (by decide), zs_k _ (by decide), zs_k _ (by decide), zs_k _ (by decide)]
theorem takenZ_j (z : ZT) {b j : Nat} : (takenZ z).1 1 b j = z.1 1 b j := by
  unfold takenZ
  split
  · exact toDiskZ_j _ _
  · rfl
theorem WI_fetch (h : WI z) (hk : k < zn z) (hp : zpl z k < z.2 2 k) {p : Nat} (hp6 : p < 6) : WI (fetchZ z k p) := by
  have h1 := WI_taken h
  have hk1 : k < zn (takenZ z) := by unfold zn; rw [takenZ_2]; exact hk
  have h3 : WI (zs (zs (zs (zs (zs (zs (takenZ z) 8 (takenI z) 0 (Int32.ofNat k)) 8 (takenI z) 1 (Int32.ofNat p)) 8 (takenI z) 2 (z.1 0 0 2)) 14 k p 0) 15 k p (Int32.ofNat (takenI z))) 16 k p (z.1 0 0 2)) := WI_zs (WI_zs (WI_zs (WI_fset h1 (Or.inr ⟨k, p, hk1, hp6, rfl, rfl⟩)) rfl) rfl) rfl
  have hp1 : zpl (takenZ z) k < (takenZ z).2 2 k := by unfold zpl; rw [takenZ_j, takenZ_2]; exact hp
  unfold fetchZ
  dsimp only
  split
  · exact h3
  · refine WI_zs (WI_zs (WI_st (WI_zs h3 rfl) hk1 (fun _ => ?_)) (by decide)) (by decide)
    rw [zpl_zs (by omega), zpl_zs (by omega), zpl_zs (by omega), zpl_zs (by omega), zpl_zs (by omega), zpl_zs (by omega), zpl_zs (by omega)]
    exact hp1
theorem WI_touch (h : WI z) (hk : k < zn z) (hp : zpl z k < z.2 2 k) (ha : zar z k < 6) : WI (touchZ z k) := by
  cases hf : frOf z k (Int32.ofNat (zar z k)) with
  | some i =>
    rw [touchZ_s hf]
    have h1 : WI (zs (zs z 16 k (zar z k) (z.1 0 0 2)) 8 i 2 (z.1 0 0 2)) := WI_f2 (WI_zs h rfl)
    by_cases hw : zkd z k = 2 ∧ z.1 1 k 30 = 1
    · rw [if_pos hw]
      exact WI_finish (WI_zs (WI_zs h1 rfl) rfl) hk (by rw [zpl_zs (by omega), zpl_zs (by omega), zpl_zs (by omega), zpl_zs (by omega)]; exact hp) 0
    · rw [if_neg hw]
      exact WI_finish h1 hk (by rw [zpl_zs (by omega), zpl_zs (by omega)]; exact hp) 0
  | none =>
    rw [touchZ_n hf]
    split
    · exact WI_fetch (WI_zs h rfl) hk (by rw [zpl_zs (by decide)]; exact hp) ha
    · exact WI_zs (WI_zs (WI_zs h rfl) rfl) rfl
theorem WI_go (h : WI z) (hk : k < zn z) (hp : zpl z k < z.2 2 k) : WI (goZ z k) := by
  unfold goZ
  split
  · rename_i e
    exact WI_touch h hk hp (zar_lt (WI_g0 h hk).1 hp e)
  · split
    · exact WI_send h hk hp
    · split
      · exact WI_await h hk hp
      · split
        · have g2 := okG_log (told := irm (z.1 1 k 7) 1000) (k := k) ⟨(WI_g0 h hk).1, hp⟩ k
          exact WI_finish (WI_log h hk _) (by rw [(logZ_n _ _ _).1]; exact hk) g2.2 _
        · split
          · exact WI_finish (WI_zs h rfl) hk (by rw [zpl_zs (by decide)]; exact hp) 0
          · exact WI_finish h hk hp 0
theorem WI_rfN (h : WI z) (c : Nat) : WI (rfN z c) := by
  unfold rfN
  split
  · exact h
  · exact WI_zs h rfl
theorem WI_rfF : ∀ m (z : ZT) c, WI z → WI (rfF z c m) := by
  intro m
  induction m with
  | zero => intro z c h; exact h
  | succ m ih => intro z c h; exact ih _ _ (WI_rfN h c)
theorem WI_chosen (h : WI z) : WI (chosenZ z).1 := by
  unfold chosenZ
  split
  · exact h
  · split
    · exact h
    · exact WI_rfF _ _ _ h
theorem WI_begin (h : WI z) (hk : k < zn z) : WI (beginZ z k) := WI_zs (WI_zs (WI_ls (WI_zs (WI_iw (WI_zs h rfl) (Or.inr ⟨k, hk, rfl⟩)) (by decide)) (Or.inr ⟨k, hk, rfl⟩)) (by decide)) (by decide)
theorem WI_dvF : ∀ m c, WI z → 1 ≤ c → c + m = zn z + 1 → WI (dvF z c m) := by
  intro m
  induction m with
  | zero => intro c h _ _; exact h
  | succ m ih =>
    intro c h h1 h2
    unfold dvF
    split
    · exact WI_begin h (dvI_of (by have := h.1.1; omega) h.2.2.2.1 h1 (by omega)).2
    · exact ih (c + 1) h (by omega) (by omega)
theorem WI_dv1 (h : WI z) (hk : k < zn z) : WI (dv1Z z k) := by
  have h1 : WI (zs z 1 k 8 (z.1 1 k 8 + 1)) := WI_zs h rfl
  unfold dv1Z
  refine WI_zs (WI_iw (WI_zs ?_ (by decide)) (Or.inl rfl)) (by decide)
  split
  · rename_i hs
    refine WI_st h1 hk (fun _ => ?_)
    rw [zpl_zs (by decide), zs_2]
    exact (h.2.2.2.2 k hk).2.2 (Or.inl (Or.inr (Or.inl hs)))
  · exact h1
theorem WI_device (h : WI z) : WI (deviceZ z) := by
  have h1 : WI (if z.1 0 0 4 ≠ -1 ∧ ¬ (z.1 0 0 2 - z.1 0 0 5 < 3) then dv1Z z (z.1 0 0 4).toNatClampNeg else z) := by
    split
    · rename_i hs
      rcases h.2.2.1 with e | ⟨j, j1, j2⟩
      · exact absurd e hs.1
      · rw [j2, n32_nat (by have := h.1.1; omega)]; exact WI_dv1 h j1
    · exact h
  unfold deviceZ
  generalize (if z.1 0 0 4 ≠ -1 ∧ ¬ (z.1 0 0 2 - z.1 0 0 5 < 3) then dv1Z z (z.1 0 0 4).toNatClampNeg else z) = z1 at h1 ⊢
  unfold dv2Z
  split
  · exact WI_dvF _ _ h1 (Nat.le_refl _) (by omega)
  · exact h1
theorem WI_free (h : WI z) (i : Nat) : WI (freeZ z i) := WI_fset h (Or.inl rfl)
theorem WI_lvF : ∀ m (z : ZT) c, WI z → WI (lvF k z c m) := by
  intro m
  induction m with
  | zero => intro z c h; exact h
  | succ m ih =>
    intro z c h
    refine ih _ _ ?_
    split
    · exact WI_free h _
    · exact h
theorem WI_lvD : ∀ m (z : ZT) c, WI z → WI (lvD k z c m) := by
  intro m
  induction m with
  | zero => intro z c h; exact h
  | succ m ih =>
    intro z c h
    refine ih _ _ (WI_zs ?_ rfl)
    split
    · exact h
    · exact WI_zs h rfl
theorem nlive4 : ¬ live 4 := by unfold live; decide
theorem nlive3 : ¬ live 3 := by unfold live; decide
theorem WI_leave (h : WI z) (hk : k < zn z) : WI (leaveZ z k) := by
  have h1 : WI (lv1Z z k) := WI_zs (WI_zs (WI_zs (WI_st h hk (fun q => by
    rcases q with q | q
    · exact absurd q nlive4
    · exact absurd q.1 (by decide))) (by decide)) (by decide)) (by decide)
  have h2 : WI (lvD k (lvF k (lv1Z z k) 0 (zf z)) 0 6) := WI_lvD _ _ _ (WI_lvF _ _ _ h1)
  unfold leaveZ
  split
  · exact WI_zs (WI_iw h2 (Or.inl rfl)) (by decide)
  · exact h2
theorem WI_mvF : ∀ m (z : ZT) c s, WI z → WI (mvF k z c m s) := by
  intro m
  induction m with
  | zero => intro z c s h; exact h
  | succ m ih =>
    intro z c s h
    unfold mvF
    split
    · split
      · exact ih _ _ _ h
      · exact ih _ _ _ (WI_zs h rfl)
    · exact h
theorem WI_mvP (h : WI z) (hk : k < zn z) : WI (mvP z k) := by
  unfold mvP
  split
  · exact h
  · rename_i h3
    have h1 : WI (zs z 1 k 36 (z.1 1 k 3)) := WI_zs h (by decide)
    have hw := h.2.2.2.2 k hk
    have h2 : WI (zs (zs z 1 k 36 (z.1 1 k 3)) 1 k 4 (z.1 1 k 3)) := WI_bf h1 hk (fun q => by
      rw [zs_j _ (by decide)] at q; exact absurd q h3)
    refine WI_st h2 hk (fun q => ?_)
    rw [zpl_zs (by decide), zpl_zs (by decide)]
    rcases q with q | q
    · exact absurd q nlive3
    · rw [zs_at] at q
      exact hw.2.2 (Or.inl q.2)
theorem WI_mv1 (h : WI z) (hk : k < zn z) : WI (mv1Z z k) := by
  have h1 := WI_mvP h hk
  unfold mv1Z
  split
  · exact WI_zs (WI_zs (WI_zs h1 (by decide)) (by decide)) (by decide)
  · split
    · exact h
    · exact WI_zs (WI_zs (WI_zs h1 (by decide)) (by decide)) (by decide)
theorem WI_move (h : WI z) (hk : k < zn z) : WI (moveZ z k) := by
  unfold moveZ
  split
  · exact WI_mvF _ _ _ _ (WI_zs (WI_mv1 h hk) (by decide))
  · exact WI_leave h hk
end WI2
