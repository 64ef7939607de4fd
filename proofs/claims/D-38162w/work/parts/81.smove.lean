/-! a move begins -/
def sm0Z (z : ZT) (k : Nat) : ZT := zs (zs (zs (zs (zs (zs (zs (zs z 1 k 34 0) 1 k 30 1) 6 k 0 0) 6 k 1 0) 6 k 2 0) 6 k 3 0) 6 k 4 0) 6 k 5 0
/-- whether a page is to be moved -/
def smB (z : ZT) (k p : Nat) : Bool := !(z.1 4 k p == 0) || (frOf z k (Int32.ofNat p)).isSome
def smN (z : ZT) (k p : Nat) : ZT := if smB z k p = true then zs (zs z 6 k p 1) 1 k 34 (z.1 1 k 34 ||| (1 <<< (Int32.ofNat p &&& 31))) else zs z 6 k p 0
def smF (k : Nat) : ZT → Nat → Nat → ZT
  | z, _, 0 => z
  | z, p, m + 1 => smF k (smN z k p) (p + 1) m
def smZ (z : ZT) (k : Nat) (s : Int32) : ZT := zs (zs (smF k (sm0Z z k) 0 6) 1 k 17 s) 1 k 18 (z.1 0 0 2)
section SMOVE
variable {g : GC} {A A' B B' : Nat → Nat → Nat} {σ σ' : AH} {z : ZT} {k p i j : Nat} {v : Int32} {Q : AQ}
theorem sm0_o (z : ZT) (k : Nat) {a b c : Nat} (h1 : a ≠ 6) (h2 : a ≠ 1 ∨ (c ≠ 30 ∧ c ≠ 34)) : (sm0Z z k).1 a b c = z.1 a b c := by
  unfold sm0Z
  rw [zs_k _ h1, zs_k _ h1, zs_k _ h1, zs_k _ h1, zs_k _ h1, zs_k _ h1]
  rcases h2 with h2 | h2
  · rw [zs_k _ h2, zs_k _ h2]
  · rw [zs_j _ h2.1, zs_j _ h2.2]
theorem sm0_6 (z : ZT) (k : Nat) {p : Nat} (hp : p < 6) : (sm0Z z k).1 6 k p = 0 := by
  unfold sm0Z
  have h : p = 0 ∨ p = 1 ∨ p = 2 ∨ p = 3 ∨ p = 4 ∨ p = 5 := by omega
  rcases h with e | e | e | e | e | e <;> subst e <;> simp [zs]
theorem sm0_30 (z : ZT) (k : Nat) : (sm0Z z k).1 1 k 30 = 1 := by
  unfold sm0Z
  rw [zs_k _ (by decide), zs_k _ (by decide), zs_k _ (by decide), zs_k _ (by decide), zs_k _ (by decide), zs_k _ (by decide), zs_at]
theorem sm0_34 (z : ZT) (k : Nat) : (sm0Z z k).1 1 k 34 = 0 := by
  unfold sm0Z
  rw [zs_k _ (by decide), zs_k _ (by decide), zs_k _ (by decide), zs_k _ (by decide), zs_k _ (by decide), zs_k _ (by decide), zs_j _ (by decide), zs_at]
/-- the new array of what is left -/
def nlfH (σ : AH) (x : Nat) : AH := hput (hnew σ 21 6 (fun _ => .int 0) 6) 5 x 16 (.ref (hsz σ))
theorem rb_left1 (h : RepB g A B σ z) (hk : k < zn z) (hc : hsz σ + 1 ≤ gC g) : RepB g (nm A 11 k (hsz σ)) B (nlfH σ (A 4 k)) (sm0Z z k) := by
  have G := (RepC_out (A := mix A B) h).2.2.2.2 k hk
  have hcA : cA g (mix A B) σ := h.2.1
  have hgB := rgsb h
  have t4 := r5tb h hk
  have m1 : mix (nm A 11 k (hsz σ)) B = nm (mix A B) 11 k (hsz σ) := mix_nm (by decide)
  have q : kp (fun x => x = A 4 k) 1 6 σ (nlfH σ (A 4 k)) := kp_trans (c1 := 1) (s1 := 6) (c2 := 0) (s2 := 0) kp_new (kp_put (fun _ => rfl))
  have q1 : kp (fun _ => False) 1 6 σ (hnew σ 21 6 (fun _ => .int 0) 6) := kp_new
  have hAK : AK (mix A B) (mix (nm A 11 k (hsz σ)) B) σ k := by rw [m1]; exact AK_nm rfl (Or.inr (Nat.le_refl _))
  have ne : ∀ r, r ≠ 11 → mix (nm A 11 k (hsz σ)) B r k = mix A B r k := fun r hr => by rw [m1, nm_ne (by omega)]
  have at11 : mix (nm A 11 k (hsz σ)) B 11 k = hsz σ := by rw [m1, nm_at]
  have hLf : Lf (mix A B) σ (fun x => x = A 4 k) := fun a w _ => Or.inr ⟨4, k, w⟩
  have nW : ∀ r, r ≠ 4 → ¬ (mix A B r k = A 4 k) := fun r hr e => hr (hcA.1 r k 4 k e).1
  refine RepC_one (A := mix A B) (A' := mix (nm A 11 k (hsz σ)) B) h q hk (fun a w => ⟨4, w, rfl⟩) hAK (by rw [m1]; exact cA_nm' hcA q.1 (by show hsz σ + 1 ≤ gC g; exact hc) hgB (Or.inr ⟨Nat.le_refl _, by show hsz σ < hsz σ + 1; omega⟩)) (fun i hi => ?_) ?_ ?_ rfl rfl ⟨?_, ?_, fun hs => ?_⟩
  · unfold sm0Z
    exact zsame_zs (zsame_zs (zsame_zs (zsame_zs (zsame_zs (zsame_zs (zsame_zs (zsame_zs (zsame_refl z i) hi) hi) hi) hi) hi) hi) hi) hi
  · funext b c; exact sm0_o z k (by decide) (Or.inl (by decide))
  · funext b c; exact sm0_o z k (by decide) (Or.inl (by decide))
  · have G1 := gcH_kp (a := fun r => mix A B r k) G.1 q1 (fun _ _ _ e => e)
    obtain ⟨⟨x0, x1, x2, x3, x4, x5, x6, x7⟩, h5, h6, h9, h20, h21⟩ := G1
    have s31 : (sm0Z z k).1 1 k 31 = z.1 1 k 31 := sm0_o z k (by decide) (Or.inr (by decide))
    have e1 : ∀ κ, κ ≠ 1 → κ ≠ 6 → (sm0Z z k).1 κ k = z.1 κ k := fun κ h1 h2 => by funext c; exact sm0_o z k h2 (Or.inl h1)
    have ej : ∀ j, j ≠ 30 → j ≠ 34 → (sm0Z z k).1 1 k j = z.1 1 k j := fun j h1 h2 => sm0_o z k (by decide) (Or.inr ⟨h1, h2⟩)
    have nt : hty (nlfH σ (A 4 k)) (hsz σ) = some 21 := by unfold nlfH; rw [hty_put, hty_new, if_pos rfl]
    have nl : hln (nlfH σ (A 4 k)) (hsz σ) = 6 := by unfold nlfH; rw [hln_put, hln_new, if_pos rfl]
    have nv : ∀ p, hv (nlfH σ (A 4 k)) 21 (hsz σ) p = .int 0 := fun p => by unfold nlfH; rw [hv_tne _ (by decide), hv_nsame]
    have ht : ∀ t, t ≠ 5 → hv (nlfH σ (A 4 k)) t = hv (hnew σ 21 6 (fun _ => .int 0) 6) t := fun t h1 => by unfold nlfH; rw [hv_tne _ h1]
    have h5k : ∀ j, j ≠ 16 → hv (nlfH σ (A 4 k)) 5 (A 4 k) j = hv (hnew σ 21 6 (fun _ => .int 0) 6) 5 (A 4 k) j := fun j h1 => by unfold nlfH; rw [hv_kne _ h1]
    have h516 : hv (nlfH σ (A 4 k)) 5 (A 4 k) 16 = .ref (hsz σ) := by unfold nlfH; rw [hv_same]
    refine gcH_a (a := fun r => if r = 11 then hsz σ else mix A B r k) ?_ (fun r e => ?_)
    · refine ⟨⟨x0, x1, x2, x3, x4, x5, fun _ => ⟨nt, nl⟩, fun hs => x7 (by rw [s31] at hs; exact hs)⟩, ?_, ?_, ?_, ?_, ?_⟩
      · obtain ⟨y0, y1, y2, y3, y4, y5, y6, y7⟩ := h5
        refine ⟨(h5k 0 (by decide)).trans y0, (h5k 2 (by decide)).trans y1, (h5k 13 (by decide)).trans y2, (h5k 14 (by decide)).trans y3, (h5k 15 (by decide)).trans y4, ?_, ?_, fun j hj => ?_⟩
        · rw [sm0_30, if_pos rfl]; exact h516
        · rw [s31]; exact (h5k 21 (by decide)).trans y6
        · have hn := gsc_no hj
          have n34 : j ≠ 34 := fun e => by subst e; revert hj; decide
          rw [ej j (by omega) n34]
          exact (h5k j (by omega)).trans (y7 j hj)
      · rw [ht 6 (by decide), ej 22 (by decide) (by decide), ej 23 (by decide) (by decide), ej 31 (by decide) (by decide), ej 32 (by decide) (by decide), ej 33 (by decide) (by decide)]; exact h6
      · rw [ht 9 (by decide), ej 31 (by decide) (by decide), ej 24 (by decide) (by decide), ej 25 (by decide) (by decide)]; exact h9
      · rw [ht 20 (by decide), ej 31 (by decide) (by decide), e1 2 (by decide) (by decide), e1 3 (by decide) (by decide), e1 7 (by decide) (by decide)]; exact h20
      · refine ⟨fun p hp => ?_, fun p hp => ?_, fun _ p hp => ?_⟩
        · rw [ht 21 (by decide), e1 4 (by decide) (by decide)]; exact h21.1 p hp
        · rw [ht 21 (by decide), e1 5 (by decide) (by decide)]; exact h21.2.1 p hp
        · rw [sm0_6 z k hp]; exact nv p
    · by_cases e11 : r = 11
      · rw [if_pos e11, e11]; exact at11
      · rw [if_neg e11]; exact ne r e11
  · obtain ⟨f, u1, u2⟩ := gcT_kp G.2.1 q (nW 6 (by decide)) (fun _ => nW 26 (by decide)) hLf (AK_AN hAK)
    exact ⟨f, u1, u2⟩
  · rw [sm0_o z k (by decide) (Or.inr (by decide))] at hs
    obtain ⟨P1, P2, P3⟩ : P16 g (mix A B) (fun r => mix A B r k) σ z k ∧ P13 g (mix A B) (fun r => mix A B r k) σ z k ∧ P14 g (mix A B) (fun r => mix A B r k) σ z k := G.2.2 hs
    obtain ⟨f1, u1, u2⟩ := P16_kp P1 q (nW 16 (by decide)) (fun _ => nW 36 (by decide)) hLf (AK_AN hAK)
    obtain ⟨f2, u3, u4⟩ := P13_kp P2 q (nW 13 (by decide)) (fun _ => nW 33 (by decide)) hLf (AK_AN hAK)
    obtain ⟨f3, u5, u6⟩ := P14_kp P3 q (nW 14 (by decide)) (fun _ => nW 34 (by decide)) hLf (AK_AN hAK)
    exact ⟨⟨f1, u1, u2⟩, ⟨f2, u3, u4⟩, f3, u5, u6⟩
theorem WI_sm0 (h : WI z) (k : Nat) : WI (sm0Z z k) := WI_zs (WI_zs (WI_zs (WI_zs (WI_zs (WI_zs (WI_zs (WI_zs h (by decide)) (by decide)) rfl) rfl) rfl) rfl) rfl) rfl
theorem WI_smN (h : WI z) (k p : Nat) : WI (smN z k p) := by
  unfold smN
  split
  · exact WI_zs (WI_zs h rfl) (by decide)
  · exact WI_zs h rfl
theorem WI_smF : ∀ m (z : ZT) p, WI z → WI (smF k z p m) := by
  intro m
  induction m with
  | zero => intro z p h; exact h
  | succ m ih => intro z p h; exact ih _ _ (WI_smN h k p)
theorem WI_sm (h : WI z) (k : Nat) (s : Int32) : WI (smZ z k s) := WI_zs (WI_zs (WI_smF _ _ _ (WI_sm0 h k)) (by decide)) (by decide)
theorem smN_2 (z : ZT) (k p : Nat) : (smN z k p).2 = z.2 := by unfold smN; split <;> rfl
theorem smF_2 : ∀ m (z : ZT) p, (smF k z p m).2 = z.2 := by
  intro m
  induction m with
  | zero => intro z p; rfl
  | succ m ih => intro z p; exact (ih _ _).trans (smN_2 z k p)
theorem smN_o (z : ZT) (k p : Nat) {a b c : Nat} (h1 : a ≠ 6) (h2 : a ≠ 1 ∨ c ≠ 34) : (smN z k p).1 a b c = z.1 a b c := by
  unfold smN
  split
  · rcases h2 with h2 | h2
    · rw [zs_k _ h2, zs_k _ h1]
    · rw [zs_j _ h2, zs_k _ h1]
  · rw [zs_k _ h1]
theorem smF_o : ∀ m (z : ZT) p {a b c : Nat}, a ≠ 6 → (a ≠ 1 ∨ c ≠ 34) → (smF k z p m).1 a b c = z.1 a b c := by
  intro m
  induction m with
  | zero => intro z p a b c _ _; rfl
  | succ m ih => intro z p a b c h1 h2; exact (ih _ _ h1 h2).trans (smN_o z k p h1 h2)
theorem smZ_2 (z : ZT) (k : Nat) (s : Int32) : (smZ z k s).2 = z.2 := by
  unfold smZ; rw [zs_2, zs_2, smF_2]; rfl
theorem c_startMove {s : Int32} (h : RepB g A B σ z) (hk : k < zn z) (hW : WI z) (hc : hsz σ + 7 ≤ gC g) (hs : hsl σ + 30 ≤ gS g) (hQ : ∀ A' σ', A' 4 = A 4 → SA g (FB A B) A A' B B σ σ' (smZ z k s) 7 30 → Q (.inl (some (.int (manyLeftZ (smZ z k s) k)))) σ') : aw g 131 0 [some (.ref (A 1 0)), some (.ref (A 4 k)), some (.int s), none] [] σ Q := by
  have hgB := rgsb h
  have t4 := r5tb h hk
  have t1 := r1tb h
  have c0 : hsz σ + 1 ≤ gC g := by omega
  have s0 : hsl σ + 6 ≤ gS g := by omega
  have x1 : (A 4 k = hsz σ) = False := eq_false (fun e => by have := hty_lt t4; omega)
  have R0 := rb_left1 h hk c0
  have q0 : kp (fun x => x = A 4 k) 1 6 σ (nlfH σ (A 4 k)) := kp_trans (c1 := 1) (s1 := 6) (c2 := 0) (s2 := 0) kp_new (kp_put (fun _ => rfl))
  have S0 : SA g (FB A B) A (nm A 11 k (hsz σ)) B B σ (nlfH σ (A 4 k)) (sm0Z z k) 1 6 := ⟨R0, BK_nm (by decide) (Or.inr (Nat.le_refl _)), BK_refl B σ, kp_mono q0 (Nat.le_refl _) (Nat.le_refl _) (fun a _ e => by rw [e]; exact FB_i 4 (by decide)), fun r hr => by funext k; exact nm_ne (by omega)⟩
  have eN : hput (hnew σ 21 6 (fun _ => .int 0) 6) 5 (A 4 k) 16 (.ref (hsz σ)) = nlfH σ (A 4 k) := rfl
  have t64 : ((6 : Nat) ≤ 65536) = True := eq_true (by decide)
  have ok4 : ∀ k', nm A 11 k (hsz σ) 4 k' = A 4 k' := fun k' => nm_ne (by omega)
  have ok1 : nm A 11 k (hsz σ) 1 0 = A 1 0 := nm_ne (by omega)
  have ok9 : nm A 11 k (hsz σ) 9 k = A 9 k := nm_ne (by omega)
  have ok11 : nm A 11 k (hsz σ) 11 k = hsz σ := nm_at A 11 k (hsz σ)
  have loop : ∀ m p z1 σ1, p + m = 6 → zn z1 = zn z → WI z1 → z1.1 1 k 30 = 1 → z1.1 0 0 2 = z.1 0 0 2 → SA g (FB A B) A (nm A 11 k (hsz σ)) B B σ σ1 z1 (1 + p) (6 + 4 * p) → smF k (sm0Z z k) 0 6 = smF k z1 p m → aw g 131 10 [some (.ref (A 1 0)), some (.ref (A 4 k)), some (.int s), some (.int (Int32.ofNat p))] [] σ1 Q := by
    intro m
    induction m with
    | zero =>
      intro p z1 σ1 hp n1 W1 m1 w1 S ez
      have hp6 : p = 6 := by omega
      subst hp6
      have e1 : ((6 : Int32) ≤ Int32.ofNat 6) = True := eq_true (by decide)
      have hk1 : k < zn z1 := by omega
      have R1 := rb_g (j := 17) (v := s) S.1 hk1 (by decide)
      have T1 := St_put (St_refl S.1) 4 (by decide) R1
      have R2 := rb_g (j := 18) (v := z.1 0 0 2) R1 hk1 (by decide)
      have T2 := St_put T1 4 (by decide) R2
      have ez2 : smZ z k s = zs (zs z1 1 k 17 s) 1 k 18 (z.1 0 0 2) := by unfold smZ; rw [ez]; rfl
      rw [← ez2] at T2
      have M1 := r1tb S.1
      have M2 := r1sb S.1 (j := 2) (by decide)
      have G4 := r5tb S.1 hk1
      rw [ok1] at M1 M2
      rw [ok4] at G4 T2
      rw [w1] at M2
      have := c_manyLeft (Q := Q) T2.1 (show k < zn (smZ z k s) by unfold zn; rw [smZ_2]; exact hk)
      rw [ok4] at this
      have hfin := hQ (nm A 11 k (hsz σ)) _ (by funext k'; exact ok4 k') (SA_mono (c' := 7) (s' := 30) (SA_FB S (SA_St T2)) (by omega) (by omega) (fun _ e => e))
      rw [← this] at hfin
      have hgBA : gB g ≤ A 4 k := rgBA h 4 k (by decide)
      have ecall : ∀ Q', aw g 193 0 [some (.ref (A 4 k)), none, none] [] (hput (hput σ1 5 (A 4 k) 17 (.int s)) 5 (A 4 k) 18 (.int (z.1 0 0 2))) Q' = Q' (.inl (some (.int (manyLeftZ (smZ z k s) k)))) (hput (hput σ1 5 (A 4 k) 17 (.int s)) 5 (A 4 k) 18 (.int (z.1 0 0 2))) := by
        intro Q'
        have := c_manyLeft (Q := Q') T2.1 (show k < zn (smZ z k s) by unfold zn; rw [smZ_2]; exact hk)
        rw [ok4] at this
        exact this
      rw [this] at hfin
      simp (config := {decide := true}) only [vRf_r, vRf_n, vI_i, vL_l, vD_d, pI_i, pR_r, pR_n, vZ_0, vZ_1, ct_i, ct_r, ct_n, ct_l, ct_d, csum_n, csum_c, kt_v, kt_n, kt_e, oc_n, oc_i, oc_r, oc_l, oc_u, oc_d, true_and, and_true, Bool.and_true, Bool.true_and, ne_eq, not_false_eq_true, not_true_eq_false, implies_true, false_imp, true_imp_iff, hsz_put, hsl_put, hln_put, hty_put, hsz_new, hsl_new, hln_new, hty_new, Nat.zero_add, Nat.add_zero, eq_self, decide_true, t32_0, t32_1, t32_2, t32_3, t32_4, t32_5, t32_6, hv_same, hv_kne, hv_tne, hv_ntne, hv_nsame, hv_ctne, hty_cpy, hln_cpy, hsz_cpy, hsl_cpy, vrn, vnr, vrr, A131_10, A131_11, A131_13, A131_51, A131_52, A131_53, A131_56, A131_57, A131_58, A131_61, A131_64, A131_65, A131_68, e1, M1, M2, G4, hgBA, ecall]
      exact hfin
    | succ m ih =>
      intro p z1 σ1 hp n1 W1 m1 w1 S ez
      have e1 : ((6 : Int32) ≤ Int32.ofNat p) = False := by rw [show (6 : Int32) = Int32.ofNat 6 from rfl, n32_le (by omega) (by omega)]; exact eq_false (by omega)
      have b1 : (Int32.ofNat p < 0) = False := n32_neg (by omega)
      have b2 : (Int32.ofNat p).toNatClampNeg = p := n32_nat (by omega)
      have b3 : (p < 6) = True := eq_true (by omega)
      have b4 := n32_inc p
      have hp6 : p < 6 := by omega
      have hk1 : k < zn z1 := by omega
      have G4 := r5tb S.1 hk1
      have G9 := r5db S.1 hk1
      have G9t := r9tb S.1 hk1
      have G9l := r9lb S.1 hk1
      have G9v := r9vb S.1 hk1 hp6
      have G16 := r5lb S.1 hk1
      have M1 := r1tb S.1
      have L1 := r11tb S.1 hk1 m1
      have L2 := r11lb S.1 hk1 m1
      rw [ok11] at L1 L2 G16
      rw [ok4] at G4 G9 G16
      rw [ok9] at G9 G9t G9l G9v
      rw [ok1] at M1
      rw [m1, if_pos rfl] at G16
      have d1 := S.2.2.2.1.2.1
      have d2 := S.2.2.2.1.2.2.2.1
      -- the store, behind either way
      have fin : ∀ (σ2 : AH) (w : Int32), SA g (FB A B) A (nm A 11 k (hsz σ)) B B σ σ2 z1 (1 + (p + 1)) (6 + 4 * (p + 1)) → (w = if smB z1 k p = true then 1 else 0) → aw g 131 10 [some (.ref (A 1 0)), some (.ref (A 4 k)), some (.int s), some (.int (Int32.ofNat (p + 1)))] [] (hput σ2 21 (hsz σ) p (.int w)) Q := by
        intro σ2 w S2 hw
        have R1 := rb_left (v := w) S2.1 hk1 hp6
        have T1 := St_put (St_refl S2.1) 11 (by decide) R1
        rw [ok11] at T1
        by_cases hb : smB z1 k p = true
        · have ew : w = 1 := by rw [hw, if_pos hb]
          have ez1 : smN z1 k p = zs (zs z1 6 k p 1) 1 k 34 (z1.1 1 k 34 ||| (1 <<< (Int32.ofNat p &&& 31))) := if_pos hb
          subst ew
          have T2 := St_z T1 (rb_mod (κ := 1) (i := k) (j := 34) (v := z1.1 1 k 34 ||| (1 <<< (Int32.ofNat p &&& 31))) T1.1 rfl)
          rw [← ez1] at T2
          exact ih (p + 1) (smN z1 k p) _ (by omega) (by unfold zn; rw [smN_2]; exact n1) (WI_smN W1 k p) (by rw [smN_o _ _ _ (by decide) (Or.inr (by decide))]; exact m1) (by rw [smN_o _ _ _ (by decide) (Or.inl (by decide))]; exact w1) (SA_mono (SA_FB S2 (SA_St T2)) (by omega) (by omega) (fun _ e => e)) ez
        · have ew : w = 0 := by rw [hw, if_neg hb]
          have ez1 : smN z1 k p = zs z1 6 k p 0 := if_neg hb
          subst ew
          rw [← ez1] at T1
          exact ih (p + 1) (smN z1 k p) _ (by omega) (by unfold zn; rw [smN_2]; exact n1) (WI_smN W1 k p) (by rw [smN_o _ _ _ (by decide) (Or.inr (by decide))]; exact m1) (by rw [smN_o _ _ _ (by decide) (Or.inl (by decide))]; exact w1) (SA_mono (SA_FB S2 (SA_St T1)) (by omega) (by omega) (fun _ e => e)) ez
      rw [A131_10]
      by_cases g0 : z1.1 4 k p = 0
      · rw [g0] at G9v
        simp (config := {decide := true}) only [vRf_r, vRf_n, vI_i, vL_l, vD_d, pI_i, pR_r, pR_n, vZ_0, vZ_1, ct_i, ct_r, ct_n, ct_l, ct_d, csum_n, csum_c, kt_v, kt_n, kt_e, oc_n, oc_i, oc_r, oc_l, oc_u, oc_d, true_and, and_true, Bool.and_true, Bool.true_and, ne_eq, not_false_eq_true, not_true_eq_false, implies_true, false_imp, true_imp_iff, hsz_put, hsl_put, hln_put, hty_put, hsz_new, hsl_new, hln_new, hty_new, Nat.zero_add, Nat.add_zero, eq_self, decide_true, t32_0, t32_1, t32_2, t32_3, t32_4, t32_5, t32_6, hv_same, hv_kne, hv_tne, hv_ntne, hv_nsame, hv_ctne, hty_cpy, hln_cpy, hsz_cpy, hsl_cpy, vrn, vnr, vrr, A131_11, A131_13, A131_16, A131_17, A131_20, A131_21, A131_22, A131_25, A131_26, A131_27, A131_30, A131_31, A131_32, A131_33, e1, G4, G9, G9t, G9l, G9v, G16, M1, b1, b2, b3]
        have fo := c_frameOf (Q := kt (aw g) 131 36 [some (.ref (A 1 0)), some (.ref (A 4 k)), some (.int s), some (.int (Int32.ofNat p))] [.int (Int32.ofNat p), .ref (hsz σ)] Q) (y := Int32.ofNat p) S.1 hk1 W1.2.1 (by omega) (by omega)
        rw [ok1, ok4] at fo
        refine fo ?_
        intro σ2 w2
        have S2 := SA_mono (c' := 1 + (p + 1)) (s' := 6 + 4 * (p + 1)) (SA_FB S (SA_St (St_0 S.1 w2))) (by omega) (by omega) (fun _ e => e)
        have l1 := r11tb S2.1 hk1 m1
        have l2 := r11lb S2.1 hk1 m1
        rw [ok11] at l1 l2
        cases hf : frOf z1 k (Int32.ofNat p) with
        | none =>
          have := fin σ2 0 S2 (by unfold smB; rw [g0, hf]; rfl)
          rw [vfr_n]
          simp (config := {decide := true}) only [vRf_r, vRf_n, vI_i, vL_l, vD_d, pI_i, pR_r, pR_n, vZ_0, vZ_1, ct_i, ct_r, ct_n, ct_l, ct_d, csum_n, csum_c, kt_v, kt_n, kt_e, oc_n, oc_i, oc_r, oc_l, oc_u, oc_d, true_and, and_true, Bool.and_true, Bool.true_and, ne_eq, not_false_eq_true, not_true_eq_false, implies_true, false_imp, true_imp_iff, hsz_put, hsl_put, hln_put, hty_put, hsz_new, hsl_new, hln_new, hty_new, Nat.zero_add, Nat.add_zero, eq_self, decide_true, t32_0, t32_1, t32_2, t32_3, t32_4, t32_5, t32_6, hv_same, hv_kne, hv_tne, hv_ntne, hv_nsame, hv_ctne, hty_cpy, hln_cpy, hsz_cpy, hsl_cpy, vrn, vnr, vrr, A131_36, A131_43, A131_44, A131_45, A131_48, l1, l2, b1, b2, b3, b4, hgB]
          exact this
        | some i =>
          have := fin σ2 1 S2 (by unfold smB; rw [g0, hf]; rfl)
          rw [vfr_s]
          simp (config := {decide := true}) only [vRf_r, vRf_n, vI_i, vL_l, vD_d, pI_i, pR_r, pR_n, vZ_0, vZ_1, ct_i, ct_r, ct_n, ct_l, ct_d, csum_n, csum_c, kt_v, kt_n, kt_e, oc_n, oc_i, oc_r, oc_l, oc_u, oc_d, true_and, and_true, Bool.and_true, Bool.true_and, ne_eq, not_false_eq_true, not_true_eq_false, implies_true, false_imp, true_imp_iff, hsz_put, hsl_put, hln_put, hty_put, hsz_new, hsl_new, hln_new, hty_new, Nat.zero_add, Nat.add_zero, eq_self, decide_true, t32_0, t32_1, t32_2, t32_3, t32_4, t32_5, t32_6, hv_same, hv_kne, hv_tne, hv_ntne, hv_nsame, hv_ctne, hty_cpy, hln_cpy, hsz_cpy, hsl_cpy, vrn, vnr, vrr, A131_36, A131_39, A131_40, A131_43, A131_44, A131_45, A131_48, l1, l2, b1, b2, b3, b4, hgB]
          exact this
      · have := fin σ1 1 (SA_mono S (by omega) (by omega) (fun _ e => e)) (by
          have : smB z1 k p = true := by
            unfold smB
            rw [show (z1.1 4 k p == 0) = false from by simp [g0]]
            rfl
          rw [if_pos this])
        simp (config := {decide := true}) only [vRf_r, vRf_n, vI_i, vL_l, vD_d, pI_i, pR_r, pR_n, vZ_0, vZ_1, ct_i, ct_r, ct_n, ct_l, ct_d, csum_n, csum_c, kt_v, kt_n, kt_e, oc_n, oc_i, oc_r, oc_l, oc_u, oc_d, true_and, and_true, Bool.and_true, Bool.true_and, ne_eq, not_false_eq_true, not_true_eq_false, implies_true, false_imp, true_imp_iff, hsz_put, hsl_put, hln_put, hty_put, hsz_new, hsl_new, hln_new, hty_new, Nat.zero_add, Nat.add_zero, eq_self, decide_true, t32_0, t32_1, t32_2, t32_3, t32_4, t32_5, t32_6, hv_same, hv_kne, hv_tne, hv_ntne, hv_nsame, hv_ctne, hty_cpy, hln_cpy, hsz_cpy, hsl_cpy, vrn, vnr, vrr, A131_11, A131_13, A131_16, A131_17, A131_20, A131_21, A131_22, A131_25, A131_26, A131_27, A131_30, A131_31, A131_32, A131_33, A131_36, A131_39, A131_40, A131_43, A131_44, A131_45, A131_48, e1, G4, G9, G9t, G9l, G9v, G16, M1, L1, L2, g0, b1, b2, b3, b4, hgB]
        exact this
  have := loop 6 0 (sm0Z z k) (nlfH σ (A 4 k)) rfl rfl (WI_sm0 hW k) (sm0_30 z k) (sm0_o z k (by decide) (Or.inl (by decide))) S0 rfl
  rw [z32_0] at this
  simp (config := {decide := true}) only [vRf_r, vRf_n, vI_i, vL_l, vD_d, pI_i, pR_r, pR_n, vZ_0, vZ_1, ct_i, ct_r, ct_n, ct_l, ct_d, csum_n, csum_c, kt_v, kt_n, kt_e, oc_n, oc_i, oc_r, oc_l, oc_u, oc_d, true_and, and_true, Bool.and_true, Bool.true_and, ne_eq, not_false_eq_true, not_true_eq_false, implies_true, false_imp, true_imp_iff, hsz_put, hsl_put, hln_put, hty_put, hsz_new, hsl_new, hln_new, hty_new, Nat.zero_add, Nat.add_zero, eq_self, decide_true, t32_0, t32_1, t32_2, t32_3, t32_4, t32_5, t32_6, hv_same, hv_kne, hv_tne, hv_ntne, hv_nsame, hv_ctne, hty_cpy, hln_cpy, hsz_cpy, hsl_cpy, vrn, vnr, vrr, A131_0, A131_1, A131_3, A131_5, A131_8, A131_9, r5tb h hk, r5gb h hk, r5nb h hk, r5mb h hk, r5eb h hk, r5db h hk, r5vb h hk, r5lb h hk, r5pb h hk, r6tb h hk, r60b h hk, r61b h hk, r62b h hk, r63b h hk, r7tb h hk, r7lb h hk, r8tb h hk, r8lb h hk, r9tb h hk, r9lb h hk, r10tb h hk, r10lb h hk, rgBA h, c0, s0, x1, t64, if_false, eN]
  exact this
end SMOVE
