/-! the checksum -/
def dA (d : Int64) (v : Int32) : Int64 := d * 31 + v.toInt64
def dgT (z : ZT) (k : Nat) : Nat → Nat → Int64 → Int64
  | _, 0, d => d
  | w, m + 1, d => dgT z k (w + 1) m (dA d (tdZ z k w))
def dgE (z : ZT) (k : Nat) : Nat → Nat → Int64 → Int64
  | _, 0, d => d
  | p, m + 1, d => dgE z k (p + 1) m (dA d (z.1 3 k p))
def dgQ (z : ZT) (k p : Nat) : Nat → Nat → Int64 → Int64
  | _, 0, d => d
  | w, m + 1, d => dgQ z k p (w + 1) m (dA d (topZ z k p w))
def dgP (z : ZT) (k : Nat) : Nat → Nat → Int64 → Int64
  | _, 0, d => d
  | p, m + 1, d => dgP z k (p + 1) m (dgQ z k p 0 4 d)
def dgL (z : ZT) (k : Nat) : Nat → Nat → Int64 → Int64
  | _, 0, d => d
  | i, m + 1, d => if lgZ z k i = -1 then d else dgL z k (i + 1) m (dA d (lgZ z k i))
def dgR (z : ZT) (k ops : Nat) (d : Int64) : Int64 := dA (dA (dA d (rpdZ z k ops 0)) (rpdZ z k ops 1)) (rpdZ z k ops (-1))
noncomputable def dgW (z : ZT) (k : Nat) (d : Int64) : Int64 := if z.1 1 k 3 ≠ 4 ∧ z.1 1 k 30 ≠ 1 then dA (dA d (dbZ z k 10)) (abZ z k 2) else dA d (dbZ z k 10)
noncomputable def dgG (z : ZT) (k : Nat) (d : Int64) : Int64 := dgW z k (dgR z k 12 (dgR z k 5 (dgR z k 0 (dgL z k 0 61 (dgP z k 0 6 (dgE z k 0 5 (dgT z k 0 16 d)))))))
noncomputable def dgGs (z : ZT) : Nat → Nat → Int64 → Int64
  | _, 0, d => d
  | k, m + 1, d => dgGs z (k + 1) m (dgG z k d)
def dgC (z : ZT) : Nat → Nat → Int64 → Int64
  | _, 0, d => d
  | w, m + 1, d => dgC z (w + 1) m (dA d (ctZ z w))
def dgX (z : ZT) (i : Nat) : Nat → Nat → Int64 → Int64
  | _, 0, d => d
  | w, m + 1, d => dgX z i (w + 1) m (dA d (tfZ z i w))
def dgF (z : ZT) : Nat → Nat → Int64 → Int64
  | _, 0, d => d
  | i, m + 1, d => dgF z (i + 1) m (dgX z i 0 3 d)
noncomputable def digZ (z : ZT) : Int64 := dgF z 0 (zf z) (dgGs z 0 (zn z) (dgC z 0 11 9609))
section DIGEST
variable {g : GC} {A A' B B' : Nat → Nat → Nat} {σ σ' σ2 : AH} {z z' : ZT} {k p : Nat} {Q : AQ}
theorem pJ_l (x : Int64) : pJ (.long x) = True := eq_true rfl
theorem c_dadd (d : Int64) (v : Int32) : aw g 63 0 [some (.long d), none, some (.long v.toInt64), none] [] σ Q = Q (.inl (some (.long (dA d v)))) σ := by
  simp (config := {decide := true}) only [vRf_r, vRf_n, vI_i, vL_l, vD_d, pI_i, pR_r, pR_n, vZ_0, vZ_1, ct_i, ct_r, ct_n, ct_l, ct_d, csum_n, csum_c, kt_v, kt_n, kt_e, oc_n, oc_i, oc_r, oc_l, oc_u, oc_d, true_and, and_true, Bool.and_true, Bool.true_and, ne_eq, not_false_eq_true, not_true_eq_false, implies_true, false_imp, true_imp_iff, hsz_put, hsl_put, hln_put, hty_put, hsz_new, hsl_new, hln_new, hty_new, Nat.zero_add, Nat.add_zero, eq_self, decide_true, t32_0, t32_1, t32_2, t32_3, t32_4, t32_5, t32_6, hv_same, hv_kne, hv_tne, hv_ntne, hv_nsame, hv_ctne, hty_cpy, hln_cpy, hsz_cpy, hsl_cpy, vrn, vnr, vrr, A63_0, A63_1, A63_4, A63_5, A63_6, A63_7, pJ_l, dA]
theorem dgT_loop {l1 : Int64} {l7 l8 l9 l10 : Option Value} (h : RepH g A B σ z) (hk : k < zn z) (hF : okFr z) (hc : hsz σ + 304 ≤ gC g) (hs : hsl σ + 1408 ≤ gS g) : ∀ m w d σ1, w + m = 16 → kp (fun _ => False) (19 * w) (88 * w) σ σ1 → (∀ σ' l6, kp (fun _ => False) 304 1408 σ σ' → aw g 64 34 [some (.ref (A 0 0)), some (.long l1), none, some (.ref (A 4 k)), some (.long (dgT z k w m d)), none, l6, l7, l8, l9, l10] [] σ' Q) → aw g 64 6 [some (.ref (A 0 0)), some (.long l1), none, some (.ref (A 4 k)), some (.long d), none, some (.int (Int32.ofNat w)), l7, l8, l9, l10] [] σ1 Q := by
  intro m
  induction m with
  | zero =>
    intro w d σ1 hw q hQ
    have e : w = 16 := by omega
    subst e
    have e1 : ((16 : Int32) ≤ Int32.ofNat 16) = True := eq_true (by decide)
    have := hQ σ1 (some (.int (Int32.ofNat 16))) q
    simp (config := {decide := true}) only [vRf_r, vRf_n, vI_i, vL_l, vD_d, pI_i, pR_r, pR_n, vZ_0, vZ_1, ct_i, ct_r, ct_n, ct_l, ct_d, csum_n, csum_c, kt_v, kt_n, kt_e, oc_n, oc_i, oc_r, oc_l, oc_u, oc_d, true_and, and_true, Bool.and_true, Bool.true_and, ne_eq, not_false_eq_true, not_true_eq_false, implies_true, false_imp, true_imp_iff, hsz_put, hsl_put, hln_put, hty_put, hsz_new, hsl_new, hln_new, hty_new, Nat.zero_add, Nat.add_zero, eq_self, decide_true, t32_0, t32_1, t32_2, t32_3, t32_4, t32_5, t32_6, hv_same, hv_kne, hv_tne, hv_ntne, hv_nsame, hv_ctne, hty_cpy, hln_cpy, hsz_cpy, hsl_cpy, vrn, vnr, vrr, A64_6, A64_8, A64_10, e1]
    exact this
  | succ m ih =>
    intro w d σ1 hw q hQ
    have e1 : ((16 : Int32) ≤ Int32.ofNat w) = False := by rw [show (16 : Int32) = Int32.ofNat 16 from rfl, n32_le (by omega) (by omega)]; exact eq_false (by omega)
    have h1 := RH_0 h q
    have t0 := h1.2.1
    have d1 := q.2.1
    have d2 := q.2.2.2.1
    have b4 := n32_inc w
    rw [A64_6]
    simp (config := {decide := true}) only [vRf_r, vRf_n, vI_i, vL_l, vD_d, pI_i, pR_r, pR_n, vZ_0, vZ_1, ct_i, ct_r, ct_n, ct_l, ct_d, csum_n, csum_c, kt_v, kt_n, kt_e, oc_n, oc_i, oc_r, oc_l, oc_u, oc_d, true_and, and_true, Bool.and_true, Bool.true_and, ne_eq, not_false_eq_true, not_true_eq_false, implies_true, false_imp, true_imp_iff, hsz_put, hsl_put, hln_put, hty_put, hsz_new, hsl_new, hln_new, hty_new, Nat.zero_add, Nat.add_zero, eq_self, decide_true, t32_0, t32_1, t32_2, t32_3, t32_4, t32_5, t32_6, hv_same, hv_kne, hv_tne, hv_ntne, hv_nsame, hv_ctne, hty_cpy, hln_cpy, hsz_cpy, hsl_cpy, vrn, vnr, vrr, A64_8, A64_10, A64_13, A64_15, A64_16, A64_17, A64_19, e1, t0]
    refine c_told h1 hk hF (by omega) (by omega) (by omega) ?_
    intro σ2 k2
    have q2 : kp (fun _ => False) (19 * (w + 1)) (88 * (w + 1)) σ σ2 := kp_mono (kp_trans q k2) (by omega) (by omega) (fun _ _ e => e)
    have := ih (w + 1) (dA d (tdZ z k w)) σ2 (by omega) q2 hQ
    simp (config := {decide := true}) only [vRf_r, vRf_n, vI_i, vL_l, vD_d, pI_i, pR_r, pR_n, vZ_0, vZ_1, ct_i, ct_r, ct_n, ct_l, ct_d, csum_n, csum_c, kt_v, kt_n, kt_e, oc_n, oc_i, oc_r, oc_l, oc_u, oc_d, true_and, and_true, Bool.and_true, Bool.true_and, ne_eq, not_false_eq_true, not_true_eq_false, implies_true, false_imp, true_imp_iff, hsz_put, hsl_put, hln_put, hty_put, hsz_new, hsl_new, hln_new, hty_new, Nat.zero_add, Nat.add_zero, eq_self, decide_true, t32_0, t32_1, t32_2, t32_3, t32_4, t32_5, t32_6, hv_same, hv_kne, hv_tne, hv_ntne, hv_nsame, hv_ctne, hty_cpy, hln_cpy, hsz_cpy, hsl_cpy, vrn, vnr, vrr, A64_22, A64_23, A64_26, A64_28, A64_31, c_dadd, b4]
    exact this
theorem dgE_loop {l1 : Int64} {l10 : Option Value} (h : RepB g A B σ z) (hk : k < zn z) : ∀ m p d l9, p + m = 5 → (∀ l6 l7 l8 l9, aw g 64 78 [some (.ref (A 0 0)), some (.long l1), none, some (.ref (A 4 k)), some (.long (dgE z k p m d)), none, l6, l7, l8, l9, l10] [] σ Q) → aw g 64 48 [some (.ref (A 0 0)), some (.long l1), none, some (.ref (A 4 k)), some (.long d), none, some (.ref (A 8 k)), some (.int 5), some (.int (Int32.ofNat p)), l9, l10] [] σ Q := by
  intro m
  induction m with
  | zero =>
    intro p d l9 hp hQ
    have e : p = 5 := by omega
    subst e
    have e1 : ((5 : Int32) ≤ Int32.ofNat 5) = True := eq_true (by decide)
    have := hQ (some (.ref (A 8 k))) (some (.int 5)) (some (.int (Int32.ofNat 5))) l9
    simp (config := {decide := true}) only [vRf_r, vRf_n, vI_i, vL_l, vD_d, pI_i, pR_r, pR_n, vZ_0, vZ_1, ct_i, ct_r, ct_n, ct_l, ct_d, csum_n, csum_c, kt_v, kt_n, kt_e, oc_n, oc_i, oc_r, oc_l, oc_u, oc_d, true_and, and_true, Bool.and_true, Bool.true_and, ne_eq, not_false_eq_true, not_true_eq_false, implies_true, false_imp, true_imp_iff, hsz_put, hsl_put, hln_put, hty_put, hsz_new, hsl_new, hln_new, hty_new, Nat.zero_add, Nat.add_zero, eq_self, decide_true, t32_0, t32_1, t32_2, t32_3, t32_4, t32_5, t32_6, hv_same, hv_kne, hv_tne, hv_ntne, hv_nsame, hv_ctne, hty_cpy, hln_cpy, hsz_cpy, hsl_cpy, vrn, vnr, vrr, A64_48, A64_50, A64_52, e1]
    exact this
  | succ m ih =>
    intro p d l9 hp hQ
    have e1 : ((5 : Int32) ≤ Int32.ofNat p) = False := by rw [show (5 : Int32) = Int32.ofNat 5 from rfl, n32_le (by omega) (by omega)]; exact eq_false (by omega)
    have b1 : (Int32.ofNat p < 0) = False := n32_neg (by omega)
    have b2 : (Int32.ofNat p).toNatClampNeg = p := n32_nat (by omega)
    have b3 : (p < 5) = True := eq_true (by omega)
    have b4 := n32_inc p
    have f := r8vb h hk (p := p) (by omega)
    have := ih (p + 1) (dA d (z.1 3 k p)) (some (.int (z.1 3 k p))) (by omega) hQ
    rw [A64_48]
    simp (config := {decide := true}) only [vRf_r, vRf_n, vI_i, vL_l, vD_d, pI_i, pR_r, pR_n, vZ_0, vZ_1, ct_i, ct_r, ct_n, ct_l, ct_d, csum_n, csum_c, kt_v, kt_n, kt_e, oc_n, oc_i, oc_r, oc_l, oc_u, oc_d, true_and, and_true, Bool.and_true, Bool.true_and, ne_eq, not_false_eq_true, not_true_eq_false, implies_true, false_imp, true_imp_iff, hsz_put, hsl_put, hln_put, hty_put, hsz_new, hsl_new, hln_new, hty_new, Nat.zero_add, Nat.add_zero, eq_self, decide_true, t32_0, t32_1, t32_2, t32_3, t32_4, t32_5, t32_6, hv_same, hv_kne, hv_tne, hv_ntne, hv_nsame, hv_ctne, hty_cpy, hln_cpy, hsz_cpy, hsl_cpy, vrn, vnr, vrr, A64_50, A64_52, A64_55, A64_57, A64_59, A64_60, A64_62, A64_64, A64_66, A64_67, A64_70, A64_72, A64_75, r5tb h hk, r5gb h hk, r5nb h hk, r5mb h hk, r5eb h hk, r5db h hk, r5vb h hk, r5lb h hk, r5pb h hk, r6tb h hk, r60b h hk, r61b h hk, r62b h hk, r63b h hk, r7tb h hk, r7lb h hk, r8tb h hk, r8lb h hk, r9tb h hk, r9lb h hk, r10tb h hk, r10lb h hk, rgBA h, e1, b1, b2, b3, b4, f, c_dadd]
    exact this
theorem dgQ_loop {l1 : Int64} {l8 l9 l10 : Option Value} {c0 s0 : Nat} (h : RepH g A B σ z) (hk : k < zn z) (hF : okFr z) (hp : p < 6) (hc : hsz σ + c0 + 4 ≤ gC g) (hs : hsl σ + s0 + 16 ≤ gS g) : ∀ m w d σ1, w + m = 4 → kp (fun _ => False) (c0 + w) (s0 + 4 * w) σ σ1 → (∀ σ' l7, kp (fun _ => False) (c0 + 4) (s0 + 16) σ σ' → aw g 64 120 [some (.ref (A 0 0)), some (.long l1), none, some (.ref (A 4 k)), some (.long (dgQ z k p w m d)), none, some (.int (Int32.ofNat p)), l7, l8, l9, l10] [] σ' Q) → aw g 64 91 [some (.ref (A 0 0)), some (.long l1), none, some (.ref (A 4 k)), some (.long d), none, some (.int (Int32.ofNat p)), some (.int (Int32.ofNat w)), l8, l9, l10] [] σ1 Q := by
  intro m
  induction m with
  | zero =>
    intro w d σ1 hw q hQ
    have e : w = 4 := by omega
    subst e
    have e1 : ((4 : Int32) ≤ Int32.ofNat 4) = True := eq_true (by decide)
    have := hQ σ1 (some (.int (Int32.ofNat 4))) q
    simp (config := {decide := true}) only [vRf_r, vRf_n, vI_i, vL_l, vD_d, pI_i, pR_r, pR_n, vZ_0, vZ_1, ct_i, ct_r, ct_n, ct_l, ct_d, csum_n, csum_c, kt_v, kt_n, kt_e, oc_n, oc_i, oc_r, oc_l, oc_u, oc_d, true_and, and_true, Bool.and_true, Bool.true_and, ne_eq, not_false_eq_true, not_true_eq_false, implies_true, false_imp, true_imp_iff, hsz_put, hsl_put, hln_put, hty_put, hsz_new, hsl_new, hln_new, hty_new, Nat.zero_add, Nat.add_zero, eq_self, decide_true, t32_0, t32_1, t32_2, t32_3, t32_4, t32_5, t32_6, hv_same, hv_kne, hv_tne, hv_ntne, hv_nsame, hv_ctne, hty_cpy, hln_cpy, hsz_cpy, hsl_cpy, vrn, vnr, vrr, A64_91, A64_93, A64_94, e1]
    exact this
  | succ m ih =>
    intro w d σ1 hw q hQ
    have e1 : ((4 : Int32) ≤ Int32.ofNat w) = False := by rw [show (4 : Int32) = Int32.ofNat 4 from rfl, n32_le (by omega) (by omega)]; exact eq_false (by omega)
    have h1 := RH_0 h q
    have t0 := h1.2.1
    have d1 := q.2.1
    have d2 := q.2.2.2.1
    have b4 := n32_inc w
    rw [A64_91]
    simp (config := {decide := true}) only [vRf_r, vRf_n, vI_i, vL_l, vD_d, pI_i, pR_r, pR_n, vZ_0, vZ_1, ct_i, ct_r, ct_n, ct_l, ct_d, csum_n, csum_c, kt_v, kt_n, kt_e, oc_n, oc_i, oc_r, oc_l, oc_u, oc_d, true_and, and_true, Bool.and_true, Bool.true_and, ne_eq, not_false_eq_true, not_true_eq_false, implies_true, false_imp, true_imp_iff, hsz_put, hsl_put, hln_put, hty_put, hsz_new, hsl_new, hln_new, hty_new, Nat.zero_add, Nat.add_zero, eq_self, decide_true, t32_0, t32_1, t32_2, t32_3, t32_4, t32_5, t32_6, hv_same, hv_kne, hv_tne, hv_ntne, hv_nsame, hv_ctne, hty_cpy, hln_cpy, hsz_cpy, hsl_cpy, vrn, vnr, vrr, A64_93, A64_94, A64_97, A64_99, A64_100, A64_101, A64_103, A64_105, e1, t0]
    refine c_toldOfPage h1 hk hF hp (by omega) (by omega) (by omega) ?_
    intro σ2 k2
    have q2 : kp (fun _ => False) (c0 + (w + 1)) (s0 + 4 * (w + 1)) σ σ2 := kp_mono (kp_trans q k2) (by omega) (by omega) (fun _ _ e => e)
    have := ih (w + 1) (dA d (topZ z k p w)) σ2 (by omega) q2 hQ
    simp (config := {decide := true}) only [vRf_r, vRf_n, vI_i, vL_l, vD_d, pI_i, pR_r, pR_n, vZ_0, vZ_1, ct_i, ct_r, ct_n, ct_l, ct_d, csum_n, csum_c, kt_v, kt_n, kt_e, oc_n, oc_i, oc_r, oc_l, oc_u, oc_d, true_and, and_true, Bool.and_true, Bool.true_and, ne_eq, not_false_eq_true, not_true_eq_false, implies_true, false_imp, true_imp_iff, hsz_put, hsl_put, hln_put, hty_put, hsz_new, hsl_new, hln_new, hty_new, Nat.zero_add, Nat.add_zero, eq_self, decide_true, t32_0, t32_1, t32_2, t32_3, t32_4, t32_5, t32_6, hv_same, hv_kne, hv_tne, hv_ntne, hv_nsame, hv_ctne, hty_cpy, hln_cpy, hsz_cpy, hsl_cpy, vrn, vnr, vrr, A64_108, A64_109, A64_112, A64_114, A64_117, c_dadd, b4]
    exact this
theorem dgP_loop {l1 : Int64} {l8 l9 l10 : Option Value} (h : RepH g A B σ z) (hk : k < zn z) (hF : okFr z) (hc : hsz σ + 24 ≤ gC g) (hs : hsl σ + 96 ≤ gS g) : ∀ m p d σ1 l7, p + m = 6 → kp (fun _ => False) (4 * p) (16 * p) σ σ1 → (∀ σ' l6 l7, kp (fun _ => False) 24 96 σ σ' → aw g 64 126 [some (.ref (A 0 0)), some (.long l1), none, some (.ref (A 4 k)), some (.long (dgP z k p m d)), none, l6, l7, l8, l9, l10] [] σ' Q) → aw g 64 81 [some (.ref (A 0 0)), some (.long l1), none, some (.ref (A 4 k)), some (.long d), none, some (.int (Int32.ofNat p)), l7, l8, l9, l10] [] σ1 Q := by
  intro m
  induction m with
  | zero =>
    intro p d σ1 l7 hp q hQ
    have e : p = 6 := by omega
    subst e
    have e1 : ((6 : Int32) ≤ Int32.ofNat 6) = True := eq_true (by decide)
    have := hQ σ1 (some (.int (Int32.ofNat 6))) l7 q
    simp (config := {decide := true}) only [vRf_r, vRf_n, vI_i, vL_l, vD_d, pI_i, pR_r, pR_n, vZ_0, vZ_1, ct_i, ct_r, ct_n, ct_l, ct_d, csum_n, csum_c, kt_v, kt_n, kt_e, oc_n, oc_i, oc_r, oc_l, oc_u, oc_d, true_and, and_true, Bool.and_true, Bool.true_and, ne_eq, not_false_eq_true, not_true_eq_false, implies_true, false_imp, true_imp_iff, hsz_put, hsl_put, hln_put, hty_put, hsz_new, hsl_new, hln_new, hty_new, Nat.zero_add, Nat.add_zero, eq_self, decide_true, t32_0, t32_1, t32_2, t32_3, t32_4, t32_5, t32_6, hv_same, hv_kne, hv_tne, hv_ntne, hv_nsame, hv_ctne, hty_cpy, hln_cpy, hsz_cpy, hsl_cpy, vrn, vnr, vrr, A64_81, A64_83, A64_85, e1]
    exact this
  | succ m ih =>
    intro p d σ1 l7 hp q hQ
    have e1 : ((6 : Int32) ≤ Int32.ofNat p) = False := by rw [show (6 : Int32) = Int32.ofNat 6 from rfl, n32_le (by omega) (by omega)]; exact eq_false (by omega)
    have d1 := q.2.1
    have d2 := q.2.2.2.1
    have b4 := n32_inc p
    have nx := dgQ_loop (Q := Q) (l1 := l1) (l8 := l8) (l9 := l9) (l10 := l10) (p := p) (c0 := 0) (s0 := 0) (RH_0 h q) hk hF (by omega) (by omega) (by omega) 4 0 d σ1 rfl (kp_refl _ _) (fun σ2 l7 k2 => by
      have := ih (p + 1) (dgQ z k p 0 4 d) σ2 l7 (by omega) (kp_mono (kp_trans q k2) (by omega) (by omega) (fun _ _ e => e)) hQ
      simp (config := {decide := true}) only [vRf_r, vRf_n, vI_i, vL_l, vD_d, pI_i, pR_r, pR_n, vZ_0, vZ_1, ct_i, ct_r, ct_n, ct_l, ct_d, csum_n, csum_c, kt_v, kt_n, kt_e, oc_n, oc_i, oc_r, oc_l, oc_u, oc_d, true_and, and_true, Bool.and_true, Bool.true_and, ne_eq, not_false_eq_true, not_true_eq_false, implies_true, false_imp, true_imp_iff, hsz_put, hsl_put, hln_put, hty_put, hsz_new, hsl_new, hln_new, hty_new, Nat.zero_add, Nat.add_zero, eq_self, decide_true, t32_0, t32_1, t32_2, t32_3, t32_4, t32_5, t32_6, hv_same, hv_kne, hv_tne, hv_ntne, hv_nsame, hv_ctne, hty_cpy, hln_cpy, hsz_cpy, hsl_cpy, vrn, vnr, vrr, A64_120, A64_123, b4]
      exact this)
    rw [z32_0] at nx
    rw [A64_81]
    simp (config := {decide := true}) only [vRf_r, vRf_n, vI_i, vL_l, vD_d, pI_i, pR_r, pR_n, vZ_0, vZ_1, ct_i, ct_r, ct_n, ct_l, ct_d, csum_n, csum_c, kt_v, kt_n, kt_e, oc_n, oc_i, oc_r, oc_l, oc_u, oc_d, true_and, and_true, Bool.and_true, Bool.true_and, ne_eq, not_false_eq_true, not_true_eq_false, implies_true, false_imp, true_imp_iff, hsz_put, hsl_put, hln_put, hty_put, hsz_new, hsl_new, hln_new, hty_new, Nat.zero_add, Nat.add_zero, eq_self, decide_true, t32_0, t32_1, t32_2, t32_3, t32_4, t32_5, t32_6, hv_same, hv_kne, hv_tne, hv_ntne, hv_nsame, hv_ctne, hty_cpy, hln_cpy, hsz_cpy, hsl_cpy, vrn, vnr, vrr, A64_83, A64_85, A64_88, A64_89, e1]
    exact nx
theorem dgL_loop {l1 : Int64} {l7 l8 l9 l10 : Option Value} (h : RepB g A B σ z) (hk : k < zn z) (h60 : z.2 3 k ≤ 60) : ∀ m i d, i + m = 61 → (∀ l6, aw g 64 159 [some (.ref (A 0 0)), some (.long l1), none, some (.ref (A 4 k)), some (.long (dgL z k i m d)), none, l6, l7, l8, l9, l10] [] σ Q) → aw g 64 129 [some (.ref (A 0 0)), some (.long l1), none, some (.ref (A 4 k)), some (.long d), none, some (.int (Int32.ofNat i)), l7, l8, l9, l10] [] σ Q := by
  intro m
  induction m with
  | zero =>
    intro i d hi hQ
    have ez : lgZ z k i = -1 := if_neg (by omega)
    have e1 := fun Q' => c_loggedOf (Q := Q') (i := i) h hk h60 (by omega)
    rw [ez] at e1
    have := hQ (some (.int (Int32.ofNat i)))
    simp (config := {decide := true}) only [vRf_r, vRf_n, vI_i, vL_l, vD_d, pI_i, pR_r, pR_n, vZ_0, vZ_1, ct_i, ct_r, ct_n, ct_l, ct_d, csum_n, csum_c, kt_v, kt_n, kt_e, oc_n, oc_i, oc_r, oc_l, oc_u, oc_d, true_and, and_true, Bool.and_true, Bool.true_and, ne_eq, not_false_eq_true, not_true_eq_false, implies_true, false_imp, true_imp_iff, hsz_put, hsl_put, hln_put, hty_put, hsz_new, hsl_new, hln_new, hty_new, Nat.zero_add, Nat.add_zero, eq_self, decide_true, t32_0, t32_1, t32_2, t32_3, t32_4, t32_5, t32_6, hv_same, hv_kne, hv_tne, hv_ntne, hv_nsame, hv_ctne, hty_cpy, hln_cpy, hsz_cpy, hsl_cpy, vrn, vnr, vrr, A64_129, A64_130, A64_132, A64_135, A64_136, e1]
    exact this
  | succ m ih =>
    intro i d hi hQ
    have e1 := fun Q' => c_loggedOf (Q := Q') (i := i) h hk h60 (by omega)
    have b4 := n32_inc i
    rw [A64_129]
    by_cases g0 : lgZ z k i = -1
    · have ez : dgL z k i (m + 1) d = d := if_pos g0
      rw [ez] at hQ
      rw [g0] at e1
      have := hQ (some (.int (Int32.ofNat i)))
      simp (config := {decide := true}) only [vRf_r, vRf_n, vI_i, vL_l, vD_d, pI_i, pR_r, pR_n, vZ_0, vZ_1, ct_i, ct_r, ct_n, ct_l, ct_d, csum_n, csum_c, kt_v, kt_n, kt_e, oc_n, oc_i, oc_r, oc_l, oc_u, oc_d, true_and, and_true, Bool.and_true, Bool.true_and, ne_eq, not_false_eq_true, not_true_eq_false, implies_true, false_imp, true_imp_iff, hsz_put, hsl_put, hln_put, hty_put, hsz_new, hsl_new, hln_new, hty_new, Nat.zero_add, Nat.add_zero, eq_self, decide_true, t32_0, t32_1, t32_2, t32_3, t32_4, t32_5, t32_6, hv_same, hv_kne, hv_tne, hv_ntne, hv_nsame, hv_ctne, hty_cpy, hln_cpy, hsz_cpy, hsl_cpy, vrn, vnr, vrr, A64_130, A64_132, A64_135, A64_136, e1]
      exact this
    · have ez : dgL z k i (m + 1) d = dgL z k (i + 1) m (dA d (lgZ z k i)) := if_neg g0
      rw [ez] at hQ
      have := ih (i + 1) (dA d (lgZ z k i)) (by omega) hQ
      simp (config := {decide := true}) only [vRf_r, vRf_n, vI_i, vL_l, vD_d, pI_i, pR_r, pR_n, vZ_0, vZ_1, ct_i, ct_r, ct_n, ct_l, ct_d, csum_n, csum_c, kt_v, kt_n, kt_e, oc_n, oc_i, oc_r, oc_l, oc_u, oc_d, true_and, and_true, Bool.and_true, Bool.true_and, ne_eq, not_false_eq_true, not_true_eq_false, implies_true, false_imp, true_imp_iff, hsz_put, hsl_put, hln_put, hty_put, hsz_new, hsl_new, hln_new, hty_new, Nat.zero_add, Nat.add_zero, eq_self, decide_true, t32_0, t32_1, t32_2, t32_3, t32_4, t32_5, t32_6, hv_same, hv_kne, hv_tne, hv_ntne, hv_nsame, hv_ctne, hty_cpy, hln_cpy, hsz_cpy, hsl_cpy, vrn, vnr, vrr, A64_130, A64_132, A64_135, A64_136, A64_139, A64_141, A64_142, A64_144, A64_147, A64_148, A64_151, A64_153, A64_156, e1, g0, c_dadd, b4]
      exact this
/-- three replays -/
theorem dgR_step {l1 : Int64} {l6 l7 : Option Value} {ops c0 s0 : Nat} {i : Int32} (h : RepH g A B σ z) (hI : CI z) (hk : k < zn z) (hops : ops ≤ 12) (hc : hsz σ + c0 + 206 + 54 ≤ gC g) (hs : hsl σ + s0 + 851 + 297 ≤ gS g) (d : Int64) (σ1 : AH) (q : kp (fun _ => False) c0 s0 σ σ1) (hQ : ∀ σ', kp (fun _ => False) (c0 + 54) (s0 + 297) σ σ' → kp (fun _ => False) 54 297 σ1 σ' → aw g 64 189 [some (.ref (A 0 0)), some (.long l1), none, some (.ref (A 4 k)), some (.long (dgR z k ops d)), none, l6, l7, some (.int 3), some (.int (i + 1)), some (.int (Int32.ofNat ops))] [] σ' Q) : aw g 64 203 [some (.ref (A 0 0)), some (.long l1), none, some (.ref (A 4 k)), some (.long d), none, l6, l7, some (.int 3), some (.int i), some (.int (Int32.ofNat ops))] [] σ1 Q := by
  have hg := hI.1.2.2.2.2 k hk
  have h1 := RH_0 h q
  have d1 := q.2.1
  have d2 := q.2.2.2.1
  simp (config := {decide := true}) only [vRf_r, vRf_n, vI_i, vL_l, vD_d, pI_i, pR_r, pR_n, vZ_0, vZ_1, ct_i, ct_r, ct_n, ct_l, ct_d, csum_n, csum_c, kt_v, kt_n, kt_e, oc_n, oc_i, oc_r, oc_l, oc_u, oc_d, true_and, and_true, Bool.and_true, Bool.true_and, ne_eq, not_false_eq_true, not_true_eq_false, implies_true, false_imp, true_imp_iff, hsz_put, hsl_put, hln_put, hty_put, hsz_new, hsl_new, hln_new, hty_new, Nat.zero_add, Nat.add_zero, eq_self, decide_true, t32_0, t32_1, t32_2, t32_3, t32_4, t32_5, t32_6, hv_same, hv_kne, hv_tne, hv_ntne, hv_nsame, hv_ctne, hty_cpy, hln_cpy, hsz_cpy, hsl_cpy, vrn, vnr, vrr, A64_203, A64_205, A64_206, A64_208, A64_209]
  refine c_replayedOf h1.1 hk hg.1 (hI.2.2.2 k hk) hg.2.1.1 (by omega) (Or.inr ⟨0, by decide, rfl⟩) (by omega) (by omega) ?_
  intro σ2 k2
  have q2 := kp_mono (c' := c0 + 18) (s' := s0 + 99) (kp_trans q k2) (by omega) (by omega) (fun _ _ e => e)
  have h2 := RH_0 h q2
  have d3 := q2.2.1
  have d4 := q2.2.2.2.1
  simp (config := {decide := true}) only [vRf_r, vRf_n, vI_i, vL_l, vD_d, pI_i, pR_r, pR_n, vZ_0, vZ_1, ct_i, ct_r, ct_n, ct_l, ct_d, csum_n, csum_c, kt_v, kt_n, kt_e, oc_n, oc_i, oc_r, oc_l, oc_u, oc_d, true_and, and_true, Bool.and_true, Bool.true_and, ne_eq, not_false_eq_true, not_true_eq_false, implies_true, false_imp, true_imp_iff, hsz_put, hsl_put, hln_put, hty_put, hsz_new, hsl_new, hln_new, hty_new, Nat.zero_add, Nat.add_zero, eq_self, decide_true, t32_0, t32_1, t32_2, t32_3, t32_4, t32_5, t32_6, hv_same, hv_kne, hv_tne, hv_ntne, hv_nsame, hv_ctne, hty_cpy, hln_cpy, hsz_cpy, hsl_cpy, vrn, vnr, vrr, A64_212, A64_213, A64_216, A64_217, A64_219, A64_220, c_dadd]
  refine c_replayedOf h2.1 hk hg.1 (hI.2.2.2 k hk) hg.2.1.1 (by omega) (Or.inr ⟨1, by decide, rfl⟩) (by omega) (by omega) ?_
  intro σ3 k3
  have q3 := kp_mono (c' := c0 + 36) (s' := s0 + 198) (kp_trans q2 k3) (by omega) (by omega) (fun _ _ e => e)
  have h3 := RH_0 h q3
  have d5 := q3.2.1
  have d6 := q3.2.2.2.1
  simp (config := {decide := true}) only [vRf_r, vRf_n, vI_i, vL_l, vD_d, pI_i, pR_r, pR_n, vZ_0, vZ_1, ct_i, ct_r, ct_n, ct_l, ct_d, csum_n, csum_c, kt_v, kt_n, kt_e, oc_n, oc_i, oc_r, oc_l, oc_u, oc_d, true_and, and_true, Bool.and_true, Bool.true_and, ne_eq, not_false_eq_true, not_true_eq_false, implies_true, false_imp, true_imp_iff, hsz_put, hsl_put, hln_put, hty_put, hsz_new, hsl_new, hln_new, hty_new, Nat.zero_add, Nat.add_zero, eq_self, decide_true, t32_0, t32_1, t32_2, t32_3, t32_4, t32_5, t32_6, hv_same, hv_kne, hv_tne, hv_ntne, hv_nsame, hv_ctne, hty_cpy, hln_cpy, hsz_cpy, hsl_cpy, vrn, vnr, vrr, A64_223, A64_224, A64_227, A64_228, A64_230, A64_231, c_dadd]
  refine c_replayedOf h3.1 hk hg.1 (hI.2.2.2 k hk) hg.2.1.1 (by omega) (Or.inl rfl) (by omega) (by omega) ?_
  intro σ4 k4
  have q4 := kp_mono (c' := c0 + 54) (s' := s0 + 297) (kp_trans q3 k4) (by omega) (by omega) (fun _ _ e => e)
  have := hQ σ4 q4 (kp_mono (kp_trans (kp_trans k2 k3) k4) (by omega) (by omega) (fun _ _ e => e))
  simp (config := {decide := true}) only [vRf_r, vRf_n, vI_i, vL_l, vD_d, pI_i, pR_r, pR_n, vZ_0, vZ_1, ct_i, ct_r, ct_n, ct_l, ct_d, csum_n, csum_c, kt_v, kt_n, kt_e, oc_n, oc_i, oc_r, oc_l, oc_u, oc_d, true_and, and_true, Bool.and_true, Bool.true_and, ne_eq, not_false_eq_true, not_true_eq_false, implies_true, false_imp, true_imp_iff, hsz_put, hsl_put, hln_put, hty_put, hsz_new, hsl_new, hln_new, hty_new, Nat.zero_add, Nat.add_zero, eq_self, decide_true, t32_0, t32_1, t32_2, t32_3, t32_4, t32_5, t32_6, hv_same, hv_kne, hv_tne, hv_ntne, hv_nsame, hv_ctne, hty_cpy, hln_cpy, hsz_cpy, hsl_cpy, vrn, vnr, vrr, A64_234, A64_235, A64_238, A64_240, A64_243, c_dadd]
  exact this
end DIGEST
