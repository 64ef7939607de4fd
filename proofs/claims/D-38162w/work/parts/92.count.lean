/-! counts -/
/-- eleven of them -/
def ctH (σ : AH) (d : Nat) (v : Nat → Int32) : AH := hput (hput (hput (hput (hput (hput (hput (hput (hput (hput (hput σ 20 d 0 (.int (v 0))) 20 d 1 (.int (v 1))) 20 d 2 (.int (v 2))) 20 d 3 (.int (v 3))) 20 d 4 (.int (v 4))) 20 d 5 (.int (v 5))) 20 d 6 (.int (v 6))) 20 d 7 (.int (v 7))) 20 d 8 (.int (v 8))) 20 d 9 (.int (v 9))) 20 d 10 (.int (v 10))
section COUNT
variable {g : GC} {A A' B B' : Nat → Nat → Nat} {σ σ' : AH} {z : ZT} {k p : Nat} {Q : AQ}
theorem ex_loop {w a : Int32} {l4 l5 : Option Value} (h : RepB g A B σ z) (hk : k < zn z) : ∀ m p e l9, p + m = 5 → (∀ l6 l7 l8 l9, aw g 60 72 [some (.ref (A 0 0)), some (.int w), some (.int a), some (.int (exK z k p m e)), l4, l5, l6, l7, l8, l9] [] σ Q) → aw g 60 109 [some (.ref (A 0 0)), some (.int w), some (.int a), some (.int e), l4, l5, some (.ref (A 8 k)), some (.int 5), some (.int (Int32.ofNat p)), l9] [] σ Q := by
  intro m
  induction m with
  | zero =>
    intro p e l9 hpm hQ
    have e5 : p = 5 := by omega
    subst e5
    have e1 : ((5 : Int32) ≤ Int32.ofNat 5) = True := eq_true (by decide)
    have := hQ (some (.ref (A 8 k))) (some (.int 5)) (some (.int (Int32.ofNat 5))) l9
    simp (config := {decide := true}) only [vRf_r, vRf_n, vI_i, vL_l, vD_d, pI_i, pR_r, pR_n, vZ_0, vZ_1, ct_i, ct_r, ct_n, ct_l, ct_d, csum_n, csum_c, kt_v, kt_n, kt_e, oc_n, oc_i, oc_r, oc_l, oc_u, oc_d, true_and, and_true, Bool.and_true, Bool.true_and, ne_eq, not_false_eq_true, not_true_eq_false, implies_true, false_imp, true_imp_iff, hsz_put, hsl_put, hln_put, hty_put, hsz_new, hsl_new, hln_new, hty_new, Nat.zero_add, Nat.add_zero, eq_self, decide_true, t32_0, t32_1, t32_2, t32_3, t32_4, t32_5, t32_6, hv_same, hv_kne, hv_tne, hv_ntne, hv_nsame, hv_ctne, hty_cpy, hln_cpy, hsz_cpy, hsl_cpy, vrn, vnr, vrr, A60_109, A60_111, A60_113, A60_134, e1]
    exact this
  | succ m ih =>
    intro p e l9 hpm hQ
    have e1 : ((5 : Int32) ≤ Int32.ofNat p) = False := by rw [show (5 : Int32) = Int32.ofNat 5 from rfl, n32_le (by omega) (by omega)]; exact eq_false (by omega)
    have b1 : (Int32.ofNat p < 0) = False := n32_neg (by omega)
    have b2 : (Int32.ofNat p).toNatClampNeg = p := n32_nat (by omega)
    have b3 : (p < 5) = True := eq_true (by omega)
    have b4 := n32_inc p
    have f := r8vb h hk (p := p) (by omega)
    have := ih (p + 1) (e + z.1 3 k p) (some (.int (z.1 3 k p))) (by omega) hQ
    rw [A60_109]
    simp (config := {decide := true}) only [vRf_r, vRf_n, vI_i, vL_l, vD_d, pI_i, pR_r, pR_n, vZ_0, vZ_1, ct_i, ct_r, ct_n, ct_l, ct_d, csum_n, csum_c, kt_v, kt_n, kt_e, oc_n, oc_i, oc_r, oc_l, oc_u, oc_d, true_and, and_true, Bool.and_true, Bool.true_and, ne_eq, not_false_eq_true, not_true_eq_false, implies_true, false_imp, true_imp_iff, hsz_put, hsl_put, hln_put, hty_put, hsz_new, hsl_new, hln_new, hty_new, Nat.zero_add, Nat.add_zero, eq_self, decide_true, t32_0, t32_1, t32_2, t32_3, t32_4, t32_5, t32_6, hv_same, hv_kne, hv_tne, hv_ntne, hv_nsame, hv_ctne, hty_cpy, hln_cpy, hsz_cpy, hsl_cpy, vrn, vnr, vrr, A60_111, A60_113, A60_116, A60_118, A60_120, A60_121, A60_123, A60_124, A60_126, A60_127, A60_128, A60_131, r5tb h hk, r5gb h hk, r5nb h hk, r5mb h hk, r5eb h hk, r5db h hk, r5vb h hk, r5lb h hk, r5pb h hk, r6tb h hk, r60b h hk, r61b h hk, r62b h hk, r63b h hk, r7tb h hk, r7lb h hk, r8tb h hk, r8lb h hk, r9tb h hk, r9lb h hk, r10tb h hk, r10lb h hk, rgBA h, e1, b1, b2, b3, b4, f]
    exact this
theorem c_count {w : Nat} (h : RepH g A B σ z) (h3 : zn z ≤ 1000) (hF : okFr z) (h3R : okR z (z.1 0 0 3)) (h4R : okR z (z.1 0 0 4)) (hw : w < 11) (hc : hsz σ + 3 ≤ gC g) (hs : hsl σ + 19 ≤ gS g) (hQ : ∀ σ', kp (fun _ => False) 3 19 σ σ' → Q (.inl (some (.int (ctZ z w)))) σ') : aw g 60 0 [some (.ref (A 0 0)), some (.int (Int32.ofNat w)), none, none, none, none, none, none, none, none] [] σ Q := by
  have hgB := rgsb h.1
  have fin : ∀ σ2 l4 l5 l6 l7 l8 l9, kp (fun _ => False) 2 8 σ σ2 → aw g 60 137 [some (.ref (A 0 0)), some (.int (Int32.ofNat w)), some (.int (fcF z 0 (zf z) 0)), some (.int (exF z 0 (zn z) 0)), l4, l5, l6, l7, l8, l9] [] σ2 Q := by
    intro σ2 l4 l5 l6 l7 l8 l9 q2
    have h2 := RH_0 h q2
    have d1 := q2.2.1
    have d2 := q2.2.2.2.1
    have c1 : hsz σ2 + 1 ≤ gC g := by omega
    have s1 : hsl σ2 + 11 ≤ gS g := by omega
    have k0 : kp (fun _ => False) 1 11 σ2 (hnew σ2 20 11 (fun _ => .int 0) 11) := kp_new
    have z0 : hsz σ ≤ hsz σ2 := q2.1
    have D0 := arrD_new (σ := σ2) (n := 11)
    have q3 : kp (fun _ => False) 3 19 σ (hnew σ2 20 11 (fun _ => .int 0) 11) := kp_trans q2 k0
    have hgd : gB g ≤ hsz σ2 := by omega
    rw [A60_137, A60_139]
    refine ⟨by decide, by decide, c1, s1, ?_⟩
    rw [t32_11]
    generalize hnew σ2 20 11 (fun _ => .int 0) 11 = σ0 at *
    have hd0 : hsz σ2 < hsz σ0 := hty_lt D0.1
    generalize hsz σ2 = d at *
    have h0 := RH_0 h q3
    have kp1 : ∀ (s : AH) j v, kp (fun a => a = d) 0 0 s (hput s 20 d j v) := fun s j v => kp_put (fun _ => rfl)
    have kA : kp (fun a => a = d) 0 0 σ0 (ctH σ0 d (ctZ z)) := kp_trans (kp_trans (kp_trans (kp_trans (kp_trans (kp_trans (kp_trans (kp_trans (kp_trans (kp_trans (kp1 σ0 0 _) (kp1 _ 1 _)) (kp1 _ 2 _)) (kp1 _ 3 _)) (kp1 _ 4 _)) (kp1 _ 5 _)) (kp1 _ 6 _)) (kp1 _ 7 _)) (kp1 _ 8 _)) (kp1 _ 9 _)) (kp1 _ 10 _)
    have DA := arrD_put (i := 10) (arrD_put (i := 9) (arrD_put (i := 8) (arrD_put (i := 7) (arrD_put (i := 6) (arrD_put (i := 5) (arrD_put (i := 4) (arrD_put (i := 3) (arrD_put (i := 2) (arrD_put (i := 1) (arrD_put (i := 0) D0 (ctZ z 0)) (ctZ z 1)) (ctZ z 2)) (ctZ z 3)) (ctZ z 4)) (ctZ z 5)) (ctZ z 6)) (ctZ z 7)) (ctZ z 8)) (ctZ z 9)) (ctZ z 10)
    have qA : kp (fun _ => False) 3 19 σ (ctH σ0 d (ctZ z)) := kp_mono (kp_then q3 kA (fun a ha e => by omega)) (by omega) (by omega) (fun _ _ e => e)
    have Lg := fun (s : AH) (hs' : RepB g A B s z) (Q' : AQ) => l_size (Q := Q') (rLgb hs')
    have Lf' := fun (s : AH) (hs' : RepB g A B s z) (Q' : AQ) => l_size (Q := Q') (rLfb hs')
    have Nm := fun (s : AH) (hs' : RepB g A B s z) (x : Int32) (hx : okR z x) (Q' : AQ) => c_numberOf (Q := Q') hs' h3 hx
    have stp : ∀ s, kp (fun a => a = d) 0 0 σ0 s → RepB g A B s z := fun s ks => (RH_0 h (kp_then q3 ks (fun a ha e => by omega))).1
    have p0 := kp1 σ0 0 (.int (Int32.ofNat (zn z)))
    have p1 : kp (fun a => a = d) 0 0 σ0 _ := kp_trans p0 (kp1 _ 1 (.int (z.1 0 0 2)))
    have p2 : kp (fun a => a = d) 0 0 σ0 _ := kp_trans p1 (kp1 _ 2 (.int (Int32.ofNat (zf z))))
    have p3 : kp (fun a => a = d) 0 0 σ0 _ := kp_trans p2 (kp1 _ 3 (.int (fcF z 0 (zf z) 0)))
    have p4 : kp (fun a => a = d) 0 0 σ0 _ := kp_trans p3 (kp1 _ 4 (.int (z.1 0 0 3)))
    have s0 := Lg σ0 h0.1
    have s2 := Lf' _ (stp _ p1)
    have n3 := Nm _ (stp _ p3) _ h3R
    have n4 := Nm _ (stp _ p4) _ h4R
    have t1 := D0.1
    have l1 := D0.2.1
    have h00 := h0.2.1
    have h01 := h0.2.2
    have tg := (rLgb h0.1).1
    have tf := (rLfb h0.1).1
    have eA : hput (hput (hput (hput (hput (hput (hput (hput (hput (hput (hput σ0 20 d 0 (.int (Int32.ofNat (zn z)))) 20 d 1 (.int (z.1 0 0 2))) 20 d 2 (.int (Int32.ofNat (zf z)))) 20 d 3 (.int (fcF z 0 (zf z) 0))) 20 d 4 (.int (z.1 0 0 3))) 20 d 5 (.int (z.1 0 0 4))) 20 d 6 (.int (z.1 0 0 5))) 20 d 7 (.int (z.1 0 0 7))) 20 d 8 (.int (exF z 0 (zn z) 0))) 20 d 9 (.int (z.1 0 0 8))) 20 d 10 (.int (z.1 0 0 9)) = ctH σ0 d (ctZ z) := rfl
    have b1 : (Int32.ofNat w < 0) = False := n32_neg (by omega)
    have b2 : (Int32.ofNat w).toNatClampNeg = w := n32_nat (by omega)
    have b3 : (w < 11) = True := eq_true hw
    have eV := DA.2.2 w hw
    have eW : wU (wU (wU (wU (wU (wU (wU (wU (wU (wU (wU (fun _ => 0) 0 (ctZ z 0)) 1 (ctZ z 1)) 2 (ctZ z 2)) 3 (ctZ z 3)) 4 (ctZ z 4)) 5 (ctZ z 5)) 6 (ctZ z 6)) 7 (ctZ z 7)) 8 (ctZ z 8)) 9 (ctZ z 9)) 10 (ctZ z 10) w = ctZ z w := by
      have : w = 0 ∨ w = 1 ∨ w = 2 ∨ w = 3 ∨ w = 4 ∨ w = 5 ∨ w = 6 ∨ w = 7 ∨ w = 8 ∨ w = 9 ∨ w = 10 := by omega
      rcases this with e | e | e | e | e | e | e | e | e | e | e <;> subst e <;> rfl
    rw [eW] at eV
    have eV : hv (ctH σ0 d (ctZ z)) 20 d w = .int (ctZ z w) := eV
    have tD : hty (ctH σ0 d (ctZ z)) d = some 20 := t1
    have lD : hln (ctH σ0 d (ctZ z)) d = 11 := l1
    have := hQ _ qA
    simp (config := {decide := true}) only [vRf_r, vRf_n, vI_i, vL_l, vD_d, pI_i, pR_r, pR_n, vZ_0, vZ_1, ct_i, ct_r, ct_n, ct_l, ct_d, csum_n, csum_c, kt_v, kt_n, kt_e, oc_n, oc_i, oc_r, oc_l, oc_u, oc_d, true_and, and_true, Bool.and_true, Bool.true_and, ne_eq, not_false_eq_true, not_true_eq_false, implies_true, false_imp, true_imp_iff, hsz_put, hsl_put, hln_put, hty_put, hsz_new, hsl_new, hln_new, hty_new, Nat.zero_add, Nat.add_zero, eq_self, decide_true, t32_0, t32_1, t32_2, t32_3, t32_4, t32_5, t32_6, hv_same, hv_kne, hv_tne, hv_ntne, hv_nsame, hv_ctne, hty_cpy, hln_cpy, hsz_cpy, hsl_cpy, vrn, vnr, vrr, A60_141, A60_142, A60_143, A60_144, A60_147, A60_150, A60_153, A60_154, A60_155, A60_156, A60_157, A60_160, A60_163, A60_164, A60_165, A60_166, A60_167, A60_170, A60_173, A60_176, A60_177, A60_178, A60_179, A60_180, A60_181, A60_182, A60_183, A60_184, A60_187, A60_190, A60_193, A60_194, A60_195, A60_196, A60_197, A60_200, A60_203, A60_206, A60_207, A60_208, A60_210, A60_211, A60_214, A60_217, A60_218, A60_219, A60_221, A60_222, A60_225, A60_228, A60_229, A60_230, A60_232, A60_233, A60_234, A60_235, A60_237, A60_238, A60_241, A60_244, A60_245, A60_246, A60_248, A60_249, A60_252, A60_255, A60_256, A60_258, A60_260, A60_261, A60_262, r1tb h0.1, r10_b h0.1, r11_b h0.1, r13_b h0.1, r14_b h0.1, r1sb h0.1, rgBA h0.1, t1, l1, h00, h01, tg, tf, hgd, s0, s2, n3, n4, gref_v, gref_c, t32_7, t32_8, t32_9, t32_10, eA, tD, lD, b1, b2, b3, eV]
    exact this
  have loop2 : ∀ m c e σ1 l5 l6 l7 l8 l9 c0 it, c + m = zn z → kp (fun _ => False) 2 8 σ σ1 → hsz σ ≤ it → isI g σ1 it (A 2 0) c → exF z c m e = exF z 0 (zn z) 0 → c0 = fcF z 0 (zf z) 0 → aw g 60 72 [some (.ref (A 0 0)), some (.int (Int32.ofNat w)), some (.int c0), some (.int e), some (.ref it), l5, l6, l7, l8, l9] [] σ1 Q := by
    intro m
    induction m with
    | zero =>
      intro c e σ1 l5 l6 l7 l8 l9 c0 it hcm q hit hi he hc0
      have h1 := (RH_0 h q).1
      have e1 := fun Q' => l_hasNext (Q := Q') (rLgb h1) hi (by omega)
      have e2 : (c < zn z) = False := eq_false (by omega)
      have := fin σ1 (some (.ref it)) l5 l6 l7 l8 l9 q
      rw [← hc0, ← he] at this
      have this : aw g 60 137 [some (.ref (A 0 0)), some (.int (Int32.ofNat w)), some (.int c0), some (.int e), some (.ref it), l5, l6, l7, l8, l9] [] σ1 Q := this
      simp (config := {decide := true}) only [vRf_r, vRf_n, vI_i, vL_l, vD_d, pI_i, pR_r, pR_n, vZ_0, vZ_1, ct_i, ct_r, ct_n, ct_l, ct_d, csum_n, csum_c, kt_v, kt_n, kt_e, oc_n, oc_i, oc_r, oc_l, oc_u, oc_d, true_and, and_true, Bool.and_true, Bool.true_and, ne_eq, not_false_eq_true, not_true_eq_false, implies_true, false_imp, true_imp_iff, hsz_put, hsl_put, hln_put, hty_put, hsz_new, hsl_new, hln_new, hty_new, Nat.zero_add, Nat.add_zero, eq_self, decide_true, t32_0, t32_1, t32_2, t32_3, t32_4, t32_5, t32_6, hv_same, hv_kne, hv_tne, hv_ntne, hv_nsame, hv_ctne, hty_cpy, hln_cpy, hsz_cpy, hsl_cpy, vrn, vnr, vrr, A60_72, A60_74, A60_79, hi.1, e1, e2, if_false]
      exact this
    | succ m ih =>
      intro c e σ1 l5 l6 l7 l8 l9 c0 it hcm q hit hi he hc0
      have h1 := (RH_0 h q).1
      have hcn : c < zn z := by omega
      have e1 := fun Q' => l_hasNext (Q := Q') (rLgb h1) hi (by omega)
      have e2 : (c < zn z) = True := eq_true hcn
      have e3 := fun Q' => l_next (Q := Q') (rLgb h1) hi hcn
      have e7 : (∃ t, t ∈ [5] ∧ some 5 = some t) = True := eq_true ⟨5, by decide, rfl⟩
      have hi1 := hi.1
      have q2 : kp (fun _ => False) 2 8 σ (nxH σ1 it c) := kpF_nx q hit
      have hi2 := nxH_isI hi
      rw [A60_72]
      generalize nxH σ1 it c = σ2 at *
      have h2 := (RH_0 h q2).1
      have n5 : Int32.ofNat 5 = 5 := rfl
      simp (config := {decide := true}) only [vRf_r, vRf_n, vI_i, vL_l, vD_d, pI_i, pR_r, pR_n, vZ_0, vZ_1, ct_i, ct_r, ct_n, ct_l, ct_d, csum_n, csum_c, kt_v, kt_n, kt_e, oc_n, oc_i, oc_r, oc_l, oc_u, oc_d, true_and, and_true, Bool.and_true, Bool.true_and, ne_eq, not_false_eq_true, not_true_eq_false, implies_true, false_imp, true_imp_iff, hsz_put, hsl_put, hln_put, hty_put, hsz_new, hsl_new, hln_new, hty_new, Nat.zero_add, Nat.add_zero, eq_self, decide_true, t32_0, t32_1, t32_2, t32_3, t32_4, t32_5, t32_6, hv_same, hv_kne, hv_tne, hv_ntne, hv_nsame, hv_ctne, hty_cpy, hln_cpy, hsz_cpy, hsl_cpy, vrn, vnr, vrr, A60_74, A60_79, A60_82, A60_84, A60_89, A60_89r, A60_92, A60_94, A60_96, A60_99, A60_101, A60_103, A60_104, A60_106, A60_107, r5tb h2 hcn, r5gb h2 hcn, r5nb h2 hcn, r5mb h2 hcn, r5eb h2 hcn, r5db h2 hcn, r5vb h2 hcn, r5lb h2 hcn, r5pb h2 hcn, r6tb h2 hcn, r60b h2 hcn, r61b h2 hcn, r62b h2 hcn, r63b h2 hcn, r7tb h2 hcn, r7lb h2 hcn, r8tb h2 hcn, r8lb h2 hcn, r9tb h2 hcn, r9lb h2 hcn, r10tb h2 hcn, r10lb h2 hcn, rgBA h2, hi1, e1, e2, e3, e7, n5, if_true]
      exact ex_loop h2 hcn 5 0 e _ rfl (fun l6 l7 l8 l9 => ih (c + 1) _ σ2 _ l6 l7 l8 l9 c0 it (by omega) q2 hit hi2 he hc0)
  have loop1 : ∀ m c a σ1 l5, c + m = zf z → kp (fun _ => False) 1 4 σ σ1 → isI g σ1 (hsz σ) (A 3 0) c → fcF z c m a = fcF z 0 (zf z) 0 → aw g 60 16 [some (.ref (A 0 0)), some (.int (Int32.ofNat w)), some (.int a), some (.int 0), some (.ref (hsz σ)), l5, none, none, none, none] [] σ1 Q := by
    intro m
    induction m with
    | zero =>
      intro c a σ1 l5 hcm q hi ha
      have h1 := RH_0 h q
      have h10 := h1.2.1
      have h11 := h1.2.2
      have e1 := fun Q' => l_hasNext (Q := Q') (rLfb h1.1) hi (by omega)
      have e2 : (c < zf z) = False := eq_false (by omega)
      have hg1 := rgsb h1.1
      have tg := (rLgb h1.1).1
      have d1 := q.2.1
      have d2 := q.2.2.2.1
      have c1 : hsz σ1 + 1 ≤ gC g := by omega
      have s1 : hsl σ1 + 4 ≤ gS g := by omega
      have ei := fun Q' => l_iter (Q := Q') (rLgb h1.1) hg1
      have ha : a = fcF z 0 (zf z) 0 := ha
      have := loop2 (zn z) 0 0 (itH σ1 (A 2 0)) l5 none none none none a (hsz σ1) (by omega) (kp_trans q (itH_kp _ _)) q.1 (itH_isI hg1 (hty_lt tg)) rfl ha
      simp (config := {decide := true}) only [vRf_r, vRf_n, vI_i, vL_l, vD_d, pI_i, pR_r, pR_n, vZ_0, vZ_1, ct_i, ct_r, ct_n, ct_l, ct_d, csum_n, csum_c, kt_v, kt_n, kt_e, oc_n, oc_i, oc_r, oc_l, oc_u, oc_d, true_and, and_true, Bool.and_true, Bool.true_and, ne_eq, not_false_eq_true, not_true_eq_false, implies_true, false_imp, true_imp_iff, hsz_put, hsl_put, hln_put, hty_put, hsz_new, hsl_new, hln_new, hty_new, Nat.zero_add, Nat.add_zero, eq_self, decide_true, t32_0, t32_1, t32_2, t32_3, t32_4, t32_5, t32_6, hv_same, hv_kne, hv_tne, hv_ntne, hv_nsame, hv_ctne, hty_cpy, hln_cpy, hsz_cpy, hsl_cpy, vrn, vnr, vrr, A60_16, A60_18, A60_23, A60_60, A60_61, A60_64, A60_67, A60_70, r1tb h1.1, r10_b h1.1, r11_b h1.1, r13_b h1.1, r14_b h1.1, r1sb h1.1, rgBA h1.1, hi.1, e1, e2, h10, h11, ei, tg, c1, s1, if_false]
      exact this
    | succ m ih =>
      intro c a σ1 l5 hcm q hi ha
      have h1 := (RH_0 h q).1
      have hcn : c < zf z := by omega
      have e1 := fun Q' => l_hasNext (Q := Q') (rLfb h1) hi (by omega)
      have e2 : (c < zf z) = True := eq_true hcn
      have e3 := fun Q' => l_next (Q := Q') (rLfb h1) hi hcn
      have e7 : (∃ t, t ∈ [2] ∧ some 2 = some t) = True := eq_true ⟨2, by decide, rfl⟩
      have hi1 := hi.1
      have q2 : kp (fun _ => False) 1 4 σ (nxH σ1 (hsz σ) c) := kpF_nx q (Nat.le_refl _)
      have hi2 := nxH_isI hi
      rw [A60_16]
      generalize nxH σ1 (hsz σ) c = σ2 at *
      have h2 := (RH_0 h q2).1
      have f0 := r20_b h2 hcn
      have ft := r18tb h2 hcn
      by_cases g0 : z.1 8 c 0 = -1
      · have := ih (c + 1) (a + 1) σ2 (some (.ref (A 18 c))) (by omega) q2 hi2 (by rw [fcF, if_pos g0] at ha; exact ha)
        rw [g0, gref_m] at f0
        simp (config := {decide := true}) only [vRf_r, vRf_n, vI_i, vL_l, vD_d, pI_i, pR_r, pR_n, vZ_0, vZ_1, ct_i, ct_r, ct_n, ct_l, ct_d, csum_n, csum_c, kt_v, kt_n, kt_e, oc_n, oc_i, oc_r, oc_l, oc_u, oc_d, true_and, and_true, Bool.and_true, Bool.true_and, ne_eq, not_false_eq_true, not_true_eq_false, implies_true, false_imp, true_imp_iff, hsz_put, hsl_put, hln_put, hty_put, hsz_new, hsl_new, hln_new, hty_new, Nat.zero_add, Nat.add_zero, eq_self, decide_true, t32_0, t32_1, t32_2, t32_3, t32_4, t32_5, t32_6, hv_same, hv_kne, hv_tne, hv_ntne, hv_nsame, hv_ctne, hty_cpy, hln_cpy, hsz_cpy, hsl_cpy, vrn, vnr, vrr, A60_18, A60_23, A60_26, A60_28, A60_33, A60_33r, A60_36, A60_38, A60_39, A60_41, A60_44, A60_47, A60_48, A60_51, A60_52, A60_55, A60_56, A60_57, A61_0, A61_1, A61_4, A61_5, A61_8, A61_9, hi1, e1, e2, e3, e7, f0, ft, if_true]
        exact this
      · have := ih (c + 1) (a + 0) σ2 (some (.ref (A 18 c))) (by omega) q2 hi2 (by rw [fcF, if_neg g0] at ha; exact ha)
        rw [gref_k _ g0] at f0
        simp (config := {decide := true}) only [vRf_r, vRf_n, vI_i, vL_l, vD_d, pI_i, pR_r, pR_n, vZ_0, vZ_1, ct_i, ct_r, ct_n, ct_l, ct_d, csum_n, csum_c, kt_v, kt_n, kt_e, oc_n, oc_i, oc_r, oc_l, oc_u, oc_d, true_and, and_true, Bool.and_true, Bool.true_and, ne_eq, not_false_eq_true, not_true_eq_false, implies_true, false_imp, true_imp_iff, hsz_put, hsl_put, hln_put, hty_put, hsz_new, hsl_new, hln_new, hty_new, Nat.zero_add, Nat.add_zero, eq_self, decide_true, t32_0, t32_1, t32_2, t32_3, t32_4, t32_5, t32_6, hv_same, hv_kne, hv_tne, hv_ntne, hv_nsame, hv_ctne, hty_cpy, hln_cpy, hsz_cpy, hsl_cpy, vrn, vnr, vrr, A60_18, A60_23, A60_26, A60_28, A60_33, A60_33r, A60_36, A60_38, A60_39, A60_41, A60_44, A60_47, A60_48, A60_51, A60_52, A60_55, A60_56, A60_57, A61_0, A61_1, A61_4, A61_5, A61_8, A61_9, hi1, e1, e2, e3, e7, f0, ft, if_true]
        exact this
  have e1 := fun Q' => l_iter (Q := Q') (rLfb h.1) hgB
  have t3 := (rLfb h.1).1
  have c1 : hsz σ + 1 ≤ gC g := by omega
  have s1 : hsl σ + 4 ≤ gS g := by omega
  have h0 := h.2.1
  have h1 := h.2.2
  simp (config := {decide := true}) only [vRf_r, vRf_n, vI_i, vL_l, vD_d, pI_i, pR_r, pR_n, vZ_0, vZ_1, ct_i, ct_r, ct_n, ct_l, ct_d, csum_n, csum_c, kt_v, kt_n, kt_e, oc_n, oc_i, oc_r, oc_l, oc_u, oc_d, true_and, and_true, Bool.and_true, Bool.true_and, ne_eq, not_false_eq_true, not_true_eq_false, implies_true, false_imp, true_imp_iff, hsz_put, hsl_put, hln_put, hty_put, hsz_new, hsl_new, hln_new, hty_new, Nat.zero_add, Nat.add_zero, eq_self, decide_true, t32_0, t32_1, t32_2, t32_3, t32_4, t32_5, t32_6, hv_same, hv_kne, hv_tne, hv_ntne, hv_nsame, hv_ctne, hty_cpy, hln_cpy, hsz_cpy, hsl_cpy, vrn, vnr, vrr, A60_0, A60_1, A60_2, A60_3, A60_4, A60_5, A60_8, A60_11, A60_14, r1tb h.1, r10_b h.1, r11_b h.1, r13_b h.1, r14_b h.1, r1sb h.1, rgBA h.1, h0, h1, e1, c1, s1, t3]
  exact loop1 (zf z) 0 0 _ _ (by omega) (itH_kp _ _) (itH_isI hgB (hty_lt t3)) rfl
end COUNT
