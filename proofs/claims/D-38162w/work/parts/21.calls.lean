/-! calls -/
theorem csum_lg (vs : List Value) : (lg_sl vs).length = csum vs := by
  unfold lg_sl csum
  induction vs with
  | nil => rfl
  | cons v vs ih =>
    rw [List.flatMap_cons, List.length_append, ih, List.map_cons, List.sum_cons]
    rcases lv_cat v with h | h
    · rw [if_neg (by omega), h]; rfl
    · rw [if_pos h, h]; rfl
theorem csum_rev (vs : List Value) : csum vs.reverse = csum vs := by
  unfold csum
  rw [List.map_reverse, List.sum_reverse]
/-- a method that is called: n arguments beside the receiver -/
def mOk (mi : Nat → MI) (y2 : Nat) (nm2 : MethodName) (cc2 : ByteArray) (nL2 : Nat) (ret2 : Option FieldType) (lev2 n : Nat) : Prop := mi y2 = (nm2, cc2, nL2, ret2, lev2, []) ∧ plainFor nm2 = true ∧ (nm2.cls ≠ "java/lang/invoke/MethodHandle" ∧ nm2.cls ≠ "java/lang/invoke/VarHandle" ∧ (parseMethodDescriptor nm2.desc).map (fun d => d.parameters.length) = some n) ∧ nL2 ≤ 400 ∧ Cond.code nm2 cc2 nL2 ret2 ∈ lw_all
def mOkH (mi : Nat → MI) (y2 : Nat) (nm2 : MethodName) (cc2 : ByteArray) (nL2 : Nat) (ret2 : Option FieldType) (lev2 n : Nat) (h2 : List (Nat × Nat × Nat × Nat)) : Prop := mi y2 = (nm2, cc2, nL2, ret2, lev2, h2) ∧ plainName nm2.cls = true ∧ (nm2.cls ≠ "java/lang/invoke/MethodHandle" ∧ nm2.cls ≠ "java/lang/invoke/VarHandle" ∧ (parseMethodDescriptor nm2.desc).map (fun d => d.parameters.length) = some n) ∧ nL2 ≤ 400 ∧ Cond.codeWith nm2 cc2 nL2 ret2 h2 ∈ lw_all
theorem tg_all : ∀ t, t < 13 → ∃ q, tgN[t]? = some q ∧ q.1 = tcn t := by decide +kernel
section CALLS
variable {l : Launch} {g : GC} {D : va_G} {H0 : Heap} {mi : Nat → MI} {y pc y2 : Nat} {nm nm2 : MethodName} {cc cc2 : ByteArray} {nL lev nL2 lev2 n : Nat} {ret ret2 : Option FieldType} {h2 : List (Nat × Nat × Nat × Nat)}
/-- not caught: a method without handlers -/
theorem out_of {p : Program} {e : Env} {R : Room} {s : State} {m : MethodId} {args : Array Value} {below : List Frame} {meth : Method} {c : Code} {i : MI} (hh0 : i.2.2.2.2.2 = []) (C9 : sX l g D H0 i p R s m args meth c) {k : Nat} {σ : AH} {H' : Heap} {locs' : List Loc} {c' s' : Nat} {q : Addr} {ce : Cell} {Q : AQ} {ls : Array Slot} {rest : List Value} (hq : Q (.inr k) σ) (r1 : hR g D H0 σ H') (r3 : ∀ z ∈ locs', gB g ≤ z.base) (hce : H'[q]? = some ce) (hcv : ce.vm = .none) (hcl : s.vm.findClass (exN k) = some ce.cls) :
    vx_W p l e R s m args below meth c H' locs' c' s' (vx_MQ below (qC g D H0 Q) (qX g D H0 Q) args s (gC g - s.heap.size) (gS g - hTot s.heap) (fun q => gB g ≤ q)) (F0 m pc ls rest) q := by
  have z3 := r1.2.2.1
  have z4 := r1.2.2.2.1
  have z0 := r1.1
  have z9 := r1.2.1
  have htb := C9.2.2.2.2.2.2.2.1
  rw [hh0] at htb
  exact x_tight fun z1 z2 => vx_out (fun x hx => by rw [htb] at hx; cases hx) C9.2.2.2.2.2.2.1 hce hcv hcl (fun t ht _ => ⟨k, σ, rfl, hq, by rw [ht]; exact r1⟩) r3 (by omega) (by omega)
theorem room_of {p : Program} {R : Room} {s : State} {m : MethodId} {args : Array Value} {meth : Method} {c : Code} {σ : AH} {hh9 : List (Nat × Nat × Nat × Nat)} (hm : mi y = (nm, cc, nL, ret, lev, hh9)) (C9 : sX l g D H0 (mi y) p R s m args meth c) (hlv : lev2 + 1 ≤ lev) (hnl : nL2 ≤ 400) : (rmO g lev2 σ).frames + 1 ≤ R.frames ∧ 8 + (nL2 + 11) + (rmO g lev2 σ).locals ≤ R.locals := by
  have c11 : lev ≤ R.frames := by have h5 := C9.2.2.2.2.2.2.2.2.2.2.1; rw [hm] at h5; exact h5
  have c12 : 428 * lev ≤ R.locals := by have h5 := C9.2.2.2.2.2.2.2.2.2.2.2.1; rw [hm] at h5; exact h5
  refine ⟨Nat.le_trans hlv c11, ?_⟩
  show 8 + (nL2 + 11) + 428 * lev2 ≤ R.locals
  omega
theorem fix_of {p : Program} {R : Room} {s : State} {m : MethodId} {args : Array Value} {meth : Method} {c : Code} {hh9 : List (Nat × Nat × Nat × Nat)} (hm : mi y = (nm, cc, nL, ret, lev, hh9)) (C9 : sX l g D H0 (mi y) p R s m args meth c) : CallFix p m c cc nL s args lw_all nm.cls := by
  obtain ⟨a1, a2, a3, a4, a5, a6, -⟩ := C9
  rw [hm] at a2 a4 a5
  exact ⟨a1, a2, a4, a5, a6⟩
theorem so_callS (hm : mi y = (nm, cc, nL, ret, lev, [])) (hM : mOk mi y2 nm2 cc2 nL2 ret2 lev2 n) (hlv : lev2 + 1 ≤ lev) {idx : Nat} (hd : decode cc pc = .ok (.invokestatic idx, 3)) (hw : Cond.methodLink nm.cls idx nm2 ∈ lw_all) (hs : Cond.static nm2 ∈ lw_all) (hi : Cond.initialized nm2.cls ∈ lw_all) : sOk l g D H0 mi y pc (s_call y (pc + 3) y2 n nL2) := by
  intro L st σ Q h p e R s m args below meth c C9 H locs cells slots ls r1 r2 r3
  obtain ⟨m1, m2, m3, m4, m5⟩ := hM
  unfold s_call at h
  obtain ⟨h1, h2, h3, h4⟩ := h
  have hI := C9.2.2.2.2.2.2.2.2.2.1
  have c13 := C9.2.2.2.2.2.2.2.2.2.2.2.2.1
  have c14 := C9.2.2.2.2.2.2.2.2.2.2.2.2.2.1
  have hst := C9.2.2.2.2.2.2.2.2.2.2.2.2.2.2
  have hts := C9.2.2.2.2.2.1
  have hls : ls.size = nL := by have h5 := r2.1; rw [hm] at h5; exact h5
  have z3 := r1.2.2.1
  have z4 := r1.2.2.2.1
  have z0 := r1.1
  have z9 := r1.2.1
  have hn0 : (st.take n).reverse.length = n := by rw [List.length_reverse, List.length_take]; omega
  refine w_tight fun z1 z2 => ?_
  have hmet := met_of (vs := (st.take n).reverse) hst m1 m2 (by rw [csum_lg, csum_rev]; exact h2) z3 z4 h4
  refine run_go (vx_runS (As := (st.take n).reverse) (rest := st.drop n) (fix_of hm C9) hmet (va_cwS n hts (lw_S hw hs hi m5) rfl rfl rfl m3 (room_of hm C9 hlv m4)) ⟨pcO_blind, pcO_at hI r1⟩ rfl hn0 hls (by rw [List.reverse_reverse, List.take_append_drop]) (lv_room h3) hd ⟨by omega, by omega⟩) r3 (fun v σ' H' locs' c' s' hq r1' r3' => hq p e R s m args below meth c C9 H' locs' c' s' ls r1' r2 r3') (fun k σ' H' locs' c' s' q ce hq r1' r3' hce hcv hcl => out_of (by rw [hm]) C9 hq r1' r3' hce hcv hcl)
theorem so_callI (hm : mi y = (nm, cc, nL, ret, lev, [])) (hM : mOk mi y2 nm2 cc2 nL2 none lev2 n) (hlv : lev2 + 1 ≤ lev) (hin : nm2.name = "<init>") {idx : Nat} (hd : decode cc pc = .ok (.invokespecial idx, 3)) (hw : Cond.methodLink nm.cls idx nm2 ∈ lw_all) (hs : Cond.instanceMethod nm2 ∈ lw_all) (hi : Cond.initialized nm2.cls ∈ lw_all) : sOk l g D H0 mi y pc (s_calli y (pc + 3) y2 n nL2) := by
  intro L st σ Q h p e R s m args below meth c C9 H locs cells slots ls r1 r2 r3
  obtain ⟨m1, m2, m3, m4, m5⟩ := hM
  unfold s_calli at h
  split at h
  · rename_i b r hsp
    obtain ⟨h2, h3, h4⟩ := h
    have hI := C9.2.2.2.2.2.2.2.2.2.1
    have c13 := C9.2.2.2.2.2.2.2.2.2.2.2.2.1
    have c14 := C9.2.2.2.2.2.2.2.2.2.2.2.2.2.1
    have hst := C9.2.2.2.2.2.2.2.2.2.2.2.2.2.2
    have hts := C9.2.2.2.2.2.1
    have hls : ls.size = nL := by have h5 := r2.1; rw [hm] at h5; exact h5
    have z3 := r1.2.2.1
    have z4 := r1.2.2.2.1
    have z0 := r1.1
    have z9 := r1.2.1
    have hlen : n < st.length := by
      have h9 := congrArg List.length hsp
      rw [List.length_drop, List.length_cons] at h9
      omega
    have hn0 : (st.take n).reverse.length = n := by rw [List.length_reverse, List.length_take]; omega
    refine w_tight fun z1 z2 => ?_
    have hmet := met_of (vs := .ref b :: (st.take n).reverse) hst m1 m2 (by rw [csum_lg]; unfold csum at h2 ⊢; rw [List.map_cons, List.sum_cons] at h2 ⊢; rw [List.map_reverse, List.sum_reverse]; exact h2) z3 z4 h4
    refine run_go (vx_runI (b := b) (As := (st.take n).reverse) (rest := r) (fix_of hm C9) hmet (cwI n hts (lw_meth m5) rfl rfl rfl (hts _ hi) (hts _ hw) (hts _ hs) hin m3 (room_of hm C9 hlv m4)) ⟨pcO_blind, pcO_at hI r1⟩ rfl hn0 hls (by rw [List.reverse_reverse, ← hsp, List.take_append_drop]) (lv_room h3) hd ⟨by omega, by omega⟩) r3 (fun v σ' H' locs' c' s' hq r1' r3' => hq p e R s m args below meth c C9 H' locs' c' s' ls r1' r2 r3') (fun k σ' H' locs' c' s' q ce hq r1' r3' hce hcv hcl => out_of (by rw [hm]) C9 hq r1' r3' hce hcv hcl)
  · exact h.elim
theorem so_callIN (hm : mi y = (nm, cc, nL, ret, lev, [])) (hM : mOk mi y2 nm2 cc2 nL2 none lev2 n) (hlv : lev2 + 1 ≤ lev) (hin : nm2.name = "<init>") {idx : Nat} {host : String} (hd : decode cc pc = .ok (.invokespecial idx, 3)) (hw : Cond.methodLinkNest nm.cls idx nm2 host ∈ lw_tbl) (hs : Cond.instanceMethod nm2 ∈ lw_all) (hi : Cond.initialized nm2.cls ∈ lw_all) : sOk l g D H0 mi y pc (s_calli y (pc + 3) y2 n nL2) := by
  intro L st σ Q h p e R s m args below meth c C9 H locs cells slots ls r1 r2 r3
  obtain ⟨m1, m2, m3, m4, m5⟩ := hM
  unfold s_calli at h
  split at h
  · rename_i b r hsp
    obtain ⟨h2, h3, h4⟩ := h
    have hI := C9.2.2.2.2.2.2.2.2.2.1
    have c13 := C9.2.2.2.2.2.2.2.2.2.2.2.2.1
    have c14 := C9.2.2.2.2.2.2.2.2.2.2.2.2.2.1
    have hst := C9.2.2.2.2.2.2.2.2.2.2.2.2.2.2
    have hts := C9.2.2.2.2.2.1
    have hls : ls.size = nL := by have h5 := r2.1; rw [hm] at h5; exact h5
    have z3 := r1.2.2.1
    have z4 := r1.2.2.2.1
    have z0 := r1.1
    have z9 := r1.2.1
    have hlen : n < st.length := by
      have h9 := congrArg List.length hsp
      rw [List.length_drop, List.length_cons] at h9
      omega
    have hn0 : (st.take n).reverse.length = n := by rw [List.length_reverse, List.length_take]; omega
    refine w_tight fun z1 z2 => ?_
    have hmet := met_of (vs := .ref b :: (st.take n).reverse) hst m1 m2 (by rw [csum_lg]; unfold csum at h2 ⊢; rw [List.map_cons, List.sum_cons] at h2 ⊢; rw [List.map_reverse, List.sum_reverse]; exact h2) z3 z4 h4
    refine run_go (vx_runIN (b := b) (As := (st.take n).reverse) (rest := r) (fix_of hm C9) hmet ⟨va_cnB n hts (lw_meth m5) rfl rfl rfl (hI.2.1 _ (List.mem_filter.mpr ⟨hw, rfl⟩)) (hts _ hi) m3 (room_of hm C9 hlv m4), hin, hts _ hs⟩ ⟨pcO_blind, pcO_at hI r1⟩ rfl hn0 hls (by rw [List.reverse_reverse, ← hsp, List.take_append_drop]) (lv_room h3) hd ⟨by omega, by omega⟩) r3 (fun v σ' H' locs' c' s' hq r1' r3' => hq p e R s m args below meth c C9 H' locs' c' s' ls r1' r2 r3') (fun k σ' H' locs' c' s' q ce hq r1' r3' hce hcv hcl => out_of (by rw [hm]) C9 hq r1' r3' hce hcv hcl)
  · exact h.elim
theorem so_callSN (hm : mi y = (nm, cc, nL, ret, lev, [])) (hM : mOk mi y2 nm2 cc2 nL2 ret2 lev2 n) (hlv : lev2 + 1 ≤ lev) {idx : Nat} {host : String} (hd : decode cc pc = .ok (.invokestatic idx, 3)) (hw : Cond.methodLinkNest nm.cls idx nm2 host ∈ lw_tbl) (hs : Cond.static nm2 ∈ lw_all) (hi : Cond.initialized nm2.cls ∈ lw_all) : sOk l g D H0 mi y pc (s_call y (pc + 3) y2 n nL2) := by
  intro L st σ Q h p e R s m args below meth c C9 H locs cells slots ls r1 r2 r3
  obtain ⟨m1, m2, m3, m4, m5⟩ := hM
  unfold s_call at h
  obtain ⟨h1, h2, h3, h4⟩ := h
  have hI := C9.2.2.2.2.2.2.2.2.2.1
  have c13 := C9.2.2.2.2.2.2.2.2.2.2.2.2.1
  have c14 := C9.2.2.2.2.2.2.2.2.2.2.2.2.2.1
  have hst := C9.2.2.2.2.2.2.2.2.2.2.2.2.2.2
  have hts := C9.2.2.2.2.2.1
  have hls : ls.size = nL := by have h5 := r2.1; rw [hm] at h5; exact h5
  have z3 := r1.2.2.1
  have z4 := r1.2.2.2.1
  have z0 := r1.1
  have z9 := r1.2.1
  have hn0 : (st.take n).reverse.length = n := by rw [List.length_reverse, List.length_take]; omega
  refine w_tight fun z1 z2 => ?_
  have hmet := met_of (vs := (st.take n).reverse) hst m1 m2 (by rw [csum_lg, csum_rev]; exact h2) z3 z4 h4
  refine run_go (vx_runSN (As := (st.take n).reverse) (rest := st.drop n) (fix_of hm C9) hmet ⟨va_cnB n hts (lw_meth m5) rfl rfl rfl (hI.2.1 _ (List.mem_filter.mpr ⟨hw, rfl⟩)) (hts _ hi) m3 (room_of hm C9 hlv m4), hts _ hs, trivial⟩ ⟨pcO_blind, pcO_at hI r1⟩ rfl hn0 hls (by rw [List.reverse_reverse, List.take_append_drop]) (lv_room h3) hd ⟨by omega, by omega⟩) r3 (fun v σ' H' locs' c' s' hq r1' r3' => hq p e R s m args below meth c C9 H' locs' c' s' ls r1' r2 r3') (fun k σ' H' locs' c' s' q ce hq r1' r3' hce hcv hcl => out_of (by rw [hm]) C9 hq r1' r3' hce hcv hcl)
theorem so_callV (hm : mi y = (nm, cc, nL, ret, lev, [])) (hM : mOk mi y2 nm2 cc2 nL2 ret2 lev2 n) (hlv : lev2 + 1 ≤ lev) {t idx : Nat} {C : String} (htt : t < 13) (htc : tcn t = C) (hcC : nm2.cls = C) (hd : decode cc pc = .ok (.invokevirtual idx, 3)) (hw : Cond.methodLink nm.cls idx nm2 ∈ lw_all) (hs : Cond.instanceMethod nm2 ∈ lw_all) (hse : Cond.selects C nm2 nm2 ∈ lw_all) (hi : Cond.initialized C ∈ lw_all) : sOk l g D H0 mi y pc (s_callv y (pc + 3) y2 t n nL2) := by
  intro L st σ Q h p e R s m args below meth c C9 H locs cells slots ls r1 r2 r3
  obtain ⟨m1, m2, m3, m4, m5⟩ := hM
  unfold s_callv at h
  split at h
  · rename_i b r hsp
    obtain ⟨ht, h2, h3, h4⟩ := h
    have hI := C9.2.2.2.2.2.2.2.2.2.1
    have c13 := C9.2.2.2.2.2.2.2.2.2.2.2.2.1
    have c14 := C9.2.2.2.2.2.2.2.2.2.2.2.2.2.1
    have hst := C9.2.2.2.2.2.2.2.2.2.2.2.2.2.2
    have hts := C9.2.2.2.2.2.1
    have hls : ls.size = nL := by have h5 := r2.1; rw [hm] at h5; exact h5
    have z3 := r1.2.2.1
    have z4 := r1.2.2.2.1
    have z0 := r1.1
    have z9 := r1.2.1
    have hlen : n < st.length := by
      have h9 := congrArg List.length hsp
      rw [List.length_drop, List.length_cons] at h9
      omega
    have hn0 : (st.take n).reverse.length = n := by rw [List.length_reverse, List.length_take]; omega
    obtain ⟨cell, b1, b2, b3, b4, b5, b6, b7⟩ := r1.2.2.2.2.2.2 b t ht
    have hfc := fc_of (t := t) hI (Or.inl htt)
    rw [htc] at hfc
    have hrecv : ∃ cellB : Cell, H[b]? = some cellB ∧ cellB.vm.isStatics = false ∧ s.vm.findClass C = some cellB.cls := ⟨cell, b1, b4, by rw [b2]; exact hfc⟩
    refine w_tight fun z1 z2 => ?_
    have hmet := met_of (vs := .ref b :: (st.take n).reverse) hst m1 m2 (by rw [csum_lg]; unfold csum at h2 ⊢; rw [List.map_cons, List.sum_cons] at h2 ⊢; rw [List.map_reverse, List.sum_reverse]; exact h2) z3 z4 h4
    refine run_go (vx_runV (C := C) (b := b) (As := (st.take n).reverse) (rest := r) (fix_of hm C9) hmet (cwV n hts (lw_V hw hs hse hi m5) rfl rfl rfl ⟨hcC, m3⟩ (room_of hm C9 hlv m4)) ⟨pcO_blind, hrecv, pcO_at hI r1⟩ rfl hn0 hls (by rw [List.reverse_reverse, ← hsp, List.take_append_drop]) (lv_room h3) hd ⟨by omega, by omega⟩) r3 (fun v σ' H' locs' c' s' hq r1' r3' => hq p e R s m args below meth c C9 H' locs' c' s' ls r1' r2 r3') (fun k σ' H' locs' c' s' q ce hq r1' r3' hce hcv hcl => out_of (by rw [hm]) C9 hq r1' r3' hce hcv hcl)
  · exact h.elim
theorem so_callVN (hm : mi y = (nm, cc, nL, ret, lev, [])) (hM : mOk mi y2 nm2 cc2 nL2 ret2 lev2 n) (hlv : lev2 + 1 ≤ lev) {t idx : Nat} {C host : String} (htt : t < 13) (htc : tcn t = C) (hcC : nm2.cls = C) (hd : decode cc pc = .ok (.invokevirtual idx, 3)) (hw : Cond.methodLinkNest nm.cls idx nm2 host ∈ lw_tbl) (hs : Cond.instanceMethod nm2 ∈ lw_all) (hse : Cond.selects C nm2 nm2 ∈ lw_all) (hi : Cond.initialized nm2.cls ∈ lw_all) : sOk l g D H0 mi y pc (s_callv y (pc + 3) y2 t n nL2) := by
  intro L st σ Q h p e R s m args below meth c C9 H locs cells slots ls r1 r2 r3
  obtain ⟨m1, m2, m3, m4, m5⟩ := hM
  unfold s_callv at h
  split at h
  · rename_i b r hsp
    obtain ⟨ht, h2, h3, h4⟩ := h
    have hI := C9.2.2.2.2.2.2.2.2.2.1
    have c13 := C9.2.2.2.2.2.2.2.2.2.2.2.2.1
    have c14 := C9.2.2.2.2.2.2.2.2.2.2.2.2.2.1
    have hst := C9.2.2.2.2.2.2.2.2.2.2.2.2.2.2
    have hts := C9.2.2.2.2.2.1
    have hls : ls.size = nL := by have h5 := r2.1; rw [hm] at h5; exact h5
    have z3 := r1.2.2.1
    have z4 := r1.2.2.2.1
    have z0 := r1.1
    have z9 := r1.2.1
    have hlen : n < st.length := by
      have h9 := congrArg List.length hsp
      rw [List.length_drop, List.length_cons] at h9
      omega
    have hn0 : (st.take n).reverse.length = n := by rw [List.length_reverse, List.length_take]; omega
    obtain ⟨cell, b1, b2, b3, b4, b5, b6, b7⟩ := r1.2.2.2.2.2.2 b t ht
    have hfc := fc_of (t := t) hI (Or.inl htt)
    rw [htc] at hfc
    have hrecv : ∃ cellB : Cell, H[b]? = some cellB ∧ cellB.vm.isStatics = false ∧ s.vm.findClass C = some cellB.cls := ⟨cell, b1, b4, by rw [b2]; exact hfc⟩
    refine w_tight fun z1 z2 => ?_
    have hmet := met_of (vs := .ref b :: (st.take n).reverse) hst m1 m2 (by rw [csum_lg]; unfold csum at h2 ⊢; rw [List.map_cons, List.sum_cons] at h2 ⊢; rw [List.map_reverse, List.sum_reverse]; exact h2) z3 z4 h4
    refine run_go (vx_runVN (C := C) (b := b) (As := (st.take n).reverse) (rest := r) (fix_of hm C9) hmet ⟨va_cnB n hts (lw_meth m5) rfl rfl rfl (hI.2.1 _ (List.mem_filter.mpr ⟨hw, rfl⟩)) (hts _ hi) m3 (room_of hm C9 hlv m4), hts _ hs, hts _ hse⟩ ⟨pcO_blind, hrecv, pcO_at hI r1⟩ rfl hn0 hls (by rw [List.reverse_reverse, ← hsp, List.take_append_drop]) (lv_room h3) hd ⟨by omega, by omega⟩) r3 (fun v σ' H' locs' c' s' hq r1' r3' => hq p e R s m args below meth c C9 H' locs' c' s' ls r1' r2 r3') (fun k σ' H' locs' c' s' q ce hq r1' r3' hce hcv hcl => out_of (by rw [hm]) C9 hq r1' r3' hce hcv hcl)
  · exact h.elim
theorem so_callF (hm : mi y = (nm, cc, nL, ret, lev, [])) {x : MethodName} (hM : mOk mi y2 nm2 cc2 nL2 ret2 lev2 n) (hlv : lev2 + 1 ≤ lev) {t idx k9 : Nat} {C : String} (htt : t < 13) (htc : tcn t = C) (hF : (C, x, nm2) ∈ fwL) (hxd : x.cls ≠ "java/lang/invoke/MethodHandle" ∧ x.cls ≠ "java/lang/invoke/VarHandle" ∧ (parseMethodDescriptor x.desc).map (fun d => d.parameters.length) = some n) (hd : decode cc pc = .ok (.invokeinterface idx k9, 5)) (hw : Cond.methodLink nm.cls idx x ∈ lw_all) (hs : Cond.instanceMethod nm2 ∈ lw_all) (hse : Cond.selects C x nm2 ∈ lw_all) (hi : Cond.initialized nm2.cls ∈ lw_all) : sOk l g D H0 mi y pc (s_callv y (pc + 5) y2 t n nL2) := by
  intro L st σ Q h p e R s m args below meth c C9 H locs cells slots ls r1 r2 r3
  obtain ⟨m1, m2, m3, m4, m5⟩ := hM
  unfold s_callv at h
  split at h
  · rename_i b r hsp
    obtain ⟨ht, h2, h3, h4⟩ := h
    have hI := C9.2.2.2.2.2.2.2.2.2.1
    have c13 := C9.2.2.2.2.2.2.2.2.2.2.2.2.1
    have c14 := C9.2.2.2.2.2.2.2.2.2.2.2.2.2.1
    have hst := C9.2.2.2.2.2.2.2.2.2.2.2.2.2.2
    have hts := C9.2.2.2.2.2.1
    have hls : ls.size = nL := by have h5 := r2.1; rw [hm] at h5; exact h5
    have z3 := r1.2.2.1
    have z4 := r1.2.2.2.1
    have z0 := r1.1
    have z9 := r1.2.1
    have hlen : n < st.length := by
      have h9 := congrArg List.length hsp
      rw [List.length_drop, List.length_cons] at h9
      omega
    have hn0 : (st.take n).reverse.length = n := by rw [List.length_reverse, List.length_take]; omega
    obtain ⟨cell, b1, b2, b3, b4, b5, b6, b7⟩ := r1.2.2.2.2.2.2 b t ht
    have hfc := fc_of (t := t) hI (Or.inl htt)
    rw [htc] at hfc
    have hrecv : ∃ cellB : Cell, H[b]? = some cellB ∧ cellB.vm.isStatics = false ∧ s.vm.findClass C = some cellB.cls := ⟨cell, b1, b4, by rw [b2]; exact hfc⟩
    refine w_tight fun z1 z2 => ?_
    have hmet := met_of (vs := .ref b :: (st.take n).reverse) hst m1 m2 (by rw [csum_lg]; unfold csum at h2 ⊢; rw [List.map_cons, List.sum_cons] at h2 ⊢; rw [List.map_reverse, List.sum_reverse]; exact h2) z3 z4 h4
    have hat : ClassAt s C (D.1 t) := by
      obtain ⟨q, hq1, hq2⟩ := tg_all t htt
      have h9 := (hI.1.1 t q hq1).2
      rw [hq2, htc] at h9
      exact h9
    have hG : GoodIn lw_all (va_wsF nm.cls idx C x nm2 (ws_ nm2 cc2 nL2 ret2)) := by
      refine lw_app ?_ (lw_meth m5)
      intro w hw9
      simp only [List.mem_cons, List.not_mem_nil, or_false] at hw9
      rcases hw9 with e | e | e | e
      · rw [e]; exact hw
      · rw [e]; exact hse
      · rw [e]; exact hs
      · rw [e]; exact hi
    refine run_go (vx_runF (x := x) (C := C) (b := b) (As := (st.take n).reverse) (rest := r) hat (fix_of hm C9) hmet (va_cwF n hts hG rfl rfl rfl (hI.2.2.1 _ hF) hxd (room_of hm C9 hlv m4)) ⟨pcO_blind, hrecv, pcO_at hI r1⟩ rfl hn0 hls (by rw [List.reverse_reverse, ← hsp, List.take_append_drop]) (lv_room h3) hd ⟨by omega, by omega⟩) r3 (fun v σ' H' locs' c' s' hq r1' r3' => hq p e R s m args below meth c C9 H' locs' c' s' ls r1' r2 r3') (fun k σ' H' locs' c' s' q ce hq r1' r3' hce hcv hcl => out_of (by rw [hm]) C9 hq r1' r3' hce hcv hcl)
  · exact h.elim
theorem so_callSH (hm : mi y = (nm, cc, nL, ret, lev, [])) (hM : mOkH mi y2 nm2 cc2 nL2 ret2 lev2 n h2) (hlv : lev2 + 1 ≤ lev) {idx : Nat} (hd : decode cc pc = .ok (.invokestatic idx, 3)) (hw : Cond.methodLink nm.cls idx nm2 ∈ lw_all) (hs : Cond.static nm2 ∈ lw_all) (hi : Cond.initialized nm2.cls ∈ lw_all) : sOk l g D H0 mi y pc (s_call y (pc + 3) y2 n nL2) := by
  intro L st σ Q h p e R s m args below meth c C9 H locs cells slots ls r1 r2 r3
  obtain ⟨m1, m2, m3, m4, m5⟩ := hM
  unfold s_call at h
  obtain ⟨h1, h2, h3, h4⟩ := h
  have hI := C9.2.2.2.2.2.2.2.2.2.1
  have c13 := C9.2.2.2.2.2.2.2.2.2.2.2.2.1
  have c14 := C9.2.2.2.2.2.2.2.2.2.2.2.2.2.1
  have hst := C9.2.2.2.2.2.2.2.2.2.2.2.2.2.2
  have hts := C9.2.2.2.2.2.1
  have hls : ls.size = nL := by have h5 := r2.1; rw [hm] at h5; exact h5
  have z3 := r1.2.2.1
  have z4 := r1.2.2.2.1
  have z0 := r1.1
  have z9 := r1.2.1
  have hn0 : (st.take n).reverse.length = n := by rw [List.length_reverse, List.length_take]; omega
  refine w_tight fun z1 z2 => ?_
  have hmet := met_ofH (vs := (st.take n).reverse) hst m1 m2 (by rw [csum_lg, csum_rev]; exact h2) z3 z4 h4
  refine run_go (vx_runSX (As := (st.take n).reverse) (rest := st.drop n) (fix_of hm C9) hmet (vx_cwSW n hts (lw_SW hw hs hi m5) rfl rfl rfl m3 (room_of hm C9 hlv m4)) ⟨pcO_blind, pcO_at hI r1⟩ rfl hn0 hls (by rw [List.reverse_reverse, List.take_append_drop]) (lv_room h3) hd ⟨by omega, by omega⟩) r3 (fun v σ' H' locs' c' s' hq r1' r3' => hq p e R s m args below meth c C9 H' locs' c' s' ls r1' r2 r3') (fun k σ' H' locs' c' s' q ce hq r1' r3' hce hcv hcl => out_of (by rw [hm]) C9 hq r1' r3' hce hcv hcl)
end CALLS
