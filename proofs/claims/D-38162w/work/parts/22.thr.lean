/-! throws, and calls in a method with handlers -/
theorem list_pre {α : Type} {l l' : List α} (h : l.length ≤ l'.length) (hq : ∀ q, q < l.length → l'[q]? = l[q]?) : l' = l ++ l'.drop l.length := by
  have h1 : l'.take l.length = l := by
    apply List.ext_getElem?
    intro i
    by_cases hi : i < l.length
    · rw [List.getElem?_take, if_pos hi]
      exact hq i hi
    · rw [List.getElem?_take, if_neg hi]
      symm
      simp
      omega
  conv => lhs; rw [← List.take_append_drop l.length l', h1]
theorem hTot_pre {H H' : Heap} (h : H.size ≤ H'.size) (hq : ∀ q : Nat, q < H.size → H'[q]? = H[q]?) : H'.toList = H.toList ++ H'.toList.drop H.size := by
  have h1 := list_pre (l := H.toList) (l' := H'.toList) (by simpa using h) (fun q hq2 => by
    rw [Array.getElem?_toList, Array.getElem?_toList]
    exact hq q (by simpa using hq2))
  rw [Array.length_toList] at h1
  exact h1
theorem exc_self : ∀ k, Cond.castable (exN k) (exN k) ∈ lw_tbl
  | 0 => q850
  | 1 => q918
  | _ + 2 => q993
section THR
variable {l : Launch} {g : GC} {D : va_G} {H0 : Heap} {mi : Nat → MI} {y pc y2 : Nat} {nm nm2 : MethodName} {cc cc2 : ByteArray} {nL lev nL2 lev2 n : Nat} {ret ret2 : Option FieldType} {hh : List (Nat × Nat × Nat × Nat)}
theorem so_throw (hm : mi y = (nm, cc, nL, ret, lev, [])) (hlv : 8 ≤ lev) {k ik ic : Nat} {names : List String} (hlen : names.length ≤ 4) (hcls : Bundle.fit (exN k) = true) (hnames : ∀ n ∈ names, Bundle.fit n = true) (hat : ∀ w ∈ vx_at0 nm.cls ic (exN k) names, w ∈ lw_all ∨ (w ∈ lw_tbl ∧ nwk w = true ∧ w.onTables = true)) (hgood : ∀ w ∈ Cond.classLink nm.cls ik (exN k) :: Cond.initialized (exN k) :: vx_at0 nm.cls ic (exN k) names, vx_ot w = true) (hw : Cond.classLink nm.cls ik (exN k) ∈ lw_all) (hi : Cond.initialized (exN k) ∈ lw_all)
    (d0 : decode cc pc = .ok (.new ik, 3)) (d3 : decode cc (pc + 3) = .ok (.dup, 1)) (d4 : decode cc (pc + 4) = .ok (.invokespecial ic, 3)) (d7 : decode cc (pc + 7) = .ok (.athrow, 1)) : sOk l g D H0 mi y pc (s_throw g k) := by
  intro L st σ Q h p e R s m args below meth c C9 H locs cells slots ls r1 r2 r3
  unfold s_throw at h
  obtain ⟨h1, h2, h3, h4⟩ := h
  unfold csum at h1
  have hown : s.vm.findClass nm.cls = some m.cls := by have h5 := C9.2.2.2.2.1; rw [hm] at h5; exact h5
  have hb : c.code = cc := by rw [C9.2.1, hm]
  have hts := C9.2.2.2.2.2.1
  have hlk := C9.2.2.2.2.2.2.1
  have hI := C9.2.2.2.2.2.2.2.2.2.1
  have c11 : lev ≤ R.frames := by have h5 := C9.2.2.2.2.2.2.2.2.2.2.1; rw [hm] at h5; exact h5
  have c12 : 428 * lev ≤ R.locals := by have h5 := C9.2.2.2.2.2.2.2.2.2.2.2.1; rw [hm] at h5; exact h5
  have c13 := C9.2.2.2.2.2.2.2.2.2.2.2.2.1
  have c14 := C9.2.2.2.2.2.2.2.2.2.2.2.2.2.1
  have hst := C9.2.2.2.2.2.2.2.2.2.2.2.2.2.2
  have hml : c.maxLocals = nL := by have h5 := C9.2.2.2.1; rw [hm] at h5; exact h5
  have hls : ls.size = nL := by have h5 := r2.1; rw [hm] at h5; exact h5
  have htb : c.exceptionTable.toList = [] := by have h5 := C9.2.2.2.2.2.2.2.1; rw [hm] at h5; exact h5
  have z3 := r1.2.2.1
  have z4 := r1.2.2.2.1
  have z0 := r1.1
  have z9 := r1.2.1
  refine w_tight fun z1 z2 => ?_
  have key : W p l e R s m args below meth c H locs (H.size - s.heap.size) (hTot H - hTot s.heap) (vx_MQ below (fun _ _ _ _ => False) (fun E _ t => E = exN k ∧ H.size ≤ t.heap.size ∧ ∀ q : Nat, q < H.size → t.heap[q]? = H[q]?) args s (H.size - s.heap.size + 1) (hTot H - hTot s.heap + 6) (fun q => gB g ≤ q)) (F0 m pc ls st) := by
    refine vx_throw0 (A := fun q => gB g ≤ q) C9.1 hb hst hown hcls hnames (hts _ hw) (hts _ hi) (fun w hw9 => ?_) hgood hI.2.2.2.2.2.2.2.2.2.2.2.1 hI.2.2.2.2.2.2.2.2.2.2.2.2.1 (sS_of hI r1 r3 z1) (by rw [hls, hml]) d0 d3 d4 d7 (fun x hx => by rw [htb] at hx; cases hx) (by omega) (by omega) (by omega) (by omega) hlk (fun t _ q1 q2 => ⟨rfl, q1, q2⟩) r3 (Nat.le_refl _) (Nat.le_refl _)
    rcases hat w hw9 with q | ⟨q1, q2, q3⟩
    · exact hts _ q
    · exact nw_of hI q1 q2 q3
  intro T hT X
  obtain ⟨t, a1, o, b1, b2, b3⟩ := key T hT X
  refine ⟨t, a1, o, b1, b2, ?_⟩
  rcases b3 with ⟨hf, -⟩ | ⟨q, rfl, E, ce, L9, ⟨hE, hs1, hs2⟩, d1, d2, d3', d4', d5, d6⟩
  · exact hf.elim
  · have f2 : s.heap.size ≤ t.heap.size := d5.2.1
    have f3 : t.heap.size ≤ s.heap.size + (H.size - s.heap.size + 1) := d5.2.2.1
    have f5 : ((t.heap.toList.drop s.heap.size).map (·.slots.size)).sum ≤ hTot H - hTot s.heap + 6 := d5.2.2.2.2.1
    have p1 := hTot_pre hs1 hs2
    have p2 : hTot t.heap = hTot H + ((t.heap.toList.drop H.size).map (fun c => c.slots.size)).sum := by
      rw [hTot_list t.heap, hTot_list H]
      conv => lhs; rw [p1]
      rw [List.map_append, List.sum_append]
    have e4' : T.slotsUsed = s.slotsUsed + ((T.heap.toList.drop s.heap.size).map (·.slots.size)).sum := X.same.2.2.2.1
    have k1 : T.slotsUsed = hTot T.heap := by
      have h := X.book
      unfold State.slotsTrue at h
      exact (beq_iff_eq.mp h)
    have k2 : s.slotsUsed = hTot s.heap := by
      have h := X.room
      simp only [State.hasRoom, Bool.and_eq_true] at h
      exact (beq_iff_eq.mp h.2)
    rw [k1, k2, hT] at e4'
    have p3 : ((t.heap.toList.drop s.heap.size).map (fun c => c.slots.size)).sum = ((H.toList.drop s.heap.size).map (fun c => c.slots.size)).sum + ((t.heap.toList.drop H.size).map (fun c => c.slots.size)).sum := by
      conv => lhs; rw [p1]
      rw [List.drop_append_of_le_length (by rw [Array.length_toList]; exact z1), List.map_append, List.sum_append]
    have hj : hTot t.heap - hTot H ≤ 6 := by omega
    have hi9 : t.heap.size - H.size ≤ 1 := by omega
    refine Or.inr ⟨q, rfl, E, ce, L9, ⟨k, hopq σ (t.heap.size - H.size) (hTot t.heap - hTot H), hE, h4 _ _ hi9 hj, ?_⟩, d1, d2, d3', d4', State.sameButNew.mono d5 (by omega) (by omega), d6⟩
    refine ⟨by rw [hsz_opq]; omega, by rw [hsl_opq]; omega, by rw [hsz_opq]; omega, by rw [hsl_opq]; omega, by have := r1.2.2.2.2.1; omega, fun q hq => by rw [hs2 q (by have := r1.2.2.2.2.1; omega)]; exact r1.2.2.2.2.2.1 q hq, fun b u hb => ?_⟩
    rw [hty_opq] at hb
    obtain ⟨cb, g1, g2, g3, g4, g5, g6, g7⟩ := r1.2.2.2.2.2.2 b u hb
    exact ⟨cb, by rw [hs2 b (Array.getElem?_eq_some_iff.mp g1).1]; exact g1, g2, g3, g4, g5, g6, g7⟩
/-- a call through an object in a method with handlers -/
theorem so_callVH (hm : mi y = (nm, cc, nL, ret, lev, hh)) (hM : mOk mi y2 nm2 cc2 nL2 ret2 lev2 n) (hlv : lev2 + 1 ≤ lev) {t idx : Nat} {C : String} (htt : t < 13) (htc : tcn t = C) (hcC : nm2.cls = C) {h9 : Nat → Option Nat}
    (hcat : ∀ k u, h9 k = some u → ∃ (pre suf : List ExceptionTableEntry) (x : ExceptionTableEntry), tableOf hh = pre ++ x :: suf ∧ (∀ z ∈ pre, covers z pc = false ∨ (z.catchType ≠ 0 ∧ ∃ nm9 : String, Cond.classLink nm.cls z.catchType nm9 ∈ lw_all ∧ (exN k, nm9) ∈ ncL)) ∧ covers x pc = true ∧ x.catchType ≠ 0 ∧ Cond.classLink nm.cls x.catchType (exN k) ∈ lw_all ∧ x.handlerPc = u)
    (hd : decode cc pc = .ok (.invokevirtual idx, 3)) (hw : Cond.methodLink nm.cls idx nm2 ∈ lw_all) (hs : Cond.instanceMethod nm2 ∈ lw_all) (hse : Cond.selects C nm2 nm2 ∈ lw_all) (hi : Cond.initialized C ∈ lw_all) : sOk l g D H0 mi y pc (s_callvh h9 y (pc + 3) y2 t n nL2) := by
  intro L st σ Q h p e R s m args below meth c C9 H locs cells slots ls r1 r2 r3
  obtain ⟨m1, m2, m3, m4, m5⟩ := hM
  unfold s_callvh at h
  split at h
  · rename_i b r hsp
    obtain ⟨ht, h2, h3, h4⟩ := h
    have hI := C9.2.2.2.2.2.2.2.2.2.1
    have c13 := C9.2.2.2.2.2.2.2.2.2.2.2.2.1
    have c14 := C9.2.2.2.2.2.2.2.2.2.2.2.2.2.1
    have hst := C9.2.2.2.2.2.2.2.2.2.2.2.2.2.2
    have hts := C9.2.2.2.2.2.1
    have hown : s.vm.findClass nm.cls = some m.cls := by have h5 := C9.2.2.2.2.1; rw [hm] at h5; exact h5
    have htb : c.exceptionTable.toList = tableOf hh := by have h5 := C9.2.2.2.2.2.2.2.1; rw [hm] at h5; exact h5
    have hls : ls.size = nL := by have h5 := r2.1; rw [hm] at h5; exact h5
    have z3 := r1.2.2.1
    have z4 := r1.2.2.2.1
    have z0 := r1.1
    have z9 := r1.2.1
    have hlen : n < st.length := by
      have h9 := congrArg List.length hsp
      rw [List.length_drop, List.length_cons] at h9
      omega
    have hn0 : (st.take n).reverse.length = n := by rw [List.length_reverse, List.length_take]; omega
    obtain ⟨cell, b1, b2, b3, b4, b5, b6, b7⟩ := r1.2.2.2.2.2.2 b t ht
    have hfc := fc_of (t := t) hI (Or.inl htt)
    rw [htc] at hfc
    have hrecv : ∃ cellB : Cell, H[b]? = some cellB ∧ cellB.vm.isStatics = false ∧ s.vm.findClass C = some cellB.cls := ⟨cell, b1, b4, by rw [b2]; exact hfc⟩
    refine w_tight fun z1 z2 => ?_
    have hmet := met_of (vs := .ref b :: (st.take n).reverse) hst m1 m2 (by rw [csum_lg]; unfold csum at h2 ⊢; rw [List.map_cons, List.sum_cons] at h2 ⊢; rw [List.map_reverse, List.sum_reverse]; exact h2) z3 z4 h4
    refine run_go (vx_runV (C := C) (b := b) (As := (st.take n).reverse) (rest := r) (fix_of hm C9) hmet (cwV n hts (lw_V hw hs hse hi m5) rfl rfl rfl ⟨hcC, m3⟩ (room_of hm C9 hlv m4)) ⟨pcO_blind, hrecv, pcO_at hI r1⟩ rfl hn0 hls (by rw [List.reverse_reverse, ← hsp, List.take_append_drop]) (lv_room h3) hd ⟨by omega, by omega⟩) r3 (fun v σ' H' locs' c' s' hq r1' r3' => hq p e R s m args below meth c C9 H' locs' c' s' ls r1' r2 r3') ?_
    intro k σ' H' locs' c' s' q ce hq r1' r3' hce hcv hcl
    have hq2 : (match h9 k with
      | some u => ∀ q : Nat, sW l g D H0 mi y u L [.ref q] σ' Q
      | none => False) := hq
    cases hk : h9 k with
    | none => rw [hk] at hq2; exact hq2.elim
    | some u =>
      rw [hk] at hq2
      obtain ⟨pre, suf, x, e1, e2, e3, e4, e5, e6⟩ := hcat k u hk
      refine vx_catch hown pre x suf (by rw [htb]; exact e1) (fun z hz => ?_) e3 e4 (hts _ e5) (nw_of hI (exc_self k) rfl rfl) hce hcv hcl ?_
      · rcases e2 z hz with q | ⟨q1, nm9, q2, q3⟩
        · exact Or.inl q
        · exact Or.inr ⟨q1, nm9, hts _ q2, hI.2.2.2.2.2.2.2.2.2.2.2.2.2.1 _ q3⟩
      · rw [e6]
        exact hq2 q p e R s m args below meth c C9 H' locs' c' s' ls r1' r2 r3'
  · exact h.elim
end THR
