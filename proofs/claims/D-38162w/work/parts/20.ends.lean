/-! returns, throws, calls -/
section ENDS
variable {l : Launch} {g : GC} {D : va_G} {H0 : Heap} {mi : Nat → MI} {y pc : Nat} {nm : MethodName} {cc : ByteArray} {nL lev : Nat} {ret : Option FieldType} {hh : List (Nat × Nat × Nat × Nat)}
theorem so_iret (hm : mi y = (nm, cc, nL, some .int, lev, hh)) (hd : decode cc pc = .ok (.ireturn, 1)) : sOk l g D H0 mi y pc (s_ret (fun v => vI v = true)) := by
  intro L st σ Q h p e R s m args below meth c C9 H locs cells slots ls r1 r2 r3
  unfold s_ret at h
  split at h
  · rename_i v
    obtain ⟨h1, h2⟩ := h
    have hr : meth.sig.returnType = some .int := by have h5 := C9.2.2.1; rw [hm] at h5; exact h5
    have hlk := C9.2.2.2.2.2.2.1
    have z3 := r1.2.2.1
    have z4 := r1.2.2.2.1
    have z0 := r1.1
    have z9 := r1.2.1
    refine w_tight fun z1 z2 => W.widen (k := gC g - s.heap.size) (n := gS g - hTot s.heap) (by omega) (by omega) (vx_ret ?_)
    cases v with
    | int x => exact W.iret C9.1 (by rw [C9.2.1, hm]) hr (fun t ht _ => ⟨some _, σ, rfl, h2, by rw [ht]; exact r1⟩) r3 hd hlk
    | _ => cases h1
  · exact h.elim
theorem so_zret (hm : mi y = (nm, cc, nL, some .boolean, lev, hh)) (hd : decode cc pc = .ok (.ireturn, 1)) : sOk l g D H0 mi y pc (s_ret vZ) := by
  intro L st σ Q h p e R s m args below meth c C9 H locs cells slots ls r1 r2 r3
  unfold s_ret at h
  split at h
  · rename_i v
    obtain ⟨h1, h2⟩ := h
    have hr : meth.sig.returnType = some .boolean := by have h5 := C9.2.2.1; rw [hm] at h5; exact h5
    have hlk := C9.2.2.2.2.2.2.1
    have z3 := r1.2.2.1
    have z4 := r1.2.2.2.1
    have z0 := r1.1
    have z9 := r1.2.1
    refine w_tight fun z1 z2 => W.widen (k := gC g - s.heap.size) (n := gS g - hTot s.heap) (by omega) (by omega) (vx_ret ?_)
    obtain ⟨x, rfl, hn, -⟩ := vZ_nar h1
    exact W.zret C9.1 (by rw [C9.2.1, hm]) hr hn (fun t ht _ => ⟨some _, σ, rfl, h2, by rw [ht]; exact r1⟩) r3 hd hlk
  · exact h.elim
theorem so_lret (hm : mi y = (nm, cc, nL, some .long, lev, hh)) (hd : decode cc pc = .ok (.lreturn, 1)) : sOk l g D H0 mi y pc (s_ret (fun v => vL v = true)) := by
  intro L st σ Q h p e R s m args below meth c C9 H locs cells slots ls r1 r2 r3
  unfold s_ret at h
  split at h
  · rename_i v
    obtain ⟨h1, h2⟩ := h
    have hr : meth.sig.returnType = some .long := by have h5 := C9.2.2.1; rw [hm] at h5; exact h5
    have hlk := C9.2.2.2.2.2.2.1
    have z3 := r1.2.2.1
    have z4 := r1.2.2.2.1
    have z0 := r1.1
    have z9 := r1.2.1
    refine w_tight fun z1 z2 => W.widen (k := gC g - s.heap.size) (n := gS g - hTot s.heap) (by omega) (by omega) (vx_ret ?_)
    cases v with
    | long x => exact W.lret C9.1 (by rw [C9.2.1, hm]) hr (fun t ht _ => ⟨some _, σ, rfl, h2, by rw [ht]; exact r1⟩) r3 hd hlk
    | _ => cases h1
  · exact h.elim
theorem so_dret (hm : mi y = (nm, cc, nL, some .double, lev, hh)) (hd : decode cc pc = .ok (.dreturn, 1)) : sOk l g D H0 mi y pc (s_ret (fun v => vD v = true)) := by
  intro L st σ Q h p e R s m args below meth c C9 H locs cells slots ls r1 r2 r3
  unfold s_ret at h
  split at h
  · rename_i v
    obtain ⟨h1, h2⟩ := h
    have hr : meth.sig.returnType = some .double := by have h5 := C9.2.2.1; rw [hm] at h5; exact h5
    have hlk := C9.2.2.2.2.2.2.1
    have z3 := r1.2.2.1
    have z4 := r1.2.2.2.1
    have z0 := r1.1
    have z9 := r1.2.1
    refine w_tight fun z1 z2 => W.widen (k := gC g - s.heap.size) (n := gS g - hTot s.heap) (by omega) (by omega) (vx_ret ?_)
    cases v with
    | double x => exact W.dret C9.1 (by rw [C9.2.1, hm]) hr (fun t ht _ => ⟨some _, σ, rfl, h2, by rw [ht]; exact r1⟩) r3 hd hlk
    | _ => cases h1
  · exact h.elim
theorem so_aret {rt : FieldType} (hm : mi y = (nm, cc, nL, some rt, lev, hh)) (hd : decode cc pc = .ok (.areturn, 1)) (hrt : (∃ n, rt = .object n) ∨ ∃ t, rt = .array t) : sOk l g D H0 mi y pc (s_ret (fun v => vRf v = true)) := by
  intro L st σ Q h p e R s m args below meth c C9 H locs cells slots ls r1 r2 r3
  unfold s_ret at h
  split at h
  · rename_i v
    obtain ⟨h1, h2⟩ := h
    have hr : meth.sig.returnType = some rt := by have h5 := C9.2.2.1; rw [hm] at h5; exact h5
    have hlk := C9.2.2.2.2.2.2.1
    have z3 := r1.2.2.1
    have z4 := r1.2.2.2.1
    have z0 := r1.1
    have z9 := r1.2.1
    refine w_tight fun z1 z2 => W.widen (k := gC g - s.heap.size) (n := gS g - hTot s.heap) (by omega) (by omega) (vx_ret ?_)
    exact W.aret C9.1 (by rw [C9.2.1, hm]) hr hrt (by cases v <;> first | exact Or.inl rfl | exact Or.inr ⟨_, rfl⟩ | cases h1) (fun t ht _ => ⟨some _, σ, rfl, h2, by rw [ht]; exact r1⟩) r3 hd hlk
  · exact h.elim
theorem so_vret (hm : mi y = (nm, cc, nL, none, lev, hh)) (hd : decode cc pc = .ok (.return_, 1)) : sOk l g D H0 mi y pc s_vret := by
  intro L st σ Q h p e R s m args below meth c C9 H locs cells slots ls r1 r2 r3
  unfold s_vret at h
  split at h
  · have hr : meth.sig.returnType = none := by have h5 := C9.2.2.1; rw [hm] at h5; exact h5
    have hlk := C9.2.2.2.2.2.2.1
    have z3 := r1.2.2.1
    have z4 := r1.2.2.2.1
    have z0 := r1.1
    have z9 := r1.2.1
    refine w_tight fun z1 z2 => W.widen (k := gC g - s.heap.size) (n := gS g - hTot s.heap) (by omega) (by omega) (vx_ret ?_)
    exact W.vret C9.1 (by rw [C9.2.1, hm]) hr (fun t ht _ => ⟨none, σ, rfl, h, by rw [ht]; exact r1⟩) r3 hd hlk
  · exact h.elim
/-! entries -/
theorem ent_mem (vs : List Value) : ∀ (i k : Nat) (v : Value), (vs.flatMap fun v => if v.category = 2 then [some v, none] else [some v])[k]? = some (some v) → (i + k, v) ∈ lv_args i vs := by
  induction vs with
  | nil => intro i k v h; simp at h
  | cons w vs ih =>
    intro i k v h
    rw [List.flatMap_cons] at h
    by_cases hc : w.category = 2
    · rw [if_pos hc] at h
      match k, h with
      | 0, h =>
        have h2 : some (some w) = some (some v) := h
        cases h2
        exact List.mem_cons_self
      | 1, h =>
        have h2 : some (none : Option Value) = some (some v) := h
        cases h2
      | k + 2, h =>
        have h2 : (vs.flatMap fun v => if v.category = 2 then [some v, none] else [some v])[k]? = some (some v) := h
        have h3 := ih (i + 2) k v h2
        refine List.mem_cons_of_mem _ ?_
        rw [if_pos hc, show i + (k + 2) = i + 2 + k by omega]
        exact h3
    · rw [if_neg hc] at h
      match k, h with
      | 0, h =>
        have h2 : some (some w) = some (some v) := h
        cases h2
        exact List.mem_cons_self
      | k + 1, h =>
        have h2 : (vs.flatMap fun v => if v.category = 2 then [some v, none] else [some v])[k]? = some (some v) := h
        have h3 := ih (i + 1) k v h2
        refine List.mem_cons_of_mem _ ?_
        rw [if_neg hc, show i + (k + 1) = i + 1 + k by omega]
        exact h3
theorem ent_len (vs : List Value) : (vs.flatMap fun v => if v.category = 2 then [some v, none] else [some v]).length = (lg_sl vs).length := by
  unfold lg_sl
  induction vs with
  | nil => rfl
  | cons w vs ih =>
    rw [List.flatMap_cons, List.flatMap_cons, List.length_append, List.length_append, ih]
    split <;> rfl
theorem lr_ent (vs : List Value) {n : Nat} (h : (lg_sl vs).length ≤ n) : lr ((lg_sl vs ++ List.replicate (n - (lg_sl vs).length) Slot.unset).toArray) n (ent n vs) := by
  obtain ⟨h1, h2, h3⟩ := lv_entry vs h
  refine ⟨h1, ?_, h2, fun k v hk => ?_⟩
  · unfold ent
    rw [List.length_append, List.length_replicate, ent_len]
    omega
  · unfold ent at hk
    by_cases hl : k < (vs.flatMap fun v => if v.category = 2 then [some v, none] else [some v]).length
    · rw [List.getElem?_append_left hl] at hk
      have h4 := h3 _ (ent_mem vs 0 k v hk)
      rw [Nat.zero_add] at h4
      exact h4
    · rw [List.getElem?_append_right (by omega)] at hk
      have h5 := List.eq_of_mem_replicate (List.mem_of_getElem? hk)
      cases h5
/-- the room of a method that stands before the abstract heap σ -/
def rmO (g : GC) (lev : Nat) (σ : AH) : Room := { frames := lev, cells := gC g - hsz σ, slots := gS g - hsl σ, locals := 428 * lev }
def pcO (g : GC) (D : va_G) (H0 : Heap) (vs : List Value) (σ : AH) : Array Value → State → Prop := fun av U => av = vs.toArray ∧ tI g D H0 U ∧ hR g D H0 σ U.heap
theorem pcO_blind {vs : List Value} {σ : AH} : FrameBlind (pcO g D H0 vs σ) := fun a U gf mk q => by
  obtain ⟨q1, q2, q3⟩ := q
  exact ⟨q1, tI_moved (s := U) (U := U.calling gf mk a) (State.WarmedH.refl U) (fun k hk => q2.2.2.2.2.2.2.2.2.2.2.2.2.2.2.1 k hk) q2.2.2.2.2.2.2.2.2.2.2.2.2.2.2.2.1 q2, q3⟩
theorem pcO_at {vs : List Value} {σ : AH} {s : State} {H : Heap} (hI : tI g D H0 s) (r1 : hR g D H0 σ H) : ∀ U : State, U.heap = H → s.WarmedH U.vm → pcO g D H0 vs σ vs.toArray U := fun U hU hW =>
  ⟨rfl, tI_moved hW (fun q hq => by rw [hU]; exact r1.2.2.2.2.2.1 q hq) (by rw [hU]; exact r1.2.2.2.2.1) hI, by rw [hU]; exact r1⟩
theorem vx_ofWF {y : MethodName} {ws ws' : List Cond} {rm : Room} {Pc : Array Value → State → Prop} {Qc : Array Value → State → Outcome → State → Prop} {XC : String → State → State → Prop} {mc ms : Nat} {free : Addr → Prop} {cc : ByteArray} {maxL : Nat} {ret : Option FieldType}
    (hy : plainFor y = true) (hw : ws = Cond.code y cc maxL ret :: ws')
    (body : ∀ p e s m args below meth c s₁, BodyLoose p l y (headSpec ws rm) cc maxL ret e s m args below meth c s₁ → c.maxLocals = maxL → (∀ x ∈ c.exceptionTable.toList, False) → Pc args s →
      W p l e (headSpec ws rm).room s m args below meth c s.heap [] 0 0 (vx_MQ below Qc XC args s mc ms free) (entryFrame m args maxL)) : vx_Met l y ws rm Pc Qc XC mc ms free := by
  refine MetFree.of_bodySF (code := cc) (maxLocals := maxL) (ret := ret) hy ?_ ?_
  · intro args s m h hn
    obtain ⟨meth, c, h1, h2, h3, h4, h5, h6, -, -⟩ := Cond.code_spec hn (atoms_spec (ws := ws) h _ (by rw [hw]; exact List.mem_cons_self))
    exact ⟨meth, c, h1, h2, h3, h4, h5, h6⟩
  · intro p e s m args below meth c s₁ B hml hP _
    have hh0 : s₁.heap = s.heap := by rw [B.state]; rfl
    have ht : ∀ x ∈ c.exceptionTable.toList, False := by
      obtain ⟨meth9, c9, h1, h2, -, -, -, -, h7, -⟩ := Cond.code_spec B.named (atoms_spec (ws := ws) B.pre _ (by rw [hw]; exact List.mem_cons_self))
      cases Option.some.inj (h1.symm.trans B.method)
      cases Option.some.inj (h2.symm.trans (Stand.of_body B).code)
      intro x hx
      rw [Array.isEmpty_iff.mp h7] at hx
      cases hx
    obtain ⟨t, a1, o, b1, b2, b3⟩ := body p e s m args below meth c s₁ B hml ht hP s₁ hh0 (Stand.of_body B)
    exact ⟨t, o, a1, b1, b2, b3⟩
/-- a contract out of an abstract run -/
theorem met_of (hst : l.stackTraces = false) (hm : mi y = (nm, cc, nL, ret, lev, [])) (hpl : plainFor nm = true) {vs : List Value} {σ : AH} {Q : AQ} (hn : (lg_sl vs).length ≤ nL) (hC : hsz σ ≤ gC g) (hS : hsl σ ≤ gS g) (h : sW l g D H0 mi y 0 (ent nL vs) [] σ Q) :
    vx_Met l nm (ws_ nm cc nL ret) (rmO g lev σ) (pcO g D H0 vs σ) (qC g D H0 Q) (qX g D H0 Q) (gC g - hsz σ) (gS g - hsl σ) (fun q => gB g ≤ q) := by
  refine vx_ofWF (cc := cc) (maxL := nL) (ret := ret) hpl rfl ?_
  intro p e s m args below meth c s₁ B hml ht hP
  obtain ⟨rfl, hI, r1⟩ := hP
  have hts := atoms_spec (ws := ws_ nm cc nL ret) B.pre
  have htb : c.exceptionTable.toList = [] := by
    cases hx : c.exceptionTable.toList with
    | nil => rfl
    | cons a b => exact (ht a (by rw [hx]; exact List.mem_cons_self)).elim
  rw [lg_entry_eq]
  have k := h p e (rmO g lev σ) s m vs.toArray below meth c (by
    rw [hm]
    exact ⟨B.exec, B.bytes, B.returns, hml, findClass_of_methodNamed B.named, fun w hw => hts w (List.mem_cons_of_mem _ hw), B.notSynchronized, htb, (name_of_methodNamed B.named B.method).1, hI, Nat.le_refl _, Nat.le_refl _, by show gC g ≤ s.heap.size + (gC g - hsz σ); rw [r1.1]; omega, by show gS g ≤ hTot s.heap + (gS g - hsl σ); rw [r1.2.1]; omega, hst⟩) s.heap [] 0 0 _ r1 (by rw [hm]; exact lr_ent vs hn) (fun z hz => by cases hz)
  rw [r1.1, r1.2.1] at k
  exact k
theorem met_ofH (hst : l.stackTraces = false) (hm : mi y = (nm, cc, nL, ret, lev, hh)) (hpl : plainName nm.cls = true) {vs : List Value} {σ : AH} {Q : AQ} (hn : (lg_sl vs).length ≤ nL) (hC : hsz σ ≤ gC g) (hS : hsl σ ≤ gS g) (h : sW l g D H0 mi y 0 (ent nL vs) [] σ Q) :
    vx_Met l nm (wsW_ nm cc nL ret hh) (rmO g lev σ) (pcO g D H0 vs σ) (qC g D H0 Q) (qX g D H0 Q) (gC g - hsz σ) (gS g - hsl σ) (fun q => gB g ≤ q) := by
  refine vx_ofWH (cc := cc) (maxL := nL) (ret := ret) (hh := hh) hpl rfl ?_
  intro p e s m args below meth c s₁ B hml hP
  obtain ⟨rfl, hI, r1⟩ := hP
  have hts := atoms_spec (ws := wsW_ nm cc nL ret hh) B.pre
  have htb : c.exceptionTable.toList = tableOf hh := vx_table (x := nm) B (hts _ List.mem_cons_self)
  rw [lg_entry_eq]
  have k := h p e (rmO g lev σ) s m vs.toArray below meth c (by
    rw [hm]
    exact ⟨B.exec, B.bytes, B.returns, hml, findClass_of_methodNamed B.named, fun w hw => hts w (List.mem_cons_of_mem _ hw), B.notSynchronized, htb, (name_of_methodNamed B.named B.method).1, hI, Nat.le_refl _, Nat.le_refl _, by show gC g ≤ s.heap.size + (gC g - hsz σ); rw [r1.1]; omega, by show gS g ≤ hTot s.heap + (gS g - hsl σ); rw [r1.2.1]; omega, hst⟩) s.heap [] 0 0 _ r1 (by rw [hm]; exact lr_ent vs hn) (fun z hz => by cases hz)
  rw [r1.1, r1.2.1] at k
  exact k
end ENDS
section BACK
variable {p : Program} {l : Launch} {e : Env} {R : Room} {s : State} {m : MethodId} {args : Array Value} {below : List Frame} {meth : Method} {c : Code} {H : Heap} {locs : List Loc} {cells slots : Nat} {Q9 : State → Prop} {g : GC} {D : va_G} {H0 : Heap}
theorem x_tight {gf : JFrame} {q : Addr} (k : s.heap.size ≤ H.size → hTot s.heap ≤ hTot H → vx_W p l e R s m args below meth c H locs (H.size - s.heap.size) (hTot H - hTot s.heap) Q9 gf q) : vx_W p l e R s m args below meth c H locs cells slots Q9 gf q := by
  intro T hT X
  obtain ⟨e1, e2, e3, e4, e5, e6⟩ := X.same
  have b1 : T.slotsUsed = hTot T.heap := by
    have h := X.book
    unfold State.slotsTrue at h
    exact (beq_iff_eq.mp h)
  have b2 : s.slotsUsed = hTot s.heap := by
    have h := X.room
    simp only [State.hasRoom, Bool.and_eq_true] at h
    exact (beq_iff_eq.mp h.2)
  have e4' : T.slotsUsed = s.slotsUsed + ((T.heap.toList.drop s.heap.size).map (·.slots.size)).sum := e4
  have e2' : s.heap.size ≤ T.heap.size := e2
  rw [b1, b2, hT] at e4'
  rw [hT] at e2'
  have X' : Stand p l e R s m args below meth c T locs (H.size - s.heap.size) (hTot H - hTot s.heap) := by
    refine { X with same := ⟨e1, e2, ?_, e4, ?_, e6⟩ }
    · show T.heap.size ≤ s.heap.size + (H.size - s.heap.size)
      rw [hT]
      omega
    · show ((T.heap.toList.drop s.heap.size).map (·.slots.size)).sum ≤ hTot H - hTot s.heap
      rw [hT]
      omega
  exact k e2' (by omega) T hT X'
/-- behind a call of n bytes -/
theorem run_go {n pc mc ms : Nat} {ls : Array Slot} {st0 rest : List Value} {Q' : AQ} {av : Array Value}
    (hr : ∀ T : State, T.heap = H → Stand p l e R s m args below meth c T locs cells slots →
      (∃ (v : Option Value) (st₀ t T' : State) (L : List Loc), st₀.heap = H ∧ Stand p l e R s m args below meth c T' (locs ++ L) (cells + mc) (slots + ms) ∧ (∀ q ∈ L, gB g ≤ q.base) ∧ T'.heap = t.heap ∧ T'.vm = t.vm ∧ qC g D H0 Q' av st₀ (.returned v) t ∧
        Goes p e below T (F0 m pc ls st0) T' { (F0 m pc ls st0) with pc := (F0 m pc ls st0).pc + n, stack := v.toList ++ rest }) ∨
      (∃ (q : Addr) (st₀ t T' : State) (L : List Loc) (E : String) (ce : Cell), st₀.heap = H ∧ Stand p l e R s m args below meth c T' (locs ++ L) (cells + mc) (slots + ms) ∧ (∀ z ∈ L, gB g ≤ z.base) ∧ T'.heap = t.heap ∧ T'.vm = t.vm ∧ qX g D H0 Q' E st₀ t ∧ t.heap[q]? = some ce ∧ ce.vm = .none ∧ s.vm.findClass E = some ce.cls ∧
        Steps p.tables e below (T.setTop (F0 m pc ls st0)) ((T'.setTop { (F0 m pc ls st0) with stack := rest }).pushFrame (.throwing q))))
    (r3 : ∀ z ∈ locs, gB g ≤ z.base)
    (kr : ∀ (v : Option Value) (σ : AH) (H' : Heap) (locs' : List Loc) (c' s' : Nat), Q' (.inl v) σ → hR g D H0 σ H' → (∀ z ∈ locs', gB g ≤ z.base) → W p l e R s m args below meth c H' locs' c' s' Q9 (F0 m (pc + n) ls (v.toList ++ rest)))
    (kx : ∀ (k : Nat) (σ : AH) (H' : Heap) (locs' : List Loc) (c' s' : Nat) (q : Addr) (ce : Cell), Q' (.inr k) σ → hR g D H0 σ H' → (∀ z ∈ locs', gB g ≤ z.base) → H'[q]? = some ce → ce.vm = .none → s.vm.findClass (exN k) = some ce.cls → vx_W p l e R s m args below meth c H' locs' c' s' Q9 (F0 m pc ls rest) q) :
    W p l e R s m args below meth c H locs cells slots Q9 (F0 m pc ls st0) := by
  intro T hT X
  rcases hr T hT X with ⟨v, st₀, t, T', L, h0, X', hL, e1, e2, ⟨v', σ, hv, hq, hR'⟩, st⟩ | ⟨q, st₀, t, T', L, E, ce, h0, X', hL, e1, e2, ⟨k, σ, rfl, hq, hR'⟩, hce, hcv, hcl, st⟩
  · cases hv
    obtain ⟨t2, a1, b1⟩ := kr v σ T'.heap (locs ++ L) _ _ hq (by rw [e1]; exact hR') (fun z hz => (List.mem_append.mp hz).elim (r3 z) (hL z)) T' rfl X'
    exact ⟨t2, st t2 a1, b1⟩
  · obtain ⟨t2, a1, b1⟩ := kx k σ T'.heap (locs ++ L) _ _ q ce hq (by rw [e1]; exact hR') (fun z hz => (List.mem_append.mp hz).elim (r3 z) (hL z)) (by rw [e1]; exact hce) hcv hcl T' rfl X'
    exact ⟨t2, st.trans a1, b1⟩
end BACK
