/-! references into arrays, casts, statics, Object's constructor, natives -/
section NAT
variable {l : Launch} {g : GC} {D : va_G} {H0 : Heap} {mi : Nat → MI} {y pc : Nat} {nm : MethodName} {cc : ByteArray} {nL lev : Nat} {ret : Option FieldType} {hh : List (Nat × Nat × Nat × Nat)}
/-- the classes whose objects may lie in an array of objects -/
theorem ob_cast {u : Nat} (hu : u < 13 ∨ u = 20) : Cond.castable (tcn u) "java/lang/Object" ∈ lw_tbl := by
  rcases hu with h | h
  · rcases (by omega : u = 0 ∨ u = 1 ∨ u = 2 ∨ u = 3 ∨ u = 4 ∨ u = 5 ∨ u = 6 ∨ u = 7 ∨ u = 8 ∨ u = 9 ∨ u = 10 ∨ u = 11 ∨ u = 12) with h | h | h | h | h | h | h | h | h | h | h | h | h <;> subst h
    · exact q1700
    · exact q1701
    · exact q1703
    · exact q1704
    · exact q1705
    · exact q1708
    · exact q1709
    · exact q1710
    · exact q1713
    · exact q1715
    · exact q1702
    · exact q1714
    · exact q1716
  · subst h
    exact q1722
theorem nw_of {w : Cond} {s : State} {args : Array Value} (hI : tI g D H0 s) (hw : w ∈ lw_tbl) (hk : nwk w = true) (ho : w.onTables = true) : w.before args s = true := va_Nw.use ho (hI.2.1 w (List.mem_filter.mpr ⟨hw, hk⟩))
theorem so_aastN (hm : mi y = (nm, cc, nL, ret, lev, hh)) (hd : decode cc pc = .ok (.aastore, 1)) : sOk l g D H0 mi y pc (s_ast g vOb y (pc + 1) 24) := by
  intro L st σ Q h p e R s m args below meth c C9 H locs cells slots ls r1 r2 r3
  unfold s_ast at h
  split at h
  · rename_i v i a r
    obtain ⟨h1, hB, h2, h3, h5, h4⟩ := h
    have hI := C9.2.2.2.2.2.2.2.2.2.1
    obtain ⟨cell, b1, b2, b3, b4, b5, b6, b7⟩ := r1.2.2.2.2.2.2 a 24 h1
    obtain ⟨b8, b9⟩ := b7 (by decide)
    cases v with
    | null => exact va_WaastN (C := "java/lang/Object") C9.1 (by rw [C9.2.1, hm]) b1 (isArr_of (a24.2 _ _ _ _ hI) b2 b4) b3 (idx_ok h2 (by rw [b8]; exact h3)) rfl rfl hd fun H' e1 e2 e3 => h4 p e R s m args below meth c C9 H' _ cells slots ls (hR_put r1 h1 hB b1 e1 e2 e3 (fun h20 => absurd h20 (by decide)) (fun _ => set_at b8 b9 h3)) r2 (r3_put r3 hB)
    | ref b =>
      obtain ⟨u, hu, hu2⟩ := h5
      obtain ⟨cv, d1, d2, d3, d4, d5, d6, d7⟩ := r1.2.2.2.2.2.2 b u hu
      obtain ⟨kA, comp, k1, k2, k3, -⟩ := (hI.1.2 4 _ rfl).2
      obtain ⟨kE, hkE, -⟩ := Vm.findClass_spec k3
      obtain ⟨c0, t1, f1, f2, f3⟩ := Cond.castable_spec (nw_of (args := args) hI (ob_cast hu2) rfl rfl)
      have hfc := fc_of (t := u) hI (by omega)
      cases hfc.symm.trans f1
      cases k3.symm.trans f2
      obtain ⟨kC, hkC, -⟩ := Vm.findClass_spec hfc
      exact W.aast C9.1 (by rw [C9.2.1, hm]) b1 (fun q z => by rw [z] at b4; cases b4) b3 (by rw [b2]; exact k1) k2 rfl hkE ⟨h2, by rw [b8]; exact h3⟩ d1 (fun q z => by rw [z] at d4; cases d4) (by rw [d2]; exact hkC) (by rw [d2]; exact f3) rfl rfl hd fun H' e1 e2 e3 => h4 p e R s m args below meth c C9 H' _ cells slots ls (hR_put r1 h1 hB b1 e1 e2 e3 (fun h20 => absurd h20 (by decide)) (fun _ => set_at b8 b9 h3)) r2 (r3_put r3 hB)
    | _ => exact h5.elim
  · exact h.elim
theorem so_aastI (hm : mi y = (nm, cc, nL, ret, lev, hh)) (hd : decode cc pc = .ok (.aastore, 1)) : sOk l g D H0 mi y pc (s_ast g vRow y (pc + 1) 25) := by
  intro L st σ Q h p e R s m args below meth c C9 H locs cells slots ls r1 r2 r3
  unfold s_ast at h
  split at h
  · rename_i v i a r
    obtain ⟨h1, hB, h2, h3, h5, h4⟩ := h
    have hI := C9.2.2.2.2.2.2.2.2.2.1
    obtain ⟨cell, b1, b2, b3, b4, b5, b6, b7⟩ := r1.2.2.2.2.2.2 a 25 h1
    obtain ⟨b8, b9⟩ := b7 (by decide)
    cases v with
    | ref b =>
      have hu : hty σ b = some 20 := h5
      obtain ⟨cv, d1, d2, d3, d4, d5, d6, d7⟩ := r1.2.2.2.2.2.2 b 20 hu
      obtain ⟨kA, comp, k1, k2, k3, -⟩ := hI.2.2.2.2.2.2.2.2.2.2.2.2.2.2.2.2.2.2.1
      obtain ⟨kE, hkE, -⟩ := Vm.findClass_spec k3
      have hfc := fc_of (t := 20) hI (Or.inr (by decide))
      have e9 : comp = D.1 20 := Option.some.inj (k3.symm.trans hfc)
      subst e9
      exact W.aast C9.1 (by rw [C9.2.1, hm]) b1 (fun q z => by rw [z] at b4; cases b4) b3 (by rw [b2]; exact k1) k2 rfl hkE ⟨h2, by rw [b8]; exact h3⟩ d1 (fun q z => by rw [z] at d4; cases d4) (by rw [d2]; exact hkE) (by rw [d2]; exact va_asg _ _) rfl rfl hd fun H' e1 e2 e3 => h4 p e R s m args below meth c C9 H' _ cells slots ls (hR_put r1 h1 hB b1 e1 e2 e3 (fun h20 => absurd h20 (by decide)) (fun _ => set_at b8 b9 h3)) r2 (r3_put r3 hB)
    | _ => exact h5.elim
  · exact h.elim
theorem so_cast (hm : mi y = (nm, cc, nL, ret, lev, hh)) {idx : Nat} {T : String} {ts : List Nat} (hts : ∀ t ∈ ts, (t < 13 ∨ (20 ≤ t ∧ t < 26)) ∧ (tcn t = T ∨ Cond.castable (tcn t) T ∈ lw_tbl)) (hd : decode cc pc = .ok (.checkcast idx, 3)) (hw : Cond.classLink nm.cls idx T ∈ lw_all) : sOk l g D H0 mi y pc (s_cast y (pc + 3) ts) := by
  intro L st σ Q h p e R s m args below meth c C9 H locs cells slots ls r1 r2 r3
  have hown : s.vm.findClass nm.cls = some m.cls := by have h5 := C9.2.2.2.2.1; rw [hm] at h5; exact h5
  have hI := C9.2.2.2.2.2.2.2.2.2.1
  unfold s_cast at h
  split at h
  · exact lv_castN C9.1 (by rw [C9.2.1, hm]) hd (h p e R s m args below meth c C9 H locs cells slots ls r1 r2 r3)
  · rename_i a r
    obtain ⟨⟨t, ht, h1⟩, h2⟩ := h
    obtain ⟨cell, b1, b2, b3, b4, b5, b6, b7⟩ := r1.2.2.2.2.2.2 a t h1
    obtain ⟨h3, h4⟩ := hts t ht
    have hfc := fc_of (t := t) hI h3
    have key : ∃ cT, s.vm.findClass T = some cT ∧ s.vm.assignable (D.1 t) cT = true := by
      rcases h4 with h4 | h4
      · rw [h4] at hfc
        exact ⟨_, hfc, va_asg _ _⟩
      · obtain ⟨c0, t1, f1, f2, f3⟩ := Cond.castable_spec (nw_of (args := args) hI h4 rfl rfl)
        cases hfc.symm.trans f1
        exact ⟨t1, f2, f3⟩
    obtain ⟨cT, k1, k2⟩ := key
    intro T9 hT X
    obtain ⟨vm', X', st9⟩ := X.checkcastYes C9.1 hown (C9.2.2.2.2.2.1 _ hw) (by rw [hT]; exact b1) b4 k1 (by rw [b2]; exact k2) (g := F0 m pc ls (.ref a :: r)) rfl rfl (by rw [C9.2.1, hm]; exact hd)
    obtain ⟨t9, a1, a2⟩ := h2 p e R s m args below meth c C9 H locs cells slots ls r1 r2 r3 (T9.setVm vm') hT X'
    exact ⟨t9, st9 t9 a1, a2⟩
  · exact h.elim
theorem sS_of {σ : AH} {s : State} {H : Heap} {locs : List Loc} (hI : tI g D H0 s) (r1 : hR g D H0 σ H) (r3 : ∀ z ∈ locs, gB g ≤ z.base) (z1 : s.heap.size ≤ H.size) : va_S (fun q => gB g ≤ q) s.heap H locs :=
  ⟨z1, fun q _ hn => by rw [r1.2.2.2.2.2.1 q (by omega), hI.2.2.2.2.2.2.2.2.2.2.2.2.2.2.1 q (by omega)], r3⟩
theorem so_gets0 (hm : mi y = (nm, cc, nL, ret, lev, hh)) {idx : Nat} (hd : decode cc pc = .ok (.getstatic idx, 3)) (hw : Cond.fieldLink nm.cls idx "java/util/ArrayList" "DEFAULTCAPACITY_EMPTY_ELEMENTDATA" "[Ljava/lang/Object;" ∈ lw_all) : sOk l g D H0 mi y pc (s_const y (pc + 3) (.ref (gV g 0))) := by
  intro L st σ Q h p e R s m args below meth c C9 H locs cells slots ls r1 r2 r3
  have hown : s.vm.findClass nm.cls = some m.cls := by have h5 := C9.2.2.2.2.1; rw [hm] at h5; exact h5
  have hI := C9.2.2.2.2.2.2.2.2.2.1
  exact w_tight fun z1 z2 => va_gets C9.1 (by rw [C9.2.1, hm]) hI.2.2.2.2.2.1 (sS_of hI r1 r3 z1) hown (C9.2.2.2.2.2.1 _ hw) (fun _ h => h) hd (h p e R s m args below meth c C9 H locs _ _ ls r1 r2 r3)
theorem so_gets1 (hm : mi y = (nm, cc, nL, ret, lev, hh)) {idx : Nat} (hd : decode cc pc = .ok (.getstatic idx, 3)) (hw : Cond.fieldLink nm.cls idx "java/util/ArrayList" "EMPTY_ELEMENTDATA" "[Ljava/lang/Object;" ∈ lw_all) : sOk l g D H0 mi y pc (s_const y (pc + 3) (.ref (gV g 1))) := by
  intro L st σ Q h p e R s m args below meth c C9 H locs cells slots ls r1 r2 r3
  have hown : s.vm.findClass nm.cls = some m.cls := by have h5 := C9.2.2.2.2.1; rw [hm] at h5; exact h5
  have hI := C9.2.2.2.2.2.2.2.2.2.1
  exact w_tight fun z1 z2 => va_gets C9.1 (by rw [C9.2.1, hm]) hI.2.2.2.2.2.2.1 (sS_of hI r1 r3 z1) hown (C9.2.2.2.2.2.1 _ hw) (fun _ h => h) hd (h p e R s m args below meth c C9 H locs _ _ ls r1 r2 r3)
theorem so_gets2 (hm : mi y = (nm, cc, nL, ret, lev, hh)) {idx : Nat} (hd : decode cc pc = .ok (.getstatic idx, 3)) (hw : Cond.fieldLink nm.cls idx "java/lang/Integer$IntegerCache" "cache" "[Ljava/lang/Integer;" ∈ lw_all) : sOk l g D H0 mi y pc (s_const y (pc + 3) (.ref (gV g 2))) := by
  intro L st σ Q h p e R s m args below meth c C9 H locs cells slots ls r1 r2 r3
  have hown : s.vm.findClass nm.cls = some m.cls := by have h5 := C9.2.2.2.2.1; rw [hm] at h5; exact h5
  have hI := C9.2.2.2.2.2.2.2.2.2.1
  exact w_tight fun z1 z2 => va_gets C9.1 (by rw [C9.2.1, hm]) hI.2.2.2.2.2.2.2.2.1 (sS_of hI r1 r3 z1) hown (C9.2.2.2.2.2.1 _ hw) (fun _ h => h) hd (h p e R s m args below meth c C9 H locs _ _ ls r1 r2 r3)
theorem so_gets3 (hm : mi y = (nm, cc, nL, ret, lev, hh)) {idx : Nat} (hd : decode cc pc = .ok (.getstatic idx, 3)) (hw : Cond.fieldLink nm.cls idx "java/lang/Integer$IntegerCache" "high" "I" ∈ lw_all) : sOk l g D H0 mi y pc (s_const y (pc + 3) (.int 127)) := by
  intro L st σ Q h p e R s m args below meth c C9 H locs cells slots ls r1 r2 r3
  have hown : s.vm.findClass nm.cls = some m.cls := by have h5 := C9.2.2.2.2.1; rw [hm] at h5; exact h5
  have hI := C9.2.2.2.2.2.2.2.2.2.1
  exact w_tight fun z1 z2 => va_gets C9.1 (by rw [C9.2.1, hm]) hI.2.2.2.2.2.2.2.1 (sS_of hI r1 r3 z1) hown (C9.2.2.2.2.2.1 _ hw) (fun _ h => h) hd (h p e R s m args below meth c C9 H locs _ _ ls r1 r2 r3)
theorem so_oinit (hm : mi y = (nm, cc, nL, ret, lev, hh)) (hl : 1 ≤ lev) {idx : Nat} (hd : decode cc pc = .ok (.invokespecial idx, 3)) (hw : Cond.methodLink nm.cls idx Lib.objectInit ∈ lw_all) (hi : Cond.instanceMethod Lib.objectInit ∈ lw_all) (hcd : Cond.code Lib.objectInit ⟨#[0xb1]⟩ 1 none ∈ lw_all) : sOk l g D H0 mi y pc (s_oinit y (pc + 3)) := by
  intro L st σ Q h p e R s m args below meth c C9 H locs cells slots ls r1 r2 r3
  have hown : s.vm.findClass nm.cls = some m.cls := by have h5 := C9.2.2.2.2.1; rw [hm] at h5; exact h5
  have hts := C9.2.2.2.2.2.1
  have c11 := C9.2.2.2.2.2.2.2.2.2.2.1
  have c12 : 428 * lev ≤ R.locals := by have h5 := C9.2.2.2.2.2.2.2.2.2.2.2.1; rw [hm] at h5; exact h5
  have hml := C9.2.2.2.1
  rw [hm] at c11 hml
  have hls := r2.1
  rw [hm] at hls
  unfold s_oinit at h
  split at h
  · rename_i a r
    obtain ⟨h1, h2⟩ := h
    unfold csum at h1
    refine W.objInit C9.1 (by rw [C9.2.1, hm]) hown (hts _ hw) (hts _ hi) (hts _ hcd) rfl (by rw [hml]; exact hls) rfl hd (Nat.le_trans hl c11) ?_ (W.eq (g2 := F0 m (pc + 3) ls r) rfl (h2 p e R s m args below meth c C9 H locs cells slots ls r1 r2 r3))
    show 2 * 0 + (r.map fun v => v.category).sum + 12 ≤ R.locals
    have : 428 * 1 ≤ 428 * lev := Nat.mul_le_mul_left _ hl
    omega
  · exact h.elim
/-! natives -/
theorem nn_int {z : Int32} (hz : ¬ z < 0) : z.toInt = (z.toNatClampNeg : Int) := by
  have hz0 : (0 : Int) ≤ z.toInt := by
    have := Int32.not_lt.mp hz
    simpa using Int32.le_iff_toInt_le.mp this
  show z.toInt = ((z.toInt.toNat : Nat) : Int)
  omega
/-- what an element of an array must be, to be copied into one of the tag t -/
def eOk (t : Nat) (ty : FieldType) (ok : AH → Value → Prop) : Prop := ∀ (g : GC) (D : va_G) (H0 : Heap) (s : State) (σ : AH) (H : Heap) (T : State) (comp : ClassId) (v : Value), tI g D H0 s → hR g D H0 σ H → T.heap = H → s.vm.Alike T.vm → (∃ k, s.vm.classes[D.1 t]? = some k ∧ k.kind = .array comp ty) → ok σ v → fits ty v = true ∧ T.takes comp v
theorem e20 : eOk 20 .int (fun _ v => vI v = true) := by
  intro g D H0 s σ H T comp v _ _ _ _ _ h
  cases v with
  | int x => exact ⟨rfl, trivial⟩
  | _ => cases h
theorem e21 : eOk 21 .boolean (fun _ v => vZ v) := by
  intro g D H0 s σ H T comp v _ _ _ _ _ h
  obtain ⟨x, rfl, -, hf⟩ := vZ_nar h
  exact ⟨hf, trivial⟩
theorem e24 : eOk 24 (.object "java/lang/Object") vOb := by
  intro g D H0 s σ H T comp v hI r1 hT hA hk h
  cases v with
  | null => exact ⟨rfl, trivial⟩
  | ref b =>
    refine ⟨rfl, ?_⟩
    obtain ⟨u, hu, hu2⟩ := h
    obtain ⟨cv, d1, d2, d3, d4, d5, d6, d7⟩ := r1.2.2.2.2.2.2 b u hu
    obtain ⟨kA, comp', k1, k2, k3, -⟩ := (hI.1.2 4 _ rfl).2
    obtain ⟨kk, hk1, hk2⟩ := hk
    cases k1.symm.trans hk1
    cases k2.symm.trans hk2
    obtain ⟨kE, hkE, -⟩ := Vm.findClass_spec k3
    obtain ⟨c0, t1, f1, f2, f3⟩ := Cond.castable_spec (nw_of (args := #[]) hI (ob_cast hu2) rfl rfl)
    have hfc := fc_of (t := u) hI (by omega)
    cases hfc.symm.trans f1
    cases k3.symm.trans f2
    obtain ⟨kC, hkC, -⟩ := Vm.findClass_spec hfc
    obtain ⟨kC', hkC', -⟩ := hA.2.2 _ _ hkC
    obtain ⟨kE', hkE', -⟩ := hA.2.2 _ _ hkE
    exact ⟨cv, by rw [hT]; exact d1, fun q z => (by rw [z] at d4; cases d4), ⟨kC', by rw [d2]; exact hkC'⟩, ⟨kE', hkE'⟩, by rw [d2, hA.assignable]; exact f3⟩
  | _ => exact h.elim
/-- a run of one cell is written -/
theorem hR_cpy {g : GC} {D : va_G} {H0 : Heap} {σ : AH} {H H' : Heap} {s d t sp dp n : Nat} {cs cd : Cell} (r : hR g D H0 σ H) (ht : 20 ≤ t) (hts : hty σ s = some t) (htd : hty σ d = some t) (hB : gB g ≤ d) (q0 : H[s]? = some cs) (q1 : H[d]? = some cd) (e1 : H'[d]? = some (cd.storeRun dp (cs.stretch sp n))) (e2 : H'.size = H.size) (e3 : ∀ q : Nat, q ≠ d → H'[q]? = H[q]?) (h4 : sp + n ≤ hln σ s) (h5 : dp + n ≤ hln σ d) : hR g D H0 (hcpy σ t s sp d dp n) H' := by
  obtain ⟨r1, r2, r3, r4, r5, r6, r7⟩ := r
  obtain ⟨f1, f2, f3, f4, f5⟩ := Cell.storeRun_facts cd dp (cs.stretch sp n)
  have hsl : (cs.stretch sp n).length = n := by simp [Cell.stretch]
  refine ⟨by rw [e2]; exact r1, ?_, r3, r4, by rw [e2]; exact r5, fun q hq => by rw [e3 q (by omega)]; exact r6 q hq, fun b u hb => ?_⟩
  · rw [hTot_congr e2 (fun q c c' h1 h2 => ?_)]
    · exact r2
    · by_cases hq : q = d
      · subst hq
        rw [e1] at h2
        rw [q1] at h1
        cases h1
        cases h2
        exact f3
      · rw [e3 q hq, h1] at h2
        cases h2
        rfl
  · rw [hty_cpy] at hb
    obtain ⟨cb, b1, b2, b3, b4, b5, b6, b7⟩ := r7 b u hb
    by_cases hba : b = d
    · subst hba
      cases htd.symm.trans hb
      cases q1.symm.trans b1
      obtain ⟨c9, c1, c2, c3, c4, c5, c6, c7⟩ := r7 s t hts
      cases q0.symm.trans c1
      obtain ⟨b8, b9⟩ := b7 ht
      obtain ⟨c8, c10⟩ := c7 ht
      refine ⟨_, e1, by rw [f1]; exact b2, by rw [f2]; exact b3, by rw [f2]; exact b4, fun z => by rw [f2]; exact b5 z, fun h20 => absurd ht (by omega), fun _ => ⟨by rw [f3]; exact b8, fun j hj => ?_⟩⟩
      rw [Cell.storeRun_get _ _ _ _ (by rw [hsl, b8]; exact h5), hsl, hv_cpy]
      by_cases hj2 : dp ≤ j ∧ j < dp + n
      · rw [if_pos hj2, if_pos ⟨rfl, rfl, hj2.1, hj2.2⟩]
        have hlt : j - dp < n := by omega
        rw [Cell.stretch, List.getElem?_map, List.getElem?_range hlt, Option.map_some, Array.getD_eq_getD_getElem?, c10 _ (by omega)]
        rfl
      · rw [if_neg hj2, if_neg (fun z => hj2 z.2.2)]
        exact b9 j hj
    · refine ⟨cb, by rw [e3 b hba]; exact b1, b2, b3, b4, b5, fun h20 j hj => ?_, fun h20 => ⟨(b7 h20).1, fun j hj => ?_⟩⟩
      · rw [hv_cpy, if_neg (fun z => hba z.2.1)]
        exact b6 h20 j hj
      · rw [hv_cpy, if_neg (fun z => hba z.2.1)]
        exact (b7 h20).2 j hj
theorem so_acopy (hm : mi y = (nm, cc, nL, ret, lev, hh)) (hl : 1 ≤ lev) {t : Nat} {ty : FieldType} {ok : AH → Value → Prop} (ha : aOk t ty) (he : eOk t ty ok) {idx : Nat} (hd : decode cc pc = .ok (.invokestatic idx, 3)) (hw : Cond.methodLink nm.cls idx arraycopyName ∈ lw_all) (hn : Cond.native arraycopyName ∈ lw_all) (hs : Cond.static arraycopyName ∈ lw_all) (hi : Cond.initialized "java/lang/System" ∈ lw_all) : sOk l g D H0 mi y pc (s_acopy g ok y (pc + 3) t) := by
  intro L st σ Q h p e R s m args below meth c C9 H locs cells slots ls r1 r2 r3
  have hown : s.vm.findClass nm.cls = some m.cls := by have h5 := C9.2.2.2.2.1; rw [hm] at h5; exact h5
  have hts := C9.2.2.2.2.2.1
  have hI := C9.2.2.2.2.2.2.2.2.2.1
  have c11 : lev ≤ R.frames := by have h5 := C9.2.2.2.2.2.2.2.2.2.2.1; rw [hm] at h5; exact h5
  have c12 : 428 * lev ≤ R.locals := by have h5 := C9.2.2.2.2.2.2.2.2.2.2.2.1; rw [hm] at h5; exact h5
  have hml : c.maxLocals = nL := by have h5 := C9.2.2.2.1; rw [hm] at h5; exact h5
  have hls : ls.size = nL := by have h5 := r2.1; rw [hm] at h5; exact h5
  unfold s_acopy at h
  split at h
  · rename_i k dp d sp s9 r
    obtain ⟨h1, h2, h3, h4, h5, h6, h7, h8, h9, h10, h11⟩ := h
    unfold csum at h4
    obtain ⟨cs, b1, b2, b3, b4, b5, b6, b7⟩ := r1.2.2.2.2.2.2 s9 t h1
    obtain ⟨cd, d1, d2, d3, d4, d5, d6, d7⟩ := r1.2.2.2.2.2.2 d t h2
    obtain ⟨b8, b9⟩ := b7 ha.1
    obtain ⟨d8, d9⟩ := d7 ha.1
    obtain ⟨-, k0, hk0, cm0, hkk0⟩ := ha.2 _ _ _ _ hI 0 (fun _ => .null)
    have hnw : nativeFrameWords "java/lang/System" "arraycopy" 5 + 11 ≤ 400 := by decide
    have hrr : (refKind ty != refKind ty || !refKind ty && ty != ty) = false := by simp
    intro T hT X
    obtain ⟨vm', X', step⟩ := X.arraycopy C9.1 hown (hts _ hw) (hts _ hn) (hts _ hs) (hts _ hi) (src := s9) (dst := d) (cs := cs) (cd := cd) (srcPos := sp) (destPos := dp) (n := k) (by rw [hT]; exact b1) (by rw [hT]; exact d1)
      (fun q z => by rw [z] at b4; cases b4) (fun q z => by rw [z] at d4; cases d4) b3 d3 (by rw [b2]; exact hk0) (by rw [d2]; exact hk0) hkk0 hkk0 hrr h6 h7 h5
      (by rw [nn_int h6, nn_int h5, b8]; omega) (by rw [nn_int h7, nn_int h5, d8]; omega)
      (fun vm₁ hal i hi9 => by
        have ev : cs.slots.getD (sp.toNatClampNeg + i) .null = hv σ t s9 (sp.toNatClampNeg + i) := by
          rw [Array.getD_eq_getD_getElem?, b9 _ (by omega)]
          rfl
        rw [ev]
        exact he g D H0 s σ H (T.setVm vm₁) cm0 _ hI r1 hT hal ⟨k0, hk0, hkk0⟩ (h10 i hi9))
      (g := F0 m pc ls (.int k :: .int dp :: .ref d :: .int sp :: .ref s9 :: r)) rfl (by rw [hml, hls]) (rest := r) rfl (by rw [C9.2.1, hm]; exact hd) (by omega) (by show 2 * 0 + _ + _ ≤ _; omega)
    have hdlt : d < T.heap.size := by rw [hT]; exact (Array.getElem?_eq_some_iff.mp d1).1
    have g1 : ((T.setVm vm').setCell d (copied cs cd sp dp k)).heap[d]? = some (copied cs cd sp dp k) := heapAt_setCell_self _ hdlt
    have g2 : ((T.setVm vm').setCell d (copied cs cd sp dp k)).heap.size = H.size := by rw [size_setCell]; show T.heap.size = H.size; rw [hT]
    have g3 : ∀ q : Nat, q ≠ d → ((T.setVm vm').setCell d (copied cs cd sp dp k)).heap[q]? = H[q]? := fun q hq => by
      rw [heapAt_setCell_ne _ (Ne.symm hq)]
      show T.heap[q]? = H[q]?
      rw [hT]
    obtain ⟨t9, a1, a2⟩ := h11 p e R s m args below meth c C9 _ _ cells slots ls (hR_cpy r1 ha.1 h1 h2 h3 b1 d1 g1 g2 g3 h8 h9) r2 (fun z hz => by
      rcases List.mem_append.mp hz with q | q
      · exact r3 z q
      · obtain ⟨w, -, hw2⟩ := List.mem_map.mp q
        rw [← hw2]
        exact h3) _ rfl X'
    exact ⟨t9, step t9 a1, a2⟩
  · exact h.elim
theorem so_clone (hm : mi y = (nm, cc, nL, ret, lev, hh)) (hl : 1 ≤ lev) {t : Nat} {ty : FieldType} {ok : AH → Value → Prop} (ht : 20 ≤ t ∧ t < 26) (ha : aOk t ty) (hf : ∀ σ v, ok σ v → fits ty v = true) {idx : Nat} {ad : String} (had : tcn t = ad) (hd : decode cc pc = .ok (.invokevirtual idx, 3)) (hw : Cond.methodLink nm.cls idx ⟨ad, "clone", "()Ljava/lang/Object;"⟩ ∈ lw_all) (hsm : Cond.sameMethod ad "java/lang/Object" "clone" "()Ljava/lang/Object;" ∈ lw_all) (hn : Cond.native ⟨"java/lang/Object", "clone", "()Ljava/lang/Object;"⟩ ∈ lw_all) (hi : Cond.instanceMethod ⟨"java/lang/Object", "clone", "()Ljava/lang/Object;"⟩ ∈ lw_all) (hse : Cond.selects ad ⟨ad, "clone", "()Ljava/lang/Object;"⟩ ⟨"java/lang/Object", "clone", "()Ljava/lang/Object;"⟩ ∈ lw_all) (hca : Cond.castable ad "java/lang/Cloneable" ∈ lw_tbl) : sOk l g D H0 mi y pc (s_clone g ok y (pc + 3) t) := by
  intro L st σ Q h p e R s m args below meth c C9 H locs cells slots ls r1 r2 r3
  have hown : s.vm.findClass nm.cls = some m.cls := by have h5 := C9.2.2.2.2.1; rw [hm] at h5; exact h5
  have hts := C9.2.2.2.2.2.1
  have hI := C9.2.2.2.2.2.2.2.2.2.1
  have c11 : lev ≤ R.frames := by have h5 := C9.2.2.2.2.2.2.2.2.2.2.1; rw [hm] at h5; exact h5
  have c12 : 428 * lev ≤ R.locals := by have h5 := C9.2.2.2.2.2.2.2.2.2.2.2.1; rw [hm] at h5; exact h5
  have c13 := C9.2.2.2.2.2.2.2.2.2.2.2.2.1
  have c14 := C9.2.2.2.2.2.2.2.2.2.2.2.2.2.1
  have hml : c.maxLocals = nL := by have h5 := C9.2.2.2.1; rw [hm] at h5; exact h5
  have hls : ls.size = nL := by have h5 := r2.1; rw [hm] at h5; exact h5
  unfold s_clone at h
  split at h
  · rename_i a r
    obtain ⟨h1, h2, h3, h4, h5, h6⟩ := h
    unfold csum at h2
    obtain ⟨cell, b1, b2, b3, b4, b5, b6, b7⟩ := r1.2.2.2.2.2.2 a t h1
    obtain ⟨b8, b9⟩ := b7 ha.1
    have hnm := fc_of (t := t) hI (Or.inr ht)
    rw [had] at hnm
    obtain ⟨c0, t0', f1, f2, f3⟩ := Cond.castable_spec (nw_of (args := args) hI hca rfl rfl)
    cases hnm.symm.trans f1
    have z0 := r1.1
    have z9 := r1.2.1
    refine w_tight fun z1 z2 => ?_
    intro T hT X
    have hcellT : T.heap[a]? = some cell := by rw [hT]; exact b1
    obtain ⟨-, kA, hkA, comp, hkind⟩ := State.isArrayOf_alike X.warmed.alike (ha.2 _ _ _ _ hI 0 (fun _ => .null))
    obtain ⟨-, kS, hkS, compS, hkindS⟩ := ha.2 _ _ _ _ hI 0 (fun _ => .null)
    obtain ⟨vm', X', st9⟩ := X.cloneArray C9.1 hown (hts _ hw) (hts _ hsm) (hts _ hn) (hts _ hi) (hts _ hse) (a := a) (cell := cell) hcellT (fun k z => by rw [z] at b4; cases b4) b3 (by rw [b2]; exact hnm) f2 (by rw [b2]; exact f3)
      (fun i v hv9 => by
        rw [b2]
        have hk' : T.vm.classes[D.1 t]? = some kA := hkA
        have hi9 : i < hln σ a := by rw [← b8]; exact (Array.getElem?_eq_some_iff.mp hv9).1
        have hv8 : v = hv σ t a i := Option.some.inj (hv9.symm.trans (b9 i hi9))
        have hfit := hf σ v (by rw [hv8]; exact h5 i hi9)
        simpa [State.fitsSlot, State.slotType?, hk', hkind] using hfit)
      (g := F0 m pc ls (.ref a :: r)) rfl (by rw [hml, hls]) rfl (by rw [C9.2.1, hm]; exact hd) (by omega) (by show 2 * 0 + _ + 14 ≤ _; omega) (by omega) (by rw [b8]; omega) (hloader := by rw [b2]; exact Vm.clonesLoader_of_array hkS hkindS)
    obtain ⟨t9, a1, a2⟩ := h6 p e R s m args below meth c C9 (H.push { cls := cell.cls, slots := cell.slots }) locs _ _ ls (hR_new r1 h3 h4 b2 rfl b8 (fun h20 => absurd ha.1 (by omega)) (fun _ => ⟨rfl, b9⟩)) r2 r3 _ (by first | rfl | (rw [← hT]; rfl)) X'
    refine ⟨t9, st9 t9 ?_, a2⟩
    rw [← z0, ← hT] at a1
    exact a1
  · exact h.elim
/-- getClass() of an array of objects -/
theorem so_getcA (hm : mi y = (nm, cc, nL, ret, lev, hh)) (hl : 1 ≤ lev) {idx : Nat} (hd : decode cc pc = .ok (.invokevirtual idx, 3)) (hw : Cond.methodLink nm.cls idx ⟨"java/lang/Object", "getClass", "()Ljava/lang/Class;"⟩ ∈ lw_all) (hse : Cond.selects "[Ljava/lang/Object;" ⟨"java/lang/Object", "getClass", "()Ljava/lang/Class;"⟩ ⟨"java/lang/Object", "getClass", "()Ljava/lang/Class;"⟩ ∈ lw_all) (hi : Cond.instanceMethod ⟨"java/lang/Object", "getClass", "()Ljava/lang/Class;"⟩ ∈ lw_all) (hn : Cond.native ⟨"java/lang/Object", "getClass", "()Ljava/lang/Class;"⟩ ∈ lw_all) : sOk l g D H0 mi y pc (s_getc y (pc + 3) 24 (gV g 3)) := by
  intro L st σ Q h p e R s m args below meth c C9 H locs cells slots ls r1 r2 r3
  have hown : s.vm.findClass nm.cls = some m.cls := by have h5 := C9.2.2.2.2.1; rw [hm] at h5; exact h5
  have hts := C9.2.2.2.2.2.1
  have hI := C9.2.2.2.2.2.2.2.2.2.1
  have c11 : lev ≤ R.frames := by have h5 := C9.2.2.2.2.2.2.2.2.2.2.1; rw [hm] at h5; exact h5
  have c12 : 428 * lev ≤ R.locals := by have h5 := C9.2.2.2.2.2.2.2.2.2.2.2.1; rw [hm] at h5; exact h5
  have hml : c.maxLocals = nL := by have h5 := C9.2.2.2.1; rw [hm] at h5; exact h5
  have hls : ls.size = nL := by have h5 := r2.1; rw [hm] at h5; exact h5
  unfold s_getc at h
  split at h
  · rename_i a r
    obtain ⟨h1, h2, h3⟩ := h
    unfold csum at h2
    obtain ⟨cell, b1, b2, b3, b4, b5, b6, b7⟩ := r1.2.2.2.2.2.2 a 24 h1
    exact va_getC C9.1 (by rw [C9.2.1, hm]) (by rw [hml, hls]) hown (hts _ hw) (va_any rfl hI.2.2.2.2.2.2.2.2.2.2.2.2.2.2.2.2.2.2.2.1) (hts _ hse) (hts _ hi) (hts _ hn) hI.2.2.2.2.2.2.2.2.2.1 ⟨cell, b1, b4, by rw [b2]; exact fc_of (t := 24) hI (Or.inr (by decide))⟩ (by omega) (by omega) hd (h3 p e R s m args below meth c C9 H locs cells slots ls r1 r2 r3)
  · exact h.elim
theorem sel_col {args : Array Value} {U : State} {C : String} {xi gn : MethodName} (h1 : (Cond.selects C gn gn).before args U = true) (h2 : (Cond.interfaceMethod xi.cls gn.cls xi.name xi.desc).before args U = true) (hx : gn.cls ≠ "java/lang/invoke/MethodHandle" ∧ gn.cls ≠ "java/lang/invoke/VarHandle") (en : xi.name = gn.name) (ed : xi.desc = gn.desc) : (Cond.selects C xi gn).before args U = true := by
  obtain ⟨c, r, m, a1, a2, a3, a4, mk, a5, a6⟩ := Cond.selects_spec h1
  obtain ⟨cL, kL, m', b1, b2, b3, b4, b5⟩ := Cond.interfaceMethod_spec h2
  have e : (⟨gn.cls, xi.name, xi.desc⟩ : MethodName) = gn := by rw [en, ed]
  rw [e] at b5
  cases a3.symm.trans b5
  cases (State.methodFound?_of_named a3 hx).symm.trans a2
  simp only [Cond.before, Cond.holds, Cond.value, a1, b4, a3]
  rw [a4]
  simp [a5, a6]
/-- getClass() of an ArrayList through java/util/Collection -/
theorem so_getcL (hm : mi y = (nm, cc, nL, ret, lev, hh)) (hl : 1 ≤ lev) {idx k9 : Nat} (hd : decode cc pc = .ok (.invokeinterface idx k9, 5)) (hw : Cond.methodLink nm.cls idx ⟨"java/util/Collection", "getClass", "()Ljava/lang/Class;"⟩ ∈ lw_all) (hse : Cond.selects "java/util/ArrayList" ⟨"java/lang/Object", "getClass", "()Ljava/lang/Class;"⟩ ⟨"java/lang/Object", "getClass", "()Ljava/lang/Class;"⟩ ∈ lw_all) (hi : Cond.instanceMethod ⟨"java/lang/Object", "getClass", "()Ljava/lang/Class;"⟩ ∈ lw_all) (hn : Cond.native ⟨"java/lang/Object", "getClass", "()Ljava/lang/Class;"⟩ ∈ lw_all) : sOk l g D H0 mi y pc (s_getc y (pc + 5) 10 (gV g 4)) := by
  intro L st σ Q h p e R s m args below meth c C9 H locs cells slots ls r1 r2 r3
  have hown : s.vm.findClass nm.cls = some m.cls := by have h5 := C9.2.2.2.2.1; rw [hm] at h5; exact h5
  have hts := C9.2.2.2.2.2.1
  have hI := C9.2.2.2.2.2.2.2.2.2.1
  have c11 : lev ≤ R.frames := by have h5 := C9.2.2.2.2.2.2.2.2.2.2.1; rw [hm] at h5; exact h5
  have c12 : 428 * lev ≤ R.locals := by have h5 := C9.2.2.2.2.2.2.2.2.2.2.2.1; rw [hm] at h5; exact h5
  have hml : c.maxLocals = nL := by have h5 := C9.2.2.2.1; rw [hm] at h5; exact h5
  have hls : ls.size = nL := by have h5 := r2.1; rw [hm] at h5; exact h5
  obtain ⟨g1, g2, g3, g4⟩ := hI.2.2.2.2.2.2.2.2.2.2.2.2.2.2.2.2.2.2.2
  unfold s_getc at h
  split at h
  · rename_i a r
    obtain ⟨h1, h2, h3⟩ := h
    unfold csum at h2
    obtain ⟨cell, b1, b2, b3, b4, b5, b6, b7⟩ := r1.2.2.2.2.2.2 a 10 h1
    obtain ⟨c0, k0, m1, m2, m3⟩ := hI.2.2.2.2.2.2.2.2.2.2.1
    have hfc := fc_of (t := 10) hI (Or.inl (by decide))
    have e0 : c0 = D.1 10 := Option.some.inj (m1.symm.trans hfc)
    subst e0
    have hnw : nativeFrameWords "java/lang/Object" "getClass" 1 + 11 ≤ 400 := by decide
    intro T hT X
    obtain ⟨vm', X', st9⟩ := X.getClassOfI C9.1 (C := "java/util/ArrayList") (xi := ⟨"java/util/Collection", "getClass", "()Ljava/lang/Class;"⟩) hown (hts _ hw) (va_any rfl g1) (va_any rfl g2) (sel_col (hts _ hse) (va_any rfl g2) (by decide) rfl rfl) (hts _ hi) (va_any rfl g3) (va_any rfl g4) (nw_of (args := args) hI q495 rfl rfl) (hts _ hn) (by decide) (by decide) rfl rfl (b := a) (cB := D.1 10) (kB := k0) m1 m2 ⟨cell, by rw [hT]; exact b1, b2, b4⟩ m3 (g := F0 m pc ls (.ref a :: r)) rfl (by rw [hml, hls]) rfl (by rw [C9.2.1, hm]; exact hd) (by omega) (by show 2 * 0 + _ + _ ≤ _; omega)
    obtain ⟨t9, a1, a2⟩ := h3 p e R s m args below meth c C9 H locs cells slots ls r1 r2 r3 (T.setVm vm') hT X'
    exact ⟨t9, st9 t9 a1, a2⟩
  · exact h.elim
end NAT
