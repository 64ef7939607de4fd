/-! new cells, arrays, casts, statics, natives: right over the machine -/
def tcn : Nat → String
  | 0 => RX1
  | 1 => RX2
  | 2 => RX3
  | 3 => RX4
  | 4 => RX5
  | 5 => RX6
  | 6 => RX7
  | 7 => RX8
  | 8 => RX9
  | 9 => RX10
  | 10 => RJ2
  | 11 => RJ16
  | 12 => RJ18
  | 20 => "[I"
  | 21 => "[Z"
  | 22 => "[J"
  | 23 => "[D"
  | 24 => "[Ljava/lang/Object;"
  | 25 => "[[I"
  | _ => ""
theorem fc_of {g : GC} {D : va_G} {H0 : Heap} {s : State} (hI : tI g D H0 s) {t : Nat} (ht : t < 13 ∨ (20 ≤ t ∧ t < 26)) : s.vm.findClass (tcn t) = some (D.1 t) := by
  have h18 := hI.2.2.2.2.2.2.2.2.2.2.2.2.2.2.2.2.2.2.1
  rcases ht with h | ⟨h1, h2⟩
  · have hq : ∃ q, tgN[t]? = some q ∧ q.1 = tcn t := by
      revert t
      decide +kernel
    obtain ⟨q, hq1, hq2⟩ := hq
    rw [← hq2]
    exact (hI.1.1 t q hq1).2.1
  · rcases (by omega : t = 20 ∨ t = 21 ∨ t = 22 ∨ t = 23 ∨ t = 24 ∨ t = 25) with h | h | h | h | h | h <;> subst h
    · exact (hI.1.2 0 _ rfl).2
    · exact (hI.1.2 1 _ rfl).2
    · exact (hI.1.2 2 _ rfl).2
    · exact (hI.1.2 3 _ rfl).2
    · obtain ⟨-, -, -, -, -, h4⟩ := (hI.1.2 4 _ rfl).2
      exact h4
    · obtain ⟨-, -, -, -, -, h4⟩ := h18
      exact h4
section ARR
variable {l : Launch} {g : GC} {D : va_G} {H0 : Heap} {mi : Nat → MI} {y pc : Nat} {nm : MethodName} {cc : ByteArray} {nL lev : Nat} {ret : Option FieldType} {hh : List (Nat × Nat × Nat × Nat)}
theorem so_new (hm : mi y = (nm, cc, nL, ret, lev, hh)) {t sl : Nat} {C : String} {T : u_T} {N : Nat} {ty : Nat → FieldType} (hc : clOk t C T N ty) {idx : Nat} {f : Nat → Value} (hf : ∀ k, k < N → defaultValue (ty k) = f k) (hd : decode cc pc = .ok (.new idx, 3)) (hw : Cond.classLink nm.cls idx C ∈ lw_all) (hi : Cond.instantiable C sl ∈ lw_all) (hini : Cond.initialized C ∈ lw_all) : sOk l g D H0 mi y pc (s_new g y (pc + 3) t sl f) := by
  intro L st σ Q h p e R s m args below meth c C9 H locs cells slots ls r1 r2 r3
  unfold s_new at h
  obtain ⟨h1, h2, h3⟩ := h
  have hts := C9.2.2.2.2.2.1
  have hown : s.vm.findClass nm.cls = some m.cls := by have h5 := C9.2.2.2.2.1; rw [hm] at h5; exact h5
  have hKn := C9.2.2.2.2.2.2.2.2.2.1.1.1 t _ hc.1
  have c13 := C9.2.2.2.2.2.2.2.2.2.2.2.2.1
  have c14 := C9.2.2.2.2.2.2.2.2.2.2.2.2.2.1
  have z0 := r1.1
  have z9 := r1.2.1
  refine w_tight fun z1 z2 => ?_
  refine W.newc C9.1 (by rw [C9.2.1, hm]) hown (hts _ hw) (hts _ hi) (hts _ hini) rfl hd (by omega) (by omega) fun cC kC e1 e2 e3 e4 => ?_
  have ec : cC = D.1 t := Option.some.inj (e1.symm.trans hKn.2.1)
  subst ec
  have hb := u_born (o := H.size) (H := H.push (blank (D.1 t) kC)) ty hts hc.2.2.1 hKn e2 (by simp) hc.2.2.2.1
  obtain ⟨cell, b1, b2, b3, b4⟩ := hb
  have hcell : cell = blank (D.1 t) kC := by simpa using b1.symm
  subst hcell
  have hst : F0 m (pc + 3) ls (.ref H.size :: st) = F0 m (pc + 3) ls (.ref (hsz σ) :: st) := by rw [z0]
  refine W.eq (g2 := F0 m (pc + 3) ls (.ref (hsz σ) :: st)) hst ?_
  refine h3 p e R s m args below meth c C9 (H.push (blank (D.1 t) kC)) locs _ _ ls (hR_new r1 h1 h2 rfl rfl ?_ (fun _ j hj => ?_) (fun h20 => absurd hc.2.1 (by omega))) r2 r3
  · rw [← e4]
    simp [blank]
  · rw [hc.n] at hj
    rw [b4 j hj]
    exact congrArg some (hf j hj)
theorem so_newa (hm : mi y = (nm, cc, nL, ret, lev, hh)) {t : Nat} {at_ : ArrayType} {d : Value} (ht : 20 ≤ t ∧ t < 26) (htn : tcn t = "[" ++ (newarray.typeOf at_).toString) (hdv : defaultValue (newarray.typeOf at_) = d) (hcb : componentBytes (newarray.typeOf at_) ≤ 8) (hd : decode cc pc = .ok (.newarray at_, 2)) (hw : Cond.arrayClass (newarray.typeOf at_) ∈ lw_all) : sOk l g D H0 mi y pc (s_newa g y (pc + 2) t d) := by
  intro L st σ Q h p e R s m args below meth c C9 H locs cells slots ls r1 r2 r3
  unfold s_newa at h
  split at h
  · rename_i x r
    obtain ⟨h1, h2, h3, h4, h5⟩ := h
    have hts := C9.2.2.2.2.2.1
    have hI := C9.2.2.2.2.2.2.2.2.2.1
    have c13 := C9.2.2.2.2.2.2.2.2.2.2.2.2.1
    have c14 := C9.2.2.2.2.2.2.2.2.2.2.2.2.2.1
    have z0 := r1.1
    have z9 := r1.2.1
    refine w_tight fun z1 z2 => ?_
    refine W.newa C9.1 (by rw [C9.2.1, hm]) (hts _ hw) rfl hd rfl h1 ?_ (by omega) (by omega) fun cA kA comp e1 e2 e3 => ?_
    · exact Nat.le_trans (Nat.mul_le_mul h2 hcb) (by decide)
    have ec : cA = D.1 t := by
      have h9 := fc_of hI (Or.inr ht)
      rw [htn] at h9
      exact Option.some.inj (e1.symm.trans h9)
    subst ec
    have hst : F0 m (pc + 2) ls (.ref H.size :: r) = F0 m (pc + 2) ls (.ref (hsz σ) :: r) := by rw [z0]
    refine W.eq (g2 := F0 m (pc + 2) ls (.ref (hsz σ) :: r)) hst ?_
    refine h5 p e R s m args below meth c C9 _ locs _ _ ls (hR_new r1 h3 h4 rfl rfl (by simp) (fun h20 => absurd ht.1 (by omega)) (fun _ => ⟨rfl, fun j hj => ?_⟩)) r2 r3
    rw [Array.getElem?_replicate, if_pos hj, hdv]
  · exact h.elim
theorem so_anewO (hm : mi y = (nm, cc, nL, ret, lev, hh)) {idx : Nat} (hd : decode cc pc = .ok (.anewarray idx, 3)) (hw : Cond.classLink nm.cls idx "java/lang/Object" ∈ lw_all) : sOk l g D H0 mi y pc (s_newa g y (pc + 3) 24 .null) := by
  intro L st σ Q h p e R s m args below meth c C9 H locs cells slots ls r1 r2 r3
  unfold s_newa at h
  split at h
  · rename_i x r
    obtain ⟨h1, h2, h3, h4, h5⟩ := h
    have hts := C9.2.2.2.2.2.1
    have hI := C9.2.2.2.2.2.2.2.2.2.1
    have hown : s.vm.findClass nm.cls = some m.cls := by have h5 := C9.2.2.2.2.1; rw [hm] at h5; exact h5
    have c13 := C9.2.2.2.2.2.2.2.2.2.2.2.2.1
    have c14 := C9.2.2.2.2.2.2.2.2.2.2.2.2.2.1
    have z0 := r1.1
    have z9 := r1.2.1
    refine w_tight fun z1 z2 => ?_
    refine W.anew C9.1 (by rw [C9.2.1, hm]) hown (hts _ hw) hI.2.2.2.1.use rfl hd rfl h1 (by omega) (by omega) (by omega) fun cA kA comp e1 e2 e3 e4 => ?_
    have ec : cA = D.1 24 := by
      have h9 := fc_of (t := 24) hI (Or.inr (by decide))
      exact Option.some.inj (e1.symm.trans h9)
    subst ec
    have hst : F0 m (pc + 3) ls (.ref H.size :: r) = F0 m (pc + 3) ls (.ref (hsz σ) :: r) := by rw [z0]
    refine W.eq (g2 := F0 m (pc + 3) ls (.ref (hsz σ) :: r)) hst ?_
    refine h5 p e R s m args below meth c C9 _ locs _ _ ls (hR_new r1 h3 h4 rfl rfl (by simp) (fun h20 => absurd h20 (by decide)) (fun _ => ⟨rfl, fun j hj => ?_⟩)) r2 r3
    rw [Array.getElem?_replicate, if_pos hj]
  · exact h.elim
theorem so_anewI (hm : mi y = (nm, cc, nL, ret, lev, hh)) {idx : Nat} (hd : decode cc pc = .ok (.anewarray idx, 3)) (hw : Cond.classLink nm.cls idx "[I" ∈ lw_all) : sOk l g D H0 mi y pc (s_newa g y (pc + 3) 25 .null) := by
  intro L st σ Q h p e R s m args below meth c C9 H locs cells slots ls r1 r2 r3
  unfold s_newa at h
  split at h
  · rename_i x r
    obtain ⟨h1, h2, h3, h4, h5⟩ := h
    have hts := C9.2.2.2.2.2.1
    have hI := C9.2.2.2.2.2.2.2.2.2.1
    have hown : s.vm.findClass nm.cls = some m.cls := by have h5 := C9.2.2.2.2.1; rw [hm] at h5; exact h5
    have c13 := C9.2.2.2.2.2.2.2.2.2.2.2.2.1
    have c14 := C9.2.2.2.2.2.2.2.2.2.2.2.2.2.1
    have z0 := r1.1
    have z9 := r1.2.1
    refine w_tight fun z1 z2 => ?_
    refine W.anewA (t := .int) C9.1 (by rw [C9.2.1, hm]) hown (hts _ hw) hI.2.2.2.2.1 rfl hd rfl h1 (by omega) (by omega) (by omega) fun cA kA comp e1 e2 e3 e4 => ?_
    have ec : cA = D.1 25 := by
      have h9 := fc_of (t := 25) hI (Or.inr (by decide))
      exact Option.some.inj (e1.symm.trans h9)
    subst ec
    have hst : F0 m (pc + 3) ls (.ref H.size :: r) = F0 m (pc + 3) ls (.ref (hsz σ) :: r) := by rw [z0]
    refine W.eq (g2 := F0 m (pc + 3) ls (.ref (hsz σ) :: r)) hst ?_
    refine h5 p e R s m args below meth c C9 _ locs _ _ ls (hR_new r1 h3 h4 rfl rfl (by simp) (fun h20 => absurd h20 (by decide)) (fun _ => ⟨rfl, fun j hj => ?_⟩)) r2 r3
    rw [Array.getElem?_replicate, if_pos hj]
  · exact h.elim
/-! loads -/
/-- an array tag, its components -/
def aOk (t : Nat) (ty : FieldType) : Prop := 20 ≤ t ∧ ∀ (g : GC) (D : va_G) (H0 : Heap) (s : State), tI g D H0 s → ArrOfT s (D.1 t) ty
theorem a20 : aOk 20 .int := ⟨by decide, fun _ _ _ _ h => (h.1.2 0 _ rfl).1⟩
theorem a21 : aOk 21 .boolean := ⟨by decide, fun _ _ _ _ h => (h.1.2 1 _ rfl).1⟩
theorem a22 : aOk 22 .long := ⟨by decide, fun _ _ _ _ h => (h.1.2 2 _ rfl).1⟩
theorem a23 : aOk 23 .double := ⟨by decide, fun _ _ _ _ h => (h.1.2 3 _ rfl).1⟩
theorem a24 : aOk 24 (.object "java/lang/Object") := ⟨by decide, fun _ _ _ _ h => (h.1.2 4 _ rfl).1⟩
theorem a26 : aOk 26 (.object "java/lang/Integer") := ⟨by decide, fun _ _ _ _ h => (h.1.2 5 _ rfl).1⟩
theorem a25 : aOk 25 (.array .int) := ⟨by decide, fun _ _ _ _ h => h.2.2.2.2.2.2.2.2.2.2.2.2.2.2.2.2.2.1⟩
theorem a27 : aOk 27 .int := ⟨by decide, fun _ _ _ _ h => h.2.2.2.2.2.2.2.2.2.2.2.2.2.2.2.2.1⟩
theorem so_iald (hm : mi y = (nm, cc, nL, ret, lev, hh)) {t : Nat} (ha : aOk t .int) (hd : decode cc pc = .ok (.iaload, 1)) : sOk l g D H0 mi y pc (s_ald y (pc + 1) t) := by
  intro L st σ Q h p e R s m args below meth c C9 H locs cells slots ls r1 r2 r3
  unfold s_ald at h
  split at h
  · rename_i i a r
    obtain ⟨h1, h2, h3, h4⟩ := h
    obtain ⟨cell, b1, b2, b3, b4, b5, b6, b7⟩ := r1.2.2.2.2.2.2 a t h1
    obtain ⟨b8, b9⟩ := b7 ha.1
    exact W.iald C9.1 (by rw [C9.2.1, hm]) b1 (isArr_of (ha.2 _ _ _ _ C9.2.2.2.2.2.2.2.2.2.1) b2 b4) b3 (idx_ok h2 (by rw [b8]; exact h3)) (b9 _ h3) rfl rfl hd (h4 p e R s m args below meth c C9 H locs cells slots ls r1 r2 r3)
  · exact h.elim
theorem so_zald (hm : mi y = (nm, cc, nL, ret, lev, hh)) {t : Nat} (ha : aOk t .boolean) (hd : decode cc pc = .ok (.baload, 1)) : sOk l g D H0 mi y pc (s_ald y (pc + 1) t) := by
  intro L st σ Q h p e R s m args below meth c C9 H locs cells slots ls r1 r2 r3
  unfold s_ald at h
  split at h
  · rename_i i a r
    obtain ⟨h1, h2, h3, h4⟩ := h
    obtain ⟨cell, b1, b2, b3, b4, b5, b6, b7⟩ := r1.2.2.2.2.2.2 a t h1
    obtain ⟨b8, b9⟩ := b7 ha.1
    exact W.zald C9.1 (by rw [C9.2.1, hm]) b1 (isArr_of (ha.2 _ _ _ _ C9.2.2.2.2.2.2.2.2.2.1) b2 b4) b3 (idx_ok h2 (by rw [b8]; exact h3)) (b9 _ h3) rfl rfl hd (h4 p e R s m args below meth c C9 H locs cells slots ls r1 r2 r3)
  · exact h.elim
theorem so_lald (hm : mi y = (nm, cc, nL, ret, lev, hh)) {t : Nat} (ha : aOk t .long) (hd : decode cc pc = .ok (.laload, 1)) : sOk l g D H0 mi y pc (s_ald y (pc + 1) t) := by
  intro L st σ Q h p e R s m args below meth c C9 H locs cells slots ls r1 r2 r3
  unfold s_ald at h
  split at h
  · rename_i i a r
    obtain ⟨h1, h2, h3, h4⟩ := h
    obtain ⟨cell, b1, b2, b3, b4, b5, b6, b7⟩ := r1.2.2.2.2.2.2 a t h1
    obtain ⟨b8, b9⟩ := b7 ha.1
    exact W.lald C9.1 (by rw [C9.2.1, hm]) b1 (isArr_of (ha.2 _ _ _ _ C9.2.2.2.2.2.2.2.2.2.1) b2 b4) b3 (idx_ok h2 (by rw [b8]; exact h3)) (b9 _ h3) rfl rfl hd (h4 p e R s m args below meth c C9 H locs cells slots ls r1 r2 r3)
  · exact h.elim
theorem so_dald (hm : mi y = (nm, cc, nL, ret, lev, hh)) {t : Nat} (ha : aOk t .double) (hd : decode cc pc = .ok (.daload, 1)) : sOk l g D H0 mi y pc (s_ald y (pc + 1) t) := by
  intro L st σ Q h p e R s m args below meth c C9 H locs cells slots ls r1 r2 r3
  unfold s_ald at h
  split at h
  · rename_i i a r
    obtain ⟨h1, h2, h3, h4⟩ := h
    obtain ⟨cell, b1, b2, b3, b4, b5, b6, b7⟩ := r1.2.2.2.2.2.2 a t h1
    obtain ⟨b8, b9⟩ := b7 ha.1
    exact W.dald C9.1 (by rw [C9.2.1, hm]) b1 (isArr_of (ha.2 _ _ _ _ C9.2.2.2.2.2.2.2.2.2.1) b2 b4) b3 (idx_ok h2 (by rw [b8]; exact h3)) (b9 _ h3) rfl rfl hd (h4 p e R s m args below meth c C9 H locs cells slots ls r1 r2 r3)
  · exact h.elim
theorem so_aald (hm : mi y = (nm, cc, nL, ret, lev, hh)) {t : Nat} {ty : FieldType} (ha : aOk t ty) (hty : ty.isReference = true) (hd : decode cc pc = .ok (.aaload, 1)) : sOk l g D H0 mi y pc (s_ald y (pc + 1) t) := by
  intro L st σ Q h p e R s m args below meth c C9 H locs cells slots ls r1 r2 r3
  unfold s_ald at h
  split at h
  · rename_i i a r
    obtain ⟨h1, h2, h3, h4⟩ := h
    obtain ⟨cell, b1, b2, b3, b4, b5, b6, b7⟩ := r1.2.2.2.2.2.2 a t h1
    obtain ⟨b8, b9⟩ := b7 ha.1
    exact W.aald C9.1 (by rw [C9.2.1, hm]) b1 (isArr_of (ha.2 _ _ _ _ C9.2.2.2.2.2.2.2.2.2.1) b2 b4) hty b3 (idx_ok h2 (by rw [b8]; exact h3)) (b9 _ h3) rfl rfl hd (h4 p e R s m args below meth c C9 H locs cells slots ls r1 r2 r3)
  · exact h.elim
theorem so_alen (hm : mi y = (nm, cc, nL, ret, lev, hh)) {t : Nat} {ty : FieldType} (ha : aOk t ty) (hd : decode cc pc = .ok (.arraylength, 1)) : sOk l g D H0 mi y pc (s_alen y (pc + 1) t) := by
  intro L st σ Q h p e R s m args below meth c C9 H locs cells slots ls r1 r2 r3
  unfold s_alen at h
  split at h
  · rename_i a r
    obtain ⟨h1, h4⟩ := h
    obtain ⟨cell, b1, b2, b3, b4, b5, b6, b7⟩ := r1.2.2.2.2.2.2 a t h1
    obtain ⟨b8, b9⟩ := b7 ha.1
    exact W.alen C9.1 (by rw [C9.2.1, hm]) b1 (isArr_of (ha.2 _ _ _ _ C9.2.2.2.2.2.2.2.2.2.1) b2 b4) (by rw [b8]) rfl rfl hd (h4 p e R s m args below meth c C9 H locs cells slots ls r1 r2 r3)
  · exact h.elim
/-! stores -/
theorem r3_put {g : GC} {locs : List Loc} {a i : Nat} (r3 : ∀ z ∈ locs, gB g ≤ z.base) (h : gB g ≤ a) : ∀ z ∈ locs ++ [⟨a, i⟩], gB g ≤ z.base := fun z hz => by
  rcases List.mem_append.mp hz with q | q
  · exact r3 z q
  · rw [List.mem_singleton.mp q]; exact h
theorem so_iast (hm : mi y = (nm, cc, nL, ret, lev, hh)) {t : Nat} (ha : aOk t .int) (hd : decode cc pc = .ok (.iastore, 1)) : sOk l g D H0 mi y pc (s_ast g (fun _ v => vI v = true) y (pc + 1) t) := by
  intro L st σ Q h p e R s m args below meth c C9 H locs cells slots ls r1 r2 r3
  unfold s_ast at h
  split at h
  · rename_i v i a r
    obtain ⟨h1, hB, h2, h3, h5, h4⟩ := h
    obtain ⟨cell, b1, b2, b3, b4, b5, b6, b7⟩ := r1.2.2.2.2.2.2 a t h1
    obtain ⟨b8, b9⟩ := b7 ha.1
    cases v with
    | int x => exact W.iast C9.1 (by rw [C9.2.1, hm]) b1 (isArr_of (ha.2 _ _ _ _ C9.2.2.2.2.2.2.2.2.2.1) b2 b4) b3 (idx_ok h2 (by rw [b8]; exact h3)) rfl rfl hd fun H' e1 e2 e3 => h4 p e R s m args below meth c C9 H' _ cells slots ls (hR_put r1 h1 hB b1 e1 e2 e3 (fun h20 => absurd ha.1 (by omega)) (fun _ => set_at b8 b9 h3)) r2 (r3_put r3 hB)
    | _ => cases h5
  · exact h.elim
theorem so_last (hm : mi y = (nm, cc, nL, ret, lev, hh)) {t : Nat} (ha : aOk t .long) (hd : decode cc pc = .ok (.lastore, 1)) : sOk l g D H0 mi y pc (s_ast g (fun _ v => vL v = true) y (pc + 1) t) := by
  intro L st σ Q h p e R s m args below meth c C9 H locs cells slots ls r1 r2 r3
  unfold s_ast at h
  split at h
  · rename_i v i a r
    obtain ⟨h1, hB, h2, h3, h5, h4⟩ := h
    obtain ⟨cell, b1, b2, b3, b4, b5, b6, b7⟩ := r1.2.2.2.2.2.2 a t h1
    obtain ⟨b8, b9⟩ := b7 ha.1
    cases v with
    | long x => exact W.last C9.1 (by rw [C9.2.1, hm]) b1 (isArr_of (ha.2 _ _ _ _ C9.2.2.2.2.2.2.2.2.2.1) b2 b4) b3 (idx_ok h2 (by rw [b8]; exact h3)) rfl rfl hd fun H' e1 e2 e3 => h4 p e R s m args below meth c C9 H' _ cells slots ls (hR_put r1 h1 hB b1 e1 e2 e3 (fun h20 => absurd ha.1 (by omega)) (fun _ => set_at b8 b9 h3)) r2 (r3_put r3 hB)
    | _ => cases h5
  · exact h.elim
theorem so_dast (hm : mi y = (nm, cc, nL, ret, lev, hh)) {t : Nat} (ha : aOk t .double) (hd : decode cc pc = .ok (.dastore, 1)) : sOk l g D H0 mi y pc (s_ast g (fun _ v => vD v = true) y (pc + 1) t) := by
  intro L st σ Q h p e R s m args below meth c C9 H locs cells slots ls r1 r2 r3
  unfold s_ast at h
  split at h
  · rename_i v i a r
    obtain ⟨h1, hB, h2, h3, h5, h4⟩ := h
    obtain ⟨cell, b1, b2, b3, b4, b5, b6, b7⟩ := r1.2.2.2.2.2.2 a t h1
    obtain ⟨b8, b9⟩ := b7 ha.1
    cases v with
    | double x => exact W.dast C9.1 (by rw [C9.2.1, hm]) b1 (isArr_of (ha.2 _ _ _ _ C9.2.2.2.2.2.2.2.2.2.1) b2 b4) b3 (idx_ok h2 (by rw [b8]; exact h3)) rfl rfl hd fun H' e1 e2 e3 => h4 p e R s m args below meth c C9 H' _ cells slots ls (hR_put r1 h1 hB b1 e1 e2 e3 (fun h20 => absurd ha.1 (by omega)) (fun _ => set_at b8 b9 h3)) r2 (r3_put r3 hB)
    | _ => cases h5
  · exact h.elim
theorem vZ_nar {v : Value} (h : vZ v) : ∃ x : Int32, v = .int x ∧ narrow .boolean (.int x) = .int x ∧ fits .boolean (.int x) = true := by
  cases v with
  | int x =>
    refine ⟨x, rfl, ?_⟩
    rcases h with h | h <;> subst h <;> decide +kernel
  | _ => exact h.elim
theorem so_zast (hm : mi y = (nm, cc, nL, ret, lev, hh)) {t : Nat} (ha : aOk t .boolean) (hd : decode cc pc = .ok (.bastore, 1)) : sOk l g D H0 mi y pc (s_ast g (fun _ v => vZ v) y (pc + 1) t) := by
  intro L st σ Q h p e R s m args below meth c C9 H locs cells slots ls r1 r2 r3
  unfold s_ast at h
  split at h
  · rename_i v i a r
    obtain ⟨h1, hB, h2, h3, h5, h4⟩ := h
    obtain ⟨cell, b1, b2, b3, b4, b5, b6, b7⟩ := r1.2.2.2.2.2.2 a t h1
    obtain ⟨b8, b9⟩ := b7 ha.1
    obtain ⟨x, rfl, hn, -⟩ := vZ_nar h5
    exact W.zast C9.1 (by rw [C9.2.1, hm]) b1 (isArr_of (ha.2 _ _ _ _ C9.2.2.2.2.2.2.2.2.2.1) b2 b4) b3 (idx_ok h2 (by rw [b8]; exact h3)) rfl rfl hd fun H' e1 e2 e3 => h4 p e R s m args below meth c C9 H' _ cells slots ls (hR_put r1 h1 hB b1 (by rw [hn] at e1; exact e1) e2 e3 (fun h20 => absurd ha.1 (by omega)) (fun _ => set_at b8 b9 h3)) r2 (r3_put r3 hB)
  · exact h.elim
end ARR
