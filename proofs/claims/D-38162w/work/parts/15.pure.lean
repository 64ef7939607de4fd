/-! the steps that touch no heap: right over the machine -/
def lA (L : AL) : List (Nat × Value) := (List.range L.length).filterMap fun k => match L[k]? with
  | some (some v) => some (k, v)
  | _ => none
theorem lA_mem {L : AL} {k : Nat} {v : Value} : (k, v) ∈ lA L ↔ L[k]? = some (some v) := by
  unfold lA
  rw [List.mem_filterMap]
  constructor
  · rintro ⟨i, -, h⟩
    split at h
    · rename_i w hw
      cases h
      exact hw
    · cases h
  · intro h
    refine ⟨k, List.mem_range.mpr (List.getElem?_eq_some_iff.mp h).1, ?_⟩
    rw [h]
theorem lr_has {ls : Array Slot} {n : Nat} {L : AL} (h : lr ls n L) : lv_has ls n (lA L) := ⟨h.1, h.2.2.1, fun q hq => h.2.2.2 q.1 q.2 (lA_mem.mp hq)⟩
theorem lr_set {ls' : Array Slot} {n k : Nat} {L : AL} {v : Value} (hn : L.length = n) (ho : oks L k = true) (h : lv_has ls' n ((k, v) :: (lA L).filter (fun q => !(q.1 == k) && !(q.1 + 1 == k && q.2.category == 2)))) : lr ls' n (L.set k (some v)) := by
  refine ⟨h.1, by simpa using hn, h.2.1, fun j w hj => ?_⟩
  rw [List.getElem?_set] at hj
  by_cases hk : k = j
  · subst hk
    rw [if_pos rfl] at hj
    split at hj
    · cases hj
      exact h.2.2 _ List.mem_cons_self
    · cases hj
  · rw [if_neg hk] at hj
    refine h.2.2 (j, w) (List.mem_cons_of_mem _ (List.mem_filter.mpr ⟨lA_mem.mpr hj, ?_⟩))
    have h1 : (j == k) = false := by simpa using fun q => hk q.symm
    rw [h1]
    by_cases h2 : j + 1 = k
    · subst h2
      have h3 : oc (L.getD j none) = true := ho
      rw [List.getD_eq_getElem?_getD, hj] at h3
      have h4 : w.category = 1 := by simpa [oc] using h3
      simp [h4]
    · have h5 : (j + 1 == k) = false := by simpa using h2
      simp [h5]
theorem lr_set2 {ls' : Array Slot} {n k : Nat} {L : AL} {v : Value} (hn : L.length = n) (ho : oks L k = true) (h : lv_has ls' n ((k, v) :: (lA L).filter (fun q => !(q.1 == k) && (!(q.1 == k + 1) && !(q.1 + 1 == k && q.2.category == 2))))) : lr ls' n ((L.set k (some v)).set (k + 1) none) := by
  refine ⟨h.1, by simpa using hn, h.2.1, fun j w hj => ?_⟩
  rw [List.getElem?_set] at hj
  by_cases hk1 : k + 1 = j
  · rw [if_pos hk1] at hj
    split at hj
    · cases hj
    · cases hj
  · rw [if_neg hk1, List.getElem?_set] at hj
    by_cases hk : k = j
    · subst hk
      rw [if_pos rfl] at hj
      split at hj
      · cases hj
        exact h.2.2 _ List.mem_cons_self
      · cases hj
    · rw [if_neg hk] at hj
      refine h.2.2 (j, w) (List.mem_cons_of_mem _ (List.mem_filter.mpr ⟨lA_mem.mpr hj, ?_⟩))
      have h1 : (j == k) = false := by simpa using fun q => hk q.symm
      have h6 : (j == k + 1) = false := by simpa using fun q => hk1 q.symm
      rw [h1, h6]
      by_cases h2 : j + 1 = k
      · subst h2
        have h3 : oc (L.getD j none) = true := ho
        rw [List.getD_eq_getElem?_getD, hj] at h3
        have h4 : w.category = 1 := by simpa [oc] using h3
        simp [h4]
      · have h5 : (j + 1 == k) = false := by simpa using h2
        simp [h5]
theorem getD_some {L : AL} {k : Nat} {v : Value} (h : L.getD k none = some v) : L[k]? = some (some v) := by
  rw [List.getD_eq_getElem?_getD] at h
  cases hk : L[k]? with
  | none => rw [hk] at h; cases h
  | some o => rw [hk] at h; exact congrArg some h
section PURE
variable {l : Launch} {g : GC} {D : va_G} {H0 : Heap} {mi : Nat → MI} {y pc : Nat} {nm : MethodName} {cc : ByteArray} {nL lev : Nat} {ret : Option FieldType} {hh : List (Nat × Nat × Nat × Nat)}
theorem so_none : sOk l g D H0 mi y pc s_none := fun _ _ _ _ h => h.elim
theorem so_iconst (hm : mi y = (nm, cc, nL, ret, lev, hh)) {k : Int} {v : Int32} (hd : decode cc pc = .ok (.iconst k, 1)) (hv : Int32.ofInt k = v) : sOk l g D H0 mi y pc (s_const y (pc + 1) (.int v)) := fun L st σ Q h p e R s m args below meth c C H locs cells slots ls r1 r2 r3 =>
  lv_iconst C.1 (by rw [C.2.1, hm]) hd hv (h p e R s m args below meth c C H locs cells slots ls r1 r2 r3)
theorem so_bipush (hm : mi y = (nm, cc, nL, ret, lev, hh)) {k : Int} {v : Int32} (hd : decode cc pc = .ok (.bipush k, 2)) (hv : (Int8.ofInt k).toInt32 = v) : sOk l g D H0 mi y pc (s_const y (pc + 2) (.int v)) := fun L st σ Q h p e R s m args below meth c C H locs cells slots ls r1 r2 r3 =>
  lv_bipush C.1 (by rw [C.2.1, hm]) hd hv (h p e R s m args below meth c C H locs cells slots ls r1 r2 r3)
theorem so_sipush (hm : mi y = (nm, cc, nL, ret, lev, hh)) {k : Int} {v : Int32} (hd : decode cc pc = .ok (.sipush k, 3)) (hv : (Int16.ofInt k).toInt32 = v) : sOk l g D H0 mi y pc (s_const y (pc + 3) (.int v)) := fun L st σ Q h p e R s m args below meth c C H locs cells slots ls r1 r2 r3 =>
  lv_sipush C.1 (by rw [C.2.1, hm]) hd hv (h p e R s m args below meth c C H locs cells slots ls r1 r2 r3)
theorem so_lconst (hm : mi y = (nm, cc, nL, ret, lev, hh)) {k : Fin 2} {v : Int64} (hd : decode cc pc = .ok (.lconst k, 1)) (hv : Int64.ofNat (k : Nat) = v) : sOk l g D H0 mi y pc (s_const y (pc + 1) (.long v)) := fun L st σ Q h p e R s m args below meth c C H locs cells slots ls r1 r2 r3 =>
  lv_lconst C.1 (by rw [C.2.1, hm]) hd hv (h p e R s m args below meth c C H locs cells slots ls r1 r2 r3)
theorem so_null (hm : mi y = (nm, cc, nL, ret, lev, hh)) (hd : decode cc pc = .ok (.aconst_null, 1)) : sOk l g D H0 mi y pc (s_const y (pc + 1) .null) := fun L st σ Q h p e R s m args below meth c C H locs cells slots ls r1 r2 r3 =>
  lv_null C.1 (by rw [C.2.1, hm]) hd (h p e R s m args below meth c C H locs cells slots ls r1 r2 r3)
theorem so_ldc (hm : mi y = (nm, cc, nL, ret, lev, hh)) {k : Nat} {v : Int32} (hd : decode cc pc = .ok (.ldc k, 2)) (hw : Cond.constant nm.cls k v ∈ lw_all) : sOk l g D H0 mi y pc (s_const y (pc + 2) (.int v)) := fun L st σ Q h p e R s m args below meth c C H locs cells slots ls r1 r2 r3 =>
  lv_ldc C.1 (by rw [C.2.1, hm]) (by have h5 := C.2.2.2.2.1; rw [hm] at h5; exact h5) (C.2.2.2.2.2.1 _ hw) hd (h p e R s m args below meth c C H locs cells slots ls r1 r2 r3)
theorem so_ldcw (hm : mi y = (nm, cc, nL, ret, lev, hh)) {k : Nat} {v : Int32} (hd : decode cc pc = .ok (.ldc_w k, 3)) (hw : Cond.constant nm.cls k v ∈ lw_all) : sOk l g D H0 mi y pc (s_const y (pc + 3) (.int v)) := fun L st σ Q h p e R s m args below meth c C H locs cells slots ls r1 r2 r3 =>
  lv_ldcw C.1 (by rw [C.2.1, hm]) (by have h5 := C.2.2.2.2.1; rw [hm] at h5; exact h5) (C.2.2.2.2.2.1 _ hw) hd (h p e R s m args below meth c C H locs cells slots ls r1 r2 r3)
theorem so_ldc2 (hm : mi y = (nm, cc, nL, ret, lev, hh)) {k : Nat} {v : Int64} (hd : decode cc pc = .ok (.ldc2_w k, 3)) (hw : Cond.constantLong nm.cls k v ∈ lw_all) : sOk l g D H0 mi y pc (s_const y (pc + 3) (.long v)) := fun L st σ Q h p e R s m args below meth c C H locs cells slots ls r1 r2 r3 =>
  lv_ldc2 C.1 (by rw [C.2.1, hm]) (by have h5 := C.2.2.2.2.1; rw [hm] at h5; exact h5) (C.2.2.2.2.2.1 _ hw) hd (h p e R s m args below meth c C H locs cells slots ls r1 r2 r3)
theorem so_ldcM (hm : mi y = (nm, cc, nL, ret, lev, hh)) {k : Nat} (hd : decode cc pc = .ok (.ldc k, 2)) (hw : Cond.classLink nm.cls k "[Ljava/lang/Object;" ∈ lw_all) : sOk l g D H0 mi y pc (s_const y (pc + 2) (.ref (gV g 3))) := fun L st σ Q h p e R s m args below meth c C H locs cells slots ls r1 r2 r3 =>
  va_ldcM C.1 (by rw [C.2.1, hm]) (by have h5 := C.2.2.2.2.1; rw [hm] at h5; exact h5) (C.2.2.2.2.2.1 _ hw) (C.2.2.2.2.2.2.2.2.2.1.2.2.2.2.2.2.2.2.2.1) hd (h p e R s m args below meth c C H locs cells slots ls r1 r2 r3)
theorem so_ldcN (hm : mi y = (nm, cc, nL, ret, lev, hh)) {k : Nat} (hd : decode cc pc = .ok (.ldc k, 2)) (hw : Cond.classLink nm.cls k "java/util/ArrayList" ∈ lw_all) : sOk l g D H0 mi y pc (s_const y (pc + 2) (.ref (gV g 4))) := fun L st σ Q h p e R s m args below meth c C H locs cells slots ls r1 r2 r3 =>
  va_ldcM C.1 (by rw [C.2.1, hm]) (by have h5 := C.2.2.2.2.1; rw [hm] at h5; exact h5) (C.2.2.2.2.2.1 _ hw) (C.2.2.2.2.2.2.2.2.2.1.2.2.2.2.2.2.2.2.2.2.1) hd (h p e R s m args below meth c C H locs cells slots ls r1 r2 r3)
/-! locals -/
theorem so_iload_n (hm : mi y = (nm, cc, nL, ret, lev, hh)) {k : Fin 4} {i : Nat} (hd : decode cc pc = .ok (.iload_n k, 1)) (hi : (k : Nat) = i) : sOk l g D H0 mi y pc (s_load vI y (pc + 1) i) := by
  intro L st σ Q h p e R s m args below meth c C H locs cells slots ls r1 r2 r3
  unfold s_load at h
  split at h
  · rename_i v hv
    obtain ⟨hk, h⟩ := h
    cases v with
    | int x => exact lv_iload_n C.1 (by rw [C.2.1, hm]) hd hi (r2.2.2.2 _ _ (getD_some hv)) (h p e R s m args below meth c C H locs cells slots ls r1 r2 r3)
    | _ => cases hk
  · exact h.elim
theorem so_iload (hm : mi y = (nm, cc, nL, ret, lev, hh)) {i : Nat} (hd : decode cc pc = .ok (.iload i, 2)) : sOk l g D H0 mi y pc (s_load vI y (pc + 2) i) := by
  intro L st σ Q h p e R s m args below meth c C H locs cells slots ls r1 r2 r3
  unfold s_load at h
  split at h
  · rename_i v hv
    obtain ⟨hk, h⟩ := h
    cases v with
    | int x => exact lv_iload C.1 (by rw [C.2.1, hm]) hd (r2.2.2.2 _ _ (getD_some hv)) (h p e R s m args below meth c C H locs cells slots ls r1 r2 r3)
    | _ => cases hk
  · exact h.elim
theorem so_lload_n (hm : mi y = (nm, cc, nL, ret, lev, hh)) {k : Fin 4} {i : Nat} (hd : decode cc pc = .ok (.lload_n k, 1)) (hi : (k : Nat) = i) : sOk l g D H0 mi y pc (s_load vL y (pc + 1) i) := by
  intro L st σ Q h p e R s m args below meth c C H locs cells slots ls r1 r2 r3
  unfold s_load at h
  split at h
  · rename_i v hv
    obtain ⟨hk, h⟩ := h
    cases v with
    | long x => exact lv_lload_n C.1 (by rw [C.2.1, hm]) hd hi (r2.2.2.2 _ _ (getD_some hv)) (h p e R s m args below meth c C H locs cells slots ls r1 r2 r3)
    | _ => cases hk
  · exact h.elim
theorem so_lload (hm : mi y = (nm, cc, nL, ret, lev, hh)) {i : Nat} (hd : decode cc pc = .ok (.lload i, 2)) : sOk l g D H0 mi y pc (s_load vL y (pc + 2) i) := by
  intro L st σ Q h p e R s m args below meth c C H locs cells slots ls r1 r2 r3
  unfold s_load at h
  split at h
  · rename_i v hv
    obtain ⟨hk, h⟩ := h
    cases v with
    | long x => exact lv_lload C.1 (by rw [C.2.1, hm]) hd (r2.2.2.2 _ _ (getD_some hv)) (h p e R s m args below meth c C H locs cells slots ls r1 r2 r3)
    | _ => cases hk
  · exact h.elim
theorem so_dload_n (hm : mi y = (nm, cc, nL, ret, lev, hh)) {k : Fin 4} {i : Nat} (hd : decode cc pc = .ok (.dload_n k, 1)) (hi : (k : Nat) = i) : sOk l g D H0 mi y pc (s_load vD y (pc + 1) i) := by
  intro L st σ Q h p e R s m args below meth c C H locs cells slots ls r1 r2 r3
  unfold s_load at h
  split at h
  · rename_i v hv
    obtain ⟨hk, h⟩ := h
    cases v with
    | double x => exact lv_dload_n C.1 (by rw [C.2.1, hm]) hd hi (r2.2.2.2 _ _ (getD_some hv)) (h p e R s m args below meth c C H locs cells slots ls r1 r2 r3)
    | _ => cases hk
  · exact h.elim
theorem so_dload (hm : mi y = (nm, cc, nL, ret, lev, hh)) {i : Nat} (hd : decode cc pc = .ok (.dload i, 2)) : sOk l g D H0 mi y pc (s_load vD y (pc + 2) i) := by
  intro L st σ Q h p e R s m args below meth c C H locs cells slots ls r1 r2 r3
  unfold s_load at h
  split at h
  · rename_i v hv
    obtain ⟨hk, h⟩ := h
    cases v with
    | double x => exact lv_dload C.1 (by rw [C.2.1, hm]) hd (r2.2.2.2 _ _ (getD_some hv)) (h p e R s m args below meth c C H locs cells slots ls r1 r2 r3)
    | _ => cases hk
  · exact h.elim
theorem so_aload_n (hm : mi y = (nm, cc, nL, ret, lev, hh)) {k : Fin 4} {i : Nat} (hd : decode cc pc = .ok (.aload_n k, 1)) (hi : (k : Nat) = i) : sOk l g D H0 mi y pc (s_load vRf y (pc + 1) i) := by
  intro L st σ Q h p e R s m args below meth c C H locs cells slots ls r1 r2 r3
  unfold s_load at h
  split at h
  · rename_i v hv
    obtain ⟨hk, h⟩ := h
    cases v with
    | ref x => exact lv_aload_n C.1 (by rw [C.2.1, hm]) hd hi (r2.2.2.2 _ _ (getD_some hv)) (h p e R s m args below meth c C H locs cells slots ls r1 r2 r3)
    | null => exact lv_aload_nN C.1 (by rw [C.2.1, hm]) hd hi (r2.2.2.2 _ _ (getD_some hv)) (h p e R s m args below meth c C H locs cells slots ls r1 r2 r3)
    | _ => cases hk
  · exact h.elim
theorem so_aload (hm : mi y = (nm, cc, nL, ret, lev, hh)) {i : Nat} (hd : decode cc pc = .ok (.aload i, 2)) : sOk l g D H0 mi y pc (s_load vRf y (pc + 2) i) := by
  intro L st σ Q h p e R s m args below meth c C H locs cells slots ls r1 r2 r3
  unfold s_load at h
  split at h
  · rename_i v hv
    obtain ⟨hk, h⟩ := h
    cases v with
    | ref x => exact lv_aload C.1 (by rw [C.2.1, hm]) hd (r2.2.2.2 _ _ (getD_some hv)) (h p e R s m args below meth c C H locs cells slots ls r1 r2 r3)
    | null => exact lv_aloadN C.1 (by rw [C.2.1, hm]) hd (r2.2.2.2 _ _ (getD_some hv)) (h p e R s m args below meth c C H locs cells slots ls r1 r2 r3)
    | _ => cases hk
  · exact h.elim
theorem so_istore_n (hm : mi y = (nm, cc, nL, ret, lev, hh)) {k : Fin 4} {i : Nat} (hd : decode cc pc = .ok (.istore_n k, 1)) (hi : (k : Nat) = i) : sOk l g D H0 mi y pc (s_store vI y (pc + 1) i) := by
  intro L st σ Q h p e R s m args below meth c C H locs cells slots ls r1 r2 r3
  unfold s_store at h
  split at h
  · rename_i v r
    obtain ⟨hk, hl, ho, h⟩ := h
    cases v with
    | int x => exact lv_istore_n C.1 (by rw [C.2.1, hm]) hd hi (lr_has r2) (by rw [← r2.2.1]; exact hl) rfl (fun ls' hl' => h p e R s m args below meth c C H locs cells slots ls' r1 (lr_set r2.2.1 ho hl') r3)
    | _ => cases hk
  · exact h.elim
theorem so_istore (hm : mi y = (nm, cc, nL, ret, lev, hh)) {i : Nat} (hd : decode cc pc = .ok (.istore i, 2)) : sOk l g D H0 mi y pc (s_store vI y (pc + 2) i) := by
  intro L st σ Q h p e R s m args below meth c C H locs cells slots ls r1 r2 r3
  unfold s_store at h
  split at h
  · rename_i v r
    obtain ⟨hk, hl, ho, h⟩ := h
    cases v with
    | int x => exact lv_istore C.1 (by rw [C.2.1, hm]) hd (lr_has r2) (by rw [← r2.2.1]; exact hl) rfl (fun ls' hl' => h p e R s m args below meth c C H locs cells slots ls' r1 (lr_set r2.2.1 ho hl') r3)
    | _ => cases hk
  · exact h.elim
theorem so_astore_n (hm : mi y = (nm, cc, nL, ret, lev, hh)) {k : Fin 4} {i : Nat} (hd : decode cc pc = .ok (.astore_n k, 1)) (hi : (k : Nat) = i) : sOk l g D H0 mi y pc (s_store vRf y (pc + 1) i) := by
  intro L st σ Q h p e R s m args below meth c C H locs cells slots ls r1 r2 r3
  unfold s_store at h
  split at h
  · rename_i v r
    obtain ⟨hk, hl, ho, h⟩ := h
    cases v with
    | ref x => exact lv_astore_n C.1 (by rw [C.2.1, hm]) hd hi (lr_has r2) (by rw [← r2.2.1]; exact hl) rfl (fun ls' hl' => h p e R s m args below meth c C H locs cells slots ls' r1 (lr_set r2.2.1 ho hl') r3)
    | null => exact lv_astore_nN C.1 (by rw [C.2.1, hm]) hd hi (lr_has r2) (by rw [← r2.2.1]; exact hl) rfl (fun ls' hl' => h p e R s m args below meth c C H locs cells slots ls' r1 (lr_set r2.2.1 ho hl') r3)
    | _ => cases hk
  · exact h.elim
theorem so_astore (hm : mi y = (nm, cc, nL, ret, lev, hh)) {i : Nat} (hd : decode cc pc = .ok (.astore i, 2)) : sOk l g D H0 mi y pc (s_store vRf y (pc + 2) i) := by
  intro L st σ Q h p e R s m args below meth c C H locs cells slots ls r1 r2 r3
  unfold s_store at h
  split at h
  · rename_i v r
    obtain ⟨hk, hl, ho, h⟩ := h
    cases v with
    | ref x => exact lv_astore C.1 (by rw [C.2.1, hm]) hd (lr_has r2) (by rw [← r2.2.1]; exact hl) rfl (fun ls' hl' => h p e R s m args below meth c C H locs cells slots ls' r1 (lr_set r2.2.1 ho hl') r3)
    | null => exact lv_astoreN C.1 (by rw [C.2.1, hm]) hd (lr_has r2) (by rw [← r2.2.1]; exact hl) rfl (fun ls' hl' => h p e R s m args below meth c C H locs cells slots ls' r1 (lr_set r2.2.1 ho hl') r3)
    | _ => cases hk
  · exact h.elim
theorem so_lstore_n (hm : mi y = (nm, cc, nL, ret, lev, hh)) {k : Fin 4} {i : Nat} (hd : decode cc pc = .ok (.lstore_n k, 1)) (hi : (k : Nat) = i) : sOk l g D H0 mi y pc (s_store2 vL y (pc + 1) i) := by
  intro L st σ Q h p e R s m args below meth c C H locs cells slots ls r1 r2 r3
  unfold s_store2 at h
  split at h
  · rename_i v r
    obtain ⟨hk, hl, ho, h⟩ := h
    cases v with
    | long x => exact lv_lstore_n C.1 (by rw [C.2.1, hm]) hd hi (lr_has r2) (by rw [← r2.2.1]; exact hl) rfl (fun ls' hl' => h p e R s m args below meth c C H locs cells slots ls' r1 (lr_set2 r2.2.1 ho hl') r3)
    | _ => cases hk
  · exact h.elim
theorem so_lstore (hm : mi y = (nm, cc, nL, ret, lev, hh)) {i : Nat} (hd : decode cc pc = .ok (.lstore i, 2)) : sOk l g D H0 mi y pc (s_store2 vL y (pc + 2) i) := by
  intro L st σ Q h p e R s m args below meth c C H locs cells slots ls r1 r2 r3
  unfold s_store2 at h
  split at h
  · rename_i v r
    obtain ⟨hk, hl, ho, h⟩ := h
    cases v with
    | long x => exact lv_lstore C.1 (by rw [C.2.1, hm]) hd (lr_has r2) (by rw [← r2.2.1]; exact hl) rfl (fun ls' hl' => h p e R s m args below meth c C H locs cells slots ls' r1 (lr_set2 r2.2.1 ho hl') r3)
    | _ => cases hk
  · exact h.elim
theorem so_dstore (hm : mi y = (nm, cc, nL, ret, lev, hh)) {i : Nat} (hd : decode cc pc = .ok (.dstore i, 2)) : sOk l g D H0 mi y pc (s_store2 vD y (pc + 2) i) := by
  intro L st σ Q h p e R s m args below meth c C H locs cells slots ls r1 r2 r3
  unfold s_store2 at h
  split at h
  · rename_i v r
    obtain ⟨hk, hl, ho, h⟩ := h
    cases v with
    | double x => exact lv_dstore C.1 (by rw [C.2.1, hm]) hd (lr_has r2) (by rw [← r2.2.1]; exact hl) rfl (fun ls' hl' => h p e R s m args below meth c C H locs cells slots ls' r1 (lr_set2 r2.2.1 ho hl') r3)
    | _ => cases hk
  · exact h.elim
theorem so_iinc (hm : mi y = (nm, cc, nL, ret, lev, hh)) {i : Nat} {k : Int} {d : Int32} (hd : decode cc pc = .ok (.iinc i k, 3)) (hv : Int32.ofInt k = d) : sOk l g D H0 mi y pc (s_iinc y (pc + 3) i d) := by
  intro L st σ Q h p e R s m args below meth c C H locs cells slots ls r1 r2 r3
  unfold s_iinc at h
  split at h
  · rename_i x hx
    obtain ⟨ho, h⟩ := h
    have hL := getD_some hx
    obtain ⟨j, hj⟩ := List.getElem?_of_mem (lA_mem.mpr hL)
    have hl : i < L.length := (List.getElem?_eq_some_iff.mp hL).1
    exact lv_iinc C.1 (by rw [C.2.1, hm]) hd (lr_has r2) hj (by rw [hv]) (by rw [← r2.2.1]; exact hl) rfl (fun ls' hl' => h p e R s m args below meth c C H locs cells slots ls' r1 (lr_set r2.2.1 ho hl') r3)
  · exact h.elim
/-! the stack -/
theorem so_dup (hm : mi y = (nm, cc, nL, ret, lev, hh)) (hd : decode cc pc = .ok (.dup, 1)) : sOk l g D H0 mi y pc (s_dup y (pc + 1)) := by
  intro L st σ Q h p e R s m args below meth c C H locs cells slots ls r1 r2 r3
  unfold s_dup at h
  split at h
  · exact lv_dup C.1 (by rw [C.2.1, hm]) hd h.1 (h.2 p e R s m args below meth c C H locs cells slots ls r1 r2 r3)
  · exact h.elim
theorem so_pop (hm : mi y = (nm, cc, nL, ret, lev, hh)) (hd : decode cc pc = .ok (.pop, 1)) : sOk l g D H0 mi y pc (s_pop y (pc + 1)) := by
  intro L st σ Q h p e R s m args below meth c C H locs cells slots ls r1 r2 r3
  unfold s_pop at h
  split at h
  · exact lv_pop C.1 (by rw [C.2.1, hm]) hd h.1 (h.2 p e R s m args below meth c C H locs cells slots ls r1 r2 r3)
  · exact h.elim
theorem so_dupx1 (hm : mi y = (nm, cc, nL, ret, lev, hh)) (hd : decode cc pc = .ok (.dup_x1, 1)) : sOk l g D H0 mi y pc (s_dupx1 y (pc + 1)) := by
  intro L st σ Q h p e R s m args below meth c C H locs cells slots ls r1 r2 r3
  unfold s_dupx1 at h
  split at h
  · exact lv_dup_x1 C.1 (by rw [C.2.1, hm]) hd h.1 h.2.1 (h.2.2 p e R s m args below meth c C H locs cells slots ls r1 r2 r3)
  · exact h.elim
theorem so_dup2 (hm : mi y = (nm, cc, nL, ret, lev, hh)) (hd : decode cc pc = .ok (.dup2, 1)) : sOk l g D H0 mi y pc (s_dup2 y (pc + 1)) := by
  intro L st σ Q h p e R s m args below meth c C H locs cells slots ls r1 r2 r3
  unfold s_dup2 at h
  split at h
  · exact lv_dup2_11 C.1 (by rw [C.2.1, hm]) hd h.1 h.2.1 (h.2.2 p e R s m args below meth c C H locs cells slots ls r1 r2 r3)
  · exact h.elim
end PURE
