/-! the steps over the heap: right over the machine -/
/-- a class by its tag, with all that its rows ask -/
def clOk (t : Nat) (C : String) (T : u_T) (N : Nat) (ty : Nat → FieldType) : Prop := tgN[t]? = some (C, T, N) ∧ t < 20 ∧ (∀ w ∈ u_ws C T N, w ∈ lw_all) ∧ (∀ k, k < N → parseFieldDescriptor (T k).2.2.1 = some (ty k)) ∧ ∀ a, a < N → ∀ b, b < N → a ≠ b → (T a).2.1 ≠ (T b).2.1
theorem cl0 : clOk 0 RX1 TX1 1 tyX1 := ⟨rfl, by decide, in_X1, tyX1_ok, nmX1⟩
theorem cl1 : clOk 1 RX2 TX2 10 tyX2 := ⟨rfl, by decide, in_X2, tyX2_ok, nmX2⟩
theorem cl2 : clOk 2 RX3 TX3 3 tyX3 := ⟨rfl, by decide, in_X3, tyX3_ok, nmX3⟩
theorem cl3 : clOk 3 RX4 TX4 3 tyX4 := ⟨rfl, by decide, in_X4, tyX4_ok, nmX4⟩
theorem cl4 : clOk 4 RX5 TX5 10 tyX5 := ⟨rfl, by decide, in_X5, tyX5_ok, nmX5⟩
theorem cl5 : clOk 5 RX6 TX6 22 tyX6 := ⟨rfl, by decide, in_X6, tyX6_ok, nmX6⟩
theorem cl6 : clOk 6 RX7 TX7 4 tyX7 := ⟨rfl, by decide, in_X7, tyX7_ok, nmX7⟩
theorem cl7 : clOk 7 RX8 TX8 32 tyX8 := ⟨rfl, by decide, in_X8, tyX8_ok, nmX8⟩
theorem cl8 : clOk 8 RX9 TX9 2 tyX9 := ⟨rfl, by decide, in_X9, tyX9_ok, nmX9⟩
theorem cl9 : clOk 9 RX10 TX10 5 tyX10 := ⟨rfl, by decide, in_X10, tyX10_ok, nmX10⟩
theorem cl10 : clOk 10 RJ2 TJ2 3 tyJ2 := ⟨rfl, by decide, in_J2, tyJ2_ok, nmJ2⟩
theorem cl11 : clOk 11 RJ16 TJ16 4 tyJ16 := ⟨rfl, by decide, in_J16, tyJ16_ok, nmJ16⟩
theorem cl12 : clOk 12 RJ18 TJ18 1 tyJ18 := ⟨rfl, by decide, in_J18, tyJ18_ok, nmJ18⟩
theorem clOk.n {t : Nat} {C : String} {T : u_T} {N : Nat} {ty : Nat → FieldType} (h : clOk t C T N ty) : tgF t = N := by
  unfold tgF
  rw [h.1]
theorem k2_hs {c : Cell} {i : Nat} {v : Value} (h : c.slots[i]? = some v) : i < c.slots.size := (Array.getElem?_eq_some_iff.mp h).1
/-- one place of one cell is written -/
theorem hR_put {g : GC} {D : va_G} {H0 : Heap} {σ : AH} {H H' : Heap} {a t k i : Nat} {v : Value} {cell : Cell} (r : hR g D H0 σ H) (hty : hty σ a = some t) (hB : gB g ≤ a) (q1 : H[a]? = some cell) (e1 : H'[a]? = some (cell.setSlot i v)) (e2 : H'.size = H.size) (e3 : ∀ q : Nat, q ≠ a → H'[q]? = H[q]?)
    (ho : t < 20 → ∀ j, j < tgF t → (cell.setSlot i v).slots[D.2 t j]? = some (if j = k then v else hv σ t a j)) (ha : 20 ≤ t → ∀ j, j < hln σ a → (cell.setSlot i v).slots[j]? = some (if j = k then v else hv σ t a j)) : hR g D H0 (hput σ t a k v) H' := by
  obtain ⟨r1, r2, r3, r4, r5, r6, r7⟩ := r
  have hsl : ∀ (c : Cell) (i : Nat) (v : Value), (c.setSlot i v).slots.size = c.slots.size := fun c i v => by simp [Cell.setSlot]
  refine ⟨by rw [e2]; exact r1, ?_, r3, r4, by rw [e2]; exact r5, fun q hq => by rw [e3 q (by omega)]; exact r6 q hq, fun b u hb => ?_⟩
  · rw [hTot_congr e2 (fun q c c' h1 h2 => ?_)]
    · exact r2
    · by_cases hq : q = a
      · subst hq
        rw [e1] at h2
        rw [q1] at h1
        cases h1
        cases h2
        exact hsl _ _ _
      · rw [e3 q hq, h1] at h2
        cases h2
        rfl
  · rw [hty_put] at hb
    obtain ⟨cb, b1, b2, b3, b4, b5, b6, b7⟩ := r7 b u hb
    by_cases hba : b = a
    · subst hba
      cases hty.symm.trans hb
      cases q1.symm.trans b1
      refine ⟨_, e1, b2, b3, b4, b5, fun h20 j hj => ?_, fun h20 => ⟨by rw [hsl]; exact (b7 h20).1, fun j hj => ?_⟩⟩
      · rw [ho h20 j hj, hv_put]
        by_cases hjk : j = k <;> simp [hjk]
      · rw [ha h20 j hj, hv_put]
        by_cases hjk : j = k <;> simp [hjk]
    · refine ⟨cb, by rw [e3 b hba]; exact b1, b2, b3, b4, b5, fun h20 j hj => ?_, fun h20 => ⟨(b7 h20).1, fun j hj => ?_⟩⟩
      · rw [hv_put, if_neg (fun z => hba z.2.1)]
        exact b6 h20 j hj
      · rw [hv_put, if_neg (fun z => hba z.2.1)]
        exact (b7 h20).2 j hj
/-- one cell more -/
theorem hR_new {g : GC} {D : va_G} {H0 : Heap} {σ : AH} {H : Heap} {t n sl : Nat} {f : Nat → Value} {cell : Cell} (r : hR g D H0 σ H) (hC : hsz σ + 1 ≤ gC g) (hS : hsl σ + sl ≤ gS g) (hc : cell.cls = D.1 t) (hv0 : cell.vm = .none) (hz : cell.slots.size = sl)
    (ho : t < 20 → ∀ j, j < tgF t → cell.slots[D.2 t j]? = some (f j)) (ha : 20 ≤ t → n = sl ∧ ∀ j, j < n → cell.slots[j]? = some (f j)) : hR g D H0 (hnew σ t n f sl) (H.push cell) := by
  obtain ⟨r1, r2, r3, r4, r5, r6, r7⟩ := r
  have hold : ∀ q : Nat, q < H.size → (H.push cell)[q]? = H[q]? := fun q hq => by rw [Array.getElem?_push, if_neg (by omega)]
  refine ⟨by rw [Array.size_push, r1]; rfl, by rw [hTot_push, r2, hz]; rfl, hC, hS, by rw [Array.size_push]; omega, fun q hq => by rw [hold q (by omega)]; exact r6 q hq, fun b u hb => ?_⟩
  rw [hty_new] at hb
  by_cases hbz : b = hsz σ
  · rw [if_pos hbz] at hb
    cases hb
    subst hbz
    refine ⟨cell, ?_, hc, (by rw [hv0]; intro z; cases z), (by rw [hv0]; rfl), fun _ => hv0, fun h20 j hj => ?_, fun h20 => ⟨?_, fun j hj => ?_⟩⟩
    · rw [← r1]
      simp
    · rw [hv_new, if_pos ⟨rfl, rfl⟩]
      exact ho h20 j hj
    · rw [hln_new, if_pos rfl, hz]
      exact (ha h20).1.symm
    · rw [hln_new, if_pos rfl] at hj
      rw [hv_new, if_pos ⟨rfl, rfl⟩]
      exact (ha h20).2 j hj
  · rw [if_neg hbz] at hb
    obtain ⟨cb, b1, b2, b3, b4, b5, b6, b7⟩ := r7 b u hb
    have hlt : b < H.size := (Array.getElem?_eq_some_iff.mp b1).1
    refine ⟨cb, by rw [hold b hlt]; exact b1, b2, b3, b4, b5, fun h20 j hj => ?_, fun h20 => ⟨?_, fun j hj => ?_⟩⟩
    · rw [hv_new, if_neg (fun z => hbz z.2)]
      exact b6 h20 j hj
    · rw [hln_new, if_neg hbz]
      exact (b7 h20).1
    · rw [hln_new, if_neg hbz] at hj
      rw [hv_new, if_neg (fun z => hbz z.2)]
      exact (b7 h20).2 j hj
theorem isArr_of {s : State} {cA : ClassId} {ty : FieldType} {cell : Cell} (h : ArrOfT s cA ty) (hc : cell.cls = cA) (hv : cell.vm.isStatics = false) : s.isArrayOf cell ty := by
  obtain ⟨-, k, hk, hc2⟩ := h 0 (fun _ => .null)
  refine ⟨fun q z => ?_, k, by rw [hc]; exact hk, hc2⟩
  rw [z] at hv
  cases hv
theorem idx_ok {i : Int32} {n : Nat} (h0 : ¬ i < 0) (h1 : i.toNatClampNeg < n) : ¬ (i < 0 ∨ n ≤ i.toNatClampNeg) := fun h => h.elim h0 (fun z => by omega)
theorem set_at {c : Cell} {n i : Nat} {v : Value} {f : Nat → Value} (hz : c.slots.size = n) (h : ∀ j, j < n → c.slots[j]? = some (f j)) (hi : i < n) : ∀ j, j < n → (c.setSlot i v).slots[j]? = some (if j = i then v else f j) := by
  intro j hj
  by_cases hji : j = i
  · subst hji
    rw [if_pos rfl]
    exact Cell.slots_setSlot_self _ (by omega)
  · rw [if_neg hji, slot_ne _ _ (Ne.symm hji)]
    exact h j hj
section HEAP
variable {l : Launch} {g : GC} {D : va_G} {H0 : Heap} {mi : Nat → MI} {y pc : Nat} {nm : MethodName} {cc : ByteArray} {nL lev : Nat} {ret : Option FieldType} {hh : List (Nat × Nat × Nat × Nat)}
/-- a field's spelling leads to the same field -/
def fSame (ref : String) (q : String × String × String × Bool) : Prop := ∀ (s : State) (args : Array Value), (∀ w ∈ lw_all, w.before args s = true) → ∀ x, s.fieldFound? q.1 q.2.1 q.2.2.1 = some x → s.fieldFound? ref q.2.1 q.2.2.1 = some x
theorem fs_rf {ref : String} {q : String × String × String × Bool} (h : q.1 = ref) : fSame ref q := fun _ _ _ _ hx => by rw [← h]; exact hx
theorem fs_mod {q : String × String × String × Bool} (h : q = ("java/util/AbstractList", "modCount", "I", false)) : fSame "java/util/ArrayList" q := fun _ _ ht x hx => by
  subst h
  exact u_same (ht _ q119) x hx
theorem so_getf (hm : mi y = (nm, cc, nL, ret, lev, hh)) {t : Nat} {C ref : String} {T : u_T} {N : Nat} {ty : Nat → FieldType} (hc : clOk t C T N ty) {k idx : Nat} (hk : k < N) (hd : decode cc pc = .ok (.getfield idx, 3)) (hw : Cond.fieldLink nm.cls idx ref (T k).2.1 (T k).2.2.1 ∈ lw_all) (hs : fSame ref (T k)) : sOk l g D H0 mi y pc (s_getf y (pc + 3) t k) := by
  intro L st σ Q h p e R s m args below meth c C9 H locs cells slots ls r1 r2 r3
  unfold s_getf at h
  split at h
  · rename_i a r
    obtain ⟨cell, b1, b2, b3, b4, b5, b6, b7⟩ := r1.2.2.2.2.2.2 a t h.1
    have hts := C9.2.2.2.2.2.1
    have hown : s.vm.findClass nm.cls = some m.cls := by have h5 := C9.2.2.2.2.1; rw [hm] at h5; exact h5
    obtain ⟨hS, hfc, kC, hkC, hkind⟩ := C9.2.2.2.2.2.2.2.2.2.1.1.1 t _ hc.1
    obtain ⟨cf, kf, fi, f, hi, hsl⟩ := hS k hk
    refine W.getf C9.1 (by rw [C9.2.1, hm]) hown (hts _ hw) (hs s args hts _ hi) (u_facts hfc hkC (u_lays hts hc.2.2.1 hk) hi).1 b1 b3 (v := hv σ t a k) ?_ rfl rfl hd (h.2 p e R s m args below meth c C9 H locs cells slots ls r1 r2 r3)
    rw [hsl]
    exact b6 hc.2.1 k (by rw [hc.n]; exact hk)
  · exact h.elim
theorem so_getfN (hm : mi y = (nm, cc, nL, ret, lev, hh)) {t : Nat} {C ref host : String} {T : u_T} {N : Nat} {ty : Nat → FieldType} (hc : clOk t C T N ty) {k idx : Nat} (hk : k < N) (hd : decode cc pc = .ok (.getfield idx, 3)) (hw : Cond.fieldLinkNest nm.cls idx ref (T k).2.1 (T k).2.2.1 host ∈ lw_tbl) (hs : fSame ref (T k)) : sOk l g D H0 mi y pc (s_getf y (pc + 3) t k) := by
  intro L st σ Q h p e R s m args below meth c C9 H locs cells slots ls r1 r2 r3
  unfold s_getf at h
  split at h
  · rename_i a r
    obtain ⟨cell, b1, b2, b3, b4, b5, b6, b7⟩ := r1.2.2.2.2.2.2 a t h.1
    have hts := C9.2.2.2.2.2.1
    have hown : s.vm.findClass nm.cls = some m.cls := by have h5 := C9.2.2.2.2.1; rw [hm] at h5; exact h5
    obtain ⟨hS, hfc, kC, hkC, hkind⟩ := C9.2.2.2.2.2.2.2.2.2.1.1.1 t _ hc.1
    obtain ⟨cf, kf, fi, f, hi, hsl⟩ := hS k hk
    refine va_Wgetf C9.1 (by rw [C9.2.1, hm]) hown (va_Nw.use rfl (C9.2.2.2.2.2.2.2.2.2.1.2.1 _ (List.mem_filter.mpr ⟨hw, rfl⟩))) (hs s args hts _ hi) (u_facts hfc hkC (u_lays hts hc.2.2.1 hk) hi).1 b1 b3 (v := hv σ t a k) ?_ rfl rfl hd (h.2 p e R s m args below meth c C9 H locs cells slots ls r1 r2 r3)
    rw [hsl]
    exact b6 hc.2.1 k (by rw [hc.n]; exact hk)
  · exact h.elim
theorem put_at {t : Nat} {C : String} {T : u_T} {N : Nat} {ty : Nat → FieldType} (hc : clOk t C T N ty) {k : Nat} (hk : k < N) {s : State} {args : Array Value} (hts : ∀ w ∈ lw_all, w.before args s = true) (hK : va_K D tgN (tgA D.1) s) {σ : AH} {a : Nat} {cell : Cell} {v : Value} (b6 : ∀ k, k < tgF t → cell.slots[D.2 t k]? = some (hv σ t a k)) :
    ∀ j, j < tgF t → (cell.setSlot (D.2 t k) v).slots[D.2 t j]? = some (if j = k then v else hv σ t a j) := by
  intro j hj
  have hap := va_apart (own := C) hts hc.2.2.1 ty hc.2.2.2.1 hc.2.2.2.2 hK hc.1
  rw [hc.n] at hj b6
  by_cases hjk : j = k
  · subst hjk
    rw [if_pos rfl]
    exact Cell.slots_setSlot_self _ (k2_hs (b6 j hj))
  · rw [if_neg hjk, slot_ne _ _ (hap k j hk hj (Ne.symm hjk))]
    exact b6 j hj
theorem so_putf (hm : mi y = (nm, cc, nL, ret, lev, hh)) {t : Nat} {C ref : String} {T : u_T} {N : Nat} {ty : Nat → FieldType} (hc : clOk t C T N ty) {k idx : Nat} (hk : k < N) {ok : Value → Prop} (hok : ∀ v, ok v → narrow (ty k) v = v ∧ fits (ty k) v = true) (hfin : (T k).2.2.2 = false) (hd : decode cc pc = .ok (.putfield idx, 3)) (hw : Cond.fieldLink nm.cls idx ref (T k).2.1 (T k).2.2.1 ∈ lw_all) (hs : fSame ref (T k)) : sOk l g D H0 mi y pc (s_putf g ok y (pc + 3) t k) := by
  intro L st σ Q h p e R s m args below meth c C9 H locs cells slots ls r1 r2 r3
  unfold s_putf at h
  split at h
  · rename_i v a r
    obtain ⟨h1, h2, h3, h4⟩ := h
    obtain ⟨cell, b1, b2, b3, b4, b5, b6, b7⟩ := r1.2.2.2.2.2.2 a t h1
    have hts := C9.2.2.2.2.2.1
    have hown : s.vm.findClass nm.cls = some m.cls := by have h5 := C9.2.2.2.2.1; rw [hm] at h5; exact h5
    obtain ⟨hS, hfc, kC, hkC, hkind⟩ := C9.2.2.2.2.2.2.2.2.2.1.1.1 t _ hc.1
    obtain ⟨cf, kf, fi, f, hi, hsl⟩ := hS k hk
    have hlay := hts _ (hc.2.2.1 _ (u_in_lay hk))
    unfold u_lay at hlay
    rw [if_neg (by rw [hfin]; decide)] at hlay
    have hst := (u_facts hfc hkC (u_lays hts hc.2.2.1 hk) hi).1
    have h6 := u_store hfc hkC hkind hlay hi (hc.2.2.2.1 k hk) (hok v h3).1 (hok v h3).2
    refine W.putK C9.1 (by rw [C9.2.1, hm]) (f := f) ⟨hown, hts _ hw, ⟨_, _, _, hs s args hts _ hi⟩, hst⟩ (by rw [b2]; exact h6) b1 (b5 h2) (by rw [hsl]; exact k2_hs (b6 hc.2.1 k (by rw [hc.n]; exact hk))) rfl rfl hd fun H' e1 e2 e3 => ?_
    rw [hsl] at e1 ⊢
    exact h4 p e R s m args below meth c C9 H' _ cells slots ls (hR_put r1 h1 h2 b1 e1 e2 e3 (fun h20 => put_at hc hk hts C9.2.2.2.2.2.2.2.2.2.1.1 (b6 h20)) (fun h20 => absurd hc.2.1 (by omega))) r2 (fun z hz => by
      rcases List.mem_append.mp hz with q | q
      · exact r3 z q
      · rw [List.mem_singleton.mp q]; exact h2)
  · exact h.elim
theorem so_putfN (hm : mi y = (nm, cc, nL, ret, lev, hh)) {t : Nat} {C ref host : String} {T : u_T} {N : Nat} {ty : Nat → FieldType} (hc : clOk t C T N ty) {k idx : Nat} (hk : k < N) {ok : Value → Prop} (hok : ∀ v, ok v → narrow (ty k) v = v ∧ fits (ty k) v = true) (hfin : (T k).2.2.2 = false) (hd : decode cc pc = .ok (.putfield idx, 3)) (hw : Cond.fieldLinkNest nm.cls idx ref (T k).2.1 (T k).2.2.1 host ∈ lw_tbl) (hs : fSame ref (T k)) : sOk l g D H0 mi y pc (s_putf g ok y (pc + 3) t k) := by
  intro L st σ Q h p e R s m args below meth c C9 H locs cells slots ls r1 r2 r3
  unfold s_putf at h
  split at h
  · rename_i v a r
    obtain ⟨h1, h2, h3, h4⟩ := h
    obtain ⟨cell, b1, b2, b3, b4, b5, b6, b7⟩ := r1.2.2.2.2.2.2 a t h1
    have hts := C9.2.2.2.2.2.1
    have hown : s.vm.findClass nm.cls = some m.cls := by have h5 := C9.2.2.2.2.1; rw [hm] at h5; exact h5
    obtain ⟨hS, hfc, kC, hkC, hkind⟩ := C9.2.2.2.2.2.2.2.2.2.1.1.1 t _ hc.1
    obtain ⟨cf, kf, fi, f, hi, hsl⟩ := hS k hk
    have hlay := hts _ (hc.2.2.1 _ (u_in_lay hk))
    unfold u_lay at hlay
    rw [if_neg (by rw [hfin]; decide)] at hlay
    have hst := (u_facts hfc hkC (u_lays hts hc.2.2.1 hk) hi).1
    have h6 := u_store hfc hkC hkind hlay hi (hc.2.2.2.1 k hk) (hok v h3).1 (hok v h3).2
    refine va_WputK C9.1 (by rw [C9.2.1, hm]) (f := f) hown (va_Nw.use rfl (C9.2.2.2.2.2.2.2.2.2.1.2.1 _ (List.mem_filter.mpr ⟨hw, rfl⟩))) (hs s args hts _ hi) hst (by rw [b2]; exact h6) b1 (b5 h2) (by rw [hsl]; exact k2_hs (b6 hc.2.1 k (by rw [hc.n]; exact hk))) rfl rfl hd fun H' e1 e2 e3 => ?_
    rw [hsl] at e1 ⊢
    exact h4 p e R s m args below meth c C9 H' _ cells slots ls (hR_put r1 h1 h2 b1 e1 e2 e3 (fun h20 => put_at hc hk hts C9.2.2.2.2.2.2.2.2.2.1.1 (b6 h20)) (fun h20 => absurd hc.2.1 (by omega))) r2 (fun z hz => by
      rcases List.mem_append.mp hz with q | q
      · exact r3 z q
      · rw [List.mem_singleton.mp q]; exact h2)
  · exact h.elim
/-- a final field, in the class's own constructor -/
theorem so_putfF (hm : mi y = (nm, cc, nL, ret, lev, hh)) {t : Nat} {C ref : String} {T : u_T} {N : Nat} {ty : Nat → FieldType} (hc : clOk t C T N ty) {k idx : Nat} (hk : k < N) {ok : Value → Prop} (hok : ∀ v, ok v → narrow (ty k) v = v ∧ fits (ty k) v = true) (hfin : (T k).2.2.2 = true) (hin2 : nm.name = "<init>") (hdecl : (T k).1 = nm.cls) (hd : decode cc pc = .ok (.putfield idx, 3)) (hw : Cond.fieldLink nm.cls idx ref (T k).2.1 (T k).2.2.1 ∈ lw_all) (hs : fSame ref (T k)) : sOk l g D H0 mi y pc (s_putf g ok y (pc + 3) t k) := by
  intro L st σ Q h p e R s m args below meth c C9 H locs cells slots ls r1 r2 r3
  unfold s_putf at h
  split at h
  · rename_i v a r
    obtain ⟨h1, h2, h3, h4⟩ := h
    obtain ⟨cell, b1, b2, b3, b4, b5, b6, b7⟩ := r1.2.2.2.2.2.2 a t h1
    have hts := C9.2.2.2.2.2.1
    have hown : s.vm.findClass nm.cls = some m.cls := by have h5 := C9.2.2.2.2.1; rw [hm] at h5; exact h5
    have hin : meth.name = "<init>" := by have h5 := C9.2.2.2.2.2.2.2.2.1; rw [hm] at h5; rw [h5]; exact hin2
    obtain ⟨hS, hfc, kC, hkC, hkind⟩ := C9.2.2.2.2.2.2.2.2.2.1.1.1 t _ hc.1
    obtain ⟨cf, kf, fi, f, hi, hsl⟩ := hS k hk
    have hlay := hts _ (hc.2.2.1 _ (u_in_lay hk))
    unfold u_lay at hlay
    rw [if_pos hfin] at hlay
    have hst := (u_facts hfc hkC (u_lays hts hc.2.2.1 hk) hi).1
    have hcf : m.cls = cf := by
      obtain ⟨_, _, c', _, _, _, -, -, hf', -, -, -, hown2, -⟩ := Cond.laysFinal_spec hlay
      have e1 : c' = cf := by have := hi.symm.trans hf'; simp at this; exact this.1.symm
      rw [hdecl] at hown2
      rw [← e1]; exact Option.some.inj (hown.symm.trans hown2)
    have h6 := u_fits hfc hkC hkind (Or.inr hlay) hi (hc.2.2.2.1 k hk) (hok v h3).1 (hok v h3).2
    refine W.putFinK C9.1 (by rw [C9.2.1, hm]) hown (hts _ hw) (hs s args hts _ hi) hst hcf hin (by rw [b2]; exact h6) b1 (b5 h2) (by rw [hsl]; exact k2_hs (b6 hc.2.1 k (by rw [hc.n]; exact hk))) rfl rfl hd fun H' e1 e2 e3 => ?_
    rw [hsl] at e1 ⊢
    exact h4 p e R s m args below meth c C9 H' _ cells slots ls (hR_put r1 h1 h2 b1 e1 e2 e3 (fun h20 => put_at hc hk hts C9.2.2.2.2.2.2.2.2.2.1.1 (b6 h20)) (fun h20 => absurd hc.2.1 (by omega))) r2 (fun z hz => by
      rcases List.mem_append.mp hz with q | q
      · exact r3 z q
      · rw [List.mem_singleton.mp q]; exact h2)
  · exact h.elim
end HEAP
