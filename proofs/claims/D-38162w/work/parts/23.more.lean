/-! an inherited method; what fields hold -/
section MORE
variable {l : Launch} {g : GC} {D : va_G} {H0 : Heap} {mi : Nat → MI} {y pc y2 : Nat} {nm nm2 : MethodName} {cc cc2 : ByteArray} {nL lev nL2 lev2 n : Nat} {ret ret2 : Option FieldType}
theorem so_callU (hm : mi y = (nm, cc, nL, ret, lev, [])) (hM : mOk mi y2 nm2 cc2 nL2 ret2 lev2 n) (hlv : lev2 + 1 ≤ lev) {t idx : Nat} {C owner : String} (htt : t < 13) (htc : tcn t = C) (hcC : nm2.cls = owner) (hd : decode cc pc = .ok (.invokevirtual idx, 3)) (hw : Cond.methodLink nm.cls idx nm2 ∈ lw_all) (hsm : Cond.sameMethod nm2.cls owner nm2.name nm2.desc ∈ lw_all) (hs : Cond.instanceMethod nm2 ∈ lw_all) (hse : Cond.selects C nm2 nm2 ∈ lw_all) (hi : Cond.initialized nm2.cls ∈ lw_all) : sOk l g D H0 mi y pc (s_callv y (pc + 3) y2 t n nL2) := by
  intro L st σ Q h p e R s m args below meth c C9 H locs cells slots ls r1 r2 r3
  obtain ⟨m1, m2, m3, m4, m5⟩ := hM
  unfold s_callv at h
  split at h
  · rename_i b r hsp
    obtain ⟨ht, h2, h3, h4⟩ := h
    have hI := C9.2.2.2.2.2.2.2.2.2.1
    have c13 := C9.2.2.2.2.2.2.2.2.2.2.2.2.1
    have c14 := C9.2.2.2.2.2.2.2.2.2.2.2.2.2.1
    have hst := C9.2.2.2.2.2.2.2.2.2.2.2.2.2.2
    have hts := C9.2.2.2.2.2.1
    have hls : ls.size = nL := by have h5 := r2.1; rw [hm] at h5; exact h5
    have z3 := r1.2.2.1
    have z4 := r1.2.2.2.1
    have z0 := r1.1
    have z9 := r1.2.1
    have hlen : n < st.length := by
      have h9 := congrArg List.length hsp
      rw [List.length_drop, List.length_cons] at h9
      omega
    have hn0 : (st.take n).reverse.length = n := by rw [List.length_reverse, List.length_take]; omega
    obtain ⟨cell, b1, b2, b3, b4, b5, b6, b7⟩ := r1.2.2.2.2.2.2 b t ht
    have hfc := fc_of (t := t) hI (Or.inl htt)
    rw [htc] at hfc
    have hrecv : ∃ cellB : Cell, H[b]? = some cellB ∧ cellB.vm.isStatics = false ∧ s.vm.findClass C = some cellB.cls := ⟨cell, b1, b4, by rw [b2]; exact hfc⟩
    refine w_tight fun z1 z2 => ?_
    have hmet := met_of (vs := .ref b :: (st.take n).reverse) hst m1 m2 (by rw [csum_lg]; unfold csum at h2 ⊢; rw [List.map_cons, List.sum_cons] at h2 ⊢; rw [List.map_reverse, List.sum_reverse]; exact h2) z3 z4 h4
    have hat : ClassAt s C (D.1 t) := by
      obtain ⟨q, hq1, hq2⟩ := tg_all t htt
      have h9 := (hI.1.1 t q hq1).2
      rw [hq2, htc] at h9
      exact h9
    have hG : GoodIn lw_all (va_wsU nm.cls idx C owner nm2 nm2 (ws_ nm2 cc2 nL2 ret2)) := by
      refine lw_app ?_ (lw_meth m5)
      intro w hw9
      simp only [List.mem_cons, List.not_mem_nil, or_false] at hw9
      rcases hw9 with e | e | e | e | e
      · rw [e]; exact hw
      · rw [e]; exact hsm
      · rw [e]; exact hse
      · rw [e]; exact hs
      · rw [e]; exact hi
    refine run_go (vx_runU (x := nm2) (C := C) (owner := owner) (b := b) (As := (st.take n).reverse) (rest := r) (fix_of hm C9) hmet (va_cwU n hts hG rfl rfl rfl (by rw [← hcC]) ⟨by rw [← hcC]; exact m3.1, by rw [← hcC]; exact m3.2.1, m3.2.2⟩ (room_of hm C9 hlv m4)) ⟨pcO_blind, hrecv, pcO_at hI r1⟩ rfl hn0 hls (by rw [List.reverse_reverse, ← hsp, List.take_append_drop]) (lv_room h3) hd ⟨by omega, by omega⟩) r3 (fun v σ' H' locs' c' s' hq r1' r3' => hq p e R s m args below meth c C9 H' locs' c' s' ls r1' r2 r3') (fun k σ' H' locs' c' s' q ce hq r1' r3' hce hcv hcl => out_of (by rw [hm]) C9 hq r1' r3' hce hcv hcl)
  · exact h.elim
end MORE
theorem fI : ∀ v, vI v = true → narrow .int v = v ∧ fits .int v = true := by
  intro v h
  cases v with
  | int x => exact ⟨rfl, rfl⟩
  | _ => cases h
theorem fJ : ∀ v, vL v = true → narrow .long v = v ∧ fits .long v = true := by
  intro v h
  cases v with
  | long x => exact ⟨rfl, rfl⟩
  | _ => cases h
theorem fZ : ∀ v, vZ v → narrow .boolean v = v ∧ fits .boolean v = true := by
  intro v h
  obtain ⟨x, rfl, h1, h2⟩ := vZ_nar h
  exact ⟨h1, h2⟩
theorem fR {C : String} : ∀ v, vRf v = true → narrow (.object C) v = v ∧ fits (.object C) v = true := by
  intro v h
  cases v with
  | ref x => exact ⟨rfl, rfl⟩
  | null => exact ⟨rfl, rfl⟩
  | _ => cases h
theorem fA {t : FieldType} : ∀ v, vRf v = true → narrow (.array t) v = v ∧ fits (.array t) v = true := by
  intro v h
  cases v with
  | ref x => exact ⟨rfl, rfl⟩
  | null => exact ⟨rfl, rfl⟩
  | _ => cases h
theorem okC {g : GC} {a : Nat → FT} (h : ∀ pc, okF (a pc)) : ∀ pc, okF (a pc) := h
/-- both: monotone, and right over the machine -/
def sG (l : Launch) (g : GC) (D : va_G) (H0 : Heap) (mi : Nat → MI) (y pc : Nat) (F : FT) : Prop := okF F ∧ sOk l g D H0 mi y pc F
theorem sG_none {l : Launch} {g : GC} {D : va_G} {H0 : Heap} {mi : Nat → MI} {y pc : Nat} : sG l g D H0 mi y pc s_none := ⟨ok_none, so_none⟩
theorem sG_cond {l : Launch} {g : GC} {D : va_G} {H0 : Heap} {mi : Nat → MI} {y pc : Nat} {b : Bool} {F G : FT} (h1 : sG l g D H0 mi y pc F) (h2 : sG l g D H0 mi y pc G) : sG l g D H0 mi y pc (cond b F G) := by cases b <;> assumption
theorem sG_leaf {l : Launch} {g : GC} {D : va_G} {H0 : Heap} {mi : Nat → MI} {y pc k : Nat} {F : FT} (h : sG l g D H0 mi y k F) : sG l g D H0 mi y pc (cond (Nat.beq pc k) F s_none) := by
  cases hb : Nat.beq pc k with
  | true =>
    have e : pc = k := Nat.eq_of_beq_eq_true hb
    subst e
    exact h
  | false => exact sG_none
theorem sG_meth {l : Launch} {g : GC} {D : va_G} {H0 : Heap} {mi : Nat → MI} {y k pc : Nat} {F : FT} (h : sG l g D H0 mi k pc F) : sG l g D H0 mi y pc (cond (Nat.beq y k) F s_none) := by
  cases hb : Nat.beq y k with
  | true =>
    have e : y = k := Nat.eq_of_beq_eq_true hb
    subst e
    exact h
  | false => exact sG_none
