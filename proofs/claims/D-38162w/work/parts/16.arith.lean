/-! arithmetic, comparisons, jumps: right over the machine -/
def tswf (lo : Int) (d : Nat) (ts : List Nat) (x : Int32) : Nat := if x.toInt < lo then d else match ts[(x.toInt - lo).toNat]? with
  | some t => t
  | none => d
section ARITH
variable {l : Launch} {g : GC} {D : va_G} {H0 : Heap} {mi : Nat → MI} {y pc : Nat} {nm : MethodName} {cc : ByteArray} {nL lev : Nat} {ret : Option FieldType} {hh : List (Nat × Nat × Nat × Nat)}
theorem so_iadd (hm : mi y = (nm, cc, nL, ret, lev, hh)) (hd : decode cc pc = .ok (.iadd, 1)) : sOk l g D H0 mi y pc (s_bin y (pc + 1) (fun a b => a + b)) := by
  intro L st σ Q h p e R s m args below meth c C H locs cells slots ls r1 r2 r3
  unfold s_bin at h
  split at h
  · exact lv_iadd C.1 (by rw [C.2.1, hm]) hd (h p e R s m args below meth c C H locs cells slots ls r1 r2 r3)
  · exact h.elim
theorem so_isub (hm : mi y = (nm, cc, nL, ret, lev, hh)) (hd : decode cc pc = .ok (.isub, 1)) : sOk l g D H0 mi y pc (s_bin y (pc + 1) (fun a b => a - b)) := by
  intro L st σ Q h p e R s m args below meth c C H locs cells slots ls r1 r2 r3
  unfold s_bin at h
  split at h
  · exact lv_isub C.1 (by rw [C.2.1, hm]) hd (h p e R s m args below meth c C H locs cells slots ls r1 r2 r3)
  · exact h.elim
theorem so_imul (hm : mi y = (nm, cc, nL, ret, lev, hh)) (hd : decode cc pc = .ok (.imul, 1)) : sOk l g D H0 mi y pc (s_bin y (pc + 1) (fun a b => a * b)) := by
  intro L st σ Q h p e R s m args below meth c C H locs cells slots ls r1 r2 r3
  unfold s_bin at h
  split at h
  · exact lv_imul C.1 (by rw [C.2.1, hm]) hd (h p e R s m args below meth c C H locs cells slots ls r1 r2 r3)
  · exact h.elim
theorem so_iand (hm : mi y = (nm, cc, nL, ret, lev, hh)) (hd : decode cc pc = .ok (.iand, 1)) : sOk l g D H0 mi y pc (s_bin y (pc + 1) (fun a b => a &&& b)) := by
  intro L st σ Q h p e R s m args below meth c C H locs cells slots ls r1 r2 r3
  unfold s_bin at h
  split at h
  · exact lv_iand C.1 (by rw [C.2.1, hm]) hd (h p e R s m args below meth c C H locs cells slots ls r1 r2 r3)
  · exact h.elim
theorem so_ior (hm : mi y = (nm, cc, nL, ret, lev, hh)) (hd : decode cc pc = .ok (.ior, 1)) : sOk l g D H0 mi y pc (s_bin y (pc + 1) (fun a b => a ||| b)) := by
  intro L st σ Q h p e R s m args below meth c C H locs cells slots ls r1 r2 r3
  unfold s_bin at h
  split at h
  · exact lv_ior C.1 (by rw [C.2.1, hm]) hd (h p e R s m args below meth c C H locs cells slots ls r1 r2 r3)
  · exact h.elim
theorem so_ixor (hm : mi y = (nm, cc, nL, ret, lev, hh)) (hd : decode cc pc = .ok (.ixor, 1)) : sOk l g D H0 mi y pc (s_bin y (pc + 1) (fun a b => a ^^^ b)) := by
  intro L st σ Q h p e R s m args below meth c C H locs cells slots ls r1 r2 r3
  unfold s_bin at h
  split at h
  · exact lv_ixor C.1 (by rw [C.2.1, hm]) hd (h p e R s m args below meth c C H locs cells slots ls r1 r2 r3)
  · exact h.elim
theorem so_ishl (hm : mi y = (nm, cc, nL, ret, lev, hh)) (hd : decode cc pc = .ok (.ishl, 1)) : sOk l g D H0 mi y pc (s_bin y (pc + 1) (fun a b => a <<< (b &&& 31))) := by
  intro L st σ Q h p e R s m args below meth c C H locs cells slots ls r1 r2 r3
  unfold s_bin at h
  split at h
  · exact lv_ishl C.1 (by rw [C.2.1, hm]) hd (h p e R s m args below meth c C H locs cells slots ls r1 r2 r3)
  · exact h.elim
theorem so_ishr (hm : mi y = (nm, cc, nL, ret, lev, hh)) (hd : decode cc pc = .ok (.ishr, 1)) : sOk l g D H0 mi y pc (s_bin y (pc + 1) (fun a b => a >>> (b &&& 31))) := by
  intro L st σ Q h p e R s m args below meth c C H locs cells slots ls r1 r2 r3
  unfold s_bin at h
  split at h
  · exact lv_ishr C.1 (by rw [C.2.1, hm]) hd (h p e R s m args below meth c C H locs cells slots ls r1 r2 r3)
  · exact h.elim
theorem so_iushr (hm : mi y = (nm, cc, nL, ret, lev, hh)) (hd : decode cc pc = .ok (.iushr, 1)) : sOk l g D H0 mi y pc (s_bin y (pc + 1) (fun a b => (a.toUInt32 >>> (b.toUInt32 &&& Int32.toUInt32 31)).toInt32)) := by
  intro L st σ Q h p e R s m args below meth c C H locs cells slots ls r1 r2 r3
  unfold s_bin at h
  split at h
  · exact lv_iushr C.1 (by rw [C.2.1, hm]) hd rfl (h p e R s m args below meth c C H locs cells slots ls r1 r2 r3)
  · exact h.elim
theorem so_irem (hm : mi y = (nm, cc, nL, ret, lev, hh)) (hd : decode cc pc = .ok (.irem, 1)) : sOk l g D H0 mi y pc (s_div y (pc + 1) (fun a b => a - a / b * b)) := by
  intro L st σ Q h p e R s m args below meth c C H locs cells slots ls r1 r2 r3
  unfold s_div at h
  split at h
  · exact lv_irem C.1 (by rw [C.2.1, hm]) hd h.1 (h.2 p e R s m args below meth c C H locs cells slots ls r1 r2 r3)
  · exact h.elim
theorem so_idiv (hm : mi y = (nm, cc, nL, ret, lev, hh)) (hd : decode cc pc = .ok (.idiv, 1)) : sOk l g D H0 mi y pc (s_div y (pc + 1) (fun a b => a / b)) := by
  intro L st σ Q h p e R s m args below meth c C H locs cells slots ls r1 r2 r3
  unfold s_div at h
  split at h
  · exact lv_idiv C.1 (by rw [C.2.1, hm]) hd h.1 (h.2 p e R s m args below meth c C H locs cells slots ls r1 r2 r3)
  · exact h.elim
theorem so_i2l (hm : mi y = (nm, cc, nL, ret, lev, hh)) (hd : decode cc pc = .ok (.i2l, 1)) : sOk l g D H0 mi y pc (s_i2 y (pc + 1) (fun a => .long a.toInt64)) := by
  intro L st σ Q h p e R s m args below meth c C H locs cells slots ls r1 r2 r3
  unfold s_i2 at h
  split at h
  · exact lv_i2l C.1 (by rw [C.2.1, hm]) hd rfl (h p e R s m args below meth c C H locs cells slots ls r1 r2 r3)
  · exact h.elim
theorem so_i2d (hm : mi y = (nm, cc, nL, ret, lev, hh)) (hd : decode cc pc = .ok (.i2d, 1)) : sOk l g D H0 mi y pc (s_i2 y (pc + 1) (fun a => .double (FP.i2d a))) := by
  intro L st σ Q h p e R s m args below meth c C H locs cells slots ls r1 r2 r3
  unfold s_i2 at h
  split at h
  · exact lv_i2d C.1 (by rw [C.2.1, hm]) hd (h p e R s m args below meth c C H locs cells slots ls r1 r2 r3)
  · exact h.elim
theorem so_ladd (hm : mi y = (nm, cc, nL, ret, lev, hh)) (hd : decode cc pc = .ok (.ladd, 1)) : sOk l g D H0 mi y pc (s_lbin y (pc + 1) (fun a b => .long (a + b))) := by
  intro L st σ Q h p e R s m args below meth c C H locs cells slots ls r1 r2 r3
  unfold s_lbin at h
  split at h
  · exact lv_ladd C.1 (by rw [C.2.1, hm]) hd (h p e R s m args below meth c C H locs cells slots ls r1 r2 r3)
  · exact h.elim
theorem so_lmul (hm : mi y = (nm, cc, nL, ret, lev, hh)) (hd : decode cc pc = .ok (.lmul, 1)) : sOk l g D H0 mi y pc (s_lbin y (pc + 1) (fun a b => .long (a * b))) := by
  intro L st σ Q h p e R s m args below meth c C H locs cells slots ls r1 r2 r3
  unfold s_lbin at h
  split at h
  · exact lv_lmul C.1 (by rw [C.2.1, hm]) hd (h p e R s m args below meth c C H locs cells slots ls r1 r2 r3)
  · exact h.elim
theorem so_lcmp (hm : mi y = (nm, cc, nL, ret, lev, hh)) (hd : decode cc pc = .ok (.lcmp, 1)) : sOk l g D H0 mi y pc (s_lbin y (pc + 1) (fun a b => .int (lg_cmp a b))) := by
  intro L st σ Q h p e R s m args below meth c C H locs cells slots ls r1 r2 r3
  unfold s_lbin at h
  split at h
  · exact W.lcmp C.1 (by rw [C.2.1, hm]) hd (h p e R s m args below meth c C H locs cells slots ls r1 r2 r3)
  · exact h.elim
theorem so_dcmp (hm : mi y = (nm, cc, nL, ret, lev, hh)) {op : CmpOp} (hd : decode cc pc = .ok (.dcmp op, 1)) : sOk l g D H0 mi y pc (s_dbin y (pc + 1) (fun a b => .int (Op.cmpValue (FP.dcmp a b) op))) := by
  intro L st σ Q h p e R s m args below meth c C H locs cells slots ls r1 r2 r3
  unfold s_dbin at h
  split at h
  · exact lv_dcmp C.1 (by rw [C.2.1, hm]) hd (h p e R s m args below meth c C H locs cells slots ls r1 r2 r3)
  · exact h.elim
/-- a quotient that is no NaN -/
def s_ddiv (y n : Nat) : FT := fun P L st σ Q => match st with
  | .double b :: .double a :: r => vf_n64 (FP.ddiv a b) ∧ P y n L (.double (FP.ddiv a b) :: r) σ Q
  | _ => False
theorem ok_ddiv (y n : Nat) : okF (s_ddiv y n) := by
  intro P P' hm hle L st σ Q Q' hQ h
  unfold s_ddiv at h ⊢
  split at h
  · exact ⟨h.1, hm _ _ _ _ _ _ _ hQ (hle _ _ _ _ _ _ h.2)⟩
  · exact h.elim
theorem so_ddiv (hm : mi y = (nm, cc, nL, ret, lev, hh)) (hd : decode cc pc = .ok (.ddiv, 1)) : sOk l g D H0 mi y pc (s_ddiv y (pc + 1)) := by
  intro L st σ Q h p e R s m args below meth c C H locs cells slots ls r1 r2 r3
  unfold s_ddiv at h
  split at h
  · exact lv_ddiv C.1 (by rw [C.2.1, hm]) hd h.1 (h.2 p e R s m args below meth c C H locs cells slots ls r1 r2 r3)
  · exact h.elim
theorem so_dconst0 (hm : mi y = (nm, cc, nL, ret, lev, hh)) (hd : decode cc pc = .ok (.dconst 0, 1)) : sOk l g D H0 mi y pc (s_const y (pc + 1) (.double FP.dconst0)) := fun L st σ Q h p e R s m args below meth c C H locs cells slots ls r1 r2 r3 =>
  lv_dconst0 C.1 (by rw [C.2.1, hm]) hd (h p e R s m args below meth c C H locs cells slots ls r1 r2 r3)
theorem so_if_eq (hm : mi y = (nm, cc, nL, ret, lev, hh)) {off : Int} {t : Nat} (hd : decode cc pc = .ok (.ifCond .eq off, 3)) (ht : (pc : Int) + off = (t : Int)) : sOk l g D H0 mi y pc (s_if y (pc + 3) t (fun a => a = 0)) := by
  intro L st σ Q h p e R s m args below meth c C H locs cells slots ls r1 r2 r3
  unfold s_if at h
  split at h
  · exact lv_if_eq C.1 (by rw [C.2.1, hm]) hd ht (fun q => h.1 q p e R s m args below meth c C H locs cells slots ls r1 r2 r3) (fun q => h.2 q p e R s m args below meth c C H locs cells slots ls r1 r2 r3)
  · exact h.elim
theorem so_if_ne (hm : mi y = (nm, cc, nL, ret, lev, hh)) {off : Int} {t : Nat} (hd : decode cc pc = .ok (.ifCond .ne off, 3)) (ht : (pc : Int) + off = (t : Int)) : sOk l g D H0 mi y pc (s_if y t (pc + 3) (fun a => a = 0)) := by
  intro L st σ Q h p e R s m args below meth c C H locs cells slots ls r1 r2 r3
  unfold s_if at h
  split at h
  · exact lv_if_ne C.1 (by rw [C.2.1, hm]) hd ht (fun q => h.2 q p e R s m args below meth c C H locs cells slots ls r1 r2 r3) (fun q => h.1 q p e R s m args below meth c C H locs cells slots ls r1 r2 r3)
  · exact h.elim
theorem so_if_lt (hm : mi y = (nm, cc, nL, ret, lev, hh)) {off : Int} {t : Nat} (hd : decode cc pc = .ok (.ifCond .lt off, 3)) (ht : (pc : Int) + off = (t : Int)) : sOk l g D H0 mi y pc (s_if y (pc + 3) t (fun a => a < 0)) := by
  intro L st σ Q h p e R s m args below meth c C H locs cells slots ls r1 r2 r3
  unfold s_if at h
  split at h
  · exact lv_if_lt C.1 (by rw [C.2.1, hm]) hd ht (fun q => h.1 q p e R s m args below meth c C H locs cells slots ls r1 r2 r3) (fun q => h.2 q p e R s m args below meth c C H locs cells slots ls r1 r2 r3)
  · exact h.elim
theorem so_if_ge (hm : mi y = (nm, cc, nL, ret, lev, hh)) {off : Int} {t : Nat} (hd : decode cc pc = .ok (.ifCond .ge off, 3)) (ht : (pc : Int) + off = (t : Int)) : sOk l g D H0 mi y pc (s_if y (pc + 3) t (fun a => 0 ≤ a)) := by
  intro L st σ Q h p e R s m args below meth c C H locs cells slots ls r1 r2 r3
  unfold s_if at h
  split at h
  · exact lv_if_ge C.1 (by rw [C.2.1, hm]) hd ht (fun q => h.1 q p e R s m args below meth c C H locs cells slots ls r1 r2 r3) (fun q => h.2 q p e R s m args below meth c C H locs cells slots ls r1 r2 r3)
  · exact h.elim
theorem so_if_gt (hm : mi y = (nm, cc, nL, ret, lev, hh)) {off : Int} {t : Nat} (hd : decode cc pc = .ok (.ifCond .gt off, 3)) (ht : (pc : Int) + off = (t : Int)) : sOk l g D H0 mi y pc (s_if y (pc + 3) t (fun a => 0 < a)) := by
  intro L st σ Q h p e R s m args below meth c C H locs cells slots ls r1 r2 r3
  unfold s_if at h
  split at h
  · exact lv_if_gt C.1 (by rw [C.2.1, hm]) hd ht (fun q => h.1 q p e R s m args below meth c C H locs cells slots ls r1 r2 r3) (fun q => h.2 q p e R s m args below meth c C H locs cells slots ls r1 r2 r3)
  · exact h.elim
theorem so_if_le (hm : mi y = (nm, cc, nL, ret, lev, hh)) {off : Int} {t : Nat} (hd : decode cc pc = .ok (.ifCond .le off, 3)) (ht : (pc : Int) + off = (t : Int)) : sOk l g D H0 mi y pc (s_if y (pc + 3) t (fun a => a ≤ 0)) := by
  intro L st σ Q h p e R s m args below meth c C H locs cells slots ls r1 r2 r3
  unfold s_if at h
  split at h
  · exact lv_if_le C.1 (by rw [C.2.1, hm]) hd ht (fun q => h.1 q p e R s m args below meth c C H locs cells slots ls r1 r2 r3) (fun q => h.2 q p e R s m args below meth c C H locs cells slots ls r1 r2 r3)
  · exact h.elim
theorem so_icmp_eq (hm : mi y = (nm, cc, nL, ret, lev, hh)) {off : Int} {t : Nat} (hd : decode cc pc = .ok (.if_icmp .eq off, 3)) (ht : (pc : Int) + off = (t : Int)) : sOk l g D H0 mi y pc (s_icmp y (pc + 3) t (fun a b => a = b)) := by
  intro L st σ Q h p e R s m args below meth c C H locs cells slots ls r1 r2 r3
  unfold s_icmp at h
  split at h
  · exact lv_icmp_eq C.1 (by rw [C.2.1, hm]) hd ht (fun q => h.1 q p e R s m args below meth c C H locs cells slots ls r1 r2 r3) (fun q => h.2 q p e R s m args below meth c C H locs cells slots ls r1 r2 r3)
  · exact h.elim
theorem so_icmp_ne (hm : mi y = (nm, cc, nL, ret, lev, hh)) {off : Int} {t : Nat} (hd : decode cc pc = .ok (.if_icmp .ne off, 3)) (ht : (pc : Int) + off = (t : Int)) : sOk l g D H0 mi y pc (s_icmp y t (pc + 3) (fun a b => a = b)) := by
  intro L st σ Q h p e R s m args below meth c C H locs cells slots ls r1 r2 r3
  unfold s_icmp at h
  split at h
  · exact lv_icmp_ne C.1 (by rw [C.2.1, hm]) hd ht (fun q => h.2 q p e R s m args below meth c C H locs cells slots ls r1 r2 r3) (fun q => h.1 q p e R s m args below meth c C H locs cells slots ls r1 r2 r3)
  · exact h.elim
theorem so_icmp_lt (hm : mi y = (nm, cc, nL, ret, lev, hh)) {off : Int} {t : Nat} (hd : decode cc pc = .ok (.if_icmp .lt off, 3)) (ht : (pc : Int) + off = (t : Int)) : sOk l g D H0 mi y pc (s_icmp y (pc + 3) t (fun a b => a < b)) := by
  intro L st σ Q h p e R s m args below meth c C H locs cells slots ls r1 r2 r3
  unfold s_icmp at h
  split at h
  · exact lv_icmp_lt C.1 (by rw [C.2.1, hm]) hd ht (fun q => h.1 q p e R s m args below meth c C H locs cells slots ls r1 r2 r3) (fun q => h.2 q p e R s m args below meth c C H locs cells slots ls r1 r2 r3)
  · exact h.elim
theorem so_icmp_ge (hm : mi y = (nm, cc, nL, ret, lev, hh)) {off : Int} {t : Nat} (hd : decode cc pc = .ok (.if_icmp .ge off, 3)) (ht : (pc : Int) + off = (t : Int)) : sOk l g D H0 mi y pc (s_icmp y (pc + 3) t (fun a b => b ≤ a)) := by
  intro L st σ Q h p e R s m args below meth c C H locs cells slots ls r1 r2 r3
  unfold s_icmp at h
  split at h
  · exact lv_icmp_ge C.1 (by rw [C.2.1, hm]) hd ht (fun q => h.1 q p e R s m args below meth c C H locs cells slots ls r1 r2 r3) (fun q => h.2 q p e R s m args below meth c C H locs cells slots ls r1 r2 r3)
  · exact h.elim
theorem so_icmp_gt (hm : mi y = (nm, cc, nL, ret, lev, hh)) {off : Int} {t : Nat} (hd : decode cc pc = .ok (.if_icmp .gt off, 3)) (ht : (pc : Int) + off = (t : Int)) : sOk l g D H0 mi y pc (s_icmp y (pc + 3) t (fun a b => b < a)) := by
  intro L st σ Q h p e R s m args below meth c C H locs cells slots ls r1 r2 r3
  unfold s_icmp at h
  split at h
  · exact lv_icmp_gt C.1 (by rw [C.2.1, hm]) hd ht (fun q => h.1 q p e R s m args below meth c C H locs cells slots ls r1 r2 r3) (fun q => h.2 q p e R s m args below meth c C H locs cells slots ls r1 r2 r3)
  · exact h.elim
theorem so_icmp_le (hm : mi y = (nm, cc, nL, ret, lev, hh)) {off : Int} {t : Nat} (hd : decode cc pc = .ok (.if_icmp .le off, 3)) (ht : (pc : Int) + off = (t : Int)) : sOk l g D H0 mi y pc (s_icmp y (pc + 3) t (fun a b => a ≤ b)) := by
  intro L st σ Q h p e R s m args below meth c C H locs cells slots ls r1 r2 r3
  unfold s_icmp at h
  split at h
  · exact lv_icmp_le C.1 (by rw [C.2.1, hm]) hd ht (fun q => h.1 q p e R s m args below meth c C H locs cells slots ls r1 r2 r3) (fun q => h.2 q p e R s m args below meth c C H locs cells slots ls r1 r2 r3)
  · exact h.elim
theorem so_goto (hm : mi y = (nm, cc, nL, ret, lev, hh)) {off : Int} {t : Nat} (hd : decode cc pc = .ok (.goto off, 3)) (ht : (pc : Int) + off = (t : Int)) : sOk l g D H0 mi y pc (s_goto y t) := fun L st σ Q h p e R s m args below meth c C H locs cells slots ls r1 r2 r3 =>
  lv_goto C.1 (by rw [C.2.1, hm]) hd ht (h p e R s m args below meth c C H locs cells slots ls r1 r2 r3)
theorem vRf_rf {v : Value} (h : vRf v = true) : ∃ r : Option Nat, v = va_rf r := by
  cases v with
  | ref a => exact ⟨some a, rfl⟩
  | null => exact ⟨none, rfl⟩
  | _ => cases h
theorem rf_inj {a b : Option Nat} : va_rf a = va_rf b ↔ a = b := by
  constructor
  · intro h
    cases a <;> cases b <;> simp [va_rf] at h ⊢
    exact h
  · intro h; rw [h]
theorem so_acmp_eq (hm : mi y = (nm, cc, nL, ret, lev, hh)) {off : Int} {t : Nat} (hd : decode cc pc = .ok (.if_acmp .eq off, 3)) (ht : (pc : Int) + off = (t : Int)) : sOk l g D H0 mi y pc (s_acmp y (pc + 3) t) := by
  intro L st σ Q h p e R s m args below meth c C H locs cells slots ls r1 r2 r3
  unfold s_acmp at h
  split at h
  · obtain ⟨h1, h2, h3, h4⟩ := h
    obtain ⟨ra, rfl⟩ := vRf_rf h1
    obtain ⟨rb, rfl⟩ := vRf_rf h2
    exact lv_acmp_eq C.1 (by rw [C.2.1, hm]) hd ht (fun q => h3 (by rw [q]) p e R s m args below meth c C H locs cells slots ls r1 r2 r3) (fun q => h4 (fun z => q (rf_inj.mp z)) p e R s m args below meth c C H locs cells slots ls r1 r2 r3)
  · exact h.elim
/-- jumps to t where the two are not one -/
def s_acmpn (y n t : Nat) : FT := s_acmp y t n
theorem ok_acmpn (y n t : Nat) : okF (s_acmpn y n t) := ok_acmp y t n
theorem so_acmp_ne (hm : mi y = (nm, cc, nL, ret, lev, hh)) {off : Int} {t : Nat} (hd : decode cc pc = .ok (.if_acmp .ne off, 3)) (ht : (pc : Int) + off = (t : Int)) : sOk l g D H0 mi y pc (s_acmpn y (pc + 3) t) := by
  intro L st σ Q h p e R s m args below meth c C H locs cells slots ls r1 r2 r3
  unfold s_acmpn s_acmp at h
  split at h
  · obtain ⟨h1, h2, h3, h4⟩ := h
    obtain ⟨ra, rfl⟩ := vRf_rf h1
    obtain ⟨rb, rfl⟩ := vRf_rf h2
    exact lv_acmp_ne C.1 (by rw [C.2.1, hm]) hd ht (fun q => h4 (fun z => q (rf_inj.mp z)) p e R s m args below meth c C H locs cells slots ls r1 r2 r3) (fun q => h3 (by rw [q]) p e R s m args below meth c C H locs cells slots ls r1 r2 r3)
  · exact h.elim
theorem so_ifnull (hm : mi y = (nm, cc, nL, ret, lev, hh)) {off : Int} {t : Nat} (hd : decode cc pc = .ok (.ifnull off, 3)) (ht : (pc : Int) + off = (t : Int)) : sOk l g D H0 mi y pc (s_ifnull y (pc + 3) t) := by
  intro L st σ Q h p e R s m args below meth c C H locs cells slots ls r1 r2 r3
  unfold s_ifnull at h
  split at h
  · rename_i a r
    obtain ⟨h1, h3, h4⟩ := h
    cases a with
    | null => exact lv_ifnullN C.1 (by rw [C.2.1, hm]) hd ht (h3 rfl p e R s m args below meth c C H locs cells slots ls r1 r2 r3)
    | ref x => exact lv_ifnull C.1 (by rw [C.2.1, hm]) hd (h4 (fun z => by cases z) p e R s m args below meth c C H locs cells slots ls r1 r2 r3)
    | _ => cases h1
  · exact h.elim
def s_ifnn (y n t : Nat) : FT := s_ifnull y t n
theorem ok_ifnn (y n t : Nat) : okF (s_ifnn y n t) := ok_ifnull y t n
theorem so_ifnonnull (hm : mi y = (nm, cc, nL, ret, lev, hh)) {off : Int} {t : Nat} (hd : decode cc pc = .ok (.ifnonnull off, 3)) (ht : (pc : Int) + off = (t : Int)) : sOk l g D H0 mi y pc (s_ifnn y (pc + 3) t) := by
  intro L st σ Q h p e R s m args below meth c C H locs cells slots ls r1 r2 r3
  unfold s_ifnn s_ifnull at h
  split at h
  · rename_i a r
    obtain ⟨h1, h3, h4⟩ := h
    cases a with
    | null => exact lv_ifnonnullN C.1 (by rw [C.2.1, hm]) hd (h3 rfl p e R s m args below meth c C H locs cells slots ls r1 r2 r3)
    | ref x => exact lv_ifnonnull C.1 (by rw [C.2.1, hm]) hd ht (h4 (fun z => by cases z) p e R s m args below meth c C H locs cells slots ls r1 r2 r3)
    | _ => cases h1
  · exact h.elim
theorem so_tsw (hm : mi y = (nm, cc, nL, ret, lev, hh)) {dflt lo hi : Int} {offs : Array Int} {len d : Nat} {ts : List Nat} (hd : decode cc pc = .ok (.tableswitch dflt lo hi offs, len)) (hdf : (pc : Int) + dflt = (d : Int)) (hhi : hi + 1 = lo + (ts.length : Int)) (ho : offs.toList.map (fun o => (pc : Int) + o) = ts.map (fun t : Nat => (t : Int))) : sOk l g D H0 mi y pc (s_tsw y (tswf lo d ts)) := by
  intro L st σ Q h p e R s m args below meth c C H locs cells slots ls r1 r2 r3
  unfold s_tsw at h
  split at h
  · rename_i x r
    unfold tswf at h
    split at h
    · rename_i hlo
      exact lv_tableOut C.1 (by rw [C.2.1, hm]) hd (Or.inl hlo) hdf (h p e R s m args below meth c C H locs cells slots ls r1 r2 r3)
    · rename_i hlo
      split at h
      · rename_i t ht
        have hi1 : (x.toInt - lo).toNat < ts.length := (List.getElem?_eq_some_iff.mp ht).1
        have ht2 : (ts.map (fun t : Nat => (t : Int)))[(x.toInt - lo).toNat]? = some (t : Int) := by rw [List.getElem?_map, ht]; rfl
        rw [← ho, List.getElem?_map] at ht2
        cases hof : offs.toList[(x.toInt - lo).toNat]? with
        | none => rw [hof] at ht2; cases ht2
        | some off =>
          rw [hof] at ht2
          exact lv_tableIn C.1 (by rw [C.2.1, hm]) hd hlo (by omega) (by rw [← Array.getElem?_toList]; exact hof) (Option.some.inj ht2) (h p e R s m args below meth c C H locs cells slots ls r1 r2 r3)
      · rename_i hn
        have hi1 : ts.length ≤ (x.toInt - lo).toNat := by simpa using hn
        exact lv_tableOut C.1 (by rw [C.2.1, hm]) hd (Or.inr (by omega)) hdf (h p e R s m args below meth c C H locs cells slots ls r1 r2 r3)
  · exact h.elim
end ARITH
