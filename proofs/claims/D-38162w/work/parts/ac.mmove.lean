/-! the model's move: how many bits -/
def bcE (x : Int32) : Int32 :=
  let a := x - ((x.toUInt32 >>> (Int32.toUInt32 1 &&& Int32.toUInt32 31)).toInt32 &&& 1431655765)
  let b := (a &&& 858993459) + ((a.toUInt32 >>> (Int32.toUInt32 2 &&& Int32.toUInt32 31)).toInt32 &&& 858993459)
  let c := (b + (b.toUInt32 >>> (Int32.toUInt32 4 &&& Int32.toUInt32 31)).toInt32) &&& 252645135
  let d := c + (c.toUInt32 >>> (Int32.toUInt32 8 &&& Int32.toUInt32 31)).toInt32
  let e := d + (d.toUInt32 >>> (Int32.toUInt32 16 &&& Int32.toUInt32 31)).toInt32
  e &&& 63
def pop (l : Nat) : Nat := l % 2 + l / 2 % 2 + l / 4 % 2 + l / 8 % 2 + l / 16 % 2 + l / 32 % 2
section MMOVE
variable {g : GC} {n : Nat} {M M' : Nat → Nat → Nat} {σ σ' : AH} {z z' : ZT} {k p i q : Nat} {Q : AQ}
theorem bcE_pop : ∀ l : Fin 64, bcE (Int32.ofNat l.1) = Int32.ofNat (pop l.1) := by decide +kernel
theorem l_bitCount {l : Nat} (hl : l < 64) : aw g 11 0 [some (.int (Int32.ofNat l))] [] σ Q = Q (.inl (some (.int (Int32.ofNat (pop l))))) σ := by
  rw [← bcE_pop ⟨l, hl⟩]
  simp (config := {decide := true}) only [vRf_r, vRf_n, vI_i, vL_l, vD_d, pI_i, pR_r, pR_n, vZ_0, vZ_1, ct_i, ct_r, ct_n, ct_l, ct_d, csum_n, csum_c, kt_v, kt_n, kt_e, oc_n, oc_i, oc_r, oc_l, oc_u, oc_d, true_and, and_true, Bool.and_true, Bool.true_and, ne_eq, not_false_eq_true, not_true_eq_false, implies_true, false_imp, true_imp_iff, hsz_put, hsl_put, hln_put, hty_put, hsz_new, hsl_new, hln_new, hty_new, Nat.zero_add, Nat.add_zero, eq_self, decide_true, t32_0, t32_1, t32_2, t32_3, t32_4, t32_5, t32_6, hv_same, hv_kne, hv_tne, hv_ntne, hv_nsame, hv_ctne, hty_cpy, hln_cpy, hsz_cpy, hsl_cpy, vrn, vnr, vrr, A11_0, A11_1, A11_2, A11_3, A11_4, A11_7, A11_8, A11_9, A11_10, A11_11, A11_14, A11_15, A11_16, A11_17, A11_18, A11_21, A11_22, A11_23, A11_24, A11_25, A11_26, A11_27, A11_28, A11_29, A11_32, A11_33, A11_34, A11_35, A11_36, A11_38, A11_39, A11_40, A11_41, A11_42, A11_43, A11_45, A11_46, A11_47, A11_48, A11_49, A11_51, A11_52]
  rfl
/-- one bit goes: the lowest -/
theorem low_bit : ∀ l : Fin 64, Int32.ofNat l.1 &&& (Int32.ofNat l.1 - 1) = Int32.ofNat (l.1 &&& (l.1 - 1)) ∧ (l.1 &&& (l.1 - 1)) < 64 := by decide +kernel
end MMOVE
