/-! quotients of ints are no NaN -/
section FPX
theorem fp_b64 : FP.Core.b64.tails = 4503599627370496 ∧ FP.Core.b64.exps = 2048 ∧ FP.Core.b64.qmin = -1074 ∧ FP.Core.b64.qmax = 971 ∧ FP.Core.b64.p = 53 := ⟨by decide, by decide, by decide, by decide, rfl⟩
/-- what is written of a datum that is no NaN -/
def fpOk (d : FP.Core.Datum) : Prop := match d with
  | .nan => False
  | .inf _ => True
  | .fin _ c q => c < 9007199254740992 ∧ q ≤ 971
theorem fp_enc {d : FP.Core.Datum} (h : fpOk d) : FP.Core.encode FP.Core.b64 d % 9223372036854775808 ≤ 9218868437227405312 := by
  obtain ⟨e1, e2, e3, e4, e5⟩ := fp_b64
  cases d with
  | nan => exact h.elim
  | inf s =>
    show FP.Core.assemble FP.Core.b64 s (FP.Core.b64.exps - 1) 0 % _ ≤ _
    unfold FP.Core.assemble
    rw [e1, e2]
    cases s <;> decide
  | fin s c q =>
    obtain ⟨h1, h2⟩ := h
    show (if c < FP.Core.b64.tails then FP.Core.assemble FP.Core.b64 s 0 c else FP.Core.assemble FP.Core.b64 s ((q - FP.Core.b64.qmin).toNat + 1) (c - FP.Core.b64.tails)) % _ ≤ _
    unfold FP.Core.assemble
    rw [e1, e2, e3]
    by_cases hc : c < 4503599627370496
    · rw [if_pos hc]
      cases s
      · show ((0 * 2048 + 0) * 4503599627370496 + c) % 9223372036854775808 ≤ _
        omega
      · show ((1 * 2048 + 0) * 4503599627370496 + c) % 9223372036854775808 ≤ _
        omega
    · rw [if_neg hc]
      have hE : (q - -1074).toNat ≤ 2045 := by omega
      generalize (q - -1074).toNat = E at hE ⊢
      cases s
      · show ((0 * 2048 + (E + 1)) * 4503599627370496 + (c - 4503599627370496)) % 9223372036854775808 ≤ _
        omega
      · show ((1 * 2048 + (E + 1)) * 4503599627370496 + (c - 4503599627370496)) % 9223372036854775808 ≤ _
        omega
theorem fp_bound (s : Bool) {c : Nat} (q : Int) (h : c < 9007199254740992) : fpOk (FP.Core.bound FP.Core.b64 s c q) := by
  obtain ⟨e1, e2, e3, e4, e5⟩ := fp_b64
  unfold FP.Core.bound
  rw [e4]
  by_cases hq : q ≤ 971
  · rw [if_pos hq]; exact ⟨h, hq⟩
  · rw [if_neg hq]; trivial
theorem fp_settle (s : Bool) (c : Nat) (q : Int) : fpOk (FP.Core.settle FP.Core.b64 s c q) := by
  obtain ⟨e1, e2, e3, e4, e5⟩ := fp_b64
  unfold FP.Core.settle
  rw [e5, e1]
  by_cases hc : c < 2 ^ 53
  · rw [if_pos hc]; exact fp_bound s q hc
  · rw [if_neg hc]; exact fp_bound s (q + 1) (by decide)
theorem fp_ratio (s : Bool) (c d : Nat) (e : Int) : fpOk (FP.Core.roundRatio FP.Core.b64 s c d e) := by
  obtain ⟨e1, e2, e3, e4, e5⟩ := fp_b64
  unfold FP.Core.roundRatio
  by_cases hc : c = 0
  · rw [if_pos hc, e3]; exact ⟨by decide, by decide⟩
  · rw [if_neg hc]; exact fp_settle _ _ _
/-- a positive int below 2^32, as a double -/
theorem fp_int {c : Nat} (h0 : 0 < c) (h : c < 4294967296) (s : Bool) : FP.Core.round FP.Core.b64 (.fin s c 0) = .fin s (c * 2 ^ (52 - c.log2)) ((c.log2 : Int) - 52) ∧ 4503599627370496 ≤ c * 2 ^ (52 - c.log2) ∧ c * 2 ^ (52 - c.log2) < 9007199254740992 ∧ c.log2 ≤ 31 := by
  obtain ⟨e1, e2, e3, e4, e5⟩ := fp_b64
  have hne : c ≠ 0 := by omega
  have hL : c.log2 < 32 := (Nat.log2_lt hne).mpr (by show c < 4294967296; exact h)
  have l1 : 2 ^ c.log2 ≤ c := Nat.log2_self_le hne
  have l2 : c < 2 ^ (c.log2 + 1) := Nat.lt_log2_self
  have p52 : 2 ^ c.log2 * 2 ^ (52 - c.log2) = 4503599627370496 := by
    rw [← Nat.pow_add, show c.log2 + (52 - c.log2) = 52 from by omega]
  have p53 : 2 ^ (c.log2 + 1) * 2 ^ (52 - c.log2) = 9007199254740992 := by
    rw [← Nat.pow_add, show c.log2 + 1 + (52 - c.log2) = 53 from by omega]
  have b1 : 4503599627370496 ≤ c * 2 ^ (52 - c.log2) := by rw [← p52]; exact Nat.mul_le_mul_right _ l1
  have b2 : c * 2 ^ (52 - c.log2) < 9007199254740992 := by
    rw [← p53]
    exact Nat.mul_lt_mul_of_pos_right l2 (Nat.pow_pos (by decide))
  refine ⟨?_, b1, b2, by omega⟩
  have hlead : FP.Core.leading c 1 = (c.log2 : Int) := by
    unfold FP.Core.leading
    have k0 : ((c.log2 : Int) - ((1 : Nat).log2 : Int)) = (c.log2 : Int) := by
      rw [show (1 : Nat).log2 = 0 from by decide]; omega
    show (if 1 * 2 ^ ((c.log2 : Int) - ((1 : Nat).log2 : Int)).toNat ≤ c * 2 ^ (-((c.log2 : Int) - ((1 : Nat).log2 : Int))).toNat then ((c.log2 : Int) - ((1 : Nat).log2 : Int)) else ((c.log2 : Int) - ((1 : Nat).log2 : Int)) - 1) = _
    rw [k0, show ((c.log2 : Int)).toNat = c.log2 from by omega, show (-(c.log2 : Int)).toNat = 0 from by omega]
    rw [if_pos (by omega)]
  have hq : FP.Core.quantum FP.Core.b64 c 1 0 = (c.log2 : Int) - 52 := by
    unfold FP.Core.quantum
    rw [hlead, e3, e5]
    omega
  show FP.Core.roundRatio FP.Core.b64 s c 1 0 = _
  unfold FP.Core.roundRatio
  rw [if_neg hne, hq]
  unfold FP.Core.roundAt FP.Core.unitsNum FP.Core.unitsDen
  rw [show ((0 : Int) - ((c.log2 : Int) - 52)).toNat = 52 - c.log2 from by omega, show ((c.log2 : Int) - 52 - 0).toNat = 0 from by omega]
  have hn : FP.Core.nearest (c * 2 ^ (52 - c.log2)) (1 * 2 ^ 0) = c * 2 ^ (52 - c.log2) := by
    unfold FP.Core.nearest
    rw [show (1 * 2 ^ 0 : Nat) = 1 from rfl, Nat.mod_one, if_pos (by decide), Nat.div_one]
  rw [hn]
  unfold FP.Core.settle
  rw [e5, if_pos (show c * 2 ^ (52 - c.log2) < 2 ^ 53 from b2)]
  unfold FP.Core.bound
  rw [e4, if_pos (by omega)]
theorem fp_dec {n c : Nat} {s : Bool} {L : Nat} (hL : L ≤ 31) (h1 : 4503599627370496 ≤ c) (h2 : c < 9007199254740992) (hn : n = FP.Core.encode FP.Core.b64 (.fin s c ((L : Int) - 52))) : n < 18446744073709551616 ∧ FP.Core.decode FP.Core.b64 n = .fin s c ((L : Int) - 52) := by
  obtain ⟨e1, e2, e3, e4, e5⟩ := fp_b64
  have e0 : n = (s.toNat * 2048 + (L + 1023)) * 4503599627370496 + (c - 4503599627370496) := by
    rw [hn]
    show (if c < FP.Core.b64.tails then FP.Core.assemble FP.Core.b64 s 0 c else FP.Core.assemble FP.Core.b64 s (((L : Int) - 52 - FP.Core.b64.qmin).toNat + 1) (c - FP.Core.b64.tails)) = _
    unfold FP.Core.assemble
    rw [e1, e2, e3, if_neg (by omega), show ((L : Int) - 52 - -1074).toNat + 1 = L + 1023 from by omega]
  have hs : s.toNat = 0 ∨ s.toNat = 1 := by cases s <;> simp
  have hT : FP.Core.fieldT FP.Core.b64 n = c - 4503599627370496 := by
    unfold FP.Core.fieldT
    rw [e1, e0]
    omega
  have hE : FP.Core.fieldE FP.Core.b64 n = L + 1023 := by
    unfold FP.Core.fieldE
    rw [e1, e2, e0]
    omega
  have hS : FP.Core.fieldS FP.Core.b64 n = s := by
    unfold FP.Core.fieldS
    rw [e1, e2, e0]
    have : ((s.toNat * 2048 + (L + 1023)) * 4503599627370496 + (c - 4503599627370496)) / 4503599627370496 / 2048 % 2 = s.toNat := by omega
    rw [this]
    cases s <;> rfl
  refine ⟨by omega, ?_⟩
  unfold FP.Core.decode
  rw [hE, hT, hS, e1, e2, e3, if_neg (by omega), if_neg (by omega), show 4503599627370496 + (c - 4503599627370496) = c from by omega, show (-1074 : Int) + (((L + 1023 : Nat) : Int) - 1) = (L : Int) - 52 from by omega]
theorem fp_i2d (a : Int32) : ∃ s c q, FP.Core.decode FP.Core.b64 (FP.Core.i2d a).toNat = .fin s c q ∧ (a ≠ 0 → c ≠ 0) := by
  by_cases h0 : a = 0
  · subst h0
    refine ⟨false, 0, -1074, ?_, fun e => absurd rfl e⟩
    decide
  · have hne : a.toInt ≠ 0 := fun e => h0 (Int32.toInt_inj.mp (by rw [e]; rfl))
    have b1 := Int32.toInt_lt a
    have b2 := Int32.le_toInt a
    obtain ⟨r1, r2, r3, r4⟩ := fp_int (c := a.toInt.natAbs) (by omega) (by omega) (decide (a.toInt < 0))
    obtain ⟨d1, d2⟩ := fp_dec (s := decide (a.toInt < 0)) r4 r2 r3 rfl
    have e : (FP.Core.i2d a).toNat = FP.Core.encode FP.Core.b64 (.fin (decide (a.toInt < 0)) (a.toInt.natAbs * 2 ^ (52 - a.toInt.natAbs.log2)) ((a.toInt.natAbs.log2 : Int) - 52)) := by
      show (UInt64.ofNat (FP.Core.encode FP.Core.b64 (FP.Core.round FP.Core.b64 (.fin (decide (a.toInt < 0)) a.toInt.natAbs 0)))).toNat = _
      rw [r1, UInt64.toNat_ofNat']; exact Nat.mod_eq_of_lt d1
    exact ⟨_, _, _, by rw [e]; exact d2, fun _ => by omega⟩
theorem n64_div (a : Int32) {b : Int32} (hb : b ≠ 0) : vf_n64 (FP.ddiv (FP.i2d a) (FP.i2d b)) := by
  obtain ⟨s, c, q, e1, _⟩ := fp_i2d a
  obtain ⟨t, d, r, e2, hd⟩ := fp_i2d b
  have hd := hd hb
  have hk : FP.Core.div FP.Core.b64 (FP.Core.i2d a).toNat (FP.Core.i2d b).toNat % 9223372036854775808 ≤ 9218868437227405312 := by
    unfold FP.Core.div
    rw [e1, e2]
    refine fp_enc ?_
    show fpOk (if d = 0 then _ else FP.Core.roundRatio FP.Core.b64 (s != t) c d (q - r))
    rw [if_neg hd]
    exact fp_ratio _ _ _ _
  unfold vf_n64
  rw [UInt64.le_iff_toNat_le, UInt64.toNat_and]
  have h1 : (0x7fffffffffffffff : UInt64).toNat = 2 ^ 63 - 1 := by decide
  have h3 : (0x7ff0000000000000 : UInt64).toNat = 9218868437227405312 := by decide
  rw [h1, h3, Nat.and_two_pow_sub_one_eq_mod]
  show (UInt64.ofNat (FP.Core.div FP.Core.b64 (FP.Core.i2d a).toNat (FP.Core.i2d b).toNat)).toNat % 2 ^ 63 ≤ _
  rw [UInt64.toNat_ofNat']
  generalize FP.Core.div FP.Core.b64 (FP.Core.i2d a).toNat (FP.Core.i2d b).toNat = n at hk
  show n % 2 ^ 64 % 2 ^ 63 ≤ 9218868437227405312
  omega
end FPX
