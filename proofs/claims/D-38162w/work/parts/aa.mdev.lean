/-! the model's device -/
def dvN (l : Int32) (n c : Nat) : Nat := (irm (l + Int32.ofNat c) (Int32.ofNat n)).toNatClampNeg
def mdN (l : Int32) (c : Nat) : Nat := (irm (l + Int32.ofNat c) 3).toNatClampNeg
def dvS (P : Nat → Bool) (l : Int32) (n : Nat) : Nat → Nat → Option Nat
  | _, 0 => none
  | c, m + 1 => if P (dvN l n c) = true then some (dvN l n c) else dvS P l n (c + 1) m
def mdS (P : Nat → Bool) (l : Int32) (n : Nat) : Nat → Nat → Option Nat
  | _, 0 => none
  | c, m + 1 => if mdN l c < n ∧ P (mdN l c) = true then some (mdN l c) else mdS P l n (c + 1) m
section MDEV
variable {g : GC} {n : Nat} {M M' : Nat → Nat → Nat} {σ σ' : AH} {z z' : ZT} {k p i q : Nat} {Q : AQ}
theorem n112 : (1 : Nat) + 1 = 2 := rfl
theorem n213 : (2 : Nat) + 1 = 3 := rfl
theorem dvN0 : dvN (-1) 1 1 = 0 := rfl
theorem dvN1 : dvN (Int32.ofNat 0) 1 1 = 0 := rfl
theorem dvN2 : dvN (-1) 2 1 = 0 := rfl
theorem dvN3 : dvN (-1) 2 2 = 1 := rfl
theorem dvN4 : dvN (Int32.ofNat 0) 2 1 = 1 := rfl
theorem dvN5 : dvN (Int32.ofNat 0) 2 2 = 0 := rfl
theorem dvN6 : dvN (Int32.ofNat 1) 2 1 = 0 := rfl
theorem dvN7 : dvN (Int32.ofNat 1) 2 2 = 1 := rfl
theorem dvN8 : dvN (-1) 3 1 = 0 := rfl
theorem dvN9 : dvN (-1) 3 2 = 1 := rfl
theorem dvN10 : dvN (-1) 3 3 = 2 := rfl
theorem dvN11 : dvN (Int32.ofNat 0) 3 1 = 1 := rfl
theorem dvN12 : dvN (Int32.ofNat 0) 3 2 = 2 := rfl
theorem dvN13 : dvN (Int32.ofNat 0) 3 3 = 0 := rfl
theorem dvN14 : dvN (Int32.ofNat 1) 3 1 = 2 := rfl
theorem dvN15 : dvN (Int32.ofNat 1) 3 2 = 0 := rfl
theorem dvN16 : dvN (Int32.ofNat 1) 3 3 = 1 := rfl
theorem dvN17 : dvN (Int32.ofNat 2) 3 1 = 0 := rfl
theorem dvN18 : dvN (Int32.ofNat 2) 3 2 = 1 := rfl
theorem dvN19 : dvN (Int32.ofNat 2) 3 3 = 2 := rfl
theorem mdN0 : mdN (Int32.ofNat 0) 1 = 1 := rfl
theorem mdN1 : mdN (Int32.ofNat 0) 2 = 2 := rfl
theorem mdN2 : mdN (Int32.ofNat 0) 3 = 0 := rfl
theorem mdN3 : mdN (Int32.ofNat 1) 1 = 2 := rfl
theorem mdN4 : mdN (Int32.ofNat 1) 2 = 0 := rfl
theorem mdN5 : mdN (Int32.ofNat 1) 3 = 1 := rfl
theorem mdN6 : mdN (Int32.ofNat 2) 1 = 0 := rfl
theorem mdN7 : mdN (Int32.ofNat 2) 2 = 1 := rfl
theorem mdN8 : mdN (Int32.ofNat 2) 3 = 2 := rfl
theorem mdN9 : mdN 2 1 = 0 := rfl
theorem mdN10 : mdN 2 2 = 1 := rfl
theorem mdN11 : mdN 2 3 = 2 := rfl
theorem dv_md (P : Nat → Bool) {l l2 : Int32} {n : Nat} (hn : n ≤ 3) (hl : (l = -1 ∧ l2 = 2) ∨ ∃ j, j < n ∧ l = Int32.ofNat j ∧ l2 = Int32.ofNat j) : mdS P l2 n 1 3 = dvS P l n 1 n := by
  have hn : n = 0 ∨ n = 1 ∨ n = 2 ∨ n = 3 := by omega
  have key : ∀ p0 p1 p2, P 0 = p0 → P 1 = p1 → P 2 = p2 → mdS P l2 n 1 3 = dvS P l n 1 n := by
    intro p0 p1 p2 h0 h1 h2
    rcases hl with ⟨e1, e2⟩ | ⟨j, j1, e1, e2⟩
    · subst e1; subst e2
      rcases hn with e | e | e | e <;> subst e <;> cases p0 <;> cases p1 <;> cases p2 <;> simp (config := {decide := true}) only [mdS, dvS, n112, n213, true_and, false_and, and_true, and_false, dvN0, dvN1, dvN2, dvN3, dvN4, dvN5, dvN6, dvN7, dvN8, dvN9, dvN10, dvN11, dvN12, dvN13, dvN14, dvN15, dvN16, dvN17, dvN18, dvN19, mdN0, mdN1, mdN2, mdN3, mdN4, mdN5, mdN6, mdN7, mdN8, mdN9, mdN10, mdN11, h0, h1, h2, if_true, if_false]
    · have hj : j = 0 ∨ j = 1 ∨ j = 2 := by omega
      subst e1; subst e2
      rcases hn with e | e | e | e <;> subst e <;> rcases hj with e | e | e <;> subst e <;> first | omega | (cases p0 <;> cases p1 <;> cases p2 <;> simp (config := {decide := true}) only [mdS, dvS, n112, n213, true_and, false_and, and_true, and_false, dvN0, dvN1, dvN2, dvN3, dvN4, dvN5, dvN6, dvN7, dvN8, dvN9, dvN10, dvN11, dvN12, dvN13, dvN14, dvN15, dvN16, dvN17, dvN18, dvN19, mdN0, mdN1, mdN2, mdN3, mdN4, mdN5, mdN6, mdN7, mdN8, mdN9, mdN10, mdN11, h0, h1, h2, if_true, if_false])
  exact key _ _ _ rfl rfl rfl
def qP (z : ZT) (k : Nat) : Bool := decide (0 < z.1 1 k 12)
theorem dvF_S (z : ZT) : ∀ m c, dvF z c m = match dvS (qP z) (z.1 0 0 6) (zn z) c m with
    | none => z
    | some k => beginZ z k := by
  intro m
  induction m with
  | zero => intro c; rfl
  | succ m ih =>
    intro c
    have e : dvI z c = dvN (z.1 0 0 6) (zn z) c := rfl
    unfold dvF dvS
    by_cases h : 0 < z.1 1 (dvI z c) 12
    · rw [if_pos h, if_pos (by rw [← e]; exact decide_eq_true h), e]
    · rw [if_neg h, if_neg (by rw [← e]; exact fun w => h (of_decide_eq_true w))]
      exact ih (c + 1)
theorem mdS_lt (P : Nat → Bool) (l : Int32) (n : Nat) : ∀ m c k, mdS P l n c m = some k → k < n ∧ P k = true := by
  intro m
  induction m with
  | zero => intro c k h; cases h
  | succ m ih =>
    intro c k h
    unfold mdS at h
    by_cases e : mdN l c < n ∧ P (mdN l c) = true
    · rw [if_pos e] at h
      rw [← Option.some.inj h]; exact e
    · rw [if_neg e] at h; exact ih _ _ h
end MDEV
