/-! one step of an abstract run, as an equation: printed by gen.py -/
section STEPS
variable {g : GC} {σ : AH} {Q : AQ}
theorem tq0_0 : tT g 0 0 = s_load vRf 0 1 0 := rfl
theorem A0_0  {x : Value} {r : List Value} : aw g 0 0 [some (x)] r σ Q = (vRf x = true ∧ aw g 0 1 [some (x)] (x :: r) σ Q) := (aw_eq g 0 0 _ _ _ _).trans (by rw [tq0_0]; exact h_load rfl)
theorem tq0_1 : tT g 0 1 = s_oinit 0 4 := rfl
theorem A0_1 {L : AL} {r : List Value} {a : Nat} : aw g 0 1 L (.ref a :: r) σ Q = (csum r ≤ 8 ∧ aw g 0 4 L r σ Q) := (aw_eq g 0 1 _ _ _ _).trans (by rw [tq0_1]; exact rfl)
theorem tq0_4 : tT g 0 4 = s_vret := rfl
theorem A0_4 {L : AL} : aw g 0 4 L [] σ Q = Q (.inl none) σ := (aw_eq g 0 4 _ _ _ _).trans (by rw [tq0_4]; exact rfl)
theorem tq1_0 : tT g 1 0 = s_load vRf 1 1 0 := rfl
theorem A1_0  {x : Value} {r : List Value} : aw g 1 0 [some (x)] r σ Q = (vRf x = true ∧ aw g 1 1 [some (x)] (x :: r) σ Q) := (aw_eq g 1 0 _ _ _ _).trans (by rw [tq1_0]; exact h_load rfl)
theorem tq1_1 : tT g 1 1 = s_callik 1 4 0 [] 1 := rfl
theorem A1_1 {L : AL} {r : List Value} {a : Nat} : aw g 1 1 L (.ref a :: r) σ Q = (true = true ∧ csum r ≤ 8 ∧ aw g 0 0 [some (.ref a)] [] σ (kt (aw g) 1 4 L r Q)) := (aw_eq g 1 1 _ _ _ _).trans (by rw [tq1_1]; exact rfl)
theorem tq1_4 : tT g 1 4 = s_load vRf 1 5 0 := rfl
theorem A1_4  {x : Value} {r : List Value} : aw g 1 4 [some (x)] r σ Q = (vRf x = true ∧ aw g 1 5 [some (x)] (x :: r) σ Q) := (aw_eq g 1 4 _ _ _ _).trans (by rw [tq1_4]; exact h_load rfl)
theorem tq1_5 : tT g 1 5 = s_const 1 6 (.int 0) := rfl
theorem A1_5 {L : AL} {r : List Value} : aw g 1 5 L r σ Q = aw g 1 6 L (.int 0 :: r) σ Q := (aw_eq g 1 5 _ _ _ _).trans (by rw [tq1_5]; exact rfl)
theorem tq1_6 : tT g 1 6 = s_putf g pI 1 9 10 0 := rfl
theorem A1_6 {L : AL} {r : List Value} {a : Nat} {v : Value} : aw g 1 6 L (v :: .ref a :: r) σ Q = (hty σ a = some 10 ∧ gB g ≤ a ∧ pI v ∧ aw g 1 9 L r (hput σ 10 a 0 v) Q) := (aw_eq g 1 6 _ _ _ _).trans (by rw [tq1_6]; exact rfl)
theorem tq1_9 : tT g 1 9 = s_vret := rfl
theorem A1_9 {L : AL} : aw g 1 9 L [] σ Q = Q (.inl none) σ := (aw_eq g 1 9 _ _ _ _).trans (by rw [tq1_9]; exact rfl)
theorem tq2_0 : tT g 2 0 = s_load vRf 2 1 0 := rfl
theorem A2_0 {l1 : Option Value} {x : Value} {r : List Value} : aw g 2 0 [some (x), l1] r σ Q = (vRf x = true ∧ aw g 2 1 [some (x), l1] (x :: r) σ Q) := (aw_eq g 2 0 _ _ _ _).trans (by rw [tq2_0]; exact h_load rfl)
theorem tq2_1 : tT g 2 1 = s_load vRf 2 2 1 := rfl
theorem A2_1 {l0 : Option Value} {x : Value} {r : List Value} : aw g 2 1 [l0, some (x)] r σ Q = (vRf x = true ∧ aw g 2 2 [l0, some (x)] (x :: r) σ Q) := (aw_eq g 2 1 _ _ _ _).trans (by rw [tq2_1]; exact h_load rfl)
theorem tq2_2 : tT g 2 2 = s_putf g pR 2 5 11 3 := rfl
theorem A2_2 {L : AL} {r : List Value} {a : Nat} {v : Value} : aw g 2 2 L (v :: .ref a :: r) σ Q = (hty σ a = some 11 ∧ gB g ≤ a ∧ pR v ∧ aw g 2 5 L r (hput σ 11 a 3 v) Q) := (aw_eq g 2 2 _ _ _ _).trans (by rw [tq2_2]; exact rfl)
theorem tq2_5 : tT g 2 5 = s_load vRf 2 6 0 := rfl
theorem A2_5 {l1 : Option Value} {x : Value} {r : List Value} : aw g 2 5 [some (x), l1] r σ Q = (vRf x = true ∧ aw g 2 6 [some (x), l1] (x :: r) σ Q) := (aw_eq g 2 5 _ _ _ _).trans (by rw [tq2_5]; exact h_load rfl)
theorem tq2_6 : tT g 2 6 = s_oinit 2 9 := rfl
theorem A2_6 {L : AL} {r : List Value} {a : Nat} : aw g 2 6 L (.ref a :: r) σ Q = (csum r ≤ 8 ∧ aw g 2 9 L r σ Q) := (aw_eq g 2 6 _ _ _ _).trans (by rw [tq2_6]; exact rfl)
theorem tq2_9 : tT g 2 9 = s_load vRf 2 10 0 := rfl
theorem A2_9 {l1 : Option Value} {x : Value} {r : List Value} : aw g 2 9 [some (x), l1] r σ Q = (vRf x = true ∧ aw g 2 10 [some (x), l1] (x :: r) σ Q) := (aw_eq g 2 9 _ _ _ _).trans (by rw [tq2_9]; exact h_load rfl)
theorem tq2_10 : tT g 2 10 = s_const 2 11 (.int (-1)) := rfl
theorem A2_10 {L : AL} {r : List Value} : aw g 2 10 L r σ Q = aw g 2 11 L (.int (-1) :: r) σ Q := (aw_eq g 2 10 _ _ _ _).trans (by rw [tq2_10]; exact rfl)
theorem tq2_11 : tT g 2 11 = s_putf g pI 2 14 11 1 := rfl
theorem A2_11 {L : AL} {r : List Value} {a : Nat} {v : Value} : aw g 2 11 L (v :: .ref a :: r) σ Q = (hty σ a = some 11 ∧ gB g ≤ a ∧ pI v ∧ aw g 2 14 L r (hput σ 11 a 1 v) Q) := (aw_eq g 2 11 _ _ _ _).trans (by rw [tq2_11]; exact rfl)
theorem tq2_14 : tT g 2 14 = s_load vRf 2 15 0 := rfl
theorem A2_14 {l1 : Option Value} {x : Value} {r : List Value} : aw g 2 14 [some (x), l1] r σ Q = (vRf x = true ∧ aw g 2 15 [some (x), l1] (x :: r) σ Q) := (aw_eq g 2 14 _ _ _ _).trans (by rw [tq2_14]; exact h_load rfl)
theorem tq2_15 : tT g 2 15 = s_load vRf 2 16 0 := rfl
theorem A2_15 {l1 : Option Value} {x : Value} {r : List Value} : aw g 2 15 [some (x), l1] r σ Q = (vRf x = true ∧ aw g 2 16 [some (x), l1] (x :: r) σ Q) := (aw_eq g 2 15 _ _ _ _).trans (by rw [tq2_15]; exact h_load rfl)
theorem tq2_16 : tT g 2 16 = s_getf 2 19 11 3 := rfl
theorem A2_16 {L : AL} {r : List Value} {a : Nat} : aw g 2 16 L (.ref a :: r) σ Q = (hty σ a = some 11 ∧ aw g 2 19 L (hv σ 11 a 3 :: r) σ Q) := (aw_eq g 2 16 _ _ _ _).trans (by rw [tq2_16]; exact rfl)
theorem tq2_19 : tT g 2 19 = s_getf 2 22 10 0 := rfl
theorem A2_19 {L : AL} {r : List Value} {a : Nat} : aw g 2 19 L (.ref a :: r) σ Q = (hty σ a = some 10 ∧ aw g 2 22 L (hv σ 10 a 0 :: r) σ Q) := (aw_eq g 2 19 _ _ _ _).trans (by rw [tq2_19]; exact rfl)
theorem tq2_22 : tT g 2 22 = s_putf g pI 2 25 11 2 := rfl
theorem A2_22 {L : AL} {r : List Value} {a : Nat} {v : Value} : aw g 2 22 L (v :: .ref a :: r) σ Q = (hty σ a = some 11 ∧ gB g ≤ a ∧ pI v ∧ aw g 2 25 L r (hput σ 11 a 2 v) Q) := (aw_eq g 2 22 _ _ _ _).trans (by rw [tq2_22]; exact rfl)
theorem tq2_25 : tT g 2 25 = s_vret := rfl
theorem A2_25 {L : AL} : aw g 2 25 L [] σ Q = Q (.inl none) σ := (aw_eq g 2 25 _ _ _ _).trans (by rw [tq2_25]; exact rfl)
theorem tq3_0 : tT g 3 0 = s_load vRf 3 1 0 := rfl
theorem A3_0  {x : Value} {r : List Value} : aw g 3 0 [some (x)] r σ Q = (vRf x = true ∧ aw g 3 1 [some (x)] (x :: r) σ Q) := (aw_eq g 3 0 _ _ _ _).trans (by rw [tq3_0]; exact h_load rfl)
theorem tq3_1 : tT g 3 1 = s_getf 3 4 11 0 := rfl
theorem A3_1 {L : AL} {r : List Value} {a : Nat} : aw g 3 1 L (.ref a :: r) σ Q = (hty σ a = some 11 ∧ aw g 3 4 L (hv σ 11 a 0 :: r) σ Q) := (aw_eq g 3 1 _ _ _ _).trans (by rw [tq3_1]; exact rfl)
theorem tq3_4 : tT g 3 4 = s_load vRf 3 5 0 := rfl
theorem A3_4  {x : Value} {r : List Value} : aw g 3 4 [some (x)] r σ Q = (vRf x = true ∧ aw g 3 5 [some (x)] (x :: r) σ Q) := (aw_eq g 3 4 _ _ _ _).trans (by rw [tq3_4]; exact h_load rfl)
theorem tq3_5 : tT g 3 5 = s_getf 3 8 11 3 := rfl
theorem A3_5 {L : AL} {r : List Value} {a : Nat} : aw g 3 5 L (.ref a :: r) σ Q = (hty σ a = some 11 ∧ aw g 3 8 L (hv σ 11 a 3 :: r) σ Q) := (aw_eq g 3 5 _ _ _ _).trans (by rw [tq3_5]; exact rfl)
theorem tq3_8 : tT g 3 8 = s_getf 3 11 10 2 := rfl
theorem A3_8 {L : AL} {r : List Value} {a : Nat} : aw g 3 8 L (.ref a :: r) σ Q = (hty σ a = some 10 ∧ aw g 3 11 L (hv σ 10 a 2 :: r) σ Q) := (aw_eq g 3 8 _ _ _ _).trans (by rw [tq3_8]; exact rfl)
theorem tq3_11 : tT g 3 11 = s_icmp 3 14 18 (fun a b => a = b) := rfl
theorem A3_11 {L : AL} {r : List Value} {a b : Int32} : aw g 3 11 L (.int b :: .int a :: r) σ Q = ((a = b → aw g 3 18 L r σ Q) ∧ (¬ a = b → aw g 3 14 L r σ Q)) := (aw_eq g 3 11 _ _ _ _).trans (by rw [tq3_11]; exact rfl)
theorem tq3_14 : tT g 3 14 = s_const 3 15 (.int 1) := rfl
theorem A3_14 {L : AL} {r : List Value} : aw g 3 14 L r σ Q = aw g 3 15 L (.int 1 :: r) σ Q := (aw_eq g 3 14 _ _ _ _).trans (by rw [tq3_14]; exact rfl)
theorem tq3_15 : tT g 3 15 = s_goto 3 19 := rfl
theorem A3_15 {L : AL} {r : List Value} : aw g 3 15 L r σ Q = aw g 3 19 L r σ Q := (aw_eq g 3 15 _ _ _ _).trans (by rw [tq3_15]; exact rfl)
theorem tq3_18 : tT g 3 18 = s_const 3 19 (.int 0) := rfl
theorem A3_18 {L : AL} {r : List Value} : aw g 3 18 L r σ Q = aw g 3 19 L (.int 0 :: r) σ Q := (aw_eq g 3 18 _ _ _ _).trans (by rw [tq3_18]; exact rfl)
theorem tq3_19 : tT g 3 19 = s_ret vZ := rfl
theorem A3_19 {L : AL} {v : Value} : aw g 3 19 L [v] σ Q = (vZ v ∧ Q (.inl (some v)) σ) := (aw_eq g 3 19 _ _ _ _).trans (by rw [tq3_19]; exact rfl)
theorem tq4_0 : tT g 4 0 = s_load vRf 4 1 0 := rfl
theorem A4_0 {l1 : Option Value} {l2 : Option Value} {x : Value} {r : List Value} : aw g 4 0 [some (x), l1, l2] r σ Q = (vRf x = true ∧ aw g 4 1 [some (x), l1, l2] (x :: r) σ Q) := (aw_eq g 4 0 _ _ _ _).trans (by rw [tq4_0]; exact h_load rfl)
theorem tq4_1 : tT g 4 1 = s_callvk 4 4 5 11 [] 1 := rfl
theorem A4_1 {L : AL} {r : List Value} {a : Nat} : aw g 4 1 L (.ref a :: r) σ Q = (hty σ a = some 11 ∧ true = true ∧ csum r ≤ 8 ∧ aw g 5 0 [some (.ref a)] [] σ (kt (aw g) 4 4 L r Q)) := (aw_eq g 4 1 _ _ _ _).trans (by rw [tq4_1]; exact rfl)
theorem tq4_4 : tT g 4 4 = s_load vRf 4 5 0 := rfl
theorem A4_4 {l1 : Option Value} {l2 : Option Value} {x : Value} {r : List Value} : aw g 4 4 [some (x), l1, l2] r σ Q = (vRf x = true ∧ aw g 4 5 [some (x), l1, l2] (x :: r) σ Q) := (aw_eq g 4 4 _ _ _ _).trans (by rw [tq4_4]; exact h_load rfl)
theorem tq4_5 : tT g 4 5 = s_getf 4 8 11 0 := rfl
theorem A4_5 {L : AL} {r : List Value} {a : Nat} : aw g 4 5 L (.ref a :: r) σ Q = (hty σ a = some 11 ∧ aw g 4 8 L (hv σ 11 a 0 :: r) σ Q) := (aw_eq g 4 5 _ _ _ _).trans (by rw [tq4_5]; exact rfl)
theorem tq4_8 : tT g 4 8 = s_store vI 4 9 1 := rfl
theorem A4_8 {l0 : Option Value} {l1 : Option Value} {l2 : Option Value} {x : Int32} {r : List Value} : aw g 4 8 [l0, l1, l2] (.int x :: r) σ Q = (oc l0 = true ∧ aw g 4 9 [l0, some (.int x), l2] r σ Q) := (aw_eq g 4 8 _ _ _ _).trans (by rw [tq4_8]; exact (h_store (o := oc l0) rfl rfl rfl).trans (propext ⟨fun z => z.2, fun z => ⟨rfl, z⟩⟩))
theorem tq4_9 : tT g 4 9 = s_load vI 4 10 1 := rfl
theorem A4_9 {l0 : Option Value} {l2 : Option Value} {x : Int32} {r : List Value} : aw g 4 9 [l0, some (.int x), l2] r σ Q = aw g 4 10 [l0, some (.int x), l2] (.int x :: r) σ Q := (aw_eq g 4 9 _ _ _ _).trans (by rw [tq4_9]; exact (h_load rfl).trans (propext ⟨fun z => z.2, fun z => ⟨rfl, z⟩⟩))
theorem tq4_10 : tT g 4 10 = s_load vRf 4 11 0 := rfl
theorem A4_10 {l1 : Option Value} {l2 : Option Value} {x : Value} {r : List Value} : aw g 4 10 [some (x), l1, l2] r σ Q = (vRf x = true ∧ aw g 4 11 [some (x), l1, l2] (x :: r) σ Q) := (aw_eq g 4 10 _ _ _ _).trans (by rw [tq4_10]; exact h_load rfl)
theorem tq4_11 : tT g 4 11 = s_getf 4 14 11 3 := rfl
theorem A4_11 {L : AL} {r : List Value} {a : Nat} : aw g 4 11 L (.ref a :: r) σ Q = (hty σ a = some 11 ∧ aw g 4 14 L (hv σ 11 a 3 :: r) σ Q) := (aw_eq g 4 11 _ _ _ _).trans (by rw [tq4_11]; exact rfl)
theorem tq4_14 : tT g 4 14 = s_getf 4 17 10 2 := rfl
theorem A4_14 {L : AL} {r : List Value} {a : Nat} : aw g 4 14 L (.ref a :: r) σ Q = (hty σ a = some 10 ∧ aw g 4 17 L (hv σ 10 a 2 :: r) σ Q) := (aw_eq g 4 14 _ _ _ _).trans (by rw [tq4_14]; exact rfl)
theorem tq4_17 : tT g 4 17 = s_icmp 4 20 28 (fun a b => a < b) := rfl
theorem A4_17 {L : AL} {r : List Value} {a b : Int32} : aw g 4 17 L (.int b :: .int a :: r) σ Q = ((a < b → aw g 4 28 L r σ Q) ∧ (¬ a < b → aw g 4 20 L r σ Q)) := (aw_eq g 4 17 _ _ _ _).trans (by rw [tq4_17]; exact rfl)
theorem tq4_23 : tT g 4 23 = s_dup 4 24 := rfl
theorem A4_23 {L : AL} {r : List Value} {v : Value} : aw g 4 23 L (v :: r) σ Q = (v.category = 1 ∧ aw g 4 24 L (v :: v :: r) σ Q) := (aw_eq g 4 23 _ _ _ _).trans (by rw [tq4_23]; exact rfl)
theorem tq4_28 : tT g 4 28 = s_load vRf 4 29 0 := rfl
theorem A4_28 {l1 : Option Value} {l2 : Option Value} {x : Value} {r : List Value} : aw g 4 28 [some (x), l1, l2] r σ Q = (vRf x = true ∧ aw g 4 29 [some (x), l1, l2] (x :: r) σ Q) := (aw_eq g 4 28 _ _ _ _).trans (by rw [tq4_28]; exact h_load rfl)
theorem tq4_29 : tT g 4 29 = s_getf 4 32 11 3 := rfl
theorem A4_29 {L : AL} {r : List Value} {a : Nat} : aw g 4 29 L (.ref a :: r) σ Q = (hty σ a = some 11 ∧ aw g 4 32 L (hv σ 11 a 3 :: r) σ Q) := (aw_eq g 4 29 _ _ _ _).trans (by rw [tq4_29]; exact rfl)
theorem tq4_32 : tT g 4 32 = s_getf 4 35 10 1 := rfl
theorem A4_32 {L : AL} {r : List Value} {a : Nat} : aw g 4 32 L (.ref a :: r) σ Q = (hty σ a = some 10 ∧ aw g 4 35 L (hv σ 10 a 1 :: r) σ Q) := (aw_eq g 4 32 _ _ _ _).trans (by rw [tq4_32]; exact rfl)
theorem tq4_35 : tT g 4 35 = s_store vRf 4 36 2 := rfl
theorem A4_35 {l0 : Option Value} {l1 : Option Value} {l2 : Option Value} {x : Value} {r : List Value} : aw g 4 35 [l0, l1, l2] (x :: r) σ Q = (vRf x = true ∧ oc l1 = true ∧ aw g 4 36 [l0, l1, some (x)] r σ Q) := (aw_eq g 4 35 _ _ _ _).trans (by rw [tq4_35]; exact (h_store (o := oc l1) rfl rfl rfl))
theorem tq4_36 : tT g 4 36 = s_load vI 4 37 1 := rfl
theorem A4_36 {l0 : Option Value} {l2 : Option Value} {x : Int32} {r : List Value} : aw g 4 36 [l0, some (.int x), l2] r σ Q = aw g 4 37 [l0, some (.int x), l2] (.int x :: r) σ Q := (aw_eq g 4 36 _ _ _ _).trans (by rw [tq4_36]; exact (h_load rfl).trans (propext ⟨fun z => z.2, fun z => ⟨rfl, z⟩⟩))
theorem tq4_37 : tT g 4 37 = s_load vRf 4 38 2 := rfl
theorem A4_37 {l0 : Option Value} {l1 : Option Value} {x : Value} {r : List Value} : aw g 4 37 [l0, l1, some (x)] r σ Q = (vRf x = true ∧ aw g 4 38 [l0, l1, some (x)] (x :: r) σ Q) := (aw_eq g 4 37 _ _ _ _).trans (by rw [tq4_37]; exact h_load rfl)
theorem tq4_38 : tT g 4 38 = s_alen 4 39 24 := rfl
theorem A4_38 {L : AL} {r : List Value} {a : Nat} : aw g 4 38 L (.ref a :: r) σ Q = (hty σ a = some 24 ∧ aw g 4 39 L (.int (Int32.ofNat (hln σ a)) :: r) σ Q) := (aw_eq g 4 38 _ _ _ _).trans (by rw [tq4_38]; exact rfl)
theorem tq4_39 : tT g 4 39 = s_icmp 4 42 50 (fun a b => a < b) := rfl
theorem A4_39 {L : AL} {r : List Value} {a b : Int32} : aw g 4 39 L (.int b :: .int a :: r) σ Q = ((a < b → aw g 4 50 L r σ Q) ∧ (¬ a < b → aw g 4 42 L r σ Q)) := (aw_eq g 4 39 _ _ _ _).trans (by rw [tq4_39]; exact rfl)
theorem tq4_45 : tT g 4 45 = s_dup 4 46 := rfl
theorem A4_45 {L : AL} {r : List Value} {v : Value} : aw g 4 45 L (v :: r) σ Q = (v.category = 1 ∧ aw g 4 46 L (v :: v :: r) σ Q) := (aw_eq g 4 45 _ _ _ _).trans (by rw [tq4_45]; exact rfl)
theorem tq4_50 : tT g 4 50 = s_load vRf 4 51 0 := rfl
theorem A4_50 {l1 : Option Value} {l2 : Option Value} {x : Value} {r : List Value} : aw g 4 50 [some (x), l1, l2] r σ Q = (vRf x = true ∧ aw g 4 51 [some (x), l1, l2] (x :: r) σ Q) := (aw_eq g 4 50 _ _ _ _).trans (by rw [tq4_50]; exact h_load rfl)
theorem tq4_51 : tT g 4 51 = s_load vI 4 52 1 := rfl
theorem A4_51 {l0 : Option Value} {l2 : Option Value} {x : Int32} {r : List Value} : aw g 4 51 [l0, some (.int x), l2] r σ Q = aw g 4 52 [l0, some (.int x), l2] (.int x :: r) σ Q := (aw_eq g 4 51 _ _ _ _).trans (by rw [tq4_51]; exact (h_load rfl).trans (propext ⟨fun z => z.2, fun z => ⟨rfl, z⟩⟩))
theorem tq4_52 : tT g 4 52 = s_const 4 53 (.int 1) := rfl
theorem A4_52 {L : AL} {r : List Value} : aw g 4 52 L r σ Q = aw g 4 53 L (.int 1 :: r) σ Q := (aw_eq g 4 52 _ _ _ _).trans (by rw [tq4_52]; exact rfl)
theorem tq4_53 : tT g 4 53 = s_bin 4 54 (fun a b => a + b) := rfl
theorem A4_53 {L : AL} {r : List Value} {a b : Int32} : aw g 4 53 L (.int b :: .int a :: r) σ Q = aw g 4 54 L (.int (a + b) :: r) σ Q := (aw_eq g 4 53 _ _ _ _).trans (by rw [tq4_53]; exact rfl)
theorem tq4_54 : tT g 4 54 = s_putf g pI 4 57 11 0 := rfl
theorem A4_54 {L : AL} {r : List Value} {a : Nat} {v : Value} : aw g 4 54 L (v :: .ref a :: r) σ Q = (hty σ a = some 11 ∧ gB g ≤ a ∧ pI v ∧ aw g 4 57 L r (hput σ 11 a 0 v) Q) := (aw_eq g 4 54 _ _ _ _).trans (by rw [tq4_54]; exact rfl)
theorem tq4_57 : tT g 4 57 = s_load vRf 4 58 2 := rfl
theorem A4_57 {l0 : Option Value} {l1 : Option Value} {x : Value} {r : List Value} : aw g 4 57 [l0, l1, some (x)] r σ Q = (vRf x = true ∧ aw g 4 58 [l0, l1, some (x)] (x :: r) σ Q) := (aw_eq g 4 57 _ _ _ _).trans (by rw [tq4_57]; exact h_load rfl)
theorem tq4_58 : tT g 4 58 = s_load vRf 4 59 0 := rfl
theorem A4_58 {l1 : Option Value} {l2 : Option Value} {x : Value} {r : List Value} : aw g 4 58 [some (x), l1, l2] r σ Q = (vRf x = true ∧ aw g 4 59 [some (x), l1, l2] (x :: r) σ Q) := (aw_eq g 4 58 _ _ _ _).trans (by rw [tq4_58]; exact h_load rfl)
theorem tq4_59 : tT g 4 59 = s_load vI 4 60 1 := rfl
theorem A4_59 {l0 : Option Value} {l2 : Option Value} {x : Int32} {r : List Value} : aw g 4 59 [l0, some (.int x), l2] r σ Q = aw g 4 60 [l0, some (.int x), l2] (.int x :: r) σ Q := (aw_eq g 4 59 _ _ _ _).trans (by rw [tq4_59]; exact (h_load rfl).trans (propext ⟨fun z => z.2, fun z => ⟨rfl, z⟩⟩))
theorem tq4_60 : tT g 4 60 = s_dupx1 4 61 := rfl
theorem A4_60 {L : AL} {r : List Value} {v w : Value} : aw g 4 60 L (v :: w :: r) σ Q = (v.category = 1 ∧ w.category = 1 ∧ aw g 4 61 L (v :: w :: v :: r) σ Q) := (aw_eq g 4 60 _ _ _ _).trans (by rw [tq4_60]; exact rfl)
theorem tq4_61 : tT g 4 61 = s_putf g pI 4 64 11 1 := rfl
theorem A4_61 {L : AL} {r : List Value} {a : Nat} {v : Value} : aw g 4 61 L (v :: .ref a :: r) σ Q = (hty σ a = some 11 ∧ gB g ≤ a ∧ pI v ∧ aw g 4 64 L r (hput σ 11 a 1 v) Q) := (aw_eq g 4 61 _ _ _ _).trans (by rw [tq4_61]; exact rfl)
theorem tq4_64 : tT g 4 64 = s_ald 4 65 24 := rfl
theorem A4_64 {L : AL} {r : List Value} {a : Nat} {i : Int32} : aw g 4 64 L (.int i :: .ref a :: r) σ Q = (hty σ a = some 24 ∧ ¬ i < 0 ∧ i.toNatClampNeg < hln σ a ∧ aw g 4 65 L (hv σ 24 a i.toNatClampNeg :: r) σ Q) := (aw_eq g 4 64 _ _ _ _).trans (by rw [tq4_64]; exact rfl)
theorem tq4_65 : tT g 4 65 = s_ret pR := rfl
theorem A4_65 {L : AL} {v : Value} : aw g 4 65 L [v] σ Q = (pR v ∧ Q (.inl (some v)) σ) := (aw_eq g 4 65 _ _ _ _).trans (by rw [tq4_65]; exact rfl)
theorem tq5_0 : tT g 5 0 = s_load vRf 5 1 0 := rfl
theorem A5_0  {x : Value} {r : List Value} : aw g 5 0 [some (x)] r σ Q = (vRf x = true ∧ aw g 5 1 [some (x)] (x :: r) σ Q) := (aw_eq g 5 0 _ _ _ _).trans (by rw [tq5_0]; exact h_load rfl)
theorem tq5_1 : tT g 5 1 = s_getf 5 4 11 3 := rfl
theorem A5_1 {L : AL} {r : List Value} {a : Nat} : aw g 5 1 L (.ref a :: r) σ Q = (hty σ a = some 11 ∧ aw g 5 4 L (hv σ 11 a 3 :: r) σ Q) := (aw_eq g 5 1 _ _ _ _).trans (by rw [tq5_1]; exact rfl)
theorem tq5_4 : tT g 5 4 = s_getf 5 7 10 0 := rfl
theorem A5_4 {L : AL} {r : List Value} {a : Nat} : aw g 5 4 L (.ref a :: r) σ Q = (hty σ a = some 10 ∧ aw g 5 7 L (hv σ 10 a 0 :: r) σ Q) := (aw_eq g 5 4 _ _ _ _).trans (by rw [tq5_4]; exact rfl)
theorem tq5_7 : tT g 5 7 = s_load vRf 5 8 0 := rfl
theorem A5_7  {x : Value} {r : List Value} : aw g 5 7 [some (x)] r σ Q = (vRf x = true ∧ aw g 5 8 [some (x)] (x :: r) σ Q) := (aw_eq g 5 7 _ _ _ _).trans (by rw [tq5_7]; exact h_load rfl)
theorem tq5_8 : tT g 5 8 = s_getf 5 11 11 2 := rfl
theorem A5_8 {L : AL} {r : List Value} {a : Nat} : aw g 5 8 L (.ref a :: r) σ Q = (hty σ a = some 11 ∧ aw g 5 11 L (hv σ 11 a 2 :: r) σ Q) := (aw_eq g 5 8 _ _ _ _).trans (by rw [tq5_8]; exact rfl)
theorem tq5_11 : tT g 5 11 = s_icmp 5 14 22 (fun a b => a = b) := rfl
theorem A5_11 {L : AL} {r : List Value} {a b : Int32} : aw g 5 11 L (.int b :: .int a :: r) σ Q = ((a = b → aw g 5 22 L r σ Q) ∧ (¬ a = b → aw g 5 14 L r σ Q)) := (aw_eq g 5 11 _ _ _ _).trans (by rw [tq5_11]; exact rfl)
theorem tq5_17 : tT g 5 17 = s_dup 5 18 := rfl
theorem A5_17 {L : AL} {r : List Value} {v : Value} : aw g 5 17 L (v :: r) σ Q = (v.category = 1 ∧ aw g 5 18 L (v :: v :: r) σ Q) := (aw_eq g 5 17 _ _ _ _).trans (by rw [tq5_17]; exact rfl)
theorem tq5_22 : tT g 5 22 = s_vret := rfl
theorem A5_22 {L : AL} : aw g 5 22 L [] σ Q = Q (.inl none) σ := (aw_eq g 5 22 _ _ _ _).trans (by rw [tq5_22]; exact rfl)
theorem tq6_0 : tT g 6 0 = s_load vRf 6 1 0 := rfl
theorem A6_0  {x : Value} {r : List Value} : aw g 6 0 [some (x)] r σ Q = (vRf x = true ∧ aw g 6 1 [some (x)] (x :: r) σ Q) := (aw_eq g 6 0 _ _ _ _).trans (by rw [tq6_0]; exact h_load rfl)
theorem tq6_1 : tT g 6 1 = s_oinit 6 4 := rfl
theorem A6_1 {L : AL} {r : List Value} {a : Nat} : aw g 6 1 L (.ref a :: r) σ Q = (csum r ≤ 8 ∧ aw g 6 4 L r σ Q) := (aw_eq g 6 1 _ _ _ _).trans (by rw [tq6_1]; exact rfl)
theorem tq6_4 : tT g 6 4 = s_vret := rfl
theorem A6_4 {L : AL} : aw g 6 4 L [] σ Q = Q (.inl none) σ := (aw_eq g 6 4 _ _ _ _).trans (by rw [tq6_4]; exact rfl)
theorem tq7_0 : tT g 7 0 = s_load vRf 7 1 1 := rfl
theorem A7_0 {l0 : Option Value} {x : Value} {r : List Value} : aw g 7 0 [l0, some (x)] r σ Q = (vRf x = true ∧ aw g 7 1 [l0, some (x)] (x :: r) σ Q) := (aw_eq g 7 0 _ _ _ _).trans (by rw [tq7_0]; exact h_load rfl)
theorem tq7_4 : tT g 7 4 = s_if 7 7 27 (fun a => a = 0) := rfl
theorem A7_4 {L : AL} {r : List Value} {a : Int32} : aw g 7 4 L (.int a :: r) σ Q = ((a = 0 → aw g 7 27 L r σ Q) ∧ (¬ a = 0 → aw g 7 7 L r σ Q)) := (aw_eq g 7 4 _ _ _ _).trans (by rw [tq7_4]; exact rfl)
theorem tq7_7 : tT g 7 7 = s_load vRf 7 8 0 := rfl
theorem A7_7 {l1 : Option Value} {x : Value} {r : List Value} : aw g 7 7 [some (x), l1] r σ Q = (vRf x = true ∧ aw g 7 8 [some (x), l1] (x :: r) σ Q) := (aw_eq g 7 7 _ _ _ _).trans (by rw [tq7_7]; exact h_load rfl)
theorem tq7_8 : tT g 7 8 = s_getf 7 11 12 0 := rfl
theorem A7_8 {L : AL} {r : List Value} {a : Nat} : aw g 7 8 L (.ref a :: r) σ Q = (hty σ a = some 12 ∧ aw g 7 11 L (hv σ 12 a 0 :: r) σ Q) := (aw_eq g 7 8 _ _ _ _).trans (by rw [tq7_8]; exact rfl)
theorem tq7_11 : tT g 7 11 = s_load vRf 7 12 1 := rfl
theorem A7_11 {l0 : Option Value} {x : Value} {r : List Value} : aw g 7 11 [l0, some (x)] r σ Q = (vRf x = true ∧ aw g 7 12 [l0, some (x)] (x :: r) σ Q) := (aw_eq g 7 11 _ _ _ _).trans (by rw [tq7_11]; exact h_load rfl)
theorem tq7_12 : tT g 7 12 = s_cast 7 15 [12] := rfl
theorem A7_12 {L : AL} {r : List Value} : aw g 7 12 L (.null :: r) σ Q = aw g 7 15 L (.null :: r) σ Q := (aw_eq g 7 12 _ _ _ _).trans (by rw [tq7_12]; exact rfl)
theorem A7_12r {L : AL} {r : List Value} {a : Nat} : aw g 7 12 L (.ref a :: r) σ Q = (hty σ a = some 12 ∧ aw g 7 15 L (.ref a :: r) σ Q) := (aw_eq g 7 12 _ _ _ _).trans (by rw [tq7_12]; exact propext ⟨fun z => (by obtain ⟨⟨u, hu, hu2⟩, z2⟩ := z; rw [List.mem_singleton] at hu; subst hu; exact ⟨hu2, z2⟩), fun z => ⟨⟨_, List.mem_cons_self, z.1⟩, z.2⟩⟩)
theorem tq7_15 : tT g 7 15 = s_callvk 7 18 8 12 [] 1 := rfl
theorem A7_15 {L : AL} {r : List Value} {a : Nat} : aw g 7 15 L (.ref a :: r) σ Q = (hty σ a = some 12 ∧ true = true ∧ csum r ≤ 8 ∧ aw g 8 0 [some (.ref a)] [] σ (kt (aw g) 7 18 L r Q)) := (aw_eq g 7 15 _ _ _ _).trans (by rw [tq7_15]; exact rfl)
theorem tq7_18 : tT g 7 18 = s_icmp 7 25 21 (fun a b => a = b) := rfl
theorem A7_18 {L : AL} {r : List Value} {a b : Int32} : aw g 7 18 L (.int b :: .int a :: r) σ Q = ((a = b → aw g 7 21 L r σ Q) ∧ (¬ a = b → aw g 7 25 L r σ Q)) := (aw_eq g 7 18 _ _ _ _).trans (by rw [tq7_18]; exact rfl)
theorem tq7_21 : tT g 7 21 = s_const 7 22 (.int 1) := rfl
theorem A7_21 {L : AL} {r : List Value} : aw g 7 21 L r σ Q = aw g 7 22 L (.int 1 :: r) σ Q := (aw_eq g 7 21 _ _ _ _).trans (by rw [tq7_21]; exact rfl)
theorem tq7_22 : tT g 7 22 = s_goto 7 26 := rfl
theorem A7_22 {L : AL} {r : List Value} : aw g 7 22 L r σ Q = aw g 7 26 L r σ Q := (aw_eq g 7 22 _ _ _ _).trans (by rw [tq7_22]; exact rfl)
theorem tq7_25 : tT g 7 25 = s_const 7 26 (.int 0) := rfl
theorem A7_25 {L : AL} {r : List Value} : aw g 7 25 L r σ Q = aw g 7 26 L (.int 0 :: r) σ Q := (aw_eq g 7 25 _ _ _ _).trans (by rw [tq7_25]; exact rfl)
theorem tq7_26 : tT g 7 26 = s_ret vZ := rfl
theorem A7_26 {L : AL} {v : Value} : aw g 7 26 L [v] σ Q = (vZ v ∧ Q (.inl (some v)) σ) := (aw_eq g 7 26 _ _ _ _).trans (by rw [tq7_26]; exact rfl)
theorem tq7_27 : tT g 7 27 = s_const 7 28 (.int 0) := rfl
theorem A7_27 {L : AL} {r : List Value} : aw g 7 27 L r σ Q = aw g 7 28 L (.int 0 :: r) σ Q := (aw_eq g 7 27 _ _ _ _).trans (by rw [tq7_27]; exact rfl)
theorem tq7_28 : tT g 7 28 = s_ret vZ := rfl
theorem A7_28 {L : AL} {v : Value} : aw g 7 28 L [v] σ Q = (vZ v ∧ Q (.inl (some v)) σ) := (aw_eq g 7 28 _ _ _ _).trans (by rw [tq7_28]; exact rfl)
theorem tq8_0 : tT g 8 0 = s_load vRf 8 1 0 := rfl
theorem A8_0  {x : Value} {r : List Value} : aw g 8 0 [some (x)] r σ Q = (vRf x = true ∧ aw g 8 1 [some (x)] (x :: r) σ Q) := (aw_eq g 8 0 _ _ _ _).trans (by rw [tq8_0]; exact h_load rfl)
theorem tq8_1 : tT g 8 1 = s_getf 8 4 12 0 := rfl
theorem A8_1 {L : AL} {r : List Value} {a : Nat} : aw g 8 1 L (.ref a :: r) σ Q = (hty σ a = some 12 ∧ aw g 8 4 L (hv σ 12 a 0 :: r) σ Q) := (aw_eq g 8 1 _ _ _ _).trans (by rw [tq8_1]; exact rfl)
theorem tq8_4 : tT g 8 4 = s_ret pI := rfl
theorem A8_4 {L : AL} {v : Value} : aw g 8 4 L [v] σ Q = (pI v ∧ Q (.inl (some v)) σ) := (aw_eq g 8 4 _ _ _ _).trans (by rw [tq8_4]; exact rfl)
theorem tq9_0 : tT g 9 0 = s_load vI 9 1 0 := rfl
theorem A9_0  {x : Int32} {r : List Value} : aw g 9 0 [some (.int x)] r σ Q = aw g 9 1 [some (.int x)] (.int x :: r) σ Q := (aw_eq g 9 0 _ _ _ _).trans (by rw [tq9_0]; exact (h_load rfl).trans (propext ⟨fun z => z.2, fun z => ⟨rfl, z⟩⟩))
theorem tq9_1 : tT g 9 1 = s_const 9 3 (.int (-128)) := rfl
theorem A9_1 {L : AL} {r : List Value} : aw g 9 1 L r σ Q = aw g 9 3 L (.int (-128) :: r) σ Q := (aw_eq g 9 1 _ _ _ _).trans (by rw [tq9_1]; exact rfl)
theorem tq9_3 : tT g 9 3 = s_icmp 9 6 23 (fun a b => a < b) := rfl
theorem A9_3 {L : AL} {r : List Value} {a b : Int32} : aw g 9 3 L (.int b :: .int a :: r) σ Q = ((a < b → aw g 9 23 L r σ Q) ∧ (¬ a < b → aw g 9 6 L r σ Q)) := (aw_eq g 9 3 _ _ _ _).trans (by rw [tq9_3]; exact rfl)
theorem tq9_6 : tT g 9 6 = s_load vI 9 7 0 := rfl
theorem A9_6  {x : Int32} {r : List Value} : aw g 9 6 [some (.int x)] r σ Q = aw g 9 7 [some (.int x)] (.int x :: r) σ Q := (aw_eq g 9 6 _ _ _ _).trans (by rw [tq9_6]; exact (h_load rfl).trans (propext ⟨fun z => z.2, fun z => ⟨rfl, z⟩⟩))
theorem tq9_7 : tT g 9 7 = s_const 9 10 (.int 127) := rfl
theorem A9_7 {L : AL} {r : List Value} : aw g 9 7 L r σ Q = aw g 9 10 L (.int 127 :: r) σ Q := (aw_eq g 9 7 _ _ _ _).trans (by rw [tq9_7]; exact rfl)
theorem tq9_10 : tT g 9 10 = s_icmp 9 13 23 (fun a b => b < a) := rfl
theorem A9_10 {L : AL} {r : List Value} {a b : Int32} : aw g 9 10 L (.int b :: .int a :: r) σ Q = ((b < a → aw g 9 23 L r σ Q) ∧ (¬ b < a → aw g 9 13 L r σ Q)) := (aw_eq g 9 10 _ _ _ _).trans (by rw [tq9_10]; exact rfl)
theorem tq9_13 : tT g 9 13 = s_const 9 16 (.ref (gV g 2)) := rfl
theorem A9_13 {L : AL} {r : List Value} : aw g 9 13 L r σ Q = aw g 9 16 L (.ref (gV g 2) :: r) σ Q := (aw_eq g 9 13 _ _ _ _).trans (by rw [tq9_13]; exact rfl)
theorem tq9_16 : tT g 9 16 = s_load vI 9 17 0 := rfl
theorem A9_16  {x : Int32} {r : List Value} : aw g 9 16 [some (.int x)] r σ Q = aw g 9 17 [some (.int x)] (.int x :: r) σ Q := (aw_eq g 9 16 _ _ _ _).trans (by rw [tq9_16]; exact (h_load rfl).trans (propext ⟨fun z => z.2, fun z => ⟨rfl, z⟩⟩))
theorem tq9_17 : tT g 9 17 = s_const 9 20 (.int 128) := rfl
theorem A9_17 {L : AL} {r : List Value} : aw g 9 17 L r σ Q = aw g 9 20 L (.int 128 :: r) σ Q := (aw_eq g 9 17 _ _ _ _).trans (by rw [tq9_17]; exact rfl)
theorem tq9_20 : tT g 9 20 = s_bin 9 21 (fun a b => a + b) := rfl
theorem A9_20 {L : AL} {r : List Value} {a b : Int32} : aw g 9 20 L (.int b :: .int a :: r) σ Q = aw g 9 21 L (.int (a + b) :: r) σ Q := (aw_eq g 9 20 _ _ _ _).trans (by rw [tq9_20]; exact rfl)
theorem tq9_21 : tT g 9 21 = s_ald 9 22 26 := rfl
theorem A9_21 {L : AL} {r : List Value} {a : Nat} {i : Int32} : aw g 9 21 L (.int i :: .ref a :: r) σ Q = (hty σ a = some 26 ∧ ¬ i < 0 ∧ i.toNatClampNeg < hln σ a ∧ aw g 9 22 L (hv σ 26 a i.toNatClampNeg :: r) σ Q) := (aw_eq g 9 21 _ _ _ _).trans (by rw [tq9_21]; exact rfl)
theorem tq9_22 : tT g 9 22 = s_ret pR := rfl
theorem A9_22 {L : AL} {v : Value} : aw g 9 22 L [v] σ Q = (pR v ∧ Q (.inl (some v)) σ) := (aw_eq g 9 22 _ _ _ _).trans (by rw [tq9_22]; exact rfl)
theorem tq9_23 : tT g 9 23 = s_new g 9 26 12 1 (fun k => defaultValue (tyJ18 k)) := rfl
theorem A9_23 {L : AL} {r : List Value} : aw g 9 23 L r σ Q = (hsz σ + 1 ≤ gC g ∧ hsl σ + 1 ≤ gS g ∧ aw g 9 26 L (.ref (hsz σ) :: r) (hnew σ 12 0 (fun k => defaultValue (tyJ18 k)) 1) Q) := (aw_eq g 9 23 _ _ _ _).trans (by rw [tq9_23]; exact rfl)
theorem tq9_26 : tT g 9 26 = s_dup 9 27 := rfl
theorem A9_26 {L : AL} {r : List Value} {v : Value} : aw g 9 26 L (v :: r) σ Q = (v.category = 1 ∧ aw g 9 27 L (v :: v :: r) σ Q) := (aw_eq g 9 26 _ _ _ _).trans (by rw [tq9_26]; exact rfl)
theorem tq9_27 : tT g 9 27 = s_load vI 9 28 0 := rfl
theorem A9_27  {x : Int32} {r : List Value} : aw g 9 27 [some (.int x)] r σ Q = aw g 9 28 [some (.int x)] (.int x :: r) σ Q := (aw_eq g 9 27 _ _ _ _).trans (by rw [tq9_27]; exact (h_load rfl).trans (propext ⟨fun z => z.2, fun z => ⟨rfl, z⟩⟩))
theorem tq9_28 : tT g 9 28 = s_callik 9 31 10 [0] 2 := rfl
theorem A9_28 {L : AL} {r : List Value} {a : Nat} {w0 : Value} : aw g 9 28 L (w0 :: .ref a :: r) σ Q = ((vI w0 && true) = true ∧ csum r ≤ 8 ∧ aw g 10 0 [some (.ref a), some w0] [] σ (kt (aw g) 9 31 L r Q)) := (aw_eq g 9 28 _ _ _ _).trans (by rw [tq9_28]; exact rfl)
theorem tq9_31 : tT g 9 31 = s_ret pR := rfl
theorem A9_31 {L : AL} {v : Value} : aw g 9 31 L [v] σ Q = (pR v ∧ Q (.inl (some v)) σ) := (aw_eq g 9 31 _ _ _ _).trans (by rw [tq9_31]; exact rfl)
theorem tq10_0 : tT g 10 0 = s_load vRf 10 1 0 := rfl
theorem A10_0 {l1 : Option Value} {x : Value} {r : List Value} : aw g 10 0 [some (x), l1] r σ Q = (vRf x = true ∧ aw g 10 1 [some (x), l1] (x :: r) σ Q) := (aw_eq g 10 0 _ _ _ _).trans (by rw [tq10_0]; exact h_load rfl)
theorem tq10_1 : tT g 10 1 = s_callik 10 4 6 [] 1 := rfl
theorem A10_1 {L : AL} {r : List Value} {a : Nat} : aw g 10 1 L (.ref a :: r) σ Q = (true = true ∧ csum r ≤ 8 ∧ aw g 6 0 [some (.ref a)] [] σ (kt (aw g) 10 4 L r Q)) := (aw_eq g 10 1 _ _ _ _).trans (by rw [tq10_1]; exact rfl)
theorem tq10_4 : tT g 10 4 = s_load vRf 10 5 0 := rfl
theorem A10_4 {l1 : Option Value} {x : Value} {r : List Value} : aw g 10 4 [some (x), l1] r σ Q = (vRf x = true ∧ aw g 10 5 [some (x), l1] (x :: r) σ Q) := (aw_eq g 10 4 _ _ _ _).trans (by rw [tq10_4]; exact h_load rfl)
theorem tq10_5 : tT g 10 5 = s_load vI 10 6 1 := rfl
theorem A10_5 {l0 : Option Value} {x : Int32} {r : List Value} : aw g 10 5 [l0, some (.int x)] r σ Q = aw g 10 6 [l0, some (.int x)] (.int x :: r) σ Q := (aw_eq g 10 5 _ _ _ _).trans (by rw [tq10_5]; exact (h_load rfl).trans (propext ⟨fun z => z.2, fun z => ⟨rfl, z⟩⟩))
theorem tq10_6 : tT g 10 6 = s_putf g pI 10 9 12 0 := rfl
theorem A10_6 {L : AL} {r : List Value} {a : Nat} {v : Value} : aw g 10 6 L (v :: .ref a :: r) σ Q = (hty σ a = some 12 ∧ gB g ≤ a ∧ pI v ∧ aw g 10 9 L r (hput σ 12 a 0 v) Q) := (aw_eq g 10 6 _ _ _ _).trans (by rw [tq10_6]; exact rfl)
theorem tq10_9 : tT g 10 9 = s_vret := rfl
theorem A10_9 {L : AL} : aw g 10 9 L [] σ Q = Q (.inl none) σ := (aw_eq g 10 9 _ _ _ _).trans (by rw [tq10_9]; exact rfl)
theorem tq11_0 : tT g 11 0 = s_load vI 11 1 0 := rfl
theorem A11_0  {x : Int32} {r : List Value} : aw g 11 0 [some (.int x)] r σ Q = aw g 11 1 [some (.int x)] (.int x :: r) σ Q := (aw_eq g 11 0 _ _ _ _).trans (by rw [tq11_0]; exact (h_load rfl).trans (propext ⟨fun z => z.2, fun z => ⟨rfl, z⟩⟩))
theorem tq11_1 : tT g 11 1 = s_load vI 11 2 0 := rfl
theorem A11_1  {x : Int32} {r : List Value} : aw g 11 1 [some (.int x)] r σ Q = aw g 11 2 [some (.int x)] (.int x :: r) σ Q := (aw_eq g 11 1 _ _ _ _).trans (by rw [tq11_1]; exact (h_load rfl).trans (propext ⟨fun z => z.2, fun z => ⟨rfl, z⟩⟩))
theorem tq11_2 : tT g 11 2 = s_const 11 3 (.int 1) := rfl
theorem A11_2 {L : AL} {r : List Value} : aw g 11 2 L r σ Q = aw g 11 3 L (.int 1 :: r) σ Q := (aw_eq g 11 2 _ _ _ _).trans (by rw [tq11_2]; exact rfl)
theorem tq11_3 : tT g 11 3 = s_bin 11 4 (fun a b => (a.toUInt32 >>> (b.toUInt32 &&& Int32.toUInt32 31)).toInt32) := rfl
theorem A11_3 {L : AL} {r : List Value} {a b : Int32} : aw g 11 3 L (.int b :: .int a :: r) σ Q = aw g 11 4 L (.int ((a.toUInt32 >>> (b.toUInt32 &&& Int32.toUInt32 31)).toInt32) :: r) σ Q := (aw_eq g 11 3 _ _ _ _).trans (by rw [tq11_3]; exact rfl)
theorem tq11_4 : tT g 11 4 = s_const 11 7 (.int 1431655765) := rfl
theorem A11_4 {L : AL} {r : List Value} : aw g 11 4 L r σ Q = aw g 11 7 L (.int 1431655765 :: r) σ Q := (aw_eq g 11 4 _ _ _ _).trans (by rw [tq11_4]; exact rfl)
theorem tq11_7 : tT g 11 7 = s_bin 11 8 (fun a b => a &&& b) := rfl
theorem A11_7 {L : AL} {r : List Value} {a b : Int32} : aw g 11 7 L (.int b :: .int a :: r) σ Q = aw g 11 8 L (.int (a &&& b) :: r) σ Q := (aw_eq g 11 7 _ _ _ _).trans (by rw [tq11_7]; exact rfl)
theorem tq11_8 : tT g 11 8 = s_bin 11 9 (fun a b => a - b) := rfl
theorem A11_8 {L : AL} {r : List Value} {a b : Int32} : aw g 11 8 L (.int b :: .int a :: r) σ Q = aw g 11 9 L (.int (a - b) :: r) σ Q := (aw_eq g 11 8 _ _ _ _).trans (by rw [tq11_8]; exact rfl)
theorem tq11_9 : tT g 11 9 = s_store vI 11 10 0 := rfl
theorem A11_9 {l0 : Option Value} {x : Int32} {r : List Value} : aw g 11 9 [l0] (.int x :: r) σ Q = aw g 11 10 [some (.int x)] r σ Q := (aw_eq g 11 9 _ _ _ _).trans (by rw [tq11_9]; exact (h_store (o := true) rfl rfl rfl).trans (propext ⟨fun z => z.2.2, fun z => ⟨rfl, rfl, z⟩⟩))
theorem tq11_10 : tT g 11 10 = s_load vI 11 11 0 := rfl
theorem A11_10  {x : Int32} {r : List Value} : aw g 11 10 [some (.int x)] r σ Q = aw g 11 11 [some (.int x)] (.int x :: r) σ Q := (aw_eq g 11 10 _ _ _ _).trans (by rw [tq11_10]; exact (h_load rfl).trans (propext ⟨fun z => z.2, fun z => ⟨rfl, z⟩⟩))
theorem tq11_11 : tT g 11 11 = s_const 11 14 (.int 858993459) := rfl
theorem A11_11 {L : AL} {r : List Value} : aw g 11 11 L r σ Q = aw g 11 14 L (.int 858993459 :: r) σ Q := (aw_eq g 11 11 _ _ _ _).trans (by rw [tq11_11]; exact rfl)
theorem tq11_14 : tT g 11 14 = s_bin 11 15 (fun a b => a &&& b) := rfl
theorem A11_14 {L : AL} {r : List Value} {a b : Int32} : aw g 11 14 L (.int b :: .int a :: r) σ Q = aw g 11 15 L (.int (a &&& b) :: r) σ Q := (aw_eq g 11 14 _ _ _ _).trans (by rw [tq11_14]; exact rfl)
theorem tq11_15 : tT g 11 15 = s_load vI 11 16 0 := rfl
theorem A11_15  {x : Int32} {r : List Value} : aw g 11 15 [some (.int x)] r σ Q = aw g 11 16 [some (.int x)] (.int x :: r) σ Q := (aw_eq g 11 15 _ _ _ _).trans (by rw [tq11_15]; exact (h_load rfl).trans (propext ⟨fun z => z.2, fun z => ⟨rfl, z⟩⟩))
theorem tq11_16 : tT g 11 16 = s_const 11 17 (.int 2) := rfl
theorem A11_16 {L : AL} {r : List Value} : aw g 11 16 L r σ Q = aw g 11 17 L (.int 2 :: r) σ Q := (aw_eq g 11 16 _ _ _ _).trans (by rw [tq11_16]; exact rfl)
theorem tq11_17 : tT g 11 17 = s_bin 11 18 (fun a b => (a.toUInt32 >>> (b.toUInt32 &&& Int32.toUInt32 31)).toInt32) := rfl
theorem A11_17 {L : AL} {r : List Value} {a b : Int32} : aw g 11 17 L (.int b :: .int a :: r) σ Q = aw g 11 18 L (.int ((a.toUInt32 >>> (b.toUInt32 &&& Int32.toUInt32 31)).toInt32) :: r) σ Q := (aw_eq g 11 17 _ _ _ _).trans (by rw [tq11_17]; exact rfl)
theorem tq11_18 : tT g 11 18 = s_const 11 21 (.int 858993459) := rfl
theorem A11_18 {L : AL} {r : List Value} : aw g 11 18 L r σ Q = aw g 11 21 L (.int 858993459 :: r) σ Q := (aw_eq g 11 18 _ _ _ _).trans (by rw [tq11_18]; exact rfl)
theorem tq11_21 : tT g 11 21 = s_bin 11 22 (fun a b => a &&& b) := rfl
theorem A11_21 {L : AL} {r : List Value} {a b : Int32} : aw g 11 21 L (.int b :: .int a :: r) σ Q = aw g 11 22 L (.int (a &&& b) :: r) σ Q := (aw_eq g 11 21 _ _ _ _).trans (by rw [tq11_21]; exact rfl)
theorem tq11_22 : tT g 11 22 = s_bin 11 23 (fun a b => a + b) := rfl
theorem A11_22 {L : AL} {r : List Value} {a b : Int32} : aw g 11 22 L (.int b :: .int a :: r) σ Q = aw g 11 23 L (.int (a + b) :: r) σ Q := (aw_eq g 11 22 _ _ _ _).trans (by rw [tq11_22]; exact rfl)
theorem tq11_23 : tT g 11 23 = s_store vI 11 24 0 := rfl
theorem A11_23 {l0 : Option Value} {x : Int32} {r : List Value} : aw g 11 23 [l0] (.int x :: r) σ Q = aw g 11 24 [some (.int x)] r σ Q := (aw_eq g 11 23 _ _ _ _).trans (by rw [tq11_23]; exact (h_store (o := true) rfl rfl rfl).trans (propext ⟨fun z => z.2.2, fun z => ⟨rfl, rfl, z⟩⟩))
theorem tq11_24 : tT g 11 24 = s_load vI 11 25 0 := rfl
theorem A11_24  {x : Int32} {r : List Value} : aw g 11 24 [some (.int x)] r σ Q = aw g 11 25 [some (.int x)] (.int x :: r) σ Q := (aw_eq g 11 24 _ _ _ _).trans (by rw [tq11_24]; exact (h_load rfl).trans (propext ⟨fun z => z.2, fun z => ⟨rfl, z⟩⟩))
theorem tq11_25 : tT g 11 25 = s_load vI 11 26 0 := rfl
theorem A11_25  {x : Int32} {r : List Value} : aw g 11 25 [some (.int x)] r σ Q = aw g 11 26 [some (.int x)] (.int x :: r) σ Q := (aw_eq g 11 25 _ _ _ _).trans (by rw [tq11_25]; exact (h_load rfl).trans (propext ⟨fun z => z.2, fun z => ⟨rfl, z⟩⟩))
theorem tq11_26 : tT g 11 26 = s_const 11 27 (.int 4) := rfl
theorem A11_26 {L : AL} {r : List Value} : aw g 11 26 L r σ Q = aw g 11 27 L (.int 4 :: r) σ Q := (aw_eq g 11 26 _ _ _ _).trans (by rw [tq11_26]; exact rfl)
theorem tq11_27 : tT g 11 27 = s_bin 11 28 (fun a b => (a.toUInt32 >>> (b.toUInt32 &&& Int32.toUInt32 31)).toInt32) := rfl
theorem A11_27 {L : AL} {r : List Value} {a b : Int32} : aw g 11 27 L (.int b :: .int a :: r) σ Q = aw g 11 28 L (.int ((a.toUInt32 >>> (b.toUInt32 &&& Int32.toUInt32 31)).toInt32) :: r) σ Q := (aw_eq g 11 27 _ _ _ _).trans (by rw [tq11_27]; exact rfl)
theorem tq11_28 : tT g 11 28 = s_bin 11 29 (fun a b => a + b) := rfl
theorem A11_28 {L : AL} {r : List Value} {a b : Int32} : aw g 11 28 L (.int b :: .int a :: r) σ Q = aw g 11 29 L (.int (a + b) :: r) σ Q := (aw_eq g 11 28 _ _ _ _).trans (by rw [tq11_28]; exact rfl)
theorem tq11_29 : tT g 11 29 = s_const 11 32 (.int 252645135) := rfl
theorem A11_29 {L : AL} {r : List Value} : aw g 11 29 L r σ Q = aw g 11 32 L (.int 252645135 :: r) σ Q := (aw_eq g 11 29 _ _ _ _).trans (by rw [tq11_29]; exact rfl)
theorem tq11_32 : tT g 11 32 = s_bin 11 33 (fun a b => a &&& b) := rfl
theorem A11_32 {L : AL} {r : List Value} {a b : Int32} : aw g 11 32 L (.int b :: .int a :: r) σ Q = aw g 11 33 L (.int (a &&& b) :: r) σ Q := (aw_eq g 11 32 _ _ _ _).trans (by rw [tq11_32]; exact rfl)
theorem tq11_33 : tT g 11 33 = s_store vI 11 34 0 := rfl
theorem A11_33 {l0 : Option Value} {x : Int32} {r : List Value} : aw g 11 33 [l0] (.int x :: r) σ Q = aw g 11 34 [some (.int x)] r σ Q := (aw_eq g 11 33 _ _ _ _).trans (by rw [tq11_33]; exact (h_store (o := true) rfl rfl rfl).trans (propext ⟨fun z => z.2.2, fun z => ⟨rfl, rfl, z⟩⟩))
theorem tq11_34 : tT g 11 34 = s_load vI 11 35 0 := rfl
theorem A11_34  {x : Int32} {r : List Value} : aw g 11 34 [some (.int x)] r σ Q = aw g 11 35 [some (.int x)] (.int x :: r) σ Q := (aw_eq g 11 34 _ _ _ _).trans (by rw [tq11_34]; exact (h_load rfl).trans (propext ⟨fun z => z.2, fun z => ⟨rfl, z⟩⟩))
theorem tq11_35 : tT g 11 35 = s_load vI 11 36 0 := rfl
theorem A11_35  {x : Int32} {r : List Value} : aw g 11 35 [some (.int x)] r σ Q = aw g 11 36 [some (.int x)] (.int x :: r) σ Q := (aw_eq g 11 35 _ _ _ _).trans (by rw [tq11_35]; exact (h_load rfl).trans (propext ⟨fun z => z.2, fun z => ⟨rfl, z⟩⟩))
theorem tq11_36 : tT g 11 36 = s_const 11 38 (.int 8) := rfl
theorem A11_36 {L : AL} {r : List Value} : aw g 11 36 L r σ Q = aw g 11 38 L (.int 8 :: r) σ Q := (aw_eq g 11 36 _ _ _ _).trans (by rw [tq11_36]; exact rfl)
theorem tq11_38 : tT g 11 38 = s_bin 11 39 (fun a b => (a.toUInt32 >>> (b.toUInt32 &&& Int32.toUInt32 31)).toInt32) := rfl
theorem A11_38 {L : AL} {r : List Value} {a b : Int32} : aw g 11 38 L (.int b :: .int a :: r) σ Q = aw g 11 39 L (.int ((a.toUInt32 >>> (b.toUInt32 &&& Int32.toUInt32 31)).toInt32) :: r) σ Q := (aw_eq g 11 38 _ _ _ _).trans (by rw [tq11_38]; exact rfl)
theorem tq11_39 : tT g 11 39 = s_bin 11 40 (fun a b => a + b) := rfl
theorem A11_39 {L : AL} {r : List Value} {a b : Int32} : aw g 11 39 L (.int b :: .int a :: r) σ Q = aw g 11 40 L (.int (a + b) :: r) σ Q := (aw_eq g 11 39 _ _ _ _).trans (by rw [tq11_39]; exact rfl)
theorem tq11_40 : tT g 11 40 = s_store vI 11 41 0 := rfl
theorem A11_40 {l0 : Option Value} {x : Int32} {r : List Value} : aw g 11 40 [l0] (.int x :: r) σ Q = aw g 11 41 [some (.int x)] r σ Q := (aw_eq g 11 40 _ _ _ _).trans (by rw [tq11_40]; exact (h_store (o := true) rfl rfl rfl).trans (propext ⟨fun z => z.2.2, fun z => ⟨rfl, rfl, z⟩⟩))
theorem tq11_41 : tT g 11 41 = s_load vI 11 42 0 := rfl
theorem A11_41  {x : Int32} {r : List Value} : aw g 11 41 [some (.int x)] r σ Q = aw g 11 42 [some (.int x)] (.int x :: r) σ Q := (aw_eq g 11 41 _ _ _ _).trans (by rw [tq11_41]; exact (h_load rfl).trans (propext ⟨fun z => z.2, fun z => ⟨rfl, z⟩⟩))
theorem tq11_42 : tT g 11 42 = s_load vI 11 43 0 := rfl
theorem A11_42  {x : Int32} {r : List Value} : aw g 11 42 [some (.int x)] r σ Q = aw g 11 43 [some (.int x)] (.int x :: r) σ Q := (aw_eq g 11 42 _ _ _ _).trans (by rw [tq11_42]; exact (h_load rfl).trans (propext ⟨fun z => z.2, fun z => ⟨rfl, z⟩⟩))
theorem tq11_43 : tT g 11 43 = s_const 11 45 (.int 16) := rfl
theorem A11_43 {L : AL} {r : List Value} : aw g 11 43 L r σ Q = aw g 11 45 L (.int 16 :: r) σ Q := (aw_eq g 11 43 _ _ _ _).trans (by rw [tq11_43]; exact rfl)
theorem tq11_45 : tT g 11 45 = s_bin 11 46 (fun a b => (a.toUInt32 >>> (b.toUInt32 &&& Int32.toUInt32 31)).toInt32) := rfl
theorem A11_45 {L : AL} {r : List Value} {a b : Int32} : aw g 11 45 L (.int b :: .int a :: r) σ Q = aw g 11 46 L (.int ((a.toUInt32 >>> (b.toUInt32 &&& Int32.toUInt32 31)).toInt32) :: r) σ Q := (aw_eq g 11 45 _ _ _ _).trans (by rw [tq11_45]; exact rfl)
theorem tq11_46 : tT g 11 46 = s_bin 11 47 (fun a b => a + b) := rfl
theorem A11_46 {L : AL} {r : List Value} {a b : Int32} : aw g 11 46 L (.int b :: .int a :: r) σ Q = aw g 11 47 L (.int (a + b) :: r) σ Q := (aw_eq g 11 46 _ _ _ _).trans (by rw [tq11_46]; exact rfl)
theorem tq11_47 : tT g 11 47 = s_store vI 11 48 0 := rfl
theorem A11_47 {l0 : Option Value} {x : Int32} {r : List Value} : aw g 11 47 [l0] (.int x :: r) σ Q = aw g 11 48 [some (.int x)] r σ Q := (aw_eq g 11 47 _ _ _ _).trans (by rw [tq11_47]; exact (h_store (o := true) rfl rfl rfl).trans (propext ⟨fun z => z.2.2, fun z => ⟨rfl, rfl, z⟩⟩))
theorem tq11_48 : tT g 11 48 = s_load vI 11 49 0 := rfl
theorem A11_48  {x : Int32} {r : List Value} : aw g 11 48 [some (.int x)] r σ Q = aw g 11 49 [some (.int x)] (.int x :: r) σ Q := (aw_eq g 11 48 _ _ _ _).trans (by rw [tq11_48]; exact (h_load rfl).trans (propext ⟨fun z => z.2, fun z => ⟨rfl, z⟩⟩))
theorem tq11_49 : tT g 11 49 = s_const 11 51 (.int 63) := rfl
theorem A11_49 {L : AL} {r : List Value} : aw g 11 49 L r σ Q = aw g 11 51 L (.int 63 :: r) σ Q := (aw_eq g 11 49 _ _ _ _).trans (by rw [tq11_49]; exact rfl)
theorem tq11_51 : tT g 11 51 = s_bin 11 52 (fun a b => a &&& b) := rfl
theorem A11_51 {L : AL} {r : List Value} {a b : Int32} : aw g 11 51 L (.int b :: .int a :: r) σ Q = aw g 11 52 L (.int (a &&& b) :: r) σ Q := (aw_eq g 11 51 _ _ _ _).trans (by rw [tq11_51]; exact rfl)
theorem tq11_52 : tT g 11 52 = s_ret pI := rfl
theorem A11_52 {L : AL} {v : Value} : aw g 11 52 L [v] σ Q = (pI v ∧ Q (.inl (some v)) σ) := (aw_eq g 11 52 _ _ _ _).trans (by rw [tq11_52]; exact rfl)
theorem tq12_0 : tT g 12 0 = s_vret := rfl
theorem A12_0 {L : AL} : aw g 12 0 L [] σ Q = Q (.inl none) σ := (aw_eq g 12 0 _ _ _ _).trans (by rw [tq12_0]; exact rfl)
theorem tq13_0 : tT g 13 0 = s_load vRf 13 1 0 := rfl
theorem A13_0 {l1 : Option Value} {x : Value} {r : List Value} : aw g 13 0 [some (x), l1] r σ Q = (vRf x = true ∧ aw g 13 1 [some (x), l1] (x :: r) σ Q) := (aw_eq g 13 0 _ _ _ _).trans (by rw [tq13_0]; exact h_load rfl)
theorem tq13_1 : tT g 13 1 = s_load vRf 13 2 1 := rfl
theorem A13_1 {l0 : Option Value} {x : Value} {r : List Value} : aw g 13 1 [l0, some (x)] r σ Q = (vRf x = true ∧ aw g 13 2 [l0, some (x)] (x :: r) σ Q) := (aw_eq g 13 1 _ _ _ _).trans (by rw [tq13_1]; exact h_load rfl)
theorem tq13_2 : tT g 13 2 = s_acmpn 13 5 9 := rfl
theorem A13_2 {L : AL} {r : List Value} {a b : Value} : aw g 13 2 L (b :: a :: r) σ Q = (vRf a = true ∧ vRf b = true ∧ (a = b → aw g 13 5 L r σ Q) ∧ (a ≠ b → aw g 13 9 L r σ Q)) := (aw_eq g 13 2 _ _ _ _).trans (by rw [tq13_2]; exact rfl)
theorem tq13_5 : tT g 13 5 = s_const 13 6 (.int 1) := rfl
theorem A13_5 {L : AL} {r : List Value} : aw g 13 5 L r σ Q = aw g 13 6 L (.int 1 :: r) σ Q := (aw_eq g 13 5 _ _ _ _).trans (by rw [tq13_5]; exact rfl)
theorem tq13_6 : tT g 13 6 = s_goto 13 10 := rfl
theorem A13_6 {L : AL} {r : List Value} : aw g 13 6 L r σ Q = aw g 13 10 L r σ Q := (aw_eq g 13 6 _ _ _ _).trans (by rw [tq13_6]; exact rfl)
theorem tq13_9 : tT g 13 9 = s_const 13 10 (.int 0) := rfl
theorem A13_9 {L : AL} {r : List Value} : aw g 13 9 L r σ Q = aw g 13 10 L (.int 0 :: r) σ Q := (aw_eq g 13 9 _ _ _ _).trans (by rw [tq13_9]; exact rfl)
theorem tq13_10 : tT g 13 10 = s_ret vZ := rfl
theorem A13_10 {L : AL} {v : Value} : aw g 13 10 L [v] σ Q = (vZ v ∧ Q (.inl (some v)) σ) := (aw_eq g 13 10 _ _ _ _).trans (by rw [tq13_10]; exact rfl)
theorem tq14_0 : tT g 14 0 = s_load vRf 14 1 0 := rfl
theorem A14_0  {x : Value} {r : List Value} : aw g 14 0 [some (x)] r σ Q = (vRf x = true ∧ aw g 14 1 [some (x)] (x :: r) σ Q) := (aw_eq g 14 0 _ _ _ _).trans (by rw [tq14_0]; exact h_load rfl)
theorem tq14_1 : tT g 14 1 = s_callik 14 4 1 [] 1 := rfl
theorem A14_1 {L : AL} {r : List Value} {a : Nat} : aw g 14 1 L (.ref a :: r) σ Q = (true = true ∧ csum r ≤ 8 ∧ aw g 1 0 [some (.ref a)] [] σ (kt (aw g) 14 4 L r Q)) := (aw_eq g 14 1 _ _ _ _).trans (by rw [tq14_1]; exact rfl)
theorem tq14_4 : tT g 14 4 = s_load vRf 14 5 0 := rfl
theorem A14_4  {x : Value} {r : List Value} : aw g 14 4 [some (x)] r σ Q = (vRf x = true ∧ aw g 14 5 [some (x)] (x :: r) σ Q) := (aw_eq g 14 4 _ _ _ _).trans (by rw [tq14_4]; exact h_load rfl)
theorem tq14_5 : tT g 14 5 = s_const 14 8 (.ref (gV g 0)) := rfl
theorem A14_5 {L : AL} {r : List Value} : aw g 14 5 L r σ Q = aw g 14 8 L (.ref (gV g 0) :: r) σ Q := (aw_eq g 14 5 _ _ _ _).trans (by rw [tq14_5]; exact rfl)
theorem tq14_8 : tT g 14 8 = s_putf g pR 14 11 10 1 := rfl
theorem A14_8 {L : AL} {r : List Value} {a : Nat} {v : Value} : aw g 14 8 L (v :: .ref a :: r) σ Q = (hty σ a = some 10 ∧ gB g ≤ a ∧ pR v ∧ aw g 14 11 L r (hput σ 10 a 1 v) Q) := (aw_eq g 14 8 _ _ _ _).trans (by rw [tq14_8]; exact rfl)
theorem tq14_11 : tT g 14 11 = s_vret := rfl
theorem A14_11 {L : AL} : aw g 14 11 L [] σ Q = Q (.inl none) σ := (aw_eq g 14 11 _ _ _ _).trans (by rw [tq14_11]; exact rfl)
theorem tq15_0 : tT g 15 0 = s_load vRf 15 1 0 := rfl
theorem A15_0  {x : Value} {r : List Value} : aw g 15 0 [some (x)] r σ Q = (vRf x = true ∧ aw g 15 1 [some (x)] (x :: r) σ Q) := (aw_eq g 15 0 _ _ _ _).trans (by rw [tq15_0]; exact h_load rfl)
theorem tq15_1 : tT g 15 1 = s_getf 15 4 10 2 := rfl
theorem A15_1 {L : AL} {r : List Value} {a : Nat} : aw g 15 1 L (.ref a :: r) σ Q = (hty σ a = some 10 ∧ aw g 15 4 L (hv σ 10 a 2 :: r) σ Q) := (aw_eq g 15 1 _ _ _ _).trans (by rw [tq15_1]; exact rfl)
theorem tq15_4 : tT g 15 4 = s_ret pI := rfl
theorem A15_4 {L : AL} {v : Value} : aw g 15 4 L [v] σ Q = (pI v ∧ Q (.inl (some v)) σ) := (aw_eq g 15 4 _ _ _ _).trans (by rw [tq15_4]; exact rfl)
theorem tq16_0 : tT g 16 0 = s_load vI 16 1 1 := rfl
theorem A16_0 {l0 : Option Value} {l2 : Option Value} {l3 : Option Value} {x : Int32} {r : List Value} : aw g 16 0 [l0, some (.int x), l2, l3] r σ Q = aw g 16 1 [l0, some (.int x), l2, l3] (.int x :: r) σ Q := (aw_eq g 16 0 _ _ _ _).trans (by rw [tq16_0]; exact (h_load rfl).trans (propext ⟨fun z => z.2, fun z => ⟨rfl, z⟩⟩))
theorem tq16_1 : tT g 16 1 = s_load vRf 16 2 0 := rfl
theorem A16_1 {l1 : Option Value} {l2 : Option Value} {l3 : Option Value} {x : Value} {r : List Value} : aw g 16 1 [some (x), l1, l2, l3] r σ Q = (vRf x = true ∧ aw g 16 2 [some (x), l1, l2, l3] (x :: r) σ Q) := (aw_eq g 16 1 _ _ _ _).trans (by rw [tq16_1]; exact h_load rfl)
theorem tq16_2 : tT g 16 2 = s_getf 16 5 10 2 := rfl
theorem A16_2 {L : AL} {r : List Value} {a : Nat} : aw g 16 2 L (.ref a :: r) σ Q = (hty σ a = some 10 ∧ aw g 16 5 L (hv σ 10 a 2 :: r) σ Q) := (aw_eq g 16 2 _ _ _ _).trans (by rw [tq16_2]; exact rfl)
theorem tq16_5 : tT g 16 5 = s_callk 16 8 30 [0, 0] 2 := rfl
theorem A16_5 {L : AL} {r : List Value} {w0 w1 : Value} : aw g 16 5 L (w1 :: w0 :: r) σ Q = ((vI w0 && (vI w1 && true)) = true ∧ csum r ≤ 8 ∧ aw g 30 0 [some w0, some w1] [] σ (kt (aw g) 16 8 L r Q)) := (aw_eq g 16 5 _ _ _ _).trans (by rw [tq16_5]; exact rfl)
theorem tq16_8 : tT g 16 8 = s_pop 16 9 := rfl
theorem A16_8 {L : AL} {r : List Value} {v : Value} : aw g 16 8 L (v :: r) σ Q = (v.category = 1 ∧ aw g 16 9 L r σ Q) := (aw_eq g 16 8 _ _ _ _).trans (by rw [tq16_8]; exact rfl)
theorem tq16_9 : tT g 16 9 = s_load vRf 16 10 0 := rfl
theorem A16_9 {l1 : Option Value} {l2 : Option Value} {l3 : Option Value} {x : Value} {r : List Value} : aw g 16 9 [some (x), l1, l2, l3] r σ Q = (vRf x = true ∧ aw g 16 10 [some (x), l1, l2, l3] (x :: r) σ Q) := (aw_eq g 16 9 _ _ _ _).trans (by rw [tq16_9]; exact h_load rfl)
theorem tq16_10 : tT g 16 10 = s_getf 16 13 10 1 := rfl
theorem A16_10 {L : AL} {r : List Value} {a : Nat} : aw g 16 10 L (.ref a :: r) σ Q = (hty σ a = some 10 ∧ aw g 16 13 L (hv σ 10 a 1 :: r) σ Q) := (aw_eq g 16 10 _ _ _ _).trans (by rw [tq16_10]; exact rfl)
theorem tq16_13 : tT g 16 13 = s_store vRf 16 14 2 := rfl
theorem A16_13 {l0 : Option Value} {l1 : Option Value} {l2 : Option Value} {l3 : Option Value} {x : Value} {r : List Value} : aw g 16 13 [l0, l1, l2, l3] (x :: r) σ Q = (vRf x = true ∧ oc l1 = true ∧ aw g 16 14 [l0, l1, some (x), l3] r σ Q) := (aw_eq g 16 13 _ _ _ _).trans (by rw [tq16_13]; exact (h_store (o := oc l1) rfl rfl rfl))
theorem tq16_14 : tT g 16 14 = s_load vRf 16 15 2 := rfl
theorem A16_14 {l0 : Option Value} {l1 : Option Value} {l3 : Option Value} {x : Value} {r : List Value} : aw g 16 14 [l0, l1, some (x), l3] r σ Q = (vRf x = true ∧ aw g 16 15 [l0, l1, some (x), l3] (x :: r) σ Q) := (aw_eq g 16 14 _ _ _ _).trans (by rw [tq16_14]; exact h_load rfl)
theorem tq16_15 : tT g 16 15 = s_load vI 16 16 1 := rfl
theorem A16_15 {l0 : Option Value} {l2 : Option Value} {l3 : Option Value} {x : Int32} {r : List Value} : aw g 16 15 [l0, some (.int x), l2, l3] r σ Q = aw g 16 16 [l0, some (.int x), l2, l3] (.int x :: r) σ Q := (aw_eq g 16 15 _ _ _ _).trans (by rw [tq16_15]; exact (h_load rfl).trans (propext ⟨fun z => z.2, fun z => ⟨rfl, z⟩⟩))
theorem tq16_16 : tT g 16 16 = s_ald 16 17 24 := rfl
theorem A16_16 {L : AL} {r : List Value} {a : Nat} {i : Int32} : aw g 16 16 L (.int i :: .ref a :: r) σ Q = (hty σ a = some 24 ∧ ¬ i < 0 ∧ i.toNatClampNeg < hln σ a ∧ aw g 16 17 L (hv σ 24 a i.toNatClampNeg :: r) σ Q) := (aw_eq g 16 16 _ _ _ _).trans (by rw [tq16_16]; exact rfl)
theorem tq16_17 : tT g 16 17 = s_store vRf 16 18 3 := rfl
theorem A16_17 {l0 : Option Value} {l1 : Option Value} {l2 : Option Value} {l3 : Option Value} {x : Value} {r : List Value} : aw g 16 17 [l0, l1, l2, l3] (x :: r) σ Q = (vRf x = true ∧ oc l2 = true ∧ aw g 16 18 [l0, l1, l2, some (x)] r σ Q) := (aw_eq g 16 17 _ _ _ _).trans (by rw [tq16_17]; exact (h_store (o := oc l2) rfl rfl rfl))
theorem tq16_18 : tT g 16 18 = s_load vRf 16 19 0 := rfl
theorem A16_18 {l1 : Option Value} {l2 : Option Value} {l3 : Option Value} {x : Value} {r : List Value} : aw g 16 18 [some (x), l1, l2, l3] r σ Q = (vRf x = true ∧ aw g 16 19 [some (x), l1, l2, l3] (x :: r) σ Q) := (aw_eq g 16 18 _ _ _ _).trans (by rw [tq16_18]; exact h_load rfl)
theorem tq16_19 : tT g 16 19 = s_load vRf 16 20 2 := rfl
theorem A16_19 {l0 : Option Value} {l1 : Option Value} {l3 : Option Value} {x : Value} {r : List Value} : aw g 16 19 [l0, l1, some (x), l3] r σ Q = (vRf x = true ∧ aw g 16 20 [l0, l1, some (x), l3] (x :: r) σ Q) := (aw_eq g 16 19 _ _ _ _).trans (by rw [tq16_19]; exact h_load rfl)
theorem tq16_20 : tT g 16 20 = s_load vI 16 21 1 := rfl
theorem A16_20 {l0 : Option Value} {l2 : Option Value} {l3 : Option Value} {x : Int32} {r : List Value} : aw g 16 20 [l0, some (.int x), l2, l3] r σ Q = aw g 16 21 [l0, some (.int x), l2, l3] (.int x :: r) σ Q := (aw_eq g 16 20 _ _ _ _).trans (by rw [tq16_20]; exact (h_load rfl).trans (propext ⟨fun z => z.2, fun z => ⟨rfl, z⟩⟩))
theorem tq16_21 : tT g 16 21 = s_callvk 16 24 17 10 [1, 0] 4 := rfl
theorem A16_21 {L : AL} {r : List Value} {a : Nat} {w0 w1 : Value} : aw g 16 21 L (w1 :: w0 :: .ref a :: r) σ Q = (hty σ a = some 10 ∧ (vRf w0 && (vI w1 && true)) = true ∧ csum r ≤ 8 ∧ aw g 17 0 [some (.ref a), some w0, some w1, none] [] σ (kt (aw g) 16 24 L r Q)) := (aw_eq g 16 21 _ _ _ _).trans (by rw [tq16_21]; exact rfl)
theorem tq16_24 : tT g 16 24 = s_load vRf 16 25 3 := rfl
theorem A16_24 {l0 : Option Value} {l1 : Option Value} {l2 : Option Value} {x : Value} {r : List Value} : aw g 16 24 [l0, l1, l2, some (x)] r σ Q = (vRf x = true ∧ aw g 16 25 [l0, l1, l2, some (x)] (x :: r) σ Q) := (aw_eq g 16 24 _ _ _ _).trans (by rw [tq16_24]; exact h_load rfl)
theorem tq16_25 : tT g 16 25 = s_ret pR := rfl
theorem A16_25 {L : AL} {v : Value} : aw g 16 25 L [v] σ Q = (pR v ∧ Q (.inl (some v)) σ) := (aw_eq g 16 25 _ _ _ _).trans (by rw [tq16_25]; exact rfl)
theorem tq17_0 : tT g 17 0 = s_load vRf 17 1 0 := rfl
theorem A17_0 {l1 : Option Value} {l2 : Option Value} {l3 : Option Value} {x : Value} {r : List Value} : aw g 17 0 [some (x), l1, l2, l3] r σ Q = (vRf x = true ∧ aw g 17 1 [some (x), l1, l2, l3] (x :: r) σ Q) := (aw_eq g 17 0 _ _ _ _).trans (by rw [tq17_0]; exact h_load rfl)
theorem tq17_1 : tT g 17 1 = s_dup 17 2 := rfl
theorem A17_1 {L : AL} {r : List Value} {v : Value} : aw g 17 1 L (v :: r) σ Q = (v.category = 1 ∧ aw g 17 2 L (v :: v :: r) σ Q) := (aw_eq g 17 1 _ _ _ _).trans (by rw [tq17_1]; exact rfl)
theorem tq17_2 : tT g 17 2 = s_getf 17 5 10 0 := rfl
theorem A17_2 {L : AL} {r : List Value} {a : Nat} : aw g 17 2 L (.ref a :: r) σ Q = (hty σ a = some 10 ∧ aw g 17 5 L (hv σ 10 a 0 :: r) σ Q) := (aw_eq g 17 2 _ _ _ _).trans (by rw [tq17_2]; exact rfl)
theorem tq17_5 : tT g 17 5 = s_const 17 6 (.int 1) := rfl
theorem A17_5 {L : AL} {r : List Value} : aw g 17 5 L r σ Q = aw g 17 6 L (.int 1 :: r) σ Q := (aw_eq g 17 5 _ _ _ _).trans (by rw [tq17_5]; exact rfl)
theorem tq17_6 : tT g 17 6 = s_bin 17 7 (fun a b => a + b) := rfl
theorem A17_6 {L : AL} {r : List Value} {a b : Int32} : aw g 17 6 L (.int b :: .int a :: r) σ Q = aw g 17 7 L (.int (a + b) :: r) σ Q := (aw_eq g 17 6 _ _ _ _).trans (by rw [tq17_6]; exact rfl)
theorem tq17_7 : tT g 17 7 = s_putf g pI 17 10 10 0 := rfl
theorem A17_7 {L : AL} {r : List Value} {a : Nat} {v : Value} : aw g 17 7 L (v :: .ref a :: r) σ Q = (hty σ a = some 10 ∧ gB g ≤ a ∧ pI v ∧ aw g 17 10 L r (hput σ 10 a 0 v) Q) := (aw_eq g 17 7 _ _ _ _).trans (by rw [tq17_7]; exact rfl)
theorem tq17_10 : tT g 17 10 = s_load vRf 17 11 0 := rfl
theorem A17_10 {l1 : Option Value} {l2 : Option Value} {l3 : Option Value} {x : Value} {r : List Value} : aw g 17 10 [some (x), l1, l2, l3] r σ Q = (vRf x = true ∧ aw g 17 11 [some (x), l1, l2, l3] (x :: r) σ Q) := (aw_eq g 17 10 _ _ _ _).trans (by rw [tq17_10]; exact h_load rfl)
theorem tq17_11 : tT g 17 11 = s_getf 17 14 10 2 := rfl
theorem A17_11 {L : AL} {r : List Value} {a : Nat} : aw g 17 11 L (.ref a :: r) σ Q = (hty σ a = some 10 ∧ aw g 17 14 L (hv σ 10 a 2 :: r) σ Q) := (aw_eq g 17 11 _ _ _ _).trans (by rw [tq17_11]; exact rfl)
theorem tq17_14 : tT g 17 14 = s_const 17 15 (.int 1) := rfl
theorem A17_14 {L : AL} {r : List Value} : aw g 17 14 L r σ Q = aw g 17 15 L (.int 1 :: r) σ Q := (aw_eq g 17 14 _ _ _ _).trans (by rw [tq17_14]; exact rfl)
theorem tq17_15 : tT g 17 15 = s_bin 17 16 (fun a b => a - b) := rfl
theorem A17_15 {L : AL} {r : List Value} {a b : Int32} : aw g 17 15 L (.int b :: .int a :: r) σ Q = aw g 17 16 L (.int (a - b) :: r) σ Q := (aw_eq g 17 15 _ _ _ _).trans (by rw [tq17_15]; exact rfl)
theorem tq17_16 : tT g 17 16 = s_dup 17 17 := rfl
theorem A17_16 {L : AL} {r : List Value} {v : Value} : aw g 17 16 L (v :: r) σ Q = (v.category = 1 ∧ aw g 17 17 L (v :: v :: r) σ Q) := (aw_eq g 17 16 _ _ _ _).trans (by rw [tq17_16]; exact rfl)
theorem tq17_17 : tT g 17 17 = s_store vI 17 18 3 := rfl
theorem A17_17 {l0 : Option Value} {l1 : Option Value} {l2 : Option Value} {l3 : Option Value} {x : Int32} {r : List Value} : aw g 17 17 [l0, l1, l2, l3] (.int x :: r) σ Q = (oc l2 = true ∧ aw g 17 18 [l0, l1, l2, some (.int x)] r σ Q) := (aw_eq g 17 17 _ _ _ _).trans (by rw [tq17_17]; exact (h_store (o := oc l2) rfl rfl rfl).trans (propext ⟨fun z => z.2, fun z => ⟨rfl, z⟩⟩))
theorem tq17_18 : tT g 17 18 = s_load vI 17 19 2 := rfl
theorem A17_18 {l0 : Option Value} {l1 : Option Value} {l3 : Option Value} {x : Int32} {r : List Value} : aw g 17 18 [l0, l1, some (.int x), l3] r σ Q = aw g 17 19 [l0, l1, some (.int x), l3] (.int x :: r) σ Q := (aw_eq g 17 18 _ _ _ _).trans (by rw [tq17_18]; exact (h_load rfl).trans (propext ⟨fun z => z.2, fun z => ⟨rfl, z⟩⟩))
theorem tq17_19 : tT g 17 19 = s_icmp 17 22 34 (fun a b => a ≤ b) := rfl
theorem A17_19 {L : AL} {r : List Value} {a b : Int32} : aw g 17 19 L (.int b :: .int a :: r) σ Q = ((a ≤ b → aw g 17 34 L r σ Q) ∧ (¬ a ≤ b → aw g 17 22 L r σ Q)) := (aw_eq g 17 19 _ _ _ _).trans (by rw [tq17_19]; exact rfl)
theorem tq17_22 : tT g 17 22 = s_load vRf 17 23 1 := rfl
theorem A17_22 {l0 : Option Value} {l2 : Option Value} {l3 : Option Value} {x : Value} {r : List Value} : aw g 17 22 [l0, some (x), l2, l3] r σ Q = (vRf x = true ∧ aw g 17 23 [l0, some (x), l2, l3] (x :: r) σ Q) := (aw_eq g 17 22 _ _ _ _).trans (by rw [tq17_22]; exact h_load rfl)
theorem tq17_23 : tT g 17 23 = s_load vI 17 24 2 := rfl
theorem A17_23 {l0 : Option Value} {l1 : Option Value} {l3 : Option Value} {x : Int32} {r : List Value} : aw g 17 23 [l0, l1, some (.int x), l3] r σ Q = aw g 17 24 [l0, l1, some (.int x), l3] (.int x :: r) σ Q := (aw_eq g 17 23 _ _ _ _).trans (by rw [tq17_23]; exact (h_load rfl).trans (propext ⟨fun z => z.2, fun z => ⟨rfl, z⟩⟩))
theorem tq17_24 : tT g 17 24 = s_const 17 25 (.int 1) := rfl
theorem A17_24 {L : AL} {r : List Value} : aw g 17 24 L r σ Q = aw g 17 25 L (.int 1 :: r) σ Q := (aw_eq g 17 24 _ _ _ _).trans (by rw [tq17_24]; exact rfl)
theorem tq17_25 : tT g 17 25 = s_bin 17 26 (fun a b => a + b) := rfl
theorem A17_25 {L : AL} {r : List Value} {a b : Int32} : aw g 17 25 L (.int b :: .int a :: r) σ Q = aw g 17 26 L (.int (a + b) :: r) σ Q := (aw_eq g 17 25 _ _ _ _).trans (by rw [tq17_25]; exact rfl)
theorem tq17_26 : tT g 17 26 = s_load vRf 17 27 1 := rfl
theorem A17_26 {l0 : Option Value} {l2 : Option Value} {l3 : Option Value} {x : Value} {r : List Value} : aw g 17 26 [l0, some (x), l2, l3] r σ Q = (vRf x = true ∧ aw g 17 27 [l0, some (x), l2, l3] (x :: r) σ Q) := (aw_eq g 17 26 _ _ _ _).trans (by rw [tq17_26]; exact h_load rfl)
theorem tq17_27 : tT g 17 27 = s_load vI 17 28 2 := rfl
theorem A17_27 {l0 : Option Value} {l1 : Option Value} {l3 : Option Value} {x : Int32} {r : List Value} : aw g 17 27 [l0, l1, some (.int x), l3] r σ Q = aw g 17 28 [l0, l1, some (.int x), l3] (.int x :: r) σ Q := (aw_eq g 17 27 _ _ _ _).trans (by rw [tq17_27]; exact (h_load rfl).trans (propext ⟨fun z => z.2, fun z => ⟨rfl, z⟩⟩))
theorem tq17_28 : tT g 17 28 = s_load vI 17 29 3 := rfl
theorem A17_28 {l0 : Option Value} {l1 : Option Value} {l2 : Option Value} {x : Int32} {r : List Value} : aw g 17 28 [l0, l1, l2, some (.int x)] r σ Q = aw g 17 29 [l0, l1, l2, some (.int x)] (.int x :: r) σ Q := (aw_eq g 17 28 _ _ _ _).trans (by rw [tq17_28]; exact (h_load rfl).trans (propext ⟨fun z => z.2, fun z => ⟨rfl, z⟩⟩))
theorem tq17_29 : tT g 17 29 = s_load vI 17 30 2 := rfl
theorem A17_29 {l0 : Option Value} {l1 : Option Value} {l3 : Option Value} {x : Int32} {r : List Value} : aw g 17 29 [l0, l1, some (.int x), l3] r σ Q = aw g 17 30 [l0, l1, some (.int x), l3] (.int x :: r) σ Q := (aw_eq g 17 29 _ _ _ _).trans (by rw [tq17_29]; exact (h_load rfl).trans (propext ⟨fun z => z.2, fun z => ⟨rfl, z⟩⟩))
theorem tq17_30 : tT g 17 30 = s_bin 17 31 (fun a b => a - b) := rfl
theorem A17_30 {L : AL} {r : List Value} {a b : Int32} : aw g 17 30 L (.int b :: .int a :: r) σ Q = aw g 17 31 L (.int (a - b) :: r) σ Q := (aw_eq g 17 30 _ _ _ _).trans (by rw [tq17_30]; exact rfl)
theorem tq17_31 : tT g 17 31 = s_acopy g vOb 17 34 24 := rfl
theorem A17_31 {L : AL} {r : List Value} {s e : Nat} {x z k : Int32} : aw g 17 31 L (.int k :: .int z :: .ref e :: .int x :: .ref s :: r) σ Q = (hty σ s = some 24 ∧ hty σ e = some 24 ∧ gB g ≤ e ∧ csum r ≤ 8 ∧ ¬ k < 0 ∧ ¬ x < 0 ∧ ¬ z < 0 ∧ x.toNatClampNeg + k.toNatClampNeg ≤ hln σ s ∧ z.toNatClampNeg + k.toNatClampNeg ≤ hln σ e ∧ (∀ i, i < k.toNatClampNeg → vOb σ (hv σ 24 s (x.toNatClampNeg + i))) ∧ aw g 17 34 L r (hcpy σ 24 s x.toNatClampNeg e z.toNatClampNeg k.toNatClampNeg) Q) := (aw_eq g 17 31 _ _ _ _).trans (by rw [tq17_31]; exact rfl)
theorem tq17_34 : tT g 17 34 = s_load vRf 17 35 1 := rfl
theorem A17_34 {l0 : Option Value} {l2 : Option Value} {l3 : Option Value} {x : Value} {r : List Value} : aw g 17 34 [l0, some (x), l2, l3] r σ Q = (vRf x = true ∧ aw g 17 35 [l0, some (x), l2, l3] (x :: r) σ Q) := (aw_eq g 17 34 _ _ _ _).trans (by rw [tq17_34]; exact h_load rfl)
theorem tq17_35 : tT g 17 35 = s_load vRf 17 36 0 := rfl
theorem A17_35 {l1 : Option Value} {l2 : Option Value} {l3 : Option Value} {x : Value} {r : List Value} : aw g 17 35 [some (x), l1, l2, l3] r σ Q = (vRf x = true ∧ aw g 17 36 [some (x), l1, l2, l3] (x :: r) σ Q) := (aw_eq g 17 35 _ _ _ _).trans (by rw [tq17_35]; exact h_load rfl)
theorem tq17_36 : tT g 17 36 = s_load vI 17 37 3 := rfl
theorem A17_36 {l0 : Option Value} {l1 : Option Value} {l2 : Option Value} {x : Int32} {r : List Value} : aw g 17 36 [l0, l1, l2, some (.int x)] r σ Q = aw g 17 37 [l0, l1, l2, some (.int x)] (.int x :: r) σ Q := (aw_eq g 17 36 _ _ _ _).trans (by rw [tq17_36]; exact (h_load rfl).trans (propext ⟨fun z => z.2, fun z => ⟨rfl, z⟩⟩))
theorem tq17_37 : tT g 17 37 = s_dupx1 17 38 := rfl
theorem A17_37 {L : AL} {r : List Value} {v w : Value} : aw g 17 37 L (v :: w :: r) σ Q = (v.category = 1 ∧ w.category = 1 ∧ aw g 17 38 L (v :: w :: v :: r) σ Q) := (aw_eq g 17 37 _ _ _ _).trans (by rw [tq17_37]; exact rfl)
theorem tq17_38 : tT g 17 38 = s_putf g pI 17 41 10 2 := rfl
theorem A17_38 {L : AL} {r : List Value} {a : Nat} {v : Value} : aw g 17 38 L (v :: .ref a :: r) σ Q = (hty σ a = some 10 ∧ gB g ≤ a ∧ pI v ∧ aw g 17 41 L r (hput σ 10 a 2 v) Q) := (aw_eq g 17 38 _ _ _ _).trans (by rw [tq17_38]; exact rfl)
theorem tq17_41 : tT g 17 41 = s_const 17 42 .null := rfl
theorem A17_41 {L : AL} {r : List Value} : aw g 17 41 L r σ Q = aw g 17 42 L (.null :: r) σ Q := (aw_eq g 17 41 _ _ _ _).trans (by rw [tq17_41]; exact rfl)
theorem tq17_42 : tT g 17 42 = s_ast g vOb 17 43 24 := rfl
theorem A17_42 {L : AL} {r : List Value} {a : Nat} {i : Int32} {v : Value} : aw g 17 42 L (v :: .int i :: .ref a :: r) σ Q = (hty σ a = some 24 ∧ gB g ≤ a ∧ ¬ i < 0 ∧ i.toNatClampNeg < hln σ a ∧ vOb σ v ∧ aw g 17 43 L r (hput σ 24 a i.toNatClampNeg v) Q) := (aw_eq g 17 42 _ _ _ _).trans (by rw [tq17_42]; exact rfl)
theorem tq17_43 : tT g 17 43 = s_vret := rfl
theorem A17_43 {L : AL} : aw g 17 43 L [] σ Q = Q (.inl none) σ := (aw_eq g 17 43 _ _ _ _).trans (by rw [tq17_43]; exact rfl)
theorem tq18_0 : tT g 18 0 = s_load vRf 18 1 0 := rfl
theorem A18_0 {l1 : Option Value} {x : Value} {r : List Value} : aw g 18 0 [some (x), l1] r σ Q = (vRf x = true ∧ aw g 18 1 [some (x), l1] (x :: r) σ Q) := (aw_eq g 18 0 _ _ _ _).trans (by rw [tq18_0]; exact h_load rfl)
theorem tq18_1 : tT g 18 1 = s_dup 18 2 := rfl
theorem A18_1 {L : AL} {r : List Value} {v : Value} : aw g 18 1 L (v :: r) σ Q = (v.category = 1 ∧ aw g 18 2 L (v :: v :: r) σ Q) := (aw_eq g 18 1 _ _ _ _).trans (by rw [tq18_1]; exact rfl)
theorem tq18_2 : tT g 18 2 = s_getf 18 5 10 0 := rfl
theorem A18_2 {L : AL} {r : List Value} {a : Nat} : aw g 18 2 L (.ref a :: r) σ Q = (hty σ a = some 10 ∧ aw g 18 5 L (hv σ 10 a 0 :: r) σ Q) := (aw_eq g 18 2 _ _ _ _).trans (by rw [tq18_2]; exact rfl)
theorem tq18_5 : tT g 18 5 = s_const 18 6 (.int 1) := rfl
theorem A18_5 {L : AL} {r : List Value} : aw g 18 5 L r σ Q = aw g 18 6 L (.int 1 :: r) σ Q := (aw_eq g 18 5 _ _ _ _).trans (by rw [tq18_5]; exact rfl)
theorem tq18_6 : tT g 18 6 = s_bin 18 7 (fun a b => a + b) := rfl
theorem A18_6 {L : AL} {r : List Value} {a b : Int32} : aw g 18 6 L (.int b :: .int a :: r) σ Q = aw g 18 7 L (.int (a + b) :: r) σ Q := (aw_eq g 18 6 _ _ _ _).trans (by rw [tq18_6]; exact rfl)
theorem tq18_7 : tT g 18 7 = s_putf g pI 18 10 10 0 := rfl
theorem A18_7 {L : AL} {r : List Value} {a : Nat} {v : Value} : aw g 18 7 L (v :: .ref a :: r) σ Q = (hty σ a = some 10 ∧ gB g ≤ a ∧ pI v ∧ aw g 18 10 L r (hput σ 10 a 0 v) Q) := (aw_eq g 18 7 _ _ _ _).trans (by rw [tq18_7]; exact rfl)
theorem tq18_10 : tT g 18 10 = s_load vRf 18 11 0 := rfl
theorem A18_10 {l1 : Option Value} {x : Value} {r : List Value} : aw g 18 10 [some (x), l1] r σ Q = (vRf x = true ∧ aw g 18 11 [some (x), l1] (x :: r) σ Q) := (aw_eq g 18 10 _ _ _ _).trans (by rw [tq18_10]; exact h_load rfl)
theorem tq18_11 : tT g 18 11 = s_load vRf 18 12 1 := rfl
theorem A18_11 {l0 : Option Value} {x : Value} {r : List Value} : aw g 18 11 [l0, some (x)] r σ Q = (vRf x = true ∧ aw g 18 12 [l0, some (x)] (x :: r) σ Q) := (aw_eq g 18 11 _ _ _ _).trans (by rw [tq18_11]; exact h_load rfl)
theorem tq18_12 : tT g 18 12 = s_load vRf 18 13 0 := rfl
theorem A18_12 {l1 : Option Value} {x : Value} {r : List Value} : aw g 18 12 [some (x), l1] r σ Q = (vRf x = true ∧ aw g 18 13 [some (x), l1] (x :: r) σ Q) := (aw_eq g 18 12 _ _ _ _).trans (by rw [tq18_12]; exact h_load rfl)
theorem tq18_13 : tT g 18 13 = s_getf 18 16 10 1 := rfl
theorem A18_13 {L : AL} {r : List Value} {a : Nat} : aw g 18 13 L (.ref a :: r) σ Q = (hty σ a = some 10 ∧ aw g 18 16 L (hv σ 10 a 1 :: r) σ Q) := (aw_eq g 18 13 _ _ _ _).trans (by rw [tq18_13]; exact rfl)
theorem tq18_16 : tT g 18 16 = s_load vRf 18 17 0 := rfl
theorem A18_16 {l1 : Option Value} {x : Value} {r : List Value} : aw g 18 16 [some (x), l1] r σ Q = (vRf x = true ∧ aw g 18 17 [some (x), l1] (x :: r) σ Q) := (aw_eq g 18 16 _ _ _ _).trans (by rw [tq18_16]; exact h_load rfl)
theorem tq18_17 : tT g 18 17 = s_getf 18 20 10 2 := rfl
theorem A18_17 {L : AL} {r : List Value} {a : Nat} : aw g 18 17 L (.ref a :: r) σ Q = (hty σ a = some 10 ∧ aw g 18 20 L (hv σ 10 a 2 :: r) σ Q) := (aw_eq g 18 17 _ _ _ _).trans (by rw [tq18_17]; exact rfl)
theorem tq18_20 : tT g 18 20 = s_callvk 18 23 19 10 [1, 1, 0] 4 := rfl
theorem A18_20 {L : AL} {r : List Value} {a : Nat} {w0 w1 w2 : Value} : aw g 18 20 L (w2 :: w1 :: w0 :: .ref a :: r) σ Q = (hty σ a = some 10 ∧ (vRf w0 && (vRf w1 && (vI w2 && true))) = true ∧ csum r ≤ 8 ∧ aw g 19 0 [some (.ref a), some w0, some w1, some w2] [] σ (kt (aw g) 18 23 L r Q)) := (aw_eq g 18 20 _ _ _ _).trans (by rw [tq18_20]; exact rfl)
theorem tq18_23 : tT g 18 23 = s_const 18 24 (.int 1) := rfl
theorem A18_23 {L : AL} {r : List Value} : aw g 18 23 L r σ Q = aw g 18 24 L (.int 1 :: r) σ Q := (aw_eq g 18 23 _ _ _ _).trans (by rw [tq18_23]; exact rfl)
theorem tq18_24 : tT g 18 24 = s_ret vZ := rfl
theorem A18_24 {L : AL} {v : Value} : aw g 18 24 L [v] σ Q = (vZ v ∧ Q (.inl (some v)) σ) := (aw_eq g 18 24 _ _ _ _).trans (by rw [tq18_24]; exact rfl)
theorem tq19_0 : tT g 19 0 = s_load vI 19 1 3 := rfl
theorem A19_0 {l0 : Option Value} {l1 : Option Value} {l2 : Option Value} {x : Int32} {r : List Value} : aw g 19 0 [l0, l1, l2, some (.int x)] r σ Q = aw g 19 1 [l0, l1, l2, some (.int x)] (.int x :: r) σ Q := (aw_eq g 19 0 _ _ _ _).trans (by rw [tq19_0]; exact (h_load rfl).trans (propext ⟨fun z => z.2, fun z => ⟨rfl, z⟩⟩))
theorem tq19_1 : tT g 19 1 = s_load vRf 19 2 2 := rfl
theorem A19_1 {l0 : Option Value} {l1 : Option Value} {l3 : Option Value} {x : Value} {r : List Value} : aw g 19 1 [l0, l1, some (x), l3] r σ Q = (vRf x = true ∧ aw g 19 2 [l0, l1, some (x), l3] (x :: r) σ Q) := (aw_eq g 19 1 _ _ _ _).trans (by rw [tq19_1]; exact h_load rfl)
theorem tq19_2 : tT g 19 2 = s_alen 19 3 24 := rfl
theorem A19_2 {L : AL} {r : List Value} {a : Nat} : aw g 19 2 L (.ref a :: r) σ Q = (hty σ a = some 24 ∧ aw g 19 3 L (.int (Int32.ofNat (hln σ a)) :: r) σ Q) := (aw_eq g 19 2 _ _ _ _).trans (by rw [tq19_2]; exact rfl)
theorem tq19_3 : tT g 19 3 = s_icmp 19 11 6 (fun a b => a = b) := rfl
theorem A19_3 {L : AL} {r : List Value} {a b : Int32} : aw g 19 3 L (.int b :: .int a :: r) σ Q = ((a = b → aw g 19 6 L r σ Q) ∧ (¬ a = b → aw g 19 11 L r σ Q)) := (aw_eq g 19 3 _ _ _ _).trans (by rw [tq19_3]; exact rfl)
theorem tq19_6 : tT g 19 6 = s_load vRf 19 7 0 := rfl
theorem A19_6 {l1 : Option Value} {l2 : Option Value} {l3 : Option Value} {x : Value} {r : List Value} : aw g 19 6 [some (x), l1, l2, l3] r σ Q = (vRf x = true ∧ aw g 19 7 [some (x), l1, l2, l3] (x :: r) σ Q) := (aw_eq g 19 6 _ _ _ _).trans (by rw [tq19_6]; exact h_load rfl)
theorem tq19_7 : tT g 19 7 = s_callvk 19 10 20 10 [] 1 := rfl
theorem A19_7 {L : AL} {r : List Value} {a : Nat} : aw g 19 7 L (.ref a :: r) σ Q = (hty σ a = some 10 ∧ true = true ∧ csum r ≤ 8 ∧ aw g 20 0 [some (.ref a)] [] σ (kt (aw g) 19 10 L r Q)) := (aw_eq g 19 7 _ _ _ _).trans (by rw [tq19_7]; exact rfl)
theorem tq19_10 : tT g 19 10 = s_store vRf 19 11 2 := rfl
theorem A19_10 {l0 : Option Value} {l1 : Option Value} {l2 : Option Value} {l3 : Option Value} {x : Value} {r : List Value} : aw g 19 10 [l0, l1, l2, l3] (x :: r) σ Q = (vRf x = true ∧ oc l1 = true ∧ aw g 19 11 [l0, l1, some (x), l3] r σ Q) := (aw_eq g 19 10 _ _ _ _).trans (by rw [tq19_10]; exact (h_store (o := oc l1) rfl rfl rfl))
theorem tq19_11 : tT g 19 11 = s_load vRf 19 12 2 := rfl
theorem A19_11 {l0 : Option Value} {l1 : Option Value} {l3 : Option Value} {x : Value} {r : List Value} : aw g 19 11 [l0, l1, some (x), l3] r σ Q = (vRf x = true ∧ aw g 19 12 [l0, l1, some (x), l3] (x :: r) σ Q) := (aw_eq g 19 11 _ _ _ _).trans (by rw [tq19_11]; exact h_load rfl)
theorem tq19_12 : tT g 19 12 = s_load vI 19 13 3 := rfl
theorem A19_12 {l0 : Option Value} {l1 : Option Value} {l2 : Option Value} {x : Int32} {r : List Value} : aw g 19 12 [l0, l1, l2, some (.int x)] r σ Q = aw g 19 13 [l0, l1, l2, some (.int x)] (.int x :: r) σ Q := (aw_eq g 19 12 _ _ _ _).trans (by rw [tq19_12]; exact (h_load rfl).trans (propext ⟨fun z => z.2, fun z => ⟨rfl, z⟩⟩))
theorem tq19_13 : tT g 19 13 = s_load vRf 19 14 1 := rfl
theorem A19_13 {l0 : Option Value} {l2 : Option Value} {l3 : Option Value} {x : Value} {r : List Value} : aw g 19 13 [l0, some (x), l2, l3] r σ Q = (vRf x = true ∧ aw g 19 14 [l0, some (x), l2, l3] (x :: r) σ Q) := (aw_eq g 19 13 _ _ _ _).trans (by rw [tq19_13]; exact h_load rfl)
theorem tq19_14 : tT g 19 14 = s_ast g vOb 19 15 24 := rfl
theorem A19_14 {L : AL} {r : List Value} {a : Nat} {i : Int32} {v : Value} : aw g 19 14 L (v :: .int i :: .ref a :: r) σ Q = (hty σ a = some 24 ∧ gB g ≤ a ∧ ¬ i < 0 ∧ i.toNatClampNeg < hln σ a ∧ vOb σ v ∧ aw g 19 15 L r (hput σ 24 a i.toNatClampNeg v) Q) := (aw_eq g 19 14 _ _ _ _).trans (by rw [tq19_14]; exact rfl)
theorem tq19_15 : tT g 19 15 = s_load vRf 19 16 0 := rfl
theorem A19_15 {l1 : Option Value} {l2 : Option Value} {l3 : Option Value} {x : Value} {r : List Value} : aw g 19 15 [some (x), l1, l2, l3] r σ Q = (vRf x = true ∧ aw g 19 16 [some (x), l1, l2, l3] (x :: r) σ Q) := (aw_eq g 19 15 _ _ _ _).trans (by rw [tq19_15]; exact h_load rfl)
theorem tq19_16 : tT g 19 16 = s_load vI 19 17 3 := rfl
theorem A19_16 {l0 : Option Value} {l1 : Option Value} {l2 : Option Value} {x : Int32} {r : List Value} : aw g 19 16 [l0, l1, l2, some (.int x)] r σ Q = aw g 19 17 [l0, l1, l2, some (.int x)] (.int x :: r) σ Q := (aw_eq g 19 16 _ _ _ _).trans (by rw [tq19_16]; exact (h_load rfl).trans (propext ⟨fun z => z.2, fun z => ⟨rfl, z⟩⟩))
theorem tq19_17 : tT g 19 17 = s_const 19 18 (.int 1) := rfl
theorem A19_17 {L : AL} {r : List Value} : aw g 19 17 L r σ Q = aw g 19 18 L (.int 1 :: r) σ Q := (aw_eq g 19 17 _ _ _ _).trans (by rw [tq19_17]; exact rfl)
theorem tq19_18 : tT g 19 18 = s_bin 19 19 (fun a b => a + b) := rfl
theorem A19_18 {L : AL} {r : List Value} {a b : Int32} : aw g 19 18 L (.int b :: .int a :: r) σ Q = aw g 19 19 L (.int (a + b) :: r) σ Q := (aw_eq g 19 18 _ _ _ _).trans (by rw [tq19_18]; exact rfl)
theorem tq19_19 : tT g 19 19 = s_putf g pI 19 22 10 2 := rfl
theorem A19_19 {L : AL} {r : List Value} {a : Nat} {v : Value} : aw g 19 19 L (v :: .ref a :: r) σ Q = (hty σ a = some 10 ∧ gB g ≤ a ∧ pI v ∧ aw g 19 22 L r (hput σ 10 a 2 v) Q) := (aw_eq g 19 19 _ _ _ _).trans (by rw [tq19_19]; exact rfl)
theorem tq19_22 : tT g 19 22 = s_vret := rfl
theorem A19_22 {L : AL} : aw g 19 22 L [] σ Q = Q (.inl none) σ := (aw_eq g 19 22 _ _ _ _).trans (by rw [tq19_22]; exact rfl)
theorem tq20_0 : tT g 20 0 = s_load vRf 20 1 0 := rfl
theorem A20_0  {x : Value} {r : List Value} : aw g 20 0 [some (x)] r σ Q = (vRf x = true ∧ aw g 20 1 [some (x)] (x :: r) σ Q) := (aw_eq g 20 0 _ _ _ _).trans (by rw [tq20_0]; exact h_load rfl)
theorem tq20_1 : tT g 20 1 = s_load vRf 20 2 0 := rfl
theorem A20_1  {x : Value} {r : List Value} : aw g 20 1 [some (x)] r σ Q = (vRf x = true ∧ aw g 20 2 [some (x)] (x :: r) σ Q) := (aw_eq g 20 1 _ _ _ _).trans (by rw [tq20_1]; exact h_load rfl)
theorem tq20_2 : tT g 20 2 = s_getf 20 5 10 2 := rfl
theorem A20_2 {L : AL} {r : List Value} {a : Nat} : aw g 20 2 L (.ref a :: r) σ Q = (hty σ a = some 10 ∧ aw g 20 5 L (hv σ 10 a 2 :: r) σ Q) := (aw_eq g 20 2 _ _ _ _).trans (by rw [tq20_2]; exact rfl)
theorem tq20_5 : tT g 20 5 = s_const 20 6 (.int 1) := rfl
theorem A20_5 {L : AL} {r : List Value} : aw g 20 5 L r σ Q = aw g 20 6 L (.int 1 :: r) σ Q := (aw_eq g 20 5 _ _ _ _).trans (by rw [tq20_5]; exact rfl)
theorem tq20_6 : tT g 20 6 = s_bin 20 7 (fun a b => a + b) := rfl
theorem A20_6 {L : AL} {r : List Value} {a b : Int32} : aw g 20 6 L (.int b :: .int a :: r) σ Q = aw g 20 7 L (.int (a + b) :: r) σ Q := (aw_eq g 20 6 _ _ _ _).trans (by rw [tq20_6]; exact rfl)
theorem tq20_7 : tT g 20 7 = s_callvk 20 10 21 10 [0] 4 := rfl
theorem A20_7 {L : AL} {r : List Value} {a : Nat} {w0 : Value} : aw g 20 7 L (w0 :: .ref a :: r) σ Q = (hty σ a = some 10 ∧ (vI w0 && true) = true ∧ csum r ≤ 8 ∧ aw g 21 0 [some (.ref a), some w0, none, none] [] σ (kt (aw g) 20 10 L r Q)) := (aw_eq g 20 7 _ _ _ _).trans (by rw [tq20_7]; exact rfl)
theorem tq20_10 : tT g 20 10 = s_ret pR := rfl
theorem A20_10 {L : AL} {v : Value} : aw g 20 10 L [v] σ Q = (pR v ∧ Q (.inl (some v)) σ) := (aw_eq g 20 10 _ _ _ _).trans (by rw [tq20_10]; exact rfl)
theorem tq21_0 : tT g 21 0 = s_load vRf 21 1 0 := rfl
theorem A21_0 {l1 : Option Value} {l2 : Option Value} {l3 : Option Value} {x : Value} {r : List Value} : aw g 21 0 [some (x), l1, l2, l3] r σ Q = (vRf x = true ∧ aw g 21 1 [some (x), l1, l2, l3] (x :: r) σ Q) := (aw_eq g 21 0 _ _ _ _).trans (by rw [tq21_0]; exact h_load rfl)
theorem tq21_1 : tT g 21 1 = s_getf 21 4 10 1 := rfl
theorem A21_1 {L : AL} {r : List Value} {a : Nat} : aw g 21 1 L (.ref a :: r) σ Q = (hty σ a = some 10 ∧ aw g 21 4 L (hv σ 10 a 1 :: r) σ Q) := (aw_eq g 21 1 _ _ _ _).trans (by rw [tq21_1]; exact rfl)
theorem tq21_4 : tT g 21 4 = s_alen 21 5 24 := rfl
theorem A21_4 {L : AL} {r : List Value} {a : Nat} : aw g 21 4 L (.ref a :: r) σ Q = (hty σ a = some 24 ∧ aw g 21 5 L (.int (Int32.ofNat (hln σ a)) :: r) σ Q) := (aw_eq g 21 4 _ _ _ _).trans (by rw [tq21_4]; exact rfl)
theorem tq21_5 : tT g 21 5 = s_store vI 21 6 2 := rfl
theorem A21_5 {l0 : Option Value} {l1 : Option Value} {l2 : Option Value} {l3 : Option Value} {x : Int32} {r : List Value} : aw g 21 5 [l0, l1, l2, l3] (.int x :: r) σ Q = (oc l1 = true ∧ aw g 21 6 [l0, l1, some (.int x), l3] r σ Q) := (aw_eq g 21 5 _ _ _ _).trans (by rw [tq21_5]; exact (h_store (o := oc l1) rfl rfl rfl).trans (propext ⟨fun z => z.2, fun z => ⟨rfl, z⟩⟩))
theorem tq21_6 : tT g 21 6 = s_load vI 21 7 2 := rfl
theorem A21_6 {l0 : Option Value} {l1 : Option Value} {l3 : Option Value} {x : Int32} {r : List Value} : aw g 21 6 [l0, l1, some (.int x), l3] r σ Q = aw g 21 7 [l0, l1, some (.int x), l3] (.int x :: r) σ Q := (aw_eq g 21 6 _ _ _ _).trans (by rw [tq21_6]; exact (h_load rfl).trans (propext ⟨fun z => z.2, fun z => ⟨rfl, z⟩⟩))
theorem tq21_7 : tT g 21 7 = s_if 21 10 20 (fun a => 0 < a) := rfl
theorem A21_7 {L : AL} {r : List Value} {a : Int32} : aw g 21 7 L (.int a :: r) σ Q = ((0 < a → aw g 21 20 L r σ Q) ∧ (¬ 0 < a → aw g 21 10 L r σ Q)) := (aw_eq g 21 7 _ _ _ _).trans (by rw [tq21_7]; exact rfl)
theorem tq21_10 : tT g 21 10 = s_load vRf 21 11 0 := rfl
theorem A21_10 {l1 : Option Value} {l2 : Option Value} {l3 : Option Value} {x : Value} {r : List Value} : aw g 21 10 [some (x), l1, l2, l3] r σ Q = (vRf x = true ∧ aw g 21 11 [some (x), l1, l2, l3] (x :: r) σ Q) := (aw_eq g 21 10 _ _ _ _).trans (by rw [tq21_10]; exact h_load rfl)
theorem tq21_11 : tT g 21 11 = s_getf 21 14 10 1 := rfl
theorem A21_11 {L : AL} {r : List Value} {a : Nat} : aw g 21 11 L (.ref a :: r) σ Q = (hty σ a = some 10 ∧ aw g 21 14 L (hv σ 10 a 1 :: r) σ Q) := (aw_eq g 21 11 _ _ _ _).trans (by rw [tq21_11]; exact rfl)
theorem tq21_14 : tT g 21 14 = s_const 21 17 (.ref (gV g 0)) := rfl
theorem A21_14 {L : AL} {r : List Value} : aw g 21 14 L r σ Q = aw g 21 17 L (.ref (gV g 0) :: r) σ Q := (aw_eq g 21 14 _ _ _ _).trans (by rw [tq21_14]; exact rfl)
theorem tq21_17 : tT g 21 17 = s_acmp 21 20 45 := rfl
theorem A21_17 {L : AL} {r : List Value} {a b : Value} : aw g 21 17 L (b :: a :: r) σ Q = (vRf a = true ∧ vRf b = true ∧ (a = b → aw g 21 45 L r σ Q) ∧ (a ≠ b → aw g 21 20 L r σ Q)) := (aw_eq g 21 17 _ _ _ _).trans (by rw [tq21_17]; exact rfl)
theorem tq21_20 : tT g 21 20 = s_load vI 21 21 2 := rfl
theorem A21_20 {l0 : Option Value} {l1 : Option Value} {l3 : Option Value} {x : Int32} {r : List Value} : aw g 21 20 [l0, l1, some (.int x), l3] r σ Q = aw g 21 21 [l0, l1, some (.int x), l3] (.int x :: r) σ Q := (aw_eq g 21 20 _ _ _ _).trans (by rw [tq21_20]; exact (h_load rfl).trans (propext ⟨fun z => z.2, fun z => ⟨rfl, z⟩⟩))
theorem tq21_21 : tT g 21 21 = s_load vI 21 22 1 := rfl
theorem A21_21 {l0 : Option Value} {l2 : Option Value} {l3 : Option Value} {x : Int32} {r : List Value} : aw g 21 21 [l0, some (.int x), l2, l3] r σ Q = aw g 21 22 [l0, some (.int x), l2, l3] (.int x :: r) σ Q := (aw_eq g 21 21 _ _ _ _).trans (by rw [tq21_21]; exact (h_load rfl).trans (propext ⟨fun z => z.2, fun z => ⟨rfl, z⟩⟩))
theorem tq21_22 : tT g 21 22 = s_load vI 21 23 2 := rfl
theorem A21_22 {l0 : Option Value} {l1 : Option Value} {l3 : Option Value} {x : Int32} {r : List Value} : aw g 21 22 [l0, l1, some (.int x), l3] r σ Q = aw g 21 23 [l0, l1, some (.int x), l3] (.int x :: r) σ Q := (aw_eq g 21 22 _ _ _ _).trans (by rw [tq21_22]; exact (h_load rfl).trans (propext ⟨fun z => z.2, fun z => ⟨rfl, z⟩⟩))
theorem tq21_23 : tT g 21 23 = s_bin 21 24 (fun a b => a - b) := rfl
theorem A21_23 {L : AL} {r : List Value} {a b : Int32} : aw g 21 23 L (.int b :: .int a :: r) σ Q = aw g 21 24 L (.int (a - b) :: r) σ Q := (aw_eq g 21 23 _ _ _ _).trans (by rw [tq21_23]; exact rfl)
theorem tq21_24 : tT g 21 24 = s_load vI 21 25 2 := rfl
theorem A21_24 {l0 : Option Value} {l1 : Option Value} {l3 : Option Value} {x : Int32} {r : List Value} : aw g 21 24 [l0, l1, some (.int x), l3] r σ Q = aw g 21 25 [l0, l1, some (.int x), l3] (.int x :: r) σ Q := (aw_eq g 21 24 _ _ _ _).trans (by rw [tq21_24]; exact (h_load rfl).trans (propext ⟨fun z => z.2, fun z => ⟨rfl, z⟩⟩))
theorem tq21_25 : tT g 21 25 = s_const 21 26 (.int 1) := rfl
theorem A21_25 {L : AL} {r : List Value} : aw g 21 25 L r σ Q = aw g 21 26 L (.int 1 :: r) σ Q := (aw_eq g 21 25 _ _ _ _).trans (by rw [tq21_25]; exact rfl)
theorem tq21_26 : tT g 21 26 = s_bin 21 27 (fun a b => a >>> (b &&& 31)) := rfl
theorem A21_26 {L : AL} {r : List Value} {a b : Int32} : aw g 21 26 L (.int b :: .int a :: r) σ Q = aw g 21 27 L (.int (a >>> (b &&& 31)) :: r) σ Q := (aw_eq g 21 26 _ _ _ _).trans (by rw [tq21_26]; exact rfl)
theorem tq21_27 : tT g 21 27 = s_callk 21 30 32 [0, 0, 0] 4 := rfl
theorem A21_27 {L : AL} {r : List Value} {w0 w1 w2 : Value} : aw g 21 27 L (w2 :: w1 :: w0 :: r) σ Q = ((vI w0 && (vI w1 && (vI w2 && true))) = true ∧ csum r ≤ 8 ∧ aw g 32 0 [some w0, some w1, some w2, none] [] σ (kt (aw g) 21 30 L r Q)) := (aw_eq g 21 27 _ _ _ _).trans (by rw [tq21_27]; exact rfl)
theorem tq21_30 : tT g 21 30 = s_store vI 21 31 3 := rfl
theorem A21_30 {l0 : Option Value} {l1 : Option Value} {l2 : Option Value} {l3 : Option Value} {x : Int32} {r : List Value} : aw g 21 30 [l0, l1, l2, l3] (.int x :: r) σ Q = (oc l2 = true ∧ aw g 21 31 [l0, l1, l2, some (.int x)] r σ Q) := (aw_eq g 21 30 _ _ _ _).trans (by rw [tq21_30]; exact (h_store (o := oc l2) rfl rfl rfl).trans (propext ⟨fun z => z.2, fun z => ⟨rfl, z⟩⟩))
theorem tq21_31 : tT g 21 31 = s_load vRf 21 32 0 := rfl
theorem A21_31 {l1 : Option Value} {l2 : Option Value} {l3 : Option Value} {x : Value} {r : List Value} : aw g 21 31 [some (x), l1, l2, l3] r σ Q = (vRf x = true ∧ aw g 21 32 [some (x), l1, l2, l3] (x :: r) σ Q) := (aw_eq g 21 31 _ _ _ _).trans (by rw [tq21_31]; exact h_load rfl)
theorem tq21_32 : tT g 21 32 = s_load vRf 21 33 0 := rfl
theorem A21_32 {l1 : Option Value} {l2 : Option Value} {l3 : Option Value} {x : Value} {r : List Value} : aw g 21 32 [some (x), l1, l2, l3] r σ Q = (vRf x = true ∧ aw g 21 33 [some (x), l1, l2, l3] (x :: r) σ Q) := (aw_eq g 21 32 _ _ _ _).trans (by rw [tq21_32]; exact h_load rfl)
theorem tq21_33 : tT g 21 33 = s_getf 21 36 10 1 := rfl
theorem A21_33 {L : AL} {r : List Value} {a : Nat} : aw g 21 33 L (.ref a :: r) σ Q = (hty σ a = some 10 ∧ aw g 21 36 L (hv σ 10 a 1 :: r) σ Q) := (aw_eq g 21 33 _ _ _ _).trans (by rw [tq21_33]; exact rfl)
theorem tq21_36 : tT g 21 36 = s_load vI 21 37 3 := rfl
theorem A21_36 {l0 : Option Value} {l1 : Option Value} {l2 : Option Value} {x : Int32} {r : List Value} : aw g 21 36 [l0, l1, l2, some (.int x)] r σ Q = aw g 21 37 [l0, l1, l2, some (.int x)] (.int x :: r) σ Q := (aw_eq g 21 36 _ _ _ _).trans (by rw [tq21_36]; exact (h_load rfl).trans (propext ⟨fun z => z.2, fun z => ⟨rfl, z⟩⟩))
theorem tq21_37 : tT g 21 37 = s_callk 21 40 36 [1, 0] 2 := rfl
theorem A21_37 {L : AL} {r : List Value} {w0 w1 : Value} : aw g 21 37 L (w1 :: w0 :: r) σ Q = ((vRf w0 && (vI w1 && true)) = true ∧ csum r ≤ 8 ∧ aw g 36 0 [some w0, some w1] [] σ (kt (aw g) 21 40 L r Q)) := (aw_eq g 21 37 _ _ _ _).trans (by rw [tq21_37]; exact rfl)
theorem tq21_40 : tT g 21 40 = s_dupx1 21 41 := rfl
theorem A21_40 {L : AL} {r : List Value} {v w : Value} : aw g 21 40 L (v :: w :: r) σ Q = (v.category = 1 ∧ w.category = 1 ∧ aw g 21 41 L (v :: w :: v :: r) σ Q) := (aw_eq g 21 40 _ _ _ _).trans (by rw [tq21_40]; exact rfl)
theorem tq21_41 : tT g 21 41 = s_putf g pR 21 44 10 1 := rfl
theorem A21_41 {L : AL} {r : List Value} {a : Nat} {v : Value} : aw g 21 41 L (v :: .ref a :: r) σ Q = (hty σ a = some 10 ∧ gB g ≤ a ∧ pR v ∧ aw g 21 44 L r (hput σ 10 a 1 v) Q) := (aw_eq g 21 41 _ _ _ _).trans (by rw [tq21_41]; exact rfl)
theorem tq21_44 : tT g 21 44 = s_ret pR := rfl
theorem A21_44 {L : AL} {v : Value} : aw g 21 44 L [v] σ Q = (pR v ∧ Q (.inl (some v)) σ) := (aw_eq g 21 44 _ _ _ _).trans (by rw [tq21_44]; exact rfl)
theorem tq21_45 : tT g 21 45 = s_load vRf 21 46 0 := rfl
theorem A21_45 {l1 : Option Value} {l2 : Option Value} {l3 : Option Value} {x : Value} {r : List Value} : aw g 21 45 [some (x), l1, l2, l3] r σ Q = (vRf x = true ∧ aw g 21 46 [some (x), l1, l2, l3] (x :: r) σ Q) := (aw_eq g 21 45 _ _ _ _).trans (by rw [tq21_45]; exact h_load rfl)
theorem tq21_46 : tT g 21 46 = s_const 21 48 (.int 10) := rfl
theorem A21_46 {L : AL} {r : List Value} : aw g 21 46 L r σ Q = aw g 21 48 L (.int 10 :: r) σ Q := (aw_eq g 21 46 _ _ _ _).trans (by rw [tq21_46]; exact rfl)
theorem tq21_48 : tT g 21 48 = s_load vI 21 49 1 := rfl
theorem A21_48 {l0 : Option Value} {l2 : Option Value} {l3 : Option Value} {x : Int32} {r : List Value} : aw g 21 48 [l0, some (.int x), l2, l3] r σ Q = aw g 21 49 [l0, some (.int x), l2, l3] (.int x :: r) σ Q := (aw_eq g 21 48 _ _ _ _).trans (by rw [tq21_48]; exact (h_load rfl).trans (propext ⟨fun z => z.2, fun z => ⟨rfl, z⟩⟩))
theorem tq21_49 : tT g 21 49 = s_callk 21 52 34 [0, 0] 2 := rfl
theorem A21_49 {L : AL} {r : List Value} {w0 w1 : Value} : aw g 21 49 L (w1 :: w0 :: r) σ Q = ((vI w0 && (vI w1 && true)) = true ∧ csum r ≤ 8 ∧ aw g 34 0 [some w0, some w1] [] σ (kt (aw g) 21 52 L r Q)) := (aw_eq g 21 49 _ _ _ _).trans (by rw [tq21_49]; exact rfl)
theorem tq21_52 : tT g 21 52 = s_newa g 21 55 24 (.null) := rfl
theorem A21_52 {L : AL} {r : List Value} {x : Int32} : aw g 21 52 L (.int x :: r) σ Q = (¬ x < 0 ∧ x.toNatClampNeg ≤ 65536 ∧ hsz σ + 1 ≤ gC g ∧ hsl σ + x.toNatClampNeg ≤ gS g ∧ aw g 21 55 L (.ref (hsz σ) :: r) (hnew σ 24 x.toNatClampNeg (fun _ => .null) x.toNatClampNeg) Q) := (aw_eq g 21 52 _ _ _ _).trans (by rw [tq21_52]; exact rfl)
theorem tq21_55 : tT g 21 55 = s_dupx1 21 56 := rfl
theorem A21_55 {L : AL} {r : List Value} {v w : Value} : aw g 21 55 L (v :: w :: r) σ Q = (v.category = 1 ∧ w.category = 1 ∧ aw g 21 56 L (v :: w :: v :: r) σ Q) := (aw_eq g 21 55 _ _ _ _).trans (by rw [tq21_55]; exact rfl)
theorem tq21_56 : tT g 21 56 = s_putf g pR 21 59 10 1 := rfl
theorem A21_56 {L : AL} {r : List Value} {a : Nat} {v : Value} : aw g 21 56 L (v :: .ref a :: r) σ Q = (hty σ a = some 10 ∧ gB g ≤ a ∧ pR v ∧ aw g 21 59 L r (hput σ 10 a 1 v) Q) := (aw_eq g 21 56 _ _ _ _).trans (by rw [tq21_56]; exact rfl)
theorem tq21_59 : tT g 21 59 = s_ret pR := rfl
theorem A21_59 {L : AL} {v : Value} : aw g 21 59 L [v] σ Q = (pR v ∧ Q (.inl (some v)) σ) := (aw_eq g 21 59 _ _ _ _).trans (by rw [tq21_59]; exact rfl)
theorem tq22_0 : tT g 22 0 = s_new g 22 3 11 4 (fun k => defaultValue (tyJ16 k)) := rfl
theorem A22_0 {L : AL} {r : List Value} : aw g 22 0 L r σ Q = (hsz σ + 1 ≤ gC g ∧ hsl σ + 4 ≤ gS g ∧ aw g 22 3 L (.ref (hsz σ) :: r) (hnew σ 11 0 (fun k => defaultValue (tyJ16 k)) 4) Q) := (aw_eq g 22 0 _ _ _ _).trans (by rw [tq22_0]; exact rfl)
theorem tq22_3 : tT g 22 3 = s_dup 22 4 := rfl
theorem A22_3 {L : AL} {r : List Value} {v : Value} : aw g 22 3 L (v :: r) σ Q = (v.category = 1 ∧ aw g 22 4 L (v :: v :: r) σ Q) := (aw_eq g 22 3 _ _ _ _).trans (by rw [tq22_3]; exact rfl)
theorem tq22_4 : tT g 22 4 = s_load vRf 22 5 0 := rfl
theorem A22_4  {x : Value} {r : List Value} : aw g 22 4 [some (x)] r σ Q = (vRf x = true ∧ aw g 22 5 [some (x)] (x :: r) σ Q) := (aw_eq g 22 4 _ _ _ _).trans (by rw [tq22_4]; exact h_load rfl)
theorem tq22_5 : tT g 22 5 = s_callik 22 8 2 [1] 2 := rfl
theorem A22_5 {L : AL} {r : List Value} {a : Nat} {w0 : Value} : aw g 22 5 L (w0 :: .ref a :: r) σ Q = ((vRf w0 && true) = true ∧ csum r ≤ 8 ∧ aw g 2 0 [some (.ref a), some w0] [] σ (kt (aw g) 22 8 L r Q)) := (aw_eq g 22 5 _ _ _ _).trans (by rw [tq22_5]; exact rfl)
theorem tq22_8 : tT g 22 8 = s_ret pR := rfl
theorem A22_8 {L : AL} {v : Value} : aw g 22 8 L [v] σ Q = (pR v ∧ Q (.inl (some v)) σ) := (aw_eq g 22 8 _ _ _ _).trans (by rw [tq22_8]; exact rfl)
theorem tq23_0 : tT g 23 0 = s_load vRf 23 1 0 := rfl
theorem A23_0 {l1 : Option Value} {x : Value} {r : List Value} : aw g 23 0 [some (x), l1] r σ Q = (vRf x = true ∧ aw g 23 1 [some (x), l1] (x :: r) σ Q) := (aw_eq g 23 0 _ _ _ _).trans (by rw [tq23_0]; exact h_load rfl)
theorem tq23_1 : tT g 23 1 = s_load vRf 23 2 1 := rfl
theorem A23_1 {l0 : Option Value} {x : Value} {r : List Value} : aw g 23 1 [l0, some (x)] r σ Q = (vRf x = true ∧ aw g 23 2 [l0, some (x)] (x :: r) σ Q) := (aw_eq g 23 1 _ _ _ _).trans (by rw [tq23_1]; exact h_load rfl)
theorem tq23_2 : tT g 23 2 = s_const 23 3 (.int 0) := rfl
theorem A23_2 {L : AL} {r : List Value} : aw g 23 2 L r σ Q = aw g 23 3 L (.int 0 :: r) σ Q := (aw_eq g 23 2 _ _ _ _).trans (by rw [tq23_2]; exact rfl)
theorem tq23_3 : tT g 23 3 = s_load vRf 23 4 0 := rfl
theorem A23_3 {l1 : Option Value} {x : Value} {r : List Value} : aw g 23 3 [some (x), l1] r σ Q = (vRf x = true ∧ aw g 23 4 [some (x), l1] (x :: r) σ Q) := (aw_eq g 23 3 _ _ _ _).trans (by rw [tq23_3]; exact h_load rfl)
theorem tq23_4 : tT g 23 4 = s_getf 23 7 10 2 := rfl
theorem A23_4 {L : AL} {r : List Value} {a : Nat} : aw g 23 4 L (.ref a :: r) σ Q = (hty σ a = some 10 ∧ aw g 23 7 L (hv σ 10 a 2 :: r) σ Q) := (aw_eq g 23 4 _ _ _ _).trans (by rw [tq23_4]; exact rfl)
theorem tq23_7 : tT g 23 7 = s_callvk 23 10 24 10 [1, 0, 0] 6 := rfl
theorem A23_7 {L : AL} {r : List Value} {a : Nat} {w0 w1 w2 : Value} : aw g 23 7 L (w2 :: w1 :: w0 :: .ref a :: r) σ Q = (hty σ a = some 10 ∧ (vRf w0 && (vI w1 && (vI w2 && true))) = true ∧ csum r ≤ 8 ∧ aw g 24 0 [some (.ref a), some w0, some w1, some w2, none, none] [] σ (kt (aw g) 23 10 L r Q)) := (aw_eq g 23 7 _ _ _ _).trans (by rw [tq23_7]; exact rfl)
theorem tq23_10 : tT g 23 10 = s_ret pI := rfl
theorem A23_10 {L : AL} {v : Value} : aw g 23 10 L [v] σ Q = (pI v ∧ Q (.inl (some v)) σ) := (aw_eq g 23 10 _ _ _ _).trans (by rw [tq23_10]; exact rfl)
theorem tq24_0 : tT g 24 0 = s_load vRf 24 1 0 := rfl
theorem A24_0 {l1 : Option Value} {l2 : Option Value} {l3 : Option Value} {l4 : Option Value} {l5 : Option Value} {x : Value} {r : List Value} : aw g 24 0 [some (x), l1, l2, l3, l4, l5] r σ Q = (vRf x = true ∧ aw g 24 1 [some (x), l1, l2, l3, l4, l5] (x :: r) σ Q) := (aw_eq g 24 0 _ _ _ _).trans (by rw [tq24_0]; exact h_load rfl)
theorem tq24_1 : tT g 24 1 = s_getf 24 4 10 1 := rfl
theorem A24_1 {L : AL} {r : List Value} {a : Nat} : aw g 24 1 L (.ref a :: r) σ Q = (hty σ a = some 10 ∧ aw g 24 4 L (hv σ 10 a 1 :: r) σ Q) := (aw_eq g 24 1 _ _ _ _).trans (by rw [tq24_1]; exact rfl)
theorem tq24_4 : tT g 24 4 = s_store vRf 24 6 4 := rfl
theorem A24_4 {l0 : Option Value} {l1 : Option Value} {l2 : Option Value} {l3 : Option Value} {l4 : Option Value} {l5 : Option Value} {x : Value} {r : List Value} : aw g 24 4 [l0, l1, l2, l3, l4, l5] (x :: r) σ Q = (vRf x = true ∧ oc l3 = true ∧ aw g 24 6 [l0, l1, l2, l3, some (x), l5] r σ Q) := (aw_eq g 24 4 _ _ _ _).trans (by rw [tq24_4]; exact (h_store (o := oc l3) rfl rfl rfl))
theorem tq24_6 : tT g 24 6 = s_load vRf 24 7 1 := rfl
theorem A24_6 {l0 : Option Value} {l2 : Option Value} {l3 : Option Value} {l4 : Option Value} {l5 : Option Value} {x : Value} {r : List Value} : aw g 24 6 [l0, some (x), l2, l3, l4, l5] r σ Q = (vRf x = true ∧ aw g 24 7 [l0, some (x), l2, l3, l4, l5] (x :: r) σ Q) := (aw_eq g 24 6 _ _ _ _).trans (by rw [tq24_6]; exact h_load rfl)
theorem tq24_7 : tT g 24 7 = s_ifnn 24 10 39 := rfl
theorem A24_7 {L : AL} {r : List Value} {a : Value} : aw g 24 7 L (a :: r) σ Q = (vRf a = true ∧ (a = .null → aw g 24 10 L r σ Q) ∧ (a ≠ .null → aw g 24 39 L r σ Q)) := (aw_eq g 24 7 _ _ _ _).trans (by rw [tq24_7]; exact rfl)
theorem tq24_10 : tT g 24 10 = s_load vI 24 11 2 := rfl
theorem A24_10 {l0 : Option Value} {l1 : Option Value} {l3 : Option Value} {l4 : Option Value} {l5 : Option Value} {x : Int32} {r : List Value} : aw g 24 10 [l0, l1, some (.int x), l3, l4, l5] r σ Q = aw g 24 11 [l0, l1, some (.int x), l3, l4, l5] (.int x :: r) σ Q := (aw_eq g 24 10 _ _ _ _).trans (by rw [tq24_10]; exact (h_load rfl).trans (propext ⟨fun z => z.2, fun z => ⟨rfl, z⟩⟩))
theorem tq24_11 : tT g 24 11 = s_store vI 24 13 5 := rfl
theorem A24_11 {l0 : Option Value} {l1 : Option Value} {l2 : Option Value} {l3 : Option Value} {l4 : Option Value} {l5 : Option Value} {x : Int32} {r : List Value} : aw g 24 11 [l0, l1, l2, l3, l4, l5] (.int x :: r) σ Q = (oc l4 = true ∧ aw g 24 13 [l0, l1, l2, l3, l4, some (.int x)] r σ Q) := (aw_eq g 24 11 _ _ _ _).trans (by rw [tq24_11]; exact (h_store (o := oc l4) rfl rfl rfl).trans (propext ⟨fun z => z.2, fun z => ⟨rfl, z⟩⟩))
theorem tq24_13 : tT g 24 13 = s_load vI 24 15 5 := rfl
theorem A24_13 {l0 : Option Value} {l1 : Option Value} {l2 : Option Value} {l3 : Option Value} {l4 : Option Value} {x : Int32} {r : List Value} : aw g 24 13 [l0, l1, l2, l3, l4, some (.int x)] r σ Q = aw g 24 15 [l0, l1, l2, l3, l4, some (.int x)] (.int x :: r) σ Q := (aw_eq g 24 13 _ _ _ _).trans (by rw [tq24_13]; exact (h_load rfl).trans (propext ⟨fun z => z.2, fun z => ⟨rfl, z⟩⟩))
theorem tq24_15 : tT g 24 15 = s_load vI 24 16 3 := rfl
theorem A24_15 {l0 : Option Value} {l1 : Option Value} {l2 : Option Value} {l4 : Option Value} {l5 : Option Value} {x : Int32} {r : List Value} : aw g 24 15 [l0, l1, l2, some (.int x), l4, l5] r σ Q = aw g 24 16 [l0, l1, l2, some (.int x), l4, l5] (.int x :: r) σ Q := (aw_eq g 24 15 _ _ _ _).trans (by rw [tq24_15]; exact (h_load rfl).trans (propext ⟨fun z => z.2, fun z => ⟨rfl, z⟩⟩))
theorem tq24_16 : tT g 24 16 = s_icmp 24 19 36 (fun a b => b ≤ a) := rfl
theorem A24_16 {L : AL} {r : List Value} {a b : Int32} : aw g 24 16 L (.int b :: .int a :: r) σ Q = ((b ≤ a → aw g 24 36 L r σ Q) ∧ (¬ b ≤ a → aw g 24 19 L r σ Q)) := (aw_eq g 24 16 _ _ _ _).trans (by rw [tq24_16]; exact rfl)
theorem tq24_19 : tT g 24 19 = s_load vRf 24 21 4 := rfl
theorem A24_19 {l0 : Option Value} {l1 : Option Value} {l2 : Option Value} {l3 : Option Value} {l5 : Option Value} {x : Value} {r : List Value} : aw g 24 19 [l0, l1, l2, l3, some (x), l5] r σ Q = (vRf x = true ∧ aw g 24 21 [l0, l1, l2, l3, some (x), l5] (x :: r) σ Q) := (aw_eq g 24 19 _ _ _ _).trans (by rw [tq24_19]; exact h_load rfl)
theorem tq24_21 : tT g 24 21 = s_load vI 24 23 5 := rfl
theorem A24_21 {l0 : Option Value} {l1 : Option Value} {l2 : Option Value} {l3 : Option Value} {l4 : Option Value} {x : Int32} {r : List Value} : aw g 24 21 [l0, l1, l2, l3, l4, some (.int x)] r σ Q = aw g 24 23 [l0, l1, l2, l3, l4, some (.int x)] (.int x :: r) σ Q := (aw_eq g 24 21 _ _ _ _).trans (by rw [tq24_21]; exact (h_load rfl).trans (propext ⟨fun z => z.2, fun z => ⟨rfl, z⟩⟩))
theorem tq24_23 : tT g 24 23 = s_ald 24 24 24 := rfl
theorem A24_23 {L : AL} {r : List Value} {a : Nat} {i : Int32} : aw g 24 23 L (.int i :: .ref a :: r) σ Q = (hty σ a = some 24 ∧ ¬ i < 0 ∧ i.toNatClampNeg < hln σ a ∧ aw g 24 24 L (hv σ 24 a i.toNatClampNeg :: r) σ Q) := (aw_eq g 24 23 _ _ _ _).trans (by rw [tq24_23]; exact rfl)
theorem tq24_24 : tT g 24 24 = s_ifnn 24 27 30 := rfl
theorem A24_24 {L : AL} {r : List Value} {a : Value} : aw g 24 24 L (a :: r) σ Q = (vRf a = true ∧ (a = .null → aw g 24 27 L r σ Q) ∧ (a ≠ .null → aw g 24 30 L r σ Q)) := (aw_eq g 24 24 _ _ _ _).trans (by rw [tq24_24]; exact rfl)
theorem tq24_27 : tT g 24 27 = s_load vI 24 29 5 := rfl
theorem A24_27 {l0 : Option Value} {l1 : Option Value} {l2 : Option Value} {l3 : Option Value} {l4 : Option Value} {x : Int32} {r : List Value} : aw g 24 27 [l0, l1, l2, l3, l4, some (.int x)] r σ Q = aw g 24 29 [l0, l1, l2, l3, l4, some (.int x)] (.int x :: r) σ Q := (aw_eq g 24 27 _ _ _ _).trans (by rw [tq24_27]; exact (h_load rfl).trans (propext ⟨fun z => z.2, fun z => ⟨rfl, z⟩⟩))
theorem tq24_29 : tT g 24 29 = s_ret pI := rfl
theorem A24_29 {L : AL} {v : Value} : aw g 24 29 L [v] σ Q = (pI v ∧ Q (.inl (some v)) σ) := (aw_eq g 24 29 _ _ _ _).trans (by rw [tq24_29]; exact rfl)
theorem tq24_30 : tT g 24 30 = s_iinc 24 33 5 1 := rfl
theorem A24_30 {l0 : Option Value} {l1 : Option Value} {l2 : Option Value} {l3 : Option Value} {l4 : Option Value} {x : Int32} {r : List Value} : aw g 24 30 [l0, l1, l2, l3, l4, some (.int x)] r σ Q = (oc l4 = true ∧ aw g 24 33 [l0, l1, l2, l3, l4, some (.int (x + 1))] r σ Q) := (aw_eq g 24 30 _ _ _ _).trans (by rw [tq24_30]; exact (h_iinc (o := oc l4) rfl rfl rfl))
theorem tq24_33 : tT g 24 33 = s_goto 24 13 := rfl
theorem A24_33 {L : AL} {r : List Value} : aw g 24 33 L r σ Q = aw g 24 13 L r σ Q := (aw_eq g 24 33 _ _ _ _).trans (by rw [tq24_33]; exact rfl)
theorem tq24_36 : tT g 24 36 = s_goto 24 69 := rfl
theorem A24_36 {L : AL} {r : List Value} : aw g 24 36 L r σ Q = aw g 24 69 L r σ Q := (aw_eq g 24 36 _ _ _ _).trans (by rw [tq24_36]; exact rfl)
theorem tq24_39 : tT g 24 39 = s_load vI 24 40 2 := rfl
theorem A24_39 {l0 : Option Value} {l1 : Option Value} {l3 : Option Value} {l4 : Option Value} {l5 : Option Value} {x : Int32} {r : List Value} : aw g 24 39 [l0, l1, some (.int x), l3, l4, l5] r σ Q = aw g 24 40 [l0, l1, some (.int x), l3, l4, l5] (.int x :: r) σ Q := (aw_eq g 24 39 _ _ _ _).trans (by rw [tq24_39]; exact (h_load rfl).trans (propext ⟨fun z => z.2, fun z => ⟨rfl, z⟩⟩))
theorem tq24_40 : tT g 24 40 = s_store vI 24 42 5 := rfl
theorem A24_40 {l0 : Option Value} {l1 : Option Value} {l2 : Option Value} {l3 : Option Value} {l4 : Option Value} {l5 : Option Value} {x : Int32} {r : List Value} : aw g 24 40 [l0, l1, l2, l3, l4, l5] (.int x :: r) σ Q = (oc l4 = true ∧ aw g 24 42 [l0, l1, l2, l3, l4, some (.int x)] r σ Q) := (aw_eq g 24 40 _ _ _ _).trans (by rw [tq24_40]; exact (h_store (o := oc l4) rfl rfl rfl).trans (propext ⟨fun z => z.2, fun z => ⟨rfl, z⟩⟩))
theorem tq24_42 : tT g 24 42 = s_load vI 24 44 5 := rfl
theorem A24_42 {l0 : Option Value} {l1 : Option Value} {l2 : Option Value} {l3 : Option Value} {l4 : Option Value} {x : Int32} {r : List Value} : aw g 24 42 [l0, l1, l2, l3, l4, some (.int x)] r σ Q = aw g 24 44 [l0, l1, l2, l3, l4, some (.int x)] (.int x :: r) σ Q := (aw_eq g 24 42 _ _ _ _).trans (by rw [tq24_42]; exact (h_load rfl).trans (propext ⟨fun z => z.2, fun z => ⟨rfl, z⟩⟩))
theorem tq24_44 : tT g 24 44 = s_load vI 24 45 3 := rfl
theorem A24_44 {l0 : Option Value} {l1 : Option Value} {l2 : Option Value} {l4 : Option Value} {l5 : Option Value} {x : Int32} {r : List Value} : aw g 24 44 [l0, l1, l2, some (.int x), l4, l5] r σ Q = aw g 24 45 [l0, l1, l2, some (.int x), l4, l5] (.int x :: r) σ Q := (aw_eq g 24 44 _ _ _ _).trans (by rw [tq24_44]; exact (h_load rfl).trans (propext ⟨fun z => z.2, fun z => ⟨rfl, z⟩⟩))
theorem tq24_45 : tT g 24 45 = s_icmp 24 48 69 (fun a b => b ≤ a) := rfl
theorem A24_45 {L : AL} {r : List Value} {a b : Int32} : aw g 24 45 L (.int b :: .int a :: r) σ Q = ((b ≤ a → aw g 24 69 L r σ Q) ∧ (¬ b ≤ a → aw g 24 48 L r σ Q)) := (aw_eq g 24 45 _ _ _ _).trans (by rw [tq24_45]; exact rfl)
theorem tq24_48 : tT g 24 48 = s_load vRf 24 49 1 := rfl
theorem A24_48 {l0 : Option Value} {l2 : Option Value} {l3 : Option Value} {l4 : Option Value} {l5 : Option Value} {x : Value} {r : List Value} : aw g 24 48 [l0, some (x), l2, l3, l4, l5] r σ Q = (vRf x = true ∧ aw g 24 49 [l0, some (x), l2, l3, l4, l5] (x :: r) σ Q) := (aw_eq g 24 48 _ _ _ _).trans (by rw [tq24_48]; exact h_load rfl)
theorem tq24_49 : tT g 24 49 = s_load vRf 24 51 4 := rfl
theorem A24_49 {l0 : Option Value} {l1 : Option Value} {l2 : Option Value} {l3 : Option Value} {l5 : Option Value} {x : Value} {r : List Value} : aw g 24 49 [l0, l1, l2, l3, some (x), l5] r σ Q = (vRf x = true ∧ aw g 24 51 [l0, l1, l2, l3, some (x), l5] (x :: r) σ Q) := (aw_eq g 24 49 _ _ _ _).trans (by rw [tq24_49]; exact h_load rfl)
theorem tq24_51 : tT g 24 51 = s_load vI 24 53 5 := rfl
theorem A24_51 {l0 : Option Value} {l1 : Option Value} {l2 : Option Value} {l3 : Option Value} {l4 : Option Value} {x : Int32} {r : List Value} : aw g 24 51 [l0, l1, l2, l3, l4, some (.int x)] r σ Q = aw g 24 53 [l0, l1, l2, l3, l4, some (.int x)] (.int x :: r) σ Q := (aw_eq g 24 51 _ _ _ _).trans (by rw [tq24_51]; exact (h_load rfl).trans (propext ⟨fun z => z.2, fun z => ⟨rfl, z⟩⟩))
theorem tq24_53 : tT g 24 53 = s_ald 24 54 24 := rfl
theorem A24_53 {L : AL} {r : List Value} {a : Nat} {i : Int32} : aw g 24 53 L (.int i :: .ref a :: r) σ Q = (hty σ a = some 24 ∧ ¬ i < 0 ∧ i.toNatClampNeg < hln σ a ∧ aw g 24 54 L (hv σ 24 a i.toNatClampNeg :: r) σ Q) := (aw_eq g 24 53 _ _ _ _).trans (by rw [tq24_53]; exact rfl)
theorem tq24_54 : tT g 24 54 = s_callvk 24 57 13 2 [1] 2 := rfl
theorem A24_54 {L : AL} {r : List Value} {a : Nat} {w0 : Value} : aw g 24 54 L (w0 :: .ref a :: r) σ Q = (hty σ a = some 2 ∧ (vRf w0 && true) = true ∧ csum r ≤ 8 ∧ aw g 13 0 [some (.ref a), some w0] [] σ (kt (aw g) 24 57 L r Q)) := (aw_eq g 24 54 _ _ _ _).trans (by rw [tq24_54]; exact rfl)
theorem tq24_57 : tT g 24 57 = s_if 24 60 63 (fun a => a = 0) := rfl
theorem A24_57 {L : AL} {r : List Value} {a : Int32} : aw g 24 57 L (.int a :: r) σ Q = ((a = 0 → aw g 24 63 L r σ Q) ∧ (¬ a = 0 → aw g 24 60 L r σ Q)) := (aw_eq g 24 57 _ _ _ _).trans (by rw [tq24_57]; exact rfl)
theorem tq24_60 : tT g 24 60 = s_load vI 24 62 5 := rfl
theorem A24_60 {l0 : Option Value} {l1 : Option Value} {l2 : Option Value} {l3 : Option Value} {l4 : Option Value} {x : Int32} {r : List Value} : aw g 24 60 [l0, l1, l2, l3, l4, some (.int x)] r σ Q = aw g 24 62 [l0, l1, l2, l3, l4, some (.int x)] (.int x :: r) σ Q := (aw_eq g 24 60 _ _ _ _).trans (by rw [tq24_60]; exact (h_load rfl).trans (propext ⟨fun z => z.2, fun z => ⟨rfl, z⟩⟩))
theorem tq24_62 : tT g 24 62 = s_ret pI := rfl
theorem A24_62 {L : AL} {v : Value} : aw g 24 62 L [v] σ Q = (pI v ∧ Q (.inl (some v)) σ) := (aw_eq g 24 62 _ _ _ _).trans (by rw [tq24_62]; exact rfl)
theorem tq24_63 : tT g 24 63 = s_iinc 24 66 5 1 := rfl
theorem A24_63 {l0 : Option Value} {l1 : Option Value} {l2 : Option Value} {l3 : Option Value} {l4 : Option Value} {x : Int32} {r : List Value} : aw g 24 63 [l0, l1, l2, l3, l4, some (.int x)] r σ Q = (oc l4 = true ∧ aw g 24 66 [l0, l1, l2, l3, l4, some (.int (x + 1))] r σ Q) := (aw_eq g 24 63 _ _ _ _).trans (by rw [tq24_63]; exact (h_iinc (o := oc l4) rfl rfl rfl))
theorem tq24_66 : tT g 24 66 = s_goto 24 42 := rfl
theorem A24_66 {L : AL} {r : List Value} : aw g 24 66 L r σ Q = aw g 24 42 L r σ Q := (aw_eq g 24 66 _ _ _ _).trans (by rw [tq24_66]; exact rfl)
theorem tq24_69 : tT g 24 69 = s_const 24 70 (.int (-1)) := rfl
theorem A24_69 {L : AL} {r : List Value} : aw g 24 69 L r σ Q = aw g 24 70 L (.int (-1) :: r) σ Q := (aw_eq g 24 69 _ _ _ _).trans (by rw [tq24_69]; exact rfl)
theorem tq24_70 : tT g 24 70 = s_ret pI := rfl
theorem A24_70 {L : AL} {v : Value} : aw g 24 70 L [v] σ Q = (pI v ∧ Q (.inl (some v)) σ) := (aw_eq g 24 70 _ _ _ _).trans (by rw [tq24_70]; exact rfl)
theorem tq25_0 : tT g 25 0 = s_load vI 25 1 1 := rfl
theorem A25_0 {l0 : Option Value} {x : Int32} {r : List Value} : aw g 25 0 [l0, some (.int x)] r σ Q = aw g 25 1 [l0, some (.int x)] (.int x :: r) σ Q := (aw_eq g 25 0 _ _ _ _).trans (by rw [tq25_0]; exact (h_load rfl).trans (propext ⟨fun z => z.2, fun z => ⟨rfl, z⟩⟩))
theorem tq25_1 : tT g 25 1 = s_load vRf 25 2 0 := rfl
theorem A25_1 {l1 : Option Value} {x : Value} {r : List Value} : aw g 25 1 [some (x), l1] r σ Q = (vRf x = true ∧ aw g 25 2 [some (x), l1] (x :: r) σ Q) := (aw_eq g 25 1 _ _ _ _).trans (by rw [tq25_1]; exact h_load rfl)
theorem tq25_2 : tT g 25 2 = s_getf 25 5 10 2 := rfl
theorem A25_2 {L : AL} {r : List Value} {a : Nat} : aw g 25 2 L (.ref a :: r) σ Q = (hty σ a = some 10 ∧ aw g 25 5 L (hv σ 10 a 2 :: r) σ Q) := (aw_eq g 25 2 _ _ _ _).trans (by rw [tq25_2]; exact rfl)
theorem tq25_5 : tT g 25 5 = s_callk 25 8 30 [0, 0] 2 := rfl
theorem A25_5 {L : AL} {r : List Value} {w0 w1 : Value} : aw g 25 5 L (w1 :: w0 :: r) σ Q = ((vI w0 && (vI w1 && true)) = true ∧ csum r ≤ 8 ∧ aw g 30 0 [some w0, some w1] [] σ (kt (aw g) 25 8 L r Q)) := (aw_eq g 25 5 _ _ _ _).trans (by rw [tq25_5]; exact rfl)
theorem tq25_8 : tT g 25 8 = s_pop 25 9 := rfl
theorem A25_8 {L : AL} {r : List Value} {v : Value} : aw g 25 8 L (v :: r) σ Q = (v.category = 1 ∧ aw g 25 9 L r σ Q) := (aw_eq g 25 8 _ _ _ _).trans (by rw [tq25_8]; exact rfl)
theorem tq25_9 : tT g 25 9 = s_load vRf 25 10 0 := rfl
theorem A25_9 {l1 : Option Value} {x : Value} {r : List Value} : aw g 25 9 [some (x), l1] r σ Q = (vRf x = true ∧ aw g 25 10 [some (x), l1] (x :: r) σ Q) := (aw_eq g 25 9 _ _ _ _).trans (by rw [tq25_9]; exact h_load rfl)
theorem tq25_10 : tT g 25 10 = s_load vI 25 11 1 := rfl
theorem A25_10 {l0 : Option Value} {x : Int32} {r : List Value} : aw g 25 10 [l0, some (.int x)] r σ Q = aw g 25 11 [l0, some (.int x)] (.int x :: r) σ Q := (aw_eq g 25 10 _ _ _ _).trans (by rw [tq25_10]; exact (h_load rfl).trans (propext ⟨fun z => z.2, fun z => ⟨rfl, z⟩⟩))
theorem tq25_11 : tT g 25 11 = s_callvk 25 14 26 10 [0] 2 := rfl
theorem A25_11 {L : AL} {r : List Value} {a : Nat} {w0 : Value} : aw g 25 11 L (w0 :: .ref a :: r) σ Q = (hty σ a = some 10 ∧ (vI w0 && true) = true ∧ csum r ≤ 8 ∧ aw g 26 0 [some (.ref a), some w0] [] σ (kt (aw g) 25 14 L r Q)) := (aw_eq g 25 11 _ _ _ _).trans (by rw [tq25_11]; exact rfl)
theorem tq25_14 : tT g 25 14 = s_ret pR := rfl
theorem A25_14 {L : AL} {v : Value} : aw g 25 14 L [v] σ Q = (pR v ∧ Q (.inl (some v)) σ) := (aw_eq g 25 14 _ _ _ _).trans (by rw [tq25_14]; exact rfl)
theorem tq26_0 : tT g 26 0 = s_load vRf 26 1 0 := rfl
theorem A26_0 {l1 : Option Value} {x : Value} {r : List Value} : aw g 26 0 [some (x), l1] r σ Q = (vRf x = true ∧ aw g 26 1 [some (x), l1] (x :: r) σ Q) := (aw_eq g 26 0 _ _ _ _).trans (by rw [tq26_0]; exact h_load rfl)
theorem tq26_1 : tT g 26 1 = s_getf 26 4 10 1 := rfl
theorem A26_1 {L : AL} {r : List Value} {a : Nat} : aw g 26 1 L (.ref a :: r) σ Q = (hty σ a = some 10 ∧ aw g 26 4 L (hv σ 10 a 1 :: r) σ Q) := (aw_eq g 26 1 _ _ _ _).trans (by rw [tq26_1]; exact rfl)
theorem tq26_4 : tT g 26 4 = s_load vI 26 5 1 := rfl
theorem A26_4 {l0 : Option Value} {x : Int32} {r : List Value} : aw g 26 4 [l0, some (.int x)] r σ Q = aw g 26 5 [l0, some (.int x)] (.int x :: r) σ Q := (aw_eq g 26 4 _ _ _ _).trans (by rw [tq26_4]; exact (h_load rfl).trans (propext ⟨fun z => z.2, fun z => ⟨rfl, z⟩⟩))
theorem tq26_5 : tT g 26 5 = s_ald 26 6 24 := rfl
theorem A26_5 {L : AL} {r : List Value} {a : Nat} {i : Int32} : aw g 26 5 L (.int i :: .ref a :: r) σ Q = (hty σ a = some 24 ∧ ¬ i < 0 ∧ i.toNatClampNeg < hln σ a ∧ aw g 26 6 L (hv σ 24 a i.toNatClampNeg :: r) σ Q) := (aw_eq g 26 5 _ _ _ _).trans (by rw [tq26_5]; exact rfl)
theorem tq26_6 : tT g 26 6 = s_ret pR := rfl
theorem A26_6 {L : AL} {v : Value} : aw g 26 6 L [v] σ Q = (pR v ∧ Q (.inl (some v)) σ) := (aw_eq g 26 6 _ _ _ _).trans (by rw [tq26_6]; exact rfl)
theorem tq27_0 : tT g 27 0 = s_load vRf 27 1 1 := rfl
theorem A27_0 {l0 : Option Value} {l2 : Option Value} {l3 : Option Value} {l4 : Option Value} {l5 : Option Value} {x : Value} {r : List Value} : aw g 27 0 [l0, some (x), l2, l3, l4, l5] r σ Q = (vRf x = true ∧ aw g 27 1 [l0, some (x), l2, l3, l4, l5] (x :: r) σ Q) := (aw_eq g 27 0 _ _ _ _).trans (by rw [tq27_0]; exact h_load rfl)
theorem tq27_1 : tT g 27 1 = s_callvk 27 6 28 10 [] 1 := rfl
theorem A27_1 {L : AL} {r : List Value} {a : Nat} : aw g 27 1 L (.ref a :: r) σ Q = (hty σ a = some 10 ∧ true = true ∧ csum r ≤ 8 ∧ aw g 28 0 [some (.ref a)] [] σ (kt (aw g) 27 6 L r Q)) := (aw_eq g 27 1 _ _ _ _).trans (by rw [tq27_1]; exact rfl)
theorem tq27_6 : tT g 27 6 = s_store vRf 27 7 2 := rfl
theorem A27_6 {l0 : Option Value} {l1 : Option Value} {l2 : Option Value} {l3 : Option Value} {l4 : Option Value} {l5 : Option Value} {x : Value} {r : List Value} : aw g 27 6 [l0, l1, l2, l3, l4, l5] (x :: r) σ Q = (vRf x = true ∧ oc l1 = true ∧ aw g 27 7 [l0, l1, some (x), l3, l4, l5] r σ Q) := (aw_eq g 27 6 _ _ _ _).trans (by rw [tq27_6]; exact (h_store (o := oc l1) rfl rfl rfl))
theorem tq27_7 : tT g 27 7 = s_load vRf 27 8 0 := rfl
theorem A27_7 {l1 : Option Value} {l2 : Option Value} {l3 : Option Value} {l4 : Option Value} {l5 : Option Value} {x : Value} {r : List Value} : aw g 27 7 [some (x), l1, l2, l3, l4, l5] r σ Q = (vRf x = true ∧ aw g 27 8 [some (x), l1, l2, l3, l4, l5] (x :: r) σ Q) := (aw_eq g 27 7 _ _ _ _).trans (by rw [tq27_7]; exact h_load rfl)
theorem tq27_8 : tT g 27 8 = s_dup 27 9 := rfl
theorem A27_8 {L : AL} {r : List Value} {v : Value} : aw g 27 8 L (v :: r) σ Q = (v.category = 1 ∧ aw g 27 9 L (v :: v :: r) σ Q) := (aw_eq g 27 8 _ _ _ _).trans (by rw [tq27_8]; exact rfl)
theorem tq27_9 : tT g 27 9 = s_getf 27 12 10 0 := rfl
theorem A27_9 {L : AL} {r : List Value} {a : Nat} : aw g 27 9 L (.ref a :: r) σ Q = (hty σ a = some 10 ∧ aw g 27 12 L (hv σ 10 a 0 :: r) σ Q) := (aw_eq g 27 9 _ _ _ _).trans (by rw [tq27_9]; exact rfl)
theorem tq27_12 : tT g 27 12 = s_const 27 13 (.int 1) := rfl
theorem A27_12 {L : AL} {r : List Value} : aw g 27 12 L r σ Q = aw g 27 13 L (.int 1 :: r) σ Q := (aw_eq g 27 12 _ _ _ _).trans (by rw [tq27_12]; exact rfl)
theorem tq27_13 : tT g 27 13 = s_bin 27 14 (fun a b => a + b) := rfl
theorem A27_13 {L : AL} {r : List Value} {a b : Int32} : aw g 27 13 L (.int b :: .int a :: r) σ Q = aw g 27 14 L (.int (a + b) :: r) σ Q := (aw_eq g 27 13 _ _ _ _).trans (by rw [tq27_13]; exact rfl)
theorem tq27_14 : tT g 27 14 = s_putf g pI 27 17 10 0 := rfl
theorem A27_14 {L : AL} {r : List Value} {a : Nat} {v : Value} : aw g 27 14 L (v :: .ref a :: r) σ Q = (hty σ a = some 10 ∧ gB g ≤ a ∧ pI v ∧ aw g 27 17 L r (hput σ 10 a 0 v) Q) := (aw_eq g 27 14 _ _ _ _).trans (by rw [tq27_14]; exact rfl)
theorem tq27_17 : tT g 27 17 = s_load vRf 27 18 2 := rfl
theorem A27_17 {l0 : Option Value} {l1 : Option Value} {l3 : Option Value} {l4 : Option Value} {l5 : Option Value} {x : Value} {r : List Value} : aw g 27 17 [l0, l1, some (x), l3, l4, l5] r σ Q = (vRf x = true ∧ aw g 27 18 [l0, l1, some (x), l3, l4, l5] (x :: r) σ Q) := (aw_eq g 27 17 _ _ _ _).trans (by rw [tq27_17]; exact h_load rfl)
theorem tq27_18 : tT g 27 18 = s_alen 27 19 24 := rfl
theorem A27_18 {L : AL} {r : List Value} {a : Nat} : aw g 27 18 L (.ref a :: r) σ Q = (hty σ a = some 24 ∧ aw g 27 19 L (.int (Int32.ofNat (hln σ a)) :: r) σ Q) := (aw_eq g 27 18 _ _ _ _).trans (by rw [tq27_18]; exact rfl)
theorem tq27_19 : tT g 27 19 = s_store vI 27 20 3 := rfl
theorem A27_19 {l0 : Option Value} {l1 : Option Value} {l2 : Option Value} {l3 : Option Value} {l4 : Option Value} {l5 : Option Value} {x : Int32} {r : List Value} : aw g 27 19 [l0, l1, l2, l3, l4, l5] (.int x :: r) σ Q = (oc l2 = true ∧ aw g 27 20 [l0, l1, l2, some (.int x), l4, l5] r σ Q) := (aw_eq g 27 19 _ _ _ _).trans (by rw [tq27_19]; exact (h_store (o := oc l2) rfl rfl rfl).trans (propext ⟨fun z => z.2, fun z => ⟨rfl, z⟩⟩))
theorem tq27_20 : tT g 27 20 = s_load vI 27 21 3 := rfl
theorem A27_20 {l0 : Option Value} {l1 : Option Value} {l2 : Option Value} {l4 : Option Value} {l5 : Option Value} {x : Int32} {r : List Value} : aw g 27 20 [l0, l1, l2, some (.int x), l4, l5] r σ Q = aw g 27 21 [l0, l1, l2, some (.int x), l4, l5] (.int x :: r) σ Q := (aw_eq g 27 20 _ _ _ _).trans (by rw [tq27_20]; exact (h_load rfl).trans (propext ⟨fun z => z.2, fun z => ⟨rfl, z⟩⟩))
theorem tq27_21 : tT g 27 21 = s_if 27 26 24 (fun a => a = 0) := rfl
theorem A27_21 {L : AL} {r : List Value} {a : Int32} : aw g 27 21 L (.int a :: r) σ Q = ((a = 0 → aw g 27 24 L r σ Q) ∧ (¬ a = 0 → aw g 27 26 L r σ Q)) := (aw_eq g 27 21 _ _ _ _).trans (by rw [tq27_21]; exact rfl)
theorem tq27_24 : tT g 27 24 = s_const 27 25 (.int 0) := rfl
theorem A27_24 {L : AL} {r : List Value} : aw g 27 24 L r σ Q = aw g 27 25 L (.int 0 :: r) σ Q := (aw_eq g 27 24 _ _ _ _).trans (by rw [tq27_24]; exact rfl)
theorem tq27_25 : tT g 27 25 = s_ret vZ := rfl
theorem A27_25 {L : AL} {v : Value} : aw g 27 25 L [v] σ Q = (vZ v ∧ Q (.inl (some v)) σ) := (aw_eq g 27 25 _ _ _ _).trans (by rw [tq27_25]; exact rfl)
theorem tq27_26 : tT g 27 26 = s_load vI 27 27 3 := rfl
theorem A27_26 {l0 : Option Value} {l1 : Option Value} {l2 : Option Value} {l4 : Option Value} {l5 : Option Value} {x : Int32} {r : List Value} : aw g 27 26 [l0, l1, l2, some (.int x), l4, l5] r σ Q = aw g 27 27 [l0, l1, l2, some (.int x), l4, l5] (.int x :: r) σ Q := (aw_eq g 27 26 _ _ _ _).trans (by rw [tq27_26]; exact (h_load rfl).trans (propext ⟨fun z => z.2, fun z => ⟨rfl, z⟩⟩))
theorem tq27_27 : tT g 27 27 = s_load vRf 27 28 0 := rfl
theorem A27_27 {l1 : Option Value} {l2 : Option Value} {l3 : Option Value} {l4 : Option Value} {l5 : Option Value} {x : Value} {r : List Value} : aw g 27 27 [some (x), l1, l2, l3, l4, l5] r σ Q = (vRf x = true ∧ aw g 27 28 [some (x), l1, l2, l3, l4, l5] (x :: r) σ Q) := (aw_eq g 27 27 _ _ _ _).trans (by rw [tq27_27]; exact h_load rfl)
theorem tq27_28 : tT g 27 28 = s_getf 27 31 10 1 := rfl
theorem A27_28 {L : AL} {r : List Value} {a : Nat} : aw g 27 28 L (.ref a :: r) σ Q = (hty σ a = some 10 ∧ aw g 27 31 L (hv σ 10 a 1 :: r) σ Q) := (aw_eq g 27 28 _ _ _ _).trans (by rw [tq27_28]; exact rfl)
theorem tq27_31 : tT g 27 31 = s_dup 27 32 := rfl
theorem A27_31 {L : AL} {r : List Value} {v : Value} : aw g 27 31 L (v :: r) σ Q = (v.category = 1 ∧ aw g 27 32 L (v :: v :: r) σ Q) := (aw_eq g 27 31 _ _ _ _).trans (by rw [tq27_31]; exact rfl)
theorem tq27_32 : tT g 27 32 = s_store vRf 27 34 4 := rfl
theorem A27_32 {l0 : Option Value} {l1 : Option Value} {l2 : Option Value} {l3 : Option Value} {l4 : Option Value} {l5 : Option Value} {x : Value} {r : List Value} : aw g 27 32 [l0, l1, l2, l3, l4, l5] (x :: r) σ Q = (vRf x = true ∧ oc l3 = true ∧ aw g 27 34 [l0, l1, l2, l3, some (x), l5] r σ Q) := (aw_eq g 27 32 _ _ _ _).trans (by rw [tq27_32]; exact (h_store (o := oc l3) rfl rfl rfl))
theorem tq27_34 : tT g 27 34 = s_alen 27 35 24 := rfl
theorem A27_34 {L : AL} {r : List Value} {a : Nat} : aw g 27 34 L (.ref a :: r) σ Q = (hty σ a = some 24 ∧ aw g 27 35 L (.int (Int32.ofNat (hln σ a)) :: r) σ Q) := (aw_eq g 27 34 _ _ _ _).trans (by rw [tq27_34]; exact rfl)
theorem tq27_35 : tT g 27 35 = s_load vRf 27 36 0 := rfl
theorem A27_35 {l1 : Option Value} {l2 : Option Value} {l3 : Option Value} {l4 : Option Value} {l5 : Option Value} {x : Value} {r : List Value} : aw g 27 35 [some (x), l1, l2, l3, l4, l5] r σ Q = (vRf x = true ∧ aw g 27 36 [some (x), l1, l2, l3, l4, l5] (x :: r) σ Q) := (aw_eq g 27 35 _ _ _ _).trans (by rw [tq27_35]; exact h_load rfl)
theorem tq27_36 : tT g 27 36 = s_getf 27 39 10 2 := rfl
theorem A27_36 {L : AL} {r : List Value} {a : Nat} : aw g 27 36 L (.ref a :: r) σ Q = (hty σ a = some 10 ∧ aw g 27 39 L (hv σ 10 a 2 :: r) σ Q) := (aw_eq g 27 36 _ _ _ _).trans (by rw [tq27_36]; exact rfl)
theorem tq27_39 : tT g 27 39 = s_dup 27 40 := rfl
theorem A27_39 {L : AL} {r : List Value} {v : Value} : aw g 27 39 L (v :: r) σ Q = (v.category = 1 ∧ aw g 27 40 L (v :: v :: r) σ Q) := (aw_eq g 27 39 _ _ _ _).trans (by rw [tq27_39]; exact rfl)
theorem tq27_40 : tT g 27 40 = s_store vI 27 42 5 := rfl
theorem A27_40 {l0 : Option Value} {l1 : Option Value} {l2 : Option Value} {l3 : Option Value} {l4 : Option Value} {l5 : Option Value} {x : Int32} {r : List Value} : aw g 27 40 [l0, l1, l2, l3, l4, l5] (.int x :: r) σ Q = (oc l4 = true ∧ aw g 27 42 [l0, l1, l2, l3, l4, some (.int x)] r σ Q) := (aw_eq g 27 40 _ _ _ _).trans (by rw [tq27_40]; exact (h_store (o := oc l4) rfl rfl rfl).trans (propext ⟨fun z => z.2, fun z => ⟨rfl, z⟩⟩))
theorem tq27_42 : tT g 27 42 = s_bin 27 43 (fun a b => a - b) := rfl
theorem A27_42 {L : AL} {r : List Value} {a b : Int32} : aw g 27 42 L (.int b :: .int a :: r) σ Q = aw g 27 43 L (.int (a - b) :: r) σ Q := (aw_eq g 27 42 _ _ _ _).trans (by rw [tq27_42]; exact rfl)
theorem tq27_43 : tT g 27 43 = s_icmp 27 46 56 (fun a b => a ≤ b) := rfl
theorem A27_43 {L : AL} {r : List Value} {a b : Int32} : aw g 27 43 L (.int b :: .int a :: r) σ Q = ((a ≤ b → aw g 27 56 L r σ Q) ∧ (¬ a ≤ b → aw g 27 46 L r σ Q)) := (aw_eq g 27 43 _ _ _ _).trans (by rw [tq27_43]; exact rfl)
theorem tq27_46 : tT g 27 46 = s_load vRf 27 47 0 := rfl
theorem A27_46 {l1 : Option Value} {l2 : Option Value} {l3 : Option Value} {l4 : Option Value} {l5 : Option Value} {x : Value} {r : List Value} : aw g 27 46 [some (x), l1, l2, l3, l4, l5] r σ Q = (vRf x = true ∧ aw g 27 47 [some (x), l1, l2, l3, l4, l5] (x :: r) σ Q) := (aw_eq g 27 46 _ _ _ _).trans (by rw [tq27_46]; exact h_load rfl)
theorem tq27_47 : tT g 27 47 = s_load vI 27 49 5 := rfl
theorem A27_47 {l0 : Option Value} {l1 : Option Value} {l2 : Option Value} {l3 : Option Value} {l4 : Option Value} {x : Int32} {r : List Value} : aw g 27 47 [l0, l1, l2, l3, l4, some (.int x)] r σ Q = aw g 27 49 [l0, l1, l2, l3, l4, some (.int x)] (.int x :: r) σ Q := (aw_eq g 27 47 _ _ _ _).trans (by rw [tq27_47]; exact (h_load rfl).trans (propext ⟨fun z => z.2, fun z => ⟨rfl, z⟩⟩))
theorem tq27_49 : tT g 27 49 = s_load vI 27 50 3 := rfl
theorem A27_49 {l0 : Option Value} {l1 : Option Value} {l2 : Option Value} {l4 : Option Value} {l5 : Option Value} {x : Int32} {r : List Value} : aw g 27 49 [l0, l1, l2, some (.int x), l4, l5] r σ Q = aw g 27 50 [l0, l1, l2, some (.int x), l4, l5] (.int x :: r) σ Q := (aw_eq g 27 49 _ _ _ _).trans (by rw [tq27_49]; exact (h_load rfl).trans (propext ⟨fun z => z.2, fun z => ⟨rfl, z⟩⟩))
theorem tq27_50 : tT g 27 50 = s_bin 27 51 (fun a b => a + b) := rfl
theorem A27_50 {L : AL} {r : List Value} {a b : Int32} : aw g 27 50 L (.int b :: .int a :: r) σ Q = aw g 27 51 L (.int (a + b) :: r) σ Q := (aw_eq g 27 50 _ _ _ _).trans (by rw [tq27_50]; exact rfl)
theorem tq27_51 : tT g 27 51 = s_callvk 27 54 21 10 [0] 4 := rfl
theorem A27_51 {L : AL} {r : List Value} {a : Nat} {w0 : Value} : aw g 27 51 L (w0 :: .ref a :: r) σ Q = (hty σ a = some 10 ∧ (vI w0 && true) = true ∧ csum r ≤ 8 ∧ aw g 21 0 [some (.ref a), some w0, none, none] [] σ (kt (aw g) 27 54 L r Q)) := (aw_eq g 27 51 _ _ _ _).trans (by rw [tq27_51]; exact rfl)
theorem tq27_54 : tT g 27 54 = s_store vRf 27 56 4 := rfl
theorem A27_54 {l0 : Option Value} {l1 : Option Value} {l2 : Option Value} {l3 : Option Value} {l4 : Option Value} {l5 : Option Value} {x : Value} {r : List Value} : aw g 27 54 [l0, l1, l2, l3, l4, l5] (x :: r) σ Q = (vRf x = true ∧ oc l3 = true ∧ aw g 27 56 [l0, l1, l2, l3, some (x), l5] r σ Q) := (aw_eq g 27 54 _ _ _ _).trans (by rw [tq27_54]; exact (h_store (o := oc l3) rfl rfl rfl))
theorem tq27_56 : tT g 27 56 = s_load vRf 27 57 2 := rfl
theorem A27_56 {l0 : Option Value} {l1 : Option Value} {l3 : Option Value} {l4 : Option Value} {l5 : Option Value} {x : Value} {r : List Value} : aw g 27 56 [l0, l1, some (x), l3, l4, l5] r σ Q = (vRf x = true ∧ aw g 27 57 [l0, l1, some (x), l3, l4, l5] (x :: r) σ Q) := (aw_eq g 27 56 _ _ _ _).trans (by rw [tq27_56]; exact h_load rfl)
theorem tq27_57 : tT g 27 57 = s_const 27 58 (.int 0) := rfl
theorem A27_57 {L : AL} {r : List Value} : aw g 27 57 L r σ Q = aw g 27 58 L (.int 0 :: r) σ Q := (aw_eq g 27 57 _ _ _ _).trans (by rw [tq27_57]; exact rfl)
theorem tq27_58 : tT g 27 58 = s_load vRf 27 60 4 := rfl
theorem A27_58 {l0 : Option Value} {l1 : Option Value} {l2 : Option Value} {l3 : Option Value} {l5 : Option Value} {x : Value} {r : List Value} : aw g 27 58 [l0, l1, l2, l3, some (x), l5] r σ Q = (vRf x = true ∧ aw g 27 60 [l0, l1, l2, l3, some (x), l5] (x :: r) σ Q) := (aw_eq g 27 58 _ _ _ _).trans (by rw [tq27_58]; exact h_load rfl)
theorem tq27_60 : tT g 27 60 = s_load vI 27 62 5 := rfl
theorem A27_60 {l0 : Option Value} {l1 : Option Value} {l2 : Option Value} {l3 : Option Value} {l4 : Option Value} {x : Int32} {r : List Value} : aw g 27 60 [l0, l1, l2, l3, l4, some (.int x)] r σ Q = aw g 27 62 [l0, l1, l2, l3, l4, some (.int x)] (.int x :: r) σ Q := (aw_eq g 27 60 _ _ _ _).trans (by rw [tq27_60]; exact (h_load rfl).trans (propext ⟨fun z => z.2, fun z => ⟨rfl, z⟩⟩))
theorem tq27_62 : tT g 27 62 = s_load vI 27 63 3 := rfl
theorem A27_62 {l0 : Option Value} {l1 : Option Value} {l2 : Option Value} {l4 : Option Value} {l5 : Option Value} {x : Int32} {r : List Value} : aw g 27 62 [l0, l1, l2, some (.int x), l4, l5] r σ Q = aw g 27 63 [l0, l1, l2, some (.int x), l4, l5] (.int x :: r) σ Q := (aw_eq g 27 62 _ _ _ _).trans (by rw [tq27_62]; exact (h_load rfl).trans (propext ⟨fun z => z.2, fun z => ⟨rfl, z⟩⟩))
theorem tq27_63 : tT g 27 63 = s_acopy g vOb 27 66 24 := rfl
theorem A27_63 {L : AL} {r : List Value} {s e : Nat} {x z k : Int32} : aw g 27 63 L (.int k :: .int z :: .ref e :: .int x :: .ref s :: r) σ Q = (hty σ s = some 24 ∧ hty σ e = some 24 ∧ gB g ≤ e ∧ csum r ≤ 8 ∧ ¬ k < 0 ∧ ¬ x < 0 ∧ ¬ z < 0 ∧ x.toNatClampNeg + k.toNatClampNeg ≤ hln σ s ∧ z.toNatClampNeg + k.toNatClampNeg ≤ hln σ e ∧ (∀ i, i < k.toNatClampNeg → vOb σ (hv σ 24 s (x.toNatClampNeg + i))) ∧ aw g 27 66 L r (hcpy σ 24 s x.toNatClampNeg e z.toNatClampNeg k.toNatClampNeg) Q) := (aw_eq g 27 63 _ _ _ _).trans (by rw [tq27_63]; exact rfl)
theorem tq27_66 : tT g 27 66 = s_load vRf 27 67 0 := rfl
theorem A27_66 {l1 : Option Value} {l2 : Option Value} {l3 : Option Value} {l4 : Option Value} {l5 : Option Value} {x : Value} {r : List Value} : aw g 27 66 [some (x), l1, l2, l3, l4, l5] r σ Q = (vRf x = true ∧ aw g 27 67 [some (x), l1, l2, l3, l4, l5] (x :: r) σ Q) := (aw_eq g 27 66 _ _ _ _).trans (by rw [tq27_66]; exact h_load rfl)
theorem tq27_67 : tT g 27 67 = s_load vI 27 69 5 := rfl
theorem A27_67 {l0 : Option Value} {l1 : Option Value} {l2 : Option Value} {l3 : Option Value} {l4 : Option Value} {x : Int32} {r : List Value} : aw g 27 67 [l0, l1, l2, l3, l4, some (.int x)] r σ Q = aw g 27 69 [l0, l1, l2, l3, l4, some (.int x)] (.int x :: r) σ Q := (aw_eq g 27 67 _ _ _ _).trans (by rw [tq27_67]; exact (h_load rfl).trans (propext ⟨fun z => z.2, fun z => ⟨rfl, z⟩⟩))
theorem tq27_69 : tT g 27 69 = s_load vI 27 70 3 := rfl
theorem A27_69 {l0 : Option Value} {l1 : Option Value} {l2 : Option Value} {l4 : Option Value} {l5 : Option Value} {x : Int32} {r : List Value} : aw g 27 69 [l0, l1, l2, some (.int x), l4, l5] r σ Q = aw g 27 70 [l0, l1, l2, some (.int x), l4, l5] (.int x :: r) σ Q := (aw_eq g 27 69 _ _ _ _).trans (by rw [tq27_69]; exact (h_load rfl).trans (propext ⟨fun z => z.2, fun z => ⟨rfl, z⟩⟩))
theorem tq27_70 : tT g 27 70 = s_bin 27 71 (fun a b => a + b) := rfl
theorem A27_70 {L : AL} {r : List Value} {a b : Int32} : aw g 27 70 L (.int b :: .int a :: r) σ Q = aw g 27 71 L (.int (a + b) :: r) σ Q := (aw_eq g 27 70 _ _ _ _).trans (by rw [tq27_70]; exact rfl)
theorem tq27_71 : tT g 27 71 = s_putf g pI 27 74 10 2 := rfl
theorem A27_71 {L : AL} {r : List Value} {a : Nat} {v : Value} : aw g 27 71 L (v :: .ref a :: r) σ Q = (hty σ a = some 10 ∧ gB g ≤ a ∧ pI v ∧ aw g 27 74 L r (hput σ 10 a 2 v) Q) := (aw_eq g 27 71 _ _ _ _).trans (by rw [tq27_71]; exact rfl)
theorem tq27_74 : tT g 27 74 = s_const 27 75 (.int 1) := rfl
theorem A27_74 {L : AL} {r : List Value} : aw g 27 74 L r σ Q = aw g 27 75 L (.int 1 :: r) σ Q := (aw_eq g 27 74 _ _ _ _).trans (by rw [tq27_74]; exact rfl)
theorem tq27_75 : tT g 27 75 = s_ret vZ := rfl
theorem A27_75 {L : AL} {v : Value} : aw g 27 75 L [v] σ Q = (vZ v ∧ Q (.inl (some v)) σ) := (aw_eq g 27 75 _ _ _ _).trans (by rw [tq27_75]; exact rfl)
theorem tq28_0 : tT g 28 0 = s_load vRf 28 1 0 := rfl
theorem A28_0  {x : Value} {r : List Value} : aw g 28 0 [some (x)] r σ Q = (vRf x = true ∧ aw g 28 1 [some (x)] (x :: r) σ Q) := (aw_eq g 28 0 _ _ _ _).trans (by rw [tq28_0]; exact h_load rfl)
theorem tq28_1 : tT g 28 1 = s_getf 28 4 10 1 := rfl
theorem A28_1 {L : AL} {r : List Value} {a : Nat} : aw g 28 1 L (.ref a :: r) σ Q = (hty σ a = some 10 ∧ aw g 28 4 L (hv σ 10 a 1 :: r) σ Q) := (aw_eq g 28 1 _ _ _ _).trans (by rw [tq28_1]; exact rfl)
theorem tq28_4 : tT g 28 4 = s_load vRf 28 5 0 := rfl
theorem A28_4  {x : Value} {r : List Value} : aw g 28 4 [some (x)] r σ Q = (vRf x = true ∧ aw g 28 5 [some (x)] (x :: r) σ Q) := (aw_eq g 28 4 _ _ _ _).trans (by rw [tq28_4]; exact h_load rfl)
theorem tq28_5 : tT g 28 5 = s_getf 28 8 10 2 := rfl
theorem A28_5 {L : AL} {r : List Value} {a : Nat} : aw g 28 5 L (.ref a :: r) σ Q = (hty σ a = some 10 ∧ aw g 28 8 L (hv σ 10 a 2 :: r) σ Q) := (aw_eq g 28 5 _ _ _ _).trans (by rw [tq28_5]; exact rfl)
theorem tq28_8 : tT g 28 8 = s_callk 28 11 36 [1, 0] 2 := rfl
theorem A28_8 {L : AL} {r : List Value} {w0 w1 : Value} : aw g 28 8 L (w1 :: w0 :: r) σ Q = ((vRf w0 && (vI w1 && true)) = true ∧ csum r ≤ 8 ∧ aw g 36 0 [some w0, some w1] [] σ (kt (aw g) 28 11 L r Q)) := (aw_eq g 28 8 _ _ _ _).trans (by rw [tq28_8]; exact rfl)
theorem tq28_11 : tT g 28 11 = s_ret pR := rfl
theorem A28_11 {L : AL} {v : Value} : aw g 28 11 L [v] σ Q = (pR v ∧ Q (.inl (some v)) σ) := (aw_eq g 28 11 _ _ _ _).trans (by rw [tq28_11]; exact rfl)
theorem tq29_0 : tT g 29 0 = s_load vRf 29 1 0 := rfl
theorem A29_0 {l1 : Option Value} {l2 : Option Value} {x : Value} {r : List Value} : aw g 29 0 [some (x), l1, l2] r σ Q = (vRf x = true ∧ aw g 29 1 [some (x), l1, l2] (x :: r) σ Q) := (aw_eq g 29 0 _ _ _ _).trans (by rw [tq29_0]; exact h_load rfl)
theorem tq29_1 : tT g 29 1 = s_callik 29 4 1 [] 1 := rfl
theorem A29_1 {L : AL} {r : List Value} {a : Nat} : aw g 29 1 L (.ref a :: r) σ Q = (true = true ∧ csum r ≤ 8 ∧ aw g 1 0 [some (.ref a)] [] σ (kt (aw g) 29 4 L r Q)) := (aw_eq g 29 1 _ _ _ _).trans (by rw [tq29_1]; exact rfl)
theorem tq29_4 : tT g 29 4 = s_load vRf 29 5 1 := rfl
theorem A29_4 {l0 : Option Value} {l2 : Option Value} {x : Value} {r : List Value} : aw g 29 4 [l0, some (x), l2] r σ Q = (vRf x = true ∧ aw g 29 5 [l0, some (x), l2] (x :: r) σ Q) := (aw_eq g 29 4 _ _ _ _).trans (by rw [tq29_4]; exact h_load rfl)
theorem tq29_5 : tT g 29 5 = s_callvk 29 10 28 10 [] 1 := rfl
theorem A29_5 {L : AL} {r : List Value} {a : Nat} : aw g 29 5 L (.ref a :: r) σ Q = (hty σ a = some 10 ∧ true = true ∧ csum r ≤ 8 ∧ aw g 28 0 [some (.ref a)] [] σ (kt (aw g) 29 10 L r Q)) := (aw_eq g 29 5 _ _ _ _).trans (by rw [tq29_5]; exact rfl)
theorem tq29_10 : tT g 29 10 = s_store vRf 29 11 2 := rfl
theorem A29_10 {l0 : Option Value} {l1 : Option Value} {l2 : Option Value} {x : Value} {r : List Value} : aw g 29 10 [l0, l1, l2] (x :: r) σ Q = (vRf x = true ∧ oc l1 = true ∧ aw g 29 11 [l0, l1, some (x)] r σ Q) := (aw_eq g 29 10 _ _ _ _).trans (by rw [tq29_10]; exact (h_store (o := oc l1) rfl rfl rfl))
theorem tq29_11 : tT g 29 11 = s_load vRf 29 12 0 := rfl
theorem A29_11 {l1 : Option Value} {l2 : Option Value} {x : Value} {r : List Value} : aw g 29 11 [some (x), l1, l2] r σ Q = (vRf x = true ∧ aw g 29 12 [some (x), l1, l2] (x :: r) σ Q) := (aw_eq g 29 11 _ _ _ _).trans (by rw [tq29_11]; exact h_load rfl)
theorem tq29_12 : tT g 29 12 = s_load vRf 29 13 2 := rfl
theorem A29_12 {l0 : Option Value} {l1 : Option Value} {x : Value} {r : List Value} : aw g 29 12 [l0, l1, some (x)] r σ Q = (vRf x = true ∧ aw g 29 13 [l0, l1, some (x)] (x :: r) σ Q) := (aw_eq g 29 12 _ _ _ _).trans (by rw [tq29_12]; exact h_load rfl)
theorem tq29_13 : tT g 29 13 = s_alen 29 14 24 := rfl
theorem A29_13 {L : AL} {r : List Value} {a : Nat} : aw g 29 13 L (.ref a :: r) σ Q = (hty σ a = some 24 ∧ aw g 29 14 L (.int (Int32.ofNat (hln σ a)) :: r) σ Q) := (aw_eq g 29 13 _ _ _ _).trans (by rw [tq29_13]; exact rfl)
theorem tq29_14 : tT g 29 14 = s_dupx1 29 15 := rfl
theorem A29_14 {L : AL} {r : List Value} {v w : Value} : aw g 29 14 L (v :: w :: r) σ Q = (v.category = 1 ∧ w.category = 1 ∧ aw g 29 15 L (v :: w :: v :: r) σ Q) := (aw_eq g 29 14 _ _ _ _).trans (by rw [tq29_14]; exact rfl)
theorem tq29_15 : tT g 29 15 = s_putf g pI 29 18 10 2 := rfl
theorem A29_15 {L : AL} {r : List Value} {a : Nat} {v : Value} : aw g 29 15 L (v :: .ref a :: r) σ Q = (hty σ a = some 10 ∧ gB g ≤ a ∧ pI v ∧ aw g 29 18 L r (hput σ 10 a 2 v) Q) := (aw_eq g 29 15 _ _ _ _).trans (by rw [tq29_15]; exact rfl)
theorem tq29_18 : tT g 29 18 = s_if 29 21 57 (fun a => a = 0) := rfl
theorem A29_18 {L : AL} {r : List Value} {a : Int32} : aw g 29 18 L (.int a :: r) σ Q = ((a = 0 → aw g 29 57 L r σ Q) ∧ (¬ a = 0 → aw g 29 21 L r σ Q)) := (aw_eq g 29 18 _ _ _ _).trans (by rw [tq29_18]; exact rfl)
theorem tq29_21 : tT g 29 21 = s_load vRf 29 22 1 := rfl
theorem A29_21 {l0 : Option Value} {l2 : Option Value} {x : Value} {r : List Value} : aw g 29 21 [l0, some (x), l2] r σ Q = (vRf x = true ∧ aw g 29 22 [l0, some (x), l2] (x :: r) σ Q) := (aw_eq g 29 21 _ _ _ _).trans (by rw [tq29_21]; exact h_load rfl)
theorem tq29_22 : tT g 29 22 = s_getc 29 27 10 (gV g 4) := rfl
theorem A29_22 {L : AL} {r : List Value} {a : Nat} : aw g 29 22 L (.ref a :: r) σ Q = (hty σ a = some 10 ∧ csum r ≤ 8 ∧ aw g 29 27 L (.ref (gV g 4) :: r) σ Q) := (aw_eq g 29 22 _ _ _ _).trans (by rw [tq29_22]; exact rfl)
theorem tq29_27 : tT g 29 27 = s_const 29 29 (.ref (gV g 4)) := rfl
theorem A29_27 {L : AL} {r : List Value} : aw g 29 27 L r σ Q = aw g 29 29 L (.ref (gV g 4) :: r) σ Q := (aw_eq g 29 27 _ _ _ _).trans (by rw [tq29_27]; exact rfl)
theorem tq29_29 : tT g 29 29 = s_acmpn 29 32 40 := rfl
theorem A29_29 {L : AL} {r : List Value} {a b : Value} : aw g 29 29 L (b :: a :: r) σ Q = (vRf a = true ∧ vRf b = true ∧ (a = b → aw g 29 32 L r σ Q) ∧ (a ≠ b → aw g 29 40 L r σ Q)) := (aw_eq g 29 29 _ _ _ _).trans (by rw [tq29_29]; exact rfl)
theorem tq29_32 : tT g 29 32 = s_load vRf 29 33 0 := rfl
theorem A29_32 {l1 : Option Value} {l2 : Option Value} {x : Value} {r : List Value} : aw g 29 32 [some (x), l1, l2] r σ Q = (vRf x = true ∧ aw g 29 33 [some (x), l1, l2] (x :: r) σ Q) := (aw_eq g 29 32 _ _ _ _).trans (by rw [tq29_32]; exact h_load rfl)
theorem tq29_33 : tT g 29 33 = s_load vRf 29 34 2 := rfl
theorem A29_33 {l0 : Option Value} {l1 : Option Value} {x : Value} {r : List Value} : aw g 29 33 [l0, l1, some (x)] r σ Q = (vRf x = true ∧ aw g 29 34 [l0, l1, some (x)] (x :: r) σ Q) := (aw_eq g 29 33 _ _ _ _).trans (by rw [tq29_33]; exact h_load rfl)
theorem tq29_34 : tT g 29 34 = s_putf g pR 29 37 10 1 := rfl
theorem A29_34 {L : AL} {r : List Value} {a : Nat} {v : Value} : aw g 29 34 L (v :: .ref a :: r) σ Q = (hty σ a = some 10 ∧ gB g ≤ a ∧ pR v ∧ aw g 29 37 L r (hput σ 10 a 1 v) Q) := (aw_eq g 29 34 _ _ _ _).trans (by rw [tq29_34]; exact rfl)
theorem tq29_37 : tT g 29 37 = s_goto 29 64 := rfl
theorem A29_37 {L : AL} {r : List Value} : aw g 29 37 L r σ Q = aw g 29 64 L r σ Q := (aw_eq g 29 37 _ _ _ _).trans (by rw [tq29_37]; exact rfl)
theorem tq29_40 : tT g 29 40 = s_load vRf 29 41 0 := rfl
theorem A29_40 {l1 : Option Value} {l2 : Option Value} {x : Value} {r : List Value} : aw g 29 40 [some (x), l1, l2] r σ Q = (vRf x = true ∧ aw g 29 41 [some (x), l1, l2] (x :: r) σ Q) := (aw_eq g 29 40 _ _ _ _).trans (by rw [tq29_40]; exact h_load rfl)
theorem tq29_41 : tT g 29 41 = s_load vRf 29 42 2 := rfl
theorem A29_41 {l0 : Option Value} {l1 : Option Value} {x : Value} {r : List Value} : aw g 29 41 [l0, l1, some (x)] r σ Q = (vRf x = true ∧ aw g 29 42 [l0, l1, some (x)] (x :: r) σ Q) := (aw_eq g 29 41 _ _ _ _).trans (by rw [tq29_41]; exact h_load rfl)
theorem tq29_42 : tT g 29 42 = s_load vRf 29 43 0 := rfl
theorem A29_42 {l1 : Option Value} {l2 : Option Value} {x : Value} {r : List Value} : aw g 29 42 [some (x), l1, l2] r σ Q = (vRf x = true ∧ aw g 29 43 [some (x), l1, l2] (x :: r) σ Q) := (aw_eq g 29 42 _ _ _ _).trans (by rw [tq29_42]; exact h_load rfl)
theorem tq29_43 : tT g 29 43 = s_getf 29 46 10 2 := rfl
theorem A29_43 {L : AL} {r : List Value} {a : Nat} : aw g 29 43 L (.ref a :: r) σ Q = (hty σ a = some 10 ∧ aw g 29 46 L (hv σ 10 a 2 :: r) σ Q) := (aw_eq g 29 43 _ _ _ _).trans (by rw [tq29_43]; exact rfl)
theorem tq29_46 : tT g 29 46 = s_const 29 48 (.ref (gV g 3)) := rfl
theorem A29_46 {L : AL} {r : List Value} : aw g 29 46 L r σ Q = aw g 29 48 L (.ref (gV g 3) :: r) σ Q := (aw_eq g 29 46 _ _ _ _).trans (by rw [tq29_46]; exact rfl)
theorem tq29_48 : tT g 29 48 = s_callk 29 51 37 [1, 0, 1] 4 := rfl
theorem A29_48 {L : AL} {r : List Value} {w0 w1 w2 : Value} : aw g 29 48 L (w2 :: w1 :: w0 :: r) σ Q = ((vRf w0 && (vI w1 && (vRf w2 && true))) = true ∧ csum r ≤ 8 ∧ aw g 37 0 [some w0, some w1, some w2, none] [] σ (kt (aw g) 29 51 L r Q)) := (aw_eq g 29 48 _ _ _ _).trans (by rw [tq29_48]; exact rfl)
theorem tq29_51 : tT g 29 51 = s_putf g pR 29 54 10 1 := rfl
theorem A29_51 {L : AL} {r : List Value} {a : Nat} {v : Value} : aw g 29 51 L (v :: .ref a :: r) σ Q = (hty σ a = some 10 ∧ gB g ≤ a ∧ pR v ∧ aw g 29 54 L r (hput σ 10 a 1 v) Q) := (aw_eq g 29 51 _ _ _ _).trans (by rw [tq29_51]; exact rfl)
theorem tq29_54 : tT g 29 54 = s_goto 29 64 := rfl
theorem A29_54 {L : AL} {r : List Value} : aw g 29 54 L r σ Q = aw g 29 64 L r σ Q := (aw_eq g 29 54 _ _ _ _).trans (by rw [tq29_54]; exact rfl)
theorem tq29_57 : tT g 29 57 = s_load vRf 29 58 0 := rfl
theorem A29_57 {l1 : Option Value} {l2 : Option Value} {x : Value} {r : List Value} : aw g 29 57 [some (x), l1, l2] r σ Q = (vRf x = true ∧ aw g 29 58 [some (x), l1, l2] (x :: r) σ Q) := (aw_eq g 29 57 _ _ _ _).trans (by rw [tq29_57]; exact h_load rfl)
theorem tq29_58 : tT g 29 58 = s_const 29 61 (.ref (gV g 1)) := rfl
theorem A29_58 {L : AL} {r : List Value} : aw g 29 58 L r σ Q = aw g 29 61 L (.ref (gV g 1) :: r) σ Q := (aw_eq g 29 58 _ _ _ _).trans (by rw [tq29_58]; exact rfl)
theorem tq29_61 : tT g 29 61 = s_putf g pR 29 64 10 1 := rfl
theorem A29_61 {L : AL} {r : List Value} {a : Nat} {v : Value} : aw g 29 61 L (v :: .ref a :: r) σ Q = (hty σ a = some 10 ∧ gB g ≤ a ∧ pR v ∧ aw g 29 64 L r (hput σ 10 a 1 v) Q) := (aw_eq g 29 61 _ _ _ _).trans (by rw [tq29_61]; exact rfl)
theorem tq29_64 : tT g 29 64 = s_vret := rfl
theorem A29_64 {L : AL} : aw g 29 64 L [] σ Q = Q (.inl none) σ := (aw_eq g 29 64 _ _ _ _).trans (by rw [tq29_64]; exact rfl)
theorem tq30_0 : tT g 30 0 = s_load vI 30 1 0 := rfl
theorem A30_0 {l1 : Option Value} {x : Int32} {r : List Value} : aw g 30 0 [some (.int x), l1] r σ Q = aw g 30 1 [some (.int x), l1] (.int x :: r) σ Q := (aw_eq g 30 0 _ _ _ _).trans (by rw [tq30_0]; exact (h_load rfl).trans (propext ⟨fun z => z.2, fun z => ⟨rfl, z⟩⟩))
theorem tq30_1 : tT g 30 1 = s_load vI 30 2 1 := rfl
theorem A30_1 {l0 : Option Value} {x : Int32} {r : List Value} : aw g 30 1 [l0, some (.int x)] r σ Q = aw g 30 2 [l0, some (.int x)] (.int x :: r) σ Q := (aw_eq g 30 1 _ _ _ _).trans (by rw [tq30_1]; exact (h_load rfl).trans (propext ⟨fun z => z.2, fun z => ⟨rfl, z⟩⟩))
theorem tq30_2 : tT g 30 2 = s_const 30 3 .null := rfl
theorem A30_2 {L : AL} {r : List Value} : aw g 30 2 L r σ Q = aw g 30 3 L (.null :: r) σ Q := (aw_eq g 30 2 _ _ _ _).trans (by rw [tq30_2]; exact rfl)
theorem tq30_3 : tT g 30 3 = s_callk 30 6 31 [0, 0, 1] 3 := rfl
theorem A30_3 {L : AL} {r : List Value} {w0 w1 w2 : Value} : aw g 30 3 L (w2 :: w1 :: w0 :: r) σ Q = ((vI w0 && (vI w1 && (vRf w2 && true))) = true ∧ csum r ≤ 8 ∧ aw g 31 0 [some w0, some w1, some w2] [] σ (kt (aw g) 30 6 L r Q)) := (aw_eq g 30 3 _ _ _ _).trans (by rw [tq30_3]; exact rfl)
theorem tq30_6 : tT g 30 6 = s_ret pI := rfl
theorem A30_6 {L : AL} {v : Value} : aw g 30 6 L [v] σ Q = (pI v ∧ Q (.inl (some v)) σ) := (aw_eq g 30 6 _ _ _ _).trans (by rw [tq30_6]; exact rfl)
theorem tq31_0 : tT g 31 0 = s_load vI 31 1 0 := rfl
theorem A31_0 {l1 : Option Value} {l2 : Option Value} {x : Int32} {r : List Value} : aw g 31 0 [some (.int x), l1, l2] r σ Q = aw g 31 1 [some (.int x), l1, l2] (.int x :: r) σ Q := (aw_eq g 31 0 _ _ _ _).trans (by rw [tq31_0]; exact (h_load rfl).trans (propext ⟨fun z => z.2, fun z => ⟨rfl, z⟩⟩))
theorem tq31_1 : tT g 31 1 = s_if 31 4 9 (fun a => a < 0) := rfl
theorem A31_1 {L : AL} {r : List Value} {a : Int32} : aw g 31 1 L (.int a :: r) σ Q = ((a < 0 → aw g 31 9 L r σ Q) ∧ (¬ a < 0 → aw g 31 4 L r σ Q)) := (aw_eq g 31 1 _ _ _ _).trans (by rw [tq31_1]; exact rfl)
theorem tq31_4 : tT g 31 4 = s_load vI 31 5 0 := rfl
theorem A31_4 {l1 : Option Value} {l2 : Option Value} {x : Int32} {r : List Value} : aw g 31 4 [some (.int x), l1, l2] r σ Q = aw g 31 5 [some (.int x), l1, l2] (.int x :: r) σ Q := (aw_eq g 31 4 _ _ _ _).trans (by rw [tq31_4]; exact (h_load rfl).trans (propext ⟨fun z => z.2, fun z => ⟨rfl, z⟩⟩))
theorem tq31_5 : tT g 31 5 = s_load vI 31 6 1 := rfl
theorem A31_5 {l0 : Option Value} {l2 : Option Value} {x : Int32} {r : List Value} : aw g 31 5 [l0, some (.int x), l2] r σ Q = aw g 31 6 [l0, some (.int x), l2] (.int x :: r) σ Q := (aw_eq g 31 5 _ _ _ _).trans (by rw [tq31_5]; exact (h_load rfl).trans (propext ⟨fun z => z.2, fun z => ⟨rfl, z⟩⟩))
theorem tq31_6 : tT g 31 6 = s_icmp 31 9 16 (fun a b => a < b) := rfl
theorem A31_6 {L : AL} {r : List Value} {a b : Int32} : aw g 31 6 L (.int b :: .int a :: r) σ Q = ((a < b → aw g 31 16 L r σ Q) ∧ (¬ a < b → aw g 31 9 L r σ Q)) := (aw_eq g 31 6 _ _ _ _).trans (by rw [tq31_6]; exact rfl)
theorem tq31_9 : tT g 31 9 = s_load vRf 31 10 2 := rfl
theorem A31_9 {l0 : Option Value} {l1 : Option Value} {x : Value} {r : List Value} : aw g 31 9 [l0, l1, some (x)] r σ Q = (vRf x = true ∧ aw g 31 10 [l0, l1, some (x)] (x :: r) σ Q) := (aw_eq g 31 9 _ _ _ _).trans (by rw [tq31_9]; exact h_load rfl)
theorem tq31_10 : tT g 31 10 = s_load vI 31 11 0 := rfl
theorem A31_10 {l1 : Option Value} {l2 : Option Value} {x : Int32} {r : List Value} : aw g 31 10 [some (.int x), l1, l2] r σ Q = aw g 31 11 [some (.int x), l1, l2] (.int x :: r) σ Q := (aw_eq g 31 10 _ _ _ _).trans (by rw [tq31_10]; exact (h_load rfl).trans (propext ⟨fun z => z.2, fun z => ⟨rfl, z⟩⟩))
theorem tq31_11 : tT g 31 11 = s_load vI 31 12 1 := rfl
theorem A31_11 {l0 : Option Value} {l2 : Option Value} {x : Int32} {r : List Value} : aw g 31 11 [l0, some (.int x), l2] r σ Q = aw g 31 12 [l0, some (.int x), l2] (.int x :: r) σ Q := (aw_eq g 31 11 _ _ _ _).trans (by rw [tq31_11]; exact (h_load rfl).trans (propext ⟨fun z => z.2, fun z => ⟨rfl, z⟩⟩))
theorem tq31_16 : tT g 31 16 = s_load vI 31 17 0 := rfl
theorem A31_16 {l1 : Option Value} {l2 : Option Value} {x : Int32} {r : List Value} : aw g 31 16 [some (.int x), l1, l2] r σ Q = aw g 31 17 [some (.int x), l1, l2] (.int x :: r) σ Q := (aw_eq g 31 16 _ _ _ _).trans (by rw [tq31_16]; exact (h_load rfl).trans (propext ⟨fun z => z.2, fun z => ⟨rfl, z⟩⟩))
theorem tq31_17 : tT g 31 17 = s_ret pI := rfl
theorem A31_17 {L : AL} {v : Value} : aw g 31 17 L [v] σ Q = (pI v ∧ Q (.inl (some v)) σ) := (aw_eq g 31 17 _ _ _ _).trans (by rw [tq31_17]; exact rfl)
theorem tq32_0 : tT g 32 0 = s_load vI 32 1 0 := rfl
theorem A32_0 {l1 : Option Value} {l2 : Option Value} {l3 : Option Value} {x : Int32} {r : List Value} : aw g 32 0 [some (.int x), l1, l2, l3] r σ Q = aw g 32 1 [some (.int x), l1, l2, l3] (.int x :: r) σ Q := (aw_eq g 32 0 _ _ _ _).trans (by rw [tq32_0]; exact (h_load rfl).trans (propext ⟨fun z => z.2, fun z => ⟨rfl, z⟩⟩))
theorem tq32_1 : tT g 32 1 = s_load vI 32 2 1 := rfl
theorem A32_1 {l0 : Option Value} {l2 : Option Value} {l3 : Option Value} {x : Int32} {r : List Value} : aw g 32 1 [l0, some (.int x), l2, l3] r σ Q = aw g 32 2 [l0, some (.int x), l2, l3] (.int x :: r) σ Q := (aw_eq g 32 1 _ _ _ _).trans (by rw [tq32_1]; exact (h_load rfl).trans (propext ⟨fun z => z.2, fun z => ⟨rfl, z⟩⟩))
theorem tq32_2 : tT g 32 2 = s_load vI 32 3 2 := rfl
theorem A32_2 {l0 : Option Value} {l1 : Option Value} {l3 : Option Value} {x : Int32} {r : List Value} : aw g 32 2 [l0, l1, some (.int x), l3] r σ Q = aw g 32 3 [l0, l1, some (.int x), l3] (.int x :: r) σ Q := (aw_eq g 32 2 _ _ _ _).trans (by rw [tq32_2]; exact (h_load rfl).trans (propext ⟨fun z => z.2, fun z => ⟨rfl, z⟩⟩))
theorem tq32_3 : tT g 32 3 = s_callk 32 6 34 [0, 0] 2 := rfl
theorem A32_3 {L : AL} {r : List Value} {w0 w1 : Value} : aw g 32 3 L (w1 :: w0 :: r) σ Q = ((vI w0 && (vI w1 && true)) = true ∧ csum r ≤ 8 ∧ aw g 34 0 [some w0, some w1] [] σ (kt (aw g) 32 6 L r Q)) := (aw_eq g 32 3 _ _ _ _).trans (by rw [tq32_3]; exact rfl)
theorem tq32_6 : tT g 32 6 = s_bin 32 7 (fun a b => a + b) := rfl
theorem A32_6 {L : AL} {r : List Value} {a b : Int32} : aw g 32 6 L (.int b :: .int a :: r) σ Q = aw g 32 7 L (.int (a + b) :: r) σ Q := (aw_eq g 32 6 _ _ _ _).trans (by rw [tq32_6]; exact rfl)
theorem tq32_7 : tT g 32 7 = s_store vI 32 8 3 := rfl
theorem A32_7 {l0 : Option Value} {l1 : Option Value} {l2 : Option Value} {l3 : Option Value} {x : Int32} {r : List Value} : aw g 32 7 [l0, l1, l2, l3] (.int x :: r) σ Q = (oc l2 = true ∧ aw g 32 8 [l0, l1, l2, some (.int x)] r σ Q) := (aw_eq g 32 7 _ _ _ _).trans (by rw [tq32_7]; exact (h_store (o := oc l2) rfl rfl rfl).trans (propext ⟨fun z => z.2, fun z => ⟨rfl, z⟩⟩))
theorem tq32_8 : tT g 32 8 = s_const 32 9 (.int 0) := rfl
theorem A32_8 {L : AL} {r : List Value} : aw g 32 8 L r σ Q = aw g 32 9 L (.int 0 :: r) σ Q := (aw_eq g 32 8 _ _ _ _).trans (by rw [tq32_8]; exact rfl)
theorem tq32_9 : tT g 32 9 = s_load vI 32 10 3 := rfl
theorem A32_9 {l0 : Option Value} {l1 : Option Value} {l2 : Option Value} {x : Int32} {r : List Value} : aw g 32 9 [l0, l1, l2, some (.int x)] r σ Q = aw g 32 10 [l0, l1, l2, some (.int x)] (.int x :: r) σ Q := (aw_eq g 32 9 _ _ _ _).trans (by rw [tq32_9]; exact (h_load rfl).trans (propext ⟨fun z => z.2, fun z => ⟨rfl, z⟩⟩))
theorem tq32_10 : tT g 32 10 = s_icmp 32 13 21 (fun a b => b ≤ a) := rfl
theorem A32_10 {L : AL} {r : List Value} {a b : Int32} : aw g 32 10 L (.int b :: .int a :: r) σ Q = ((b ≤ a → aw g 32 21 L r σ Q) ∧ (¬ b ≤ a → aw g 32 13 L r σ Q)) := (aw_eq g 32 10 _ _ _ _).trans (by rw [tq32_10]; exact rfl)
theorem tq32_13 : tT g 32 13 = s_load vI 32 14 3 := rfl
theorem A32_13 {l0 : Option Value} {l1 : Option Value} {l2 : Option Value} {x : Int32} {r : List Value} : aw g 32 13 [l0, l1, l2, some (.int x)] r σ Q = aw g 32 14 [l0, l1, l2, some (.int x)] (.int x :: r) σ Q := (aw_eq g 32 13 _ _ _ _).trans (by rw [tq32_13]; exact (h_load rfl).trans (propext ⟨fun z => z.2, fun z => ⟨rfl, z⟩⟩))
theorem tq32_14 : tT g 32 14 = s_const 32 16 (.int 2147483639) := rfl
theorem A32_14 {L : AL} {r : List Value} : aw g 32 14 L r σ Q = aw g 32 16 L (.int 2147483639 :: r) σ Q := (aw_eq g 32 14 _ _ _ _).trans (by rw [tq32_14]; exact rfl)
theorem tq32_16 : tT g 32 16 = s_icmp 32 19 21 (fun a b => b < a) := rfl
theorem A32_16 {L : AL} {r : List Value} {a b : Int32} : aw g 32 16 L (.int b :: .int a :: r) σ Q = ((b < a → aw g 32 21 L r σ Q) ∧ (¬ b < a → aw g 32 19 L r σ Q)) := (aw_eq g 32 16 _ _ _ _).trans (by rw [tq32_16]; exact rfl)
theorem tq32_19 : tT g 32 19 = s_load vI 32 20 3 := rfl
theorem A32_19 {l0 : Option Value} {l1 : Option Value} {l2 : Option Value} {x : Int32} {r : List Value} : aw g 32 19 [l0, l1, l2, some (.int x)] r σ Q = aw g 32 20 [l0, l1, l2, some (.int x)] (.int x :: r) σ Q := (aw_eq g 32 19 _ _ _ _).trans (by rw [tq32_19]; exact (h_load rfl).trans (propext ⟨fun z => z.2, fun z => ⟨rfl, z⟩⟩))
theorem tq32_20 : tT g 32 20 = s_ret pI := rfl
theorem A32_20 {L : AL} {v : Value} : aw g 32 20 L [v] σ Q = (pI v ∧ Q (.inl (some v)) σ) := (aw_eq g 32 20 _ _ _ _).trans (by rw [tq32_20]; exact rfl)
theorem tq32_21 : tT g 32 21 = s_load vI 32 22 0 := rfl
theorem A32_21 {l1 : Option Value} {l2 : Option Value} {l3 : Option Value} {x : Int32} {r : List Value} : aw g 32 21 [some (.int x), l1, l2, l3] r σ Q = aw g 32 22 [some (.int x), l1, l2, l3] (.int x :: r) σ Q := (aw_eq g 32 21 _ _ _ _).trans (by rw [tq32_21]; exact (h_load rfl).trans (propext ⟨fun z => z.2, fun z => ⟨rfl, z⟩⟩))
theorem tq32_22 : tT g 32 22 = s_load vI 32 23 1 := rfl
theorem A32_22 {l0 : Option Value} {l2 : Option Value} {l3 : Option Value} {x : Int32} {r : List Value} : aw g 32 22 [l0, some (.int x), l2, l3] r σ Q = aw g 32 23 [l0, some (.int x), l2, l3] (.int x :: r) σ Q := (aw_eq g 32 22 _ _ _ _).trans (by rw [tq32_22]; exact (h_load rfl).trans (propext ⟨fun z => z.2, fun z => ⟨rfl, z⟩⟩))
theorem tq32_23 : tT g 32 23 = s_callk 32 26 33 [0, 0] 3 := rfl
theorem A32_23 {L : AL} {r : List Value} {w0 w1 : Value} : aw g 32 23 L (w1 :: w0 :: r) σ Q = ((vI w0 && (vI w1 && true)) = true ∧ csum r ≤ 8 ∧ aw g 33 0 [some w0, some w1, none] [] σ (kt (aw g) 32 26 L r Q)) := (aw_eq g 32 23 _ _ _ _).trans (by rw [tq32_23]; exact rfl)
theorem tq32_26 : tT g 32 26 = s_ret pI := rfl
theorem A32_26 {L : AL} {v : Value} : aw g 32 26 L [v] σ Q = (pI v ∧ Q (.inl (some v)) σ) := (aw_eq g 32 26 _ _ _ _).trans (by rw [tq32_26]; exact rfl)
theorem tq33_0 : tT g 33 0 = s_load vI 33 1 0 := rfl
theorem A33_0 {l1 : Option Value} {l2 : Option Value} {x : Int32} {r : List Value} : aw g 33 0 [some (.int x), l1, l2] r σ Q = aw g 33 1 [some (.int x), l1, l2] (.int x :: r) σ Q := (aw_eq g 33 0 _ _ _ _).trans (by rw [tq33_0]; exact (h_load rfl).trans (propext ⟨fun z => z.2, fun z => ⟨rfl, z⟩⟩))
theorem tq33_1 : tT g 33 1 = s_load vI 33 2 1 := rfl
theorem A33_1 {l0 : Option Value} {l2 : Option Value} {x : Int32} {r : List Value} : aw g 33 1 [l0, some (.int x), l2] r σ Q = aw g 33 2 [l0, some (.int x), l2] (.int x :: r) σ Q := (aw_eq g 33 1 _ _ _ _).trans (by rw [tq33_1]; exact (h_load rfl).trans (propext ⟨fun z => z.2, fun z => ⟨rfl, z⟩⟩))
theorem tq33_2 : tT g 33 2 = s_bin 33 3 (fun a b => a + b) := rfl
theorem A33_2 {L : AL} {r : List Value} {a b : Int32} : aw g 33 2 L (.int b :: .int a :: r) σ Q = aw g 33 3 L (.int (a + b) :: r) σ Q := (aw_eq g 33 2 _ _ _ _).trans (by rw [tq33_2]; exact rfl)
theorem tq33_3 : tT g 33 3 = s_store vI 33 4 2 := rfl
theorem A33_3 {l0 : Option Value} {l1 : Option Value} {l2 : Option Value} {x : Int32} {r : List Value} : aw g 33 3 [l0, l1, l2] (.int x :: r) σ Q = (oc l1 = true ∧ aw g 33 4 [l0, l1, some (.int x)] r σ Q) := (aw_eq g 33 3 _ _ _ _).trans (by rw [tq33_3]; exact (h_store (o := oc l1) rfl rfl rfl).trans (propext ⟨fun z => z.2, fun z => ⟨rfl, z⟩⟩))
theorem tq33_4 : tT g 33 4 = s_load vI 33 5 2 := rfl
theorem A33_4 {l0 : Option Value} {l1 : Option Value} {x : Int32} {r : List Value} : aw g 33 4 [l0, l1, some (.int x)] r σ Q = aw g 33 5 [l0, l1, some (.int x)] (.int x :: r) σ Q := (aw_eq g 33 4 _ _ _ _).trans (by rw [tq33_4]; exact (h_load rfl).trans (propext ⟨fun z => z.2, fun z => ⟨rfl, z⟩⟩))
theorem tq33_5 : tT g 33 5 = s_if 33 8 49 (fun a => 0 ≤ a) := rfl
theorem A33_5 {L : AL} {r : List Value} {a : Int32} : aw g 33 5 L (.int a :: r) σ Q = ((0 ≤ a → aw g 33 49 L r σ Q) ∧ (¬ 0 ≤ a → aw g 33 8 L r σ Q)) := (aw_eq g 33 5 _ _ _ _).trans (by rw [tq33_5]; exact rfl)
theorem tq33_11 : tT g 33 11 = s_dup 33 12 := rfl
theorem A33_11 {L : AL} {r : List Value} {v : Value} : aw g 33 11 L (v :: r) σ Q = (v.category = 1 ∧ aw g 33 12 L (v :: v :: r) σ Q) := (aw_eq g 33 11 _ _ _ _).trans (by rw [tq33_11]; exact rfl)
theorem tq33_15 : tT g 33 15 = s_dup 33 16 := rfl
theorem A33_15 {L : AL} {r : List Value} {v : Value} : aw g 33 15 L (v :: r) σ Q = (v.category = 1 ∧ aw g 33 16 L (v :: v :: r) σ Q) := (aw_eq g 33 15 _ _ _ _).trans (by rw [tq33_15]; exact rfl)
theorem tq33_24 : tT g 33 24 = s_load vI 33 25 0 := rfl
theorem A33_24 {l1 : Option Value} {l2 : Option Value} {x : Int32} {r : List Value} : aw g 33 24 [some (.int x), l1, l2] r σ Q = aw g 33 25 [some (.int x), l1, l2] (.int x :: r) σ Q := (aw_eq g 33 24 _ _ _ _).trans (by rw [tq33_24]; exact (h_load rfl).trans (propext ⟨fun z => z.2, fun z => ⟨rfl, z⟩⟩))
theorem tq33_33 : tT g 33 33 = s_load vI 33 34 1 := rfl
theorem A33_33 {l0 : Option Value} {l2 : Option Value} {x : Int32} {r : List Value} : aw g 33 33 [l0, some (.int x), l2] r σ Q = aw g 33 34 [l0, some (.int x), l2] (.int x :: r) σ Q := (aw_eq g 33 33 _ _ _ _).trans (by rw [tq33_33]; exact (h_load rfl).trans (propext ⟨fun z => z.2, fun z => ⟨rfl, z⟩⟩))
theorem tq33_49 : tT g 33 49 = s_load vI 33 50 2 := rfl
theorem A33_49 {l0 : Option Value} {l1 : Option Value} {x : Int32} {r : List Value} : aw g 33 49 [l0, l1, some (.int x)] r σ Q = aw g 33 50 [l0, l1, some (.int x)] (.int x :: r) σ Q := (aw_eq g 33 49 _ _ _ _).trans (by rw [tq33_49]; exact (h_load rfl).trans (propext ⟨fun z => z.2, fun z => ⟨rfl, z⟩⟩))
theorem tq33_50 : tT g 33 50 = s_const 33 52 (.int 2147483639) := rfl
theorem A33_50 {L : AL} {r : List Value} : aw g 33 50 L r σ Q = aw g 33 52 L (.int 2147483639 :: r) σ Q := (aw_eq g 33 50 _ _ _ _).trans (by rw [tq33_50]; exact rfl)
theorem tq33_52 : tT g 33 52 = s_icmp 33 55 58 (fun a b => b < a) := rfl
theorem A33_52 {L : AL} {r : List Value} {a b : Int32} : aw g 33 52 L (.int b :: .int a :: r) σ Q = ((b < a → aw g 33 58 L r σ Q) ∧ (¬ b < a → aw g 33 55 L r σ Q)) := (aw_eq g 33 52 _ _ _ _).trans (by rw [tq33_52]; exact rfl)
theorem tq33_55 : tT g 33 55 = s_const 33 57 (.int 2147483639) := rfl
theorem A33_55 {L : AL} {r : List Value} : aw g 33 55 L r σ Q = aw g 33 57 L (.int 2147483639 :: r) σ Q := (aw_eq g 33 55 _ _ _ _).trans (by rw [tq33_55]; exact rfl)
theorem tq33_57 : tT g 33 57 = s_ret pI := rfl
theorem A33_57 {L : AL} {v : Value} : aw g 33 57 L [v] σ Q = (pI v ∧ Q (.inl (some v)) σ) := (aw_eq g 33 57 _ _ _ _).trans (by rw [tq33_57]; exact rfl)
theorem tq33_58 : tT g 33 58 = s_load vI 33 59 2 := rfl
theorem A33_58 {l0 : Option Value} {l1 : Option Value} {x : Int32} {r : List Value} : aw g 33 58 [l0, l1, some (.int x)] r σ Q = aw g 33 59 [l0, l1, some (.int x)] (.int x :: r) σ Q := (aw_eq g 33 58 _ _ _ _).trans (by rw [tq33_58]; exact (h_load rfl).trans (propext ⟨fun z => z.2, fun z => ⟨rfl, z⟩⟩))
theorem tq33_59 : tT g 33 59 = s_ret pI := rfl
theorem A33_59 {L : AL} {v : Value} : aw g 33 59 L [v] σ Q = (pI v ∧ Q (.inl (some v)) σ) := (aw_eq g 33 59 _ _ _ _).trans (by rw [tq33_59]; exact rfl)
theorem tq34_0 : tT g 34 0 = s_load vI 34 1 0 := rfl
theorem A34_0 {l1 : Option Value} {x : Int32} {r : List Value} : aw g 34 0 [some (.int x), l1] r σ Q = aw g 34 1 [some (.int x), l1] (.int x :: r) σ Q := (aw_eq g 34 0 _ _ _ _).trans (by rw [tq34_0]; exact (h_load rfl).trans (propext ⟨fun z => z.2, fun z => ⟨rfl, z⟩⟩))
theorem tq34_1 : tT g 34 1 = s_load vI 34 2 1 := rfl
theorem A34_1 {l0 : Option Value} {x : Int32} {r : List Value} : aw g 34 1 [l0, some (.int x)] r σ Q = aw g 34 2 [l0, some (.int x)] (.int x :: r) σ Q := (aw_eq g 34 1 _ _ _ _).trans (by rw [tq34_1]; exact (h_load rfl).trans (propext ⟨fun z => z.2, fun z => ⟨rfl, z⟩⟩))
theorem tq34_2 : tT g 34 2 = s_icmp 34 5 9 (fun a b => a < b) := rfl
theorem A34_2 {L : AL} {r : List Value} {a b : Int32} : aw g 34 2 L (.int b :: .int a :: r) σ Q = ((a < b → aw g 34 9 L r σ Q) ∧ (¬ a < b → aw g 34 5 L r σ Q)) := (aw_eq g 34 2 _ _ _ _).trans (by rw [tq34_2]; exact rfl)
theorem tq34_5 : tT g 34 5 = s_load vI 34 6 0 := rfl
theorem A34_5 {l1 : Option Value} {x : Int32} {r : List Value} : aw g 34 5 [some (.int x), l1] r σ Q = aw g 34 6 [some (.int x), l1] (.int x :: r) σ Q := (aw_eq g 34 5 _ _ _ _).trans (by rw [tq34_5]; exact (h_load rfl).trans (propext ⟨fun z => z.2, fun z => ⟨rfl, z⟩⟩))
theorem tq34_6 : tT g 34 6 = s_goto 34 10 := rfl
theorem A34_6 {L : AL} {r : List Value} : aw g 34 6 L r σ Q = aw g 34 10 L r σ Q := (aw_eq g 34 6 _ _ _ _).trans (by rw [tq34_6]; exact rfl)
theorem tq34_9 : tT g 34 9 = s_load vI 34 10 1 := rfl
theorem A34_9 {l0 : Option Value} {x : Int32} {r : List Value} : aw g 34 9 [l0, some (.int x)] r σ Q = aw g 34 10 [l0, some (.int x)] (.int x :: r) σ Q := (aw_eq g 34 9 _ _ _ _).trans (by rw [tq34_9]; exact (h_load rfl).trans (propext ⟨fun z => z.2, fun z => ⟨rfl, z⟩⟩))
theorem tq34_10 : tT g 34 10 = s_ret pI := rfl
theorem A34_10 {L : AL} {v : Value} : aw g 34 10 L [v] σ Q = (pI v ∧ Q (.inl (some v)) σ) := (aw_eq g 34 10 _ _ _ _).trans (by rw [tq34_10]; exact rfl)
theorem tq35_0 : tT g 35 0 = s_load vI 35 1 0 := rfl
theorem A35_0 {l1 : Option Value} {x : Int32} {r : List Value} : aw g 35 0 [some (.int x), l1] r σ Q = aw g 35 1 [some (.int x), l1] (.int x :: r) σ Q := (aw_eq g 35 0 _ _ _ _).trans (by rw [tq35_0]; exact (h_load rfl).trans (propext ⟨fun z => z.2, fun z => ⟨rfl, z⟩⟩))
theorem tq35_1 : tT g 35 1 = s_load vI 35 2 1 := rfl
theorem A35_1 {l0 : Option Value} {x : Int32} {r : List Value} : aw g 35 1 [l0, some (.int x)] r σ Q = aw g 35 2 [l0, some (.int x)] (.int x :: r) σ Q := (aw_eq g 35 1 _ _ _ _).trans (by rw [tq35_1]; exact (h_load rfl).trans (propext ⟨fun z => z.2, fun z => ⟨rfl, z⟩⟩))
theorem tq35_2 : tT g 35 2 = s_icmp 35 5 9 (fun a b => b < a) := rfl
theorem A35_2 {L : AL} {r : List Value} {a b : Int32} : aw g 35 2 L (.int b :: .int a :: r) σ Q = ((b < a → aw g 35 9 L r σ Q) ∧ (¬ b < a → aw g 35 5 L r σ Q)) := (aw_eq g 35 2 _ _ _ _).trans (by rw [tq35_2]; exact rfl)
theorem tq35_5 : tT g 35 5 = s_load vI 35 6 0 := rfl
theorem A35_5 {l1 : Option Value} {x : Int32} {r : List Value} : aw g 35 5 [some (.int x), l1] r σ Q = aw g 35 6 [some (.int x), l1] (.int x :: r) σ Q := (aw_eq g 35 5 _ _ _ _).trans (by rw [tq35_5]; exact (h_load rfl).trans (propext ⟨fun z => z.2, fun z => ⟨rfl, z⟩⟩))
theorem tq35_6 : tT g 35 6 = s_goto 35 10 := rfl
theorem A35_6 {L : AL} {r : List Value} : aw g 35 6 L r σ Q = aw g 35 10 L r σ Q := (aw_eq g 35 6 _ _ _ _).trans (by rw [tq35_6]; exact rfl)
theorem tq35_9 : tT g 35 9 = s_load vI 35 10 1 := rfl
theorem A35_9 {l0 : Option Value} {x : Int32} {r : List Value} : aw g 35 9 [l0, some (.int x)] r σ Q = aw g 35 10 [l0, some (.int x)] (.int x :: r) σ Q := (aw_eq g 35 9 _ _ _ _).trans (by rw [tq35_9]; exact (h_load rfl).trans (propext ⟨fun z => z.2, fun z => ⟨rfl, z⟩⟩))
theorem tq35_10 : tT g 35 10 = s_ret pI := rfl
theorem A35_10 {L : AL} {v : Value} : aw g 35 10 L [v] σ Q = (pI v ∧ Q (.inl (some v)) σ) := (aw_eq g 35 10 _ _ _ _).trans (by rw [tq35_10]; exact rfl)
theorem tq36_0 : tT g 36 0 = s_load vRf 36 1 0 := rfl
theorem A36_0 {l1 : Option Value} {x : Value} {r : List Value} : aw g 36 0 [some (x), l1] r σ Q = (vRf x = true ∧ aw g 36 1 [some (x), l1] (x :: r) σ Q) := (aw_eq g 36 0 _ _ _ _).trans (by rw [tq36_0]; exact h_load rfl)
theorem tq36_1 : tT g 36 1 = s_load vI 36 2 1 := rfl
theorem A36_1 {l0 : Option Value} {x : Int32} {r : List Value} : aw g 36 1 [l0, some (.int x)] r σ Q = aw g 36 2 [l0, some (.int x)] (.int x :: r) σ Q := (aw_eq g 36 1 _ _ _ _).trans (by rw [tq36_1]; exact (h_load rfl).trans (propext ⟨fun z => z.2, fun z => ⟨rfl, z⟩⟩))
theorem tq36_2 : tT g 36 2 = s_load vRf 36 3 0 := rfl
theorem A36_2 {l1 : Option Value} {x : Value} {r : List Value} : aw g 36 2 [some (x), l1] r σ Q = (vRf x = true ∧ aw g 36 3 [some (x), l1] (x :: r) σ Q) := (aw_eq g 36 2 _ _ _ _).trans (by rw [tq36_2]; exact h_load rfl)
theorem tq36_3 : tT g 36 3 = s_getc 36 6 24 (gV g 3) := rfl
theorem A36_3 {L : AL} {r : List Value} {a : Nat} : aw g 36 3 L (.ref a :: r) σ Q = (hty σ a = some 24 ∧ csum r ≤ 8 ∧ aw g 36 6 L (.ref (gV g 3) :: r) σ Q) := (aw_eq g 36 3 _ _ _ _).trans (by rw [tq36_3]; exact rfl)
theorem tq36_6 : tT g 36 6 = s_callk 36 9 37 [1, 0, 1] 4 := rfl
theorem A36_6 {L : AL} {r : List Value} {w0 w1 w2 : Value} : aw g 36 6 L (w2 :: w1 :: w0 :: r) σ Q = ((vRf w0 && (vI w1 && (vRf w2 && true))) = true ∧ csum r ≤ 8 ∧ aw g 37 0 [some w0, some w1, some w2, none] [] σ (kt (aw g) 36 9 L r Q)) := (aw_eq g 36 6 _ _ _ _).trans (by rw [tq36_6]; exact rfl)
theorem tq36_9 : tT g 36 9 = s_ret pR := rfl
theorem A36_9 {L : AL} {v : Value} : aw g 36 9 L [v] σ Q = (pR v ∧ Q (.inl (some v)) σ) := (aw_eq g 36 9 _ _ _ _).trans (by rw [tq36_9]; exact rfl)
theorem tq37_0 : tT g 37 0 = s_load vRf 37 1 2 := rfl
theorem A37_0 {l0 : Option Value} {l1 : Option Value} {l3 : Option Value} {x : Value} {r : List Value} : aw g 37 0 [l0, l1, some (x), l3] r σ Q = (vRf x = true ∧ aw g 37 1 [l0, l1, some (x), l3] (x :: r) σ Q) := (aw_eq g 37 0 _ _ _ _).trans (by rw [tq37_0]; exact h_load rfl)
theorem tq37_1 : tT g 37 1 = s_const 37 3 (.ref (gV g 3)) := rfl
theorem A37_1 {L : AL} {r : List Value} : aw g 37 1 L r σ Q = aw g 37 3 L (.ref (gV g 3) :: r) σ Q := (aw_eq g 37 1 _ _ _ _).trans (by rw [tq37_1]; exact rfl)
theorem tq37_3 : tT g 37 3 = s_acmpn 37 6 13 := rfl
theorem A37_3 {L : AL} {r : List Value} {a b : Value} : aw g 37 3 L (b :: a :: r) σ Q = (vRf a = true ∧ vRf b = true ∧ (a = b → aw g 37 6 L r σ Q) ∧ (a ≠ b → aw g 37 13 L r σ Q)) := (aw_eq g 37 3 _ _ _ _).trans (by rw [tq37_3]; exact rfl)
theorem tq37_6 : tT g 37 6 = s_load vI 37 7 1 := rfl
theorem A37_6 {l0 : Option Value} {l2 : Option Value} {l3 : Option Value} {x : Int32} {r : List Value} : aw g 37 6 [l0, some (.int x), l2, l3] r σ Q = aw g 37 7 [l0, some (.int x), l2, l3] (.int x :: r) σ Q := (aw_eq g 37 6 _ _ _ _).trans (by rw [tq37_6]; exact (h_load rfl).trans (propext ⟨fun z => z.2, fun z => ⟨rfl, z⟩⟩))
theorem tq37_7 : tT g 37 7 = s_newa g 37 10 24 (.null) := rfl
theorem A37_7 {L : AL} {r : List Value} {x : Int32} : aw g 37 7 L (.int x :: r) σ Q = (¬ x < 0 ∧ x.toNatClampNeg ≤ 65536 ∧ hsz σ + 1 ≤ gC g ∧ hsl σ + x.toNatClampNeg ≤ gS g ∧ aw g 37 10 L (.ref (hsz σ) :: r) (hnew σ 24 x.toNatClampNeg (fun _ => .null) x.toNatClampNeg) Q) := (aw_eq g 37 7 _ _ _ _).trans (by rw [tq37_7]; exact rfl)
theorem tq37_10 : tT g 37 10 = s_goto 37 24 := rfl
theorem A37_10 {L : AL} {r : List Value} : aw g 37 10 L r σ Q = aw g 37 24 L r σ Q := (aw_eq g 37 10 _ _ _ _).trans (by rw [tq37_10]; exact rfl)
theorem tq37_13 : tT g 37 13 = s_load vRf 37 14 2 := rfl
theorem A37_13 {l0 : Option Value} {l1 : Option Value} {l3 : Option Value} {x : Value} {r : List Value} : aw g 37 13 [l0, l1, some (x), l3] r σ Q = (vRf x = true ∧ aw g 37 14 [l0, l1, some (x), l3] (x :: r) σ Q) := (aw_eq g 37 13 _ _ _ _).trans (by rw [tq37_13]; exact h_load rfl)
theorem tq37_17 : tT g 37 17 = s_load vI 37 18 1 := rfl
theorem A37_17 {l0 : Option Value} {l2 : Option Value} {l3 : Option Value} {x : Int32} {r : List Value} : aw g 37 17 [l0, some (.int x), l2, l3] r σ Q = aw g 37 18 [l0, some (.int x), l2, l3] (.int x :: r) σ Q := (aw_eq g 37 17 _ _ _ _).trans (by rw [tq37_17]; exact (h_load rfl).trans (propext ⟨fun z => z.2, fun z => ⟨rfl, z⟩⟩))
theorem tq37_21 : tT g 37 21 = s_cast 37 24 [24] := rfl
theorem A37_21 {L : AL} {r : List Value} : aw g 37 21 L (.null :: r) σ Q = aw g 37 24 L (.null :: r) σ Q := (aw_eq g 37 21 _ _ _ _).trans (by rw [tq37_21]; exact rfl)
theorem A37_21r {L : AL} {r : List Value} {a : Nat} : aw g 37 21 L (.ref a :: r) σ Q = (hty σ a = some 24 ∧ aw g 37 24 L (.ref a :: r) σ Q) := (aw_eq g 37 21 _ _ _ _).trans (by rw [tq37_21]; exact propext ⟨fun z => (by obtain ⟨⟨u, hu, hu2⟩, z2⟩ := z; rw [List.mem_singleton] at hu; subst hu; exact ⟨hu2, z2⟩), fun z => ⟨⟨_, List.mem_cons_self, z.1⟩, z.2⟩⟩)
theorem tq37_24 : tT g 37 24 = s_store vRf 37 25 3 := rfl
theorem A37_24 {l0 : Option Value} {l1 : Option Value} {l2 : Option Value} {l3 : Option Value} {x : Value} {r : List Value} : aw g 37 24 [l0, l1, l2, l3] (x :: r) σ Q = (vRf x = true ∧ oc l2 = true ∧ aw g 37 25 [l0, l1, l2, some (x)] r σ Q) := (aw_eq g 37 24 _ _ _ _).trans (by rw [tq37_24]; exact (h_store (o := oc l2) rfl rfl rfl))
theorem tq37_25 : tT g 37 25 = s_load vRf 37 26 0 := rfl
theorem A37_25 {l1 : Option Value} {l2 : Option Value} {l3 : Option Value} {x : Value} {r : List Value} : aw g 37 25 [some (x), l1, l2, l3] r σ Q = (vRf x = true ∧ aw g 37 26 [some (x), l1, l2, l3] (x :: r) σ Q) := (aw_eq g 37 25 _ _ _ _).trans (by rw [tq37_25]; exact h_load rfl)
theorem tq37_26 : tT g 37 26 = s_const 37 27 (.int 0) := rfl
theorem A37_26 {L : AL} {r : List Value} : aw g 37 26 L r σ Q = aw g 37 27 L (.int 0 :: r) σ Q := (aw_eq g 37 26 _ _ _ _).trans (by rw [tq37_26]; exact rfl)
theorem tq37_27 : tT g 37 27 = s_load vRf 37 28 3 := rfl
theorem A37_27 {l0 : Option Value} {l1 : Option Value} {l2 : Option Value} {x : Value} {r : List Value} : aw g 37 27 [l0, l1, l2, some (x)] r σ Q = (vRf x = true ∧ aw g 37 28 [l0, l1, l2, some (x)] (x :: r) σ Q) := (aw_eq g 37 27 _ _ _ _).trans (by rw [tq37_27]; exact h_load rfl)
theorem tq37_28 : tT g 37 28 = s_const 37 29 (.int 0) := rfl
theorem A37_28 {L : AL} {r : List Value} : aw g 37 28 L r σ Q = aw g 37 29 L (.int 0 :: r) σ Q := (aw_eq g 37 28 _ _ _ _).trans (by rw [tq37_28]; exact rfl)
theorem tq37_29 : tT g 37 29 = s_load vRf 37 30 0 := rfl
theorem A37_29 {l1 : Option Value} {l2 : Option Value} {l3 : Option Value} {x : Value} {r : List Value} : aw g 37 29 [some (x), l1, l2, l3] r σ Q = (vRf x = true ∧ aw g 37 30 [some (x), l1, l2, l3] (x :: r) σ Q) := (aw_eq g 37 29 _ _ _ _).trans (by rw [tq37_29]; exact h_load rfl)
theorem tq37_30 : tT g 37 30 = s_alen 37 31 24 := rfl
theorem A37_30 {L : AL} {r : List Value} {a : Nat} : aw g 37 30 L (.ref a :: r) σ Q = (hty σ a = some 24 ∧ aw g 37 31 L (.int (Int32.ofNat (hln σ a)) :: r) σ Q) := (aw_eq g 37 30 _ _ _ _).trans (by rw [tq37_30]; exact rfl)
theorem tq37_31 : tT g 37 31 = s_load vI 37 32 1 := rfl
theorem A37_31 {l0 : Option Value} {l2 : Option Value} {l3 : Option Value} {x : Int32} {r : List Value} : aw g 37 31 [l0, some (.int x), l2, l3] r σ Q = aw g 37 32 [l0, some (.int x), l2, l3] (.int x :: r) σ Q := (aw_eq g 37 31 _ _ _ _).trans (by rw [tq37_31]; exact (h_load rfl).trans (propext ⟨fun z => z.2, fun z => ⟨rfl, z⟩⟩))
theorem tq37_32 : tT g 37 32 = s_callk 37 35 35 [0, 0] 2 := rfl
theorem A37_32 {L : AL} {r : List Value} {w0 w1 : Value} : aw g 37 32 L (w1 :: w0 :: r) σ Q = ((vI w0 && (vI w1 && true)) = true ∧ csum r ≤ 8 ∧ aw g 35 0 [some w0, some w1] [] σ (kt (aw g) 37 35 L r Q)) := (aw_eq g 37 32 _ _ _ _).trans (by rw [tq37_32]; exact rfl)
theorem tq37_35 : tT g 37 35 = s_acopy g vOb 37 38 24 := rfl
theorem A37_35 {L : AL} {r : List Value} {s e : Nat} {x z k : Int32} : aw g 37 35 L (.int k :: .int z :: .ref e :: .int x :: .ref s :: r) σ Q = (hty σ s = some 24 ∧ hty σ e = some 24 ∧ gB g ≤ e ∧ csum r ≤ 8 ∧ ¬ k < 0 ∧ ¬ x < 0 ∧ ¬ z < 0 ∧ x.toNatClampNeg + k.toNatClampNeg ≤ hln σ s ∧ z.toNatClampNeg + k.toNatClampNeg ≤ hln σ e ∧ (∀ i, i < k.toNatClampNeg → vOb σ (hv σ 24 s (x.toNatClampNeg + i))) ∧ aw g 37 38 L r (hcpy σ 24 s x.toNatClampNeg e z.toNatClampNeg k.toNatClampNeg) Q) := (aw_eq g 37 35 _ _ _ _).trans (by rw [tq37_35]; exact rfl)
theorem tq37_38 : tT g 37 38 = s_load vRf 37 39 3 := rfl
theorem A37_38 {l0 : Option Value} {l1 : Option Value} {l2 : Option Value} {x : Value} {r : List Value} : aw g 37 38 [l0, l1, l2, some (x)] r σ Q = (vRf x = true ∧ aw g 37 39 [l0, l1, l2, some (x)] (x :: r) σ Q) := (aw_eq g 37 38 _ _ _ _).trans (by rw [tq37_38]; exact h_load rfl)
theorem tq37_39 : tT g 37 39 = s_ret pR := rfl
theorem A37_39 {L : AL} {v : Value} : aw g 37 39 L [v] σ Q = (pR v ∧ Q (.inl (some v)) σ) := (aw_eq g 37 39 _ _ _ _).trans (by rw [tq37_39]; exact rfl)
theorem tq103_0 : tT g 103 0 = s_load vI 103 1 1 := rfl
theorem A103_0 {l0 : Option Value} {l2 : Option Value} {l3 : Option Value} {l4 : Option Value} {l5 : Option Value} {x : Int32} {r : List Value} : aw g 103 0 [l0, some (.int x), l2, l3, l4, l5] r σ Q = aw g 103 1 [l0, some (.int x), l2, l3, l4, l5] (.int x :: r) σ Q := (aw_eq g 103 0 _ _ _ _).trans (by rw [tq103_0]; exact (h_load rfl).trans (propext ⟨fun z => z.2, fun z => ⟨rfl, z⟩⟩))
theorem tq103_1 : tT g 103 1 = s_load vRf 103 2 0 := rfl
theorem A103_1 {l1 : Option Value} {l2 : Option Value} {l3 : Option Value} {l4 : Option Value} {l5 : Option Value} {x : Value} {r : List Value} : aw g 103 1 [some (x), l1, l2, l3, l4, l5] r σ Q = (vRf x = true ∧ aw g 103 2 [some (x), l1, l2, l3, l4, l5] (x :: r) σ Q) := (aw_eq g 103 1 _ _ _ _).trans (by rw [tq103_1]; exact h_load rfl)
theorem tq103_2 : tT g 103 2 = s_getf 103 5 9 3 := rfl
theorem A103_2 {L : AL} {r : List Value} {a : Nat} : aw g 103 2 L (.ref a :: r) σ Q = (hty σ a = some 9 ∧ aw g 103 5 L (hv σ 9 a 3 :: r) σ Q) := (aw_eq g 103 2 _ _ _ _).trans (by rw [tq103_2]; exact rfl)
theorem tq103_5 : tT g 103 5 = s_icmp 103 8 10 (fun a b => a ≤ b) := rfl
theorem A103_5 {L : AL} {r : List Value} {a b : Int32} : aw g 103 5 L (.int b :: .int a :: r) σ Q = ((a ≤ b → aw g 103 10 L r σ Q) ∧ (¬ a ≤ b → aw g 103 8 L r σ Q)) := (aw_eq g 103 5 _ _ _ _).trans (by rw [tq103_5]; exact rfl)
theorem tq103_8 : tT g 103 8 = s_const 103 9 .null := rfl
theorem A103_8 {L : AL} {r : List Value} : aw g 103 8 L r σ Q = aw g 103 9 L (.null :: r) σ Q := (aw_eq g 103 8 _ _ _ _).trans (by rw [tq103_8]; exact rfl)
theorem tq103_9 : tT g 103 9 = s_ret pR := rfl
theorem A103_9 {L : AL} {v : Value} : aw g 103 9 L [v] σ Q = (pR v ∧ Q (.inl (some v)) σ) := (aw_eq g 103 9 _ _ _ _).trans (by rw [tq103_9]; exact rfl)
theorem tq103_10 : tT g 103 10 = s_load vRf 103 11 0 := rfl
theorem A103_10 {l1 : Option Value} {l2 : Option Value} {l3 : Option Value} {l4 : Option Value} {l5 : Option Value} {x : Value} {r : List Value} : aw g 103 10 [some (x), l1, l2, l3, l4, l5] r σ Q = (vRf x = true ∧ aw g 103 11 [some (x), l1, l2, l3, l4, l5] (x :: r) σ Q) := (aw_eq g 103 10 _ _ _ _).trans (by rw [tq103_10]; exact h_load rfl)
theorem tq103_11 : tT g 103 11 = s_getf 103 14 9 0 := rfl
theorem A103_11 {L : AL} {r : List Value} {a : Nat} : aw g 103 11 L (.ref a :: r) σ Q = (hty σ a = some 9 ∧ aw g 103 14 L (hv σ 9 a 0 :: r) σ Q) := (aw_eq g 103 11 _ _ _ _).trans (by rw [tq103_11]; exact rfl)
theorem tq103_14 : tT g 103 14 = s_callvk 103 17 201 6 [] 2 := rfl
theorem A103_14 {L : AL} {r : List Value} {a : Nat} : aw g 103 14 L (.ref a :: r) σ Q = (hty σ a = some 6 ∧ true = true ∧ csum r ≤ 8 ∧ aw g 201 0 [some (.ref a), none] [] σ (kt (aw g) 103 17 L r Q)) := (aw_eq g 103 14 _ _ _ _).trans (by rw [tq103_14]; exact rfl)
theorem tq103_17 : tT g 103 17 = s_store vRf 103 18 2 := rfl
theorem A103_17 {l0 : Option Value} {l1 : Option Value} {l2 : Option Value} {l3 : Option Value} {l4 : Option Value} {l5 : Option Value} {x : Value} {r : List Value} : aw g 103 17 [l0, l1, l2, l3, l4, l5] (x :: r) σ Q = (vRf x = true ∧ oc l1 = true ∧ aw g 103 18 [l0, l1, some (x), l3, l4, l5] r σ Q) := (aw_eq g 103 17 _ _ _ _).trans (by rw [tq103_17]; exact (h_store (o := oc l1) rfl rfl rfl))
theorem tq103_18 : tT g 103 18 = s_const 103 19 (.int 0) := rfl
theorem A103_18 {L : AL} {r : List Value} : aw g 103 18 L r σ Q = aw g 103 19 L (.int 0 :: r) σ Q := (aw_eq g 103 18 _ _ _ _).trans (by rw [tq103_18]; exact rfl)
theorem tq103_19 : tT g 103 19 = s_store vI 103 20 3 := rfl
theorem A103_19 {l0 : Option Value} {l1 : Option Value} {l2 : Option Value} {l3 : Option Value} {l4 : Option Value} {l5 : Option Value} {x : Int32} {r : List Value} : aw g 103 19 [l0, l1, l2, l3, l4, l5] (.int x :: r) σ Q = (oc l2 = true ∧ aw g 103 20 [l0, l1, l2, some (.int x), l4, l5] r σ Q) := (aw_eq g 103 19 _ _ _ _).trans (by rw [tq103_19]; exact (h_store (o := oc l2) rfl rfl rfl).trans (propext ⟨fun z => z.2, fun z => ⟨rfl, z⟩⟩))
theorem tq103_20 : tT g 103 20 = s_load vRf 103 21 0 := rfl
theorem A103_20 {l1 : Option Value} {l2 : Option Value} {l3 : Option Value} {l4 : Option Value} {l5 : Option Value} {x : Value} {r : List Value} : aw g 103 20 [some (x), l1, l2, l3, l4, l5] r σ Q = (vRf x = true ∧ aw g 103 21 [some (x), l1, l2, l3, l4, l5] (x :: r) σ Q) := (aw_eq g 103 20 _ _ _ _).trans (by rw [tq103_20]; exact h_load rfl)
theorem tq103_21 : tT g 103 21 = s_load vRf 103 22 2 := rfl
theorem A103_21 {l0 : Option Value} {l1 : Option Value} {l3 : Option Value} {l4 : Option Value} {l5 : Option Value} {x : Value} {r : List Value} : aw g 103 21 [l0, l1, some (x), l3, l4, l5] r σ Q = (vRf x = true ∧ aw g 103 22 [l0, l1, some (x), l3, l4, l5] (x :: r) σ Q) := (aw_eq g 103 21 _ _ _ _).trans (by rw [tq103_21]; exact h_load rfl)
theorem tq103_22 : tT g 103 22 = s_const 103 23 (.int 0) := rfl
theorem A103_22 {L : AL} {r : List Value} : aw g 103 22 L r σ Q = aw g 103 23 L (.int 0 :: r) σ Q := (aw_eq g 103 22 _ _ _ _).trans (by rw [tq103_22]; exact rfl)
theorem tq103_23 : tT g 103 23 = s_callvk 103 26 104 9 [1, 0] 5 := rfl
theorem A103_23 {L : AL} {r : List Value} {a : Nat} {w0 w1 : Value} : aw g 103 23 L (w1 :: w0 :: .ref a :: r) σ Q = (hty σ a = some 9 ∧ (vRf w0 && (vI w1 && true)) = true ∧ csum r ≤ 8 ∧ aw g 104 0 [some (.ref a), some w0, some w1, none, none] [] σ (kt (aw g) 103 26 L r Q)) := (aw_eq g 103 23 _ _ _ _).trans (by rw [tq103_23]; exact rfl)
theorem tq103_26 : tT g 103 26 = s_const 103 27 (.int 1) := rfl
theorem A103_26 {L : AL} {r : List Value} : aw g 103 26 L r σ Q = aw g 103 27 L (.int 1 :: r) σ Q := (aw_eq g 103 26 _ _ _ _).trans (by rw [tq103_26]; exact rfl)
theorem tq103_27 : tT g 103 27 = s_store vI 103 29 4 := rfl
theorem A103_27 {l0 : Option Value} {l1 : Option Value} {l2 : Option Value} {l3 : Option Value} {l4 : Option Value} {l5 : Option Value} {x : Int32} {r : List Value} : aw g 103 27 [l0, l1, l2, l3, l4, l5] (.int x :: r) σ Q = (oc l3 = true ∧ aw g 103 29 [l0, l1, l2, l3, some (.int x), l5] r σ Q) := (aw_eq g 103 27 _ _ _ _).trans (by rw [tq103_27]; exact (h_store (o := oc l3) rfl rfl rfl).trans (propext ⟨fun z => z.2, fun z => ⟨rfl, z⟩⟩))
theorem tq103_29 : tT g 103 29 = s_load vI 103 31 4 := rfl
theorem A103_29 {l0 : Option Value} {l1 : Option Value} {l2 : Option Value} {l3 : Option Value} {l5 : Option Value} {x : Int32} {r : List Value} : aw g 103 29 [l0, l1, l2, l3, some (.int x), l5] r σ Q = aw g 103 31 [l0, l1, l2, l3, some (.int x), l5] (.int x :: r) σ Q := (aw_eq g 103 29 _ _ _ _).trans (by rw [tq103_29]; exact (h_load rfl).trans (propext ⟨fun z => z.2, fun z => ⟨rfl, z⟩⟩))
theorem tq103_31 : tT g 103 31 = s_load vI 103 32 1 := rfl
theorem A103_31 {l0 : Option Value} {l2 : Option Value} {l3 : Option Value} {l4 : Option Value} {l5 : Option Value} {x : Int32} {r : List Value} : aw g 103 31 [l0, some (.int x), l2, l3, l4, l5] r σ Q = aw g 103 32 [l0, some (.int x), l2, l3, l4, l5] (.int x :: r) σ Q := (aw_eq g 103 31 _ _ _ _).trans (by rw [tq103_31]; exact (h_load rfl).trans (propext ⟨fun z => z.2, fun z => ⟨rfl, z⟩⟩))
theorem tq103_32 : tT g 103 32 = s_icmp 103 35 125 (fun a b => b < a) := rfl
theorem A103_32 {L : AL} {r : List Value} {a b : Int32} : aw g 103 32 L (.int b :: .int a :: r) σ Q = ((b < a → aw g 103 125 L r σ Q) ∧ (¬ b < a → aw g 103 35 L r σ Q)) := (aw_eq g 103 32 _ _ _ _).trans (by rw [tq103_32]; exact rfl)
theorem tq103_35 : tT g 103 35 = s_load vRf 103 36 2 := rfl
theorem A103_35 {l0 : Option Value} {l1 : Option Value} {l3 : Option Value} {l4 : Option Value} {l5 : Option Value} {x : Value} {r : List Value} : aw g 103 35 [l0, l1, some (x), l3, l4, l5] r σ Q = (vRf x = true ∧ aw g 103 36 [l0, l1, some (x), l3, l4, l5] (x :: r) σ Q) := (aw_eq g 103 35 _ _ _ _).trans (by rw [tq103_35]; exact h_load rfl)
theorem tq103_36 : tT g 103 36 = s_callvk 103 39 203 6 [] 1 := rfl
theorem A103_36 {L : AL} {r : List Value} {a : Nat} : aw g 103 36 L (.ref a :: r) σ Q = (hty σ a = some 6 ∧ true = true ∧ csum r ≤ 8 ∧ aw g 203 0 [some (.ref a)] [] σ (kt (aw g) 103 39 L r Q)) := (aw_eq g 103 36 _ _ _ _).trans (by rw [tq103_36]; exact rfl)
theorem tq103_39 : tT g 103 39 = s_getf 103 42 8 0 := rfl
theorem A103_39 {L : AL} {r : List Value} {a : Nat} : aw g 103 39 L (.ref a :: r) σ Q = (hty σ a = some 8 ∧ aw g 103 42 L (hv σ 8 a 0 :: r) σ Q) := (aw_eq g 103 39 _ _ _ _).trans (by rw [tq103_39]; exact rfl)
theorem tq103_42 : tT g 103 42 = s_const 103 43 (.int 4) := rfl
theorem A103_42 {L : AL} {r : List Value} : aw g 103 42 L r σ Q = aw g 103 43 L (.int 4 :: r) σ Q := (aw_eq g 103 42 _ _ _ _).trans (by rw [tq103_42]; exact rfl)
theorem tq103_43 : tT g 103 43 = s_icmp 103 46 57 (fun a b => a = b) := rfl
theorem A103_43 {L : AL} {r : List Value} {a b : Int32} : aw g 103 43 L (.int b :: .int a :: r) σ Q = ((a = b → aw g 103 57 L r σ Q) ∧ (¬ a = b → aw g 103 46 L r σ Q)) := (aw_eq g 103 43 _ _ _ _).trans (by rw [tq103_43]; exact rfl)
theorem tq103_46 : tT g 103 46 = s_load vRf 103 47 2 := rfl
theorem A103_46 {l0 : Option Value} {l1 : Option Value} {l3 : Option Value} {l4 : Option Value} {l5 : Option Value} {x : Value} {r : List Value} : aw g 103 46 [l0, l1, some (x), l3, l4, l5] r σ Q = (vRf x = true ∧ aw g 103 47 [l0, l1, some (x), l3, l4, l5] (x :: r) σ Q) := (aw_eq g 103 46 _ _ _ _).trans (by rw [tq103_46]; exact h_load rfl)
theorem tq103_47 : tT g 103 47 = s_callvk 103 50 203 6 [] 1 := rfl
theorem A103_47 {L : AL} {r : List Value} {a : Nat} : aw g 103 47 L (.ref a :: r) σ Q = (hty σ a = some 6 ∧ true = true ∧ csum r ≤ 8 ∧ aw g 203 0 [some (.ref a)] [] σ (kt (aw g) 103 50 L r Q)) := (aw_eq g 103 47 _ _ _ _).trans (by rw [tq103_47]; exact rfl)
theorem tq103_50 : tT g 103 50 = s_getf 103 53 8 0 := rfl
theorem A103_50 {L : AL} {r : List Value} {a : Nat} : aw g 103 50 L (.ref a :: r) σ Q = (hty σ a = some 8 ∧ aw g 103 53 L (hv σ 8 a 0 :: r) σ Q) := (aw_eq g 103 50 _ _ _ _).trans (by rw [tq103_50]; exact rfl)
theorem tq103_53 : tT g 103 53 = s_const 103 54 (.int 5) := rfl
theorem A103_53 {L : AL} {r : List Value} : aw g 103 53 L r σ Q = aw g 103 54 L (.int 5 :: r) σ Q := (aw_eq g 103 53 _ _ _ _).trans (by rw [tq103_53]; exact rfl)
theorem tq103_54 : tT g 103 54 = s_icmp 103 61 57 (fun a b => a = b) := rfl
theorem A103_54 {L : AL} {r : List Value} {a b : Int32} : aw g 103 54 L (.int b :: .int a :: r) σ Q = ((a = b → aw g 103 57 L r σ Q) ∧ (¬ a = b → aw g 103 61 L r σ Q)) := (aw_eq g 103 54 _ _ _ _).trans (by rw [tq103_54]; exact rfl)
theorem tq103_57 : tT g 103 57 = s_const 103 58 (.int 1) := rfl
theorem A103_57 {L : AL} {r : List Value} : aw g 103 57 L r σ Q = aw g 103 58 L (.int 1 :: r) σ Q := (aw_eq g 103 57 _ _ _ _).trans (by rw [tq103_57]; exact rfl)
theorem tq103_58 : tT g 103 58 = s_goto 103 62 := rfl
theorem A103_58 {L : AL} {r : List Value} : aw g 103 58 L r σ Q = aw g 103 62 L r σ Q := (aw_eq g 103 58 _ _ _ _).trans (by rw [tq103_58]; exact rfl)
theorem tq103_61 : tT g 103 61 = s_const 103 62 (.int 0) := rfl
theorem A103_61 {L : AL} {r : List Value} : aw g 103 61 L r σ Q = aw g 103 62 L (.int 0 :: r) σ Q := (aw_eq g 103 61 _ _ _ _).trans (by rw [tq103_61]; exact rfl)
theorem tq103_62 : tT g 103 62 = s_store vI 103 64 5 := rfl
theorem A103_62 {l0 : Option Value} {l1 : Option Value} {l2 : Option Value} {l3 : Option Value} {l4 : Option Value} {l5 : Option Value} {x : Int32} {r : List Value} : aw g 103 62 [l0, l1, l2, l3, l4, l5] (.int x :: r) σ Q = (oc l4 = true ∧ aw g 103 64 [l0, l1, l2, l3, l4, some (.int x)] r σ Q) := (aw_eq g 103 62 _ _ _ _).trans (by rw [tq103_62]; exact (h_store (o := oc l4) rfl rfl rfl).trans (propext ⟨fun z => z.2, fun z => ⟨rfl, z⟩⟩))
theorem tq103_64 : tT g 103 64 = s_load vI 103 66 5 := rfl
theorem A103_64 {l0 : Option Value} {l1 : Option Value} {l2 : Option Value} {l3 : Option Value} {l4 : Option Value} {x : Int32} {r : List Value} : aw g 103 64 [l0, l1, l2, l3, l4, some (.int x)] r σ Q = aw g 103 66 [l0, l1, l2, l3, l4, some (.int x)] (.int x :: r) σ Q := (aw_eq g 103 64 _ _ _ _).trans (by rw [tq103_64]; exact (h_load rfl).trans (propext ⟨fun z => z.2, fun z => ⟨rfl, z⟩⟩))
theorem tq103_66 : tT g 103 66 = s_if 103 69 82 (fun a => a = 0) := rfl
theorem A103_66 {L : AL} {r : List Value} {a : Int32} : aw g 103 66 L (.int a :: r) σ Q = ((a = 0 → aw g 103 82 L r σ Q) ∧ (¬ a = 0 → aw g 103 69 L r σ Q)) := (aw_eq g 103 66 _ _ _ _).trans (by rw [tq103_66]; exact rfl)
theorem tq103_69 : tT g 103 69 = s_load vI 103 70 3 := rfl
theorem A103_69 {l0 : Option Value} {l1 : Option Value} {l2 : Option Value} {l4 : Option Value} {l5 : Option Value} {x : Int32} {r : List Value} : aw g 103 69 [l0, l1, l2, some (.int x), l4, l5] r σ Q = aw g 103 70 [l0, l1, l2, some (.int x), l4, l5] (.int x :: r) σ Q := (aw_eq g 103 69 _ _ _ _).trans (by rw [tq103_69]; exact (h_load rfl).trans (propext ⟨fun z => z.2, fun z => ⟨rfl, z⟩⟩))
theorem tq103_70 : tT g 103 70 = s_load vRf 103 71 0 := rfl
theorem A103_70 {l1 : Option Value} {l2 : Option Value} {l3 : Option Value} {l4 : Option Value} {l5 : Option Value} {x : Value} {r : List Value} : aw g 103 70 [some (x), l1, l2, l3, l4, l5] r σ Q = (vRf x = true ∧ aw g 103 71 [some (x), l1, l2, l3, l4, l5] (x :: r) σ Q) := (aw_eq g 103 70 _ _ _ _).trans (by rw [tq103_70]; exact h_load rfl)
theorem tq103_71 : tT g 103 71 = s_getf 103 74 9 1 := rfl
theorem A103_71 {L : AL} {r : List Value} {a : Nat} : aw g 103 71 L (.ref a :: r) σ Q = (hty σ a = some 9 ∧ aw g 103 74 L (hv σ 9 a 1 :: r) σ Q) := (aw_eq g 103 71 _ _ _ _).trans (by rw [tq103_71]; exact rfl)
theorem tq103_74 : tT g 103 74 = s_callvk 103 77 15 10 [] 1 := rfl
theorem A103_74 {L : AL} {r : List Value} {a : Nat} : aw g 103 74 L (.ref a :: r) σ Q = (hty σ a = some 10 ∧ true = true ∧ csum r ≤ 8 ∧ aw g 15 0 [some (.ref a)] [] σ (kt (aw g) 103 77 L r Q)) := (aw_eq g 103 74 _ _ _ _).trans (by rw [tq103_74]; exact rfl)
theorem tq103_77 : tT g 103 77 = s_icmp 103 82 80 (fun a b => a = b) := rfl
theorem A103_77 {L : AL} {r : List Value} {a b : Int32} : aw g 103 77 L (.int b :: .int a :: r) σ Q = ((a = b → aw g 103 80 L r σ Q) ∧ (¬ a = b → aw g 103 82 L r σ Q)) := (aw_eq g 103 77 _ _ _ _).trans (by rw [tq103_77]; exact rfl)
theorem tq103_80 : tT g 103 80 = s_const 103 81 .null := rfl
theorem A103_80 {L : AL} {r : List Value} : aw g 103 80 L r σ Q = aw g 103 81 L (.null :: r) σ Q := (aw_eq g 103 80 _ _ _ _).trans (by rw [tq103_80]; exact rfl)
theorem tq103_81 : tT g 103 81 = s_ret pR := rfl
theorem A103_81 {L : AL} {v : Value} : aw g 103 81 L [v] σ Q = (pR v ∧ Q (.inl (some v)) σ) := (aw_eq g 103 81 _ _ _ _).trans (by rw [tq103_81]; exact rfl)
theorem tq103_82 : tT g 103 82 = s_load vRf 103 83 2 := rfl
theorem A103_82 {l0 : Option Value} {l1 : Option Value} {l3 : Option Value} {l4 : Option Value} {l5 : Option Value} {x : Value} {r : List Value} : aw g 103 82 [l0, l1, some (x), l3, l4, l5] r σ Q = (vRf x = true ∧ aw g 103 83 [l0, l1, some (x), l3, l4, l5] (x :: r) σ Q) := (aw_eq g 103 82 _ _ _ _).trans (by rw [tq103_82]; exact h_load rfl)
theorem tq103_83 : tT g 103 83 = s_load vI 103 85 5 := rfl
theorem A103_83 {l0 : Option Value} {l1 : Option Value} {l2 : Option Value} {l3 : Option Value} {l4 : Option Value} {x : Int32} {r : List Value} : aw g 103 83 [l0, l1, l2, l3, l4, some (.int x)] r σ Q = aw g 103 85 [l0, l1, l2, l3, l4, some (.int x)] (.int x :: r) σ Q := (aw_eq g 103 83 _ _ _ _).trans (by rw [tq103_83]; exact (h_load rfl).trans (propext ⟨fun z => z.2, fun z => ⟨rfl, z⟩⟩))
theorem tq103_85 : tT g 103 85 = s_if 103 88 108 (fun a => a = 0) := rfl
theorem A103_85 {L : AL} {r : List Value} {a : Int32} : aw g 103 85 L (.int a :: r) σ Q = ((a = 0 → aw g 103 108 L r σ Q) ∧ (¬ a = 0 → aw g 103 88 L r σ Q)) := (aw_eq g 103 85 _ _ _ _).trans (by rw [tq103_85]; exact rfl)
theorem tq103_88 : tT g 103 88 = s_load vRf 103 89 0 := rfl
theorem A103_88 {l1 : Option Value} {l2 : Option Value} {l3 : Option Value} {l4 : Option Value} {l5 : Option Value} {x : Value} {r : List Value} : aw g 103 88 [some (x), l1, l2, l3, l4, l5] r σ Q = (vRf x = true ∧ aw g 103 89 [some (x), l1, l2, l3, l4, l5] (x :: r) σ Q) := (aw_eq g 103 88 _ _ _ _).trans (by rw [tq103_88]; exact h_load rfl)
theorem tq103_89 : tT g 103 89 = s_getf 103 92 9 1 := rfl
theorem A103_89 {L : AL} {r : List Value} {a : Nat} : aw g 103 89 L (.ref a :: r) σ Q = (hty σ a = some 9 ∧ aw g 103 92 L (hv σ 9 a 1 :: r) σ Q) := (aw_eq g 103 89 _ _ _ _).trans (by rw [tq103_89]; exact rfl)
theorem tq103_92 : tT g 103 92 = s_load vI 103 93 3 := rfl
theorem A103_92 {l0 : Option Value} {l1 : Option Value} {l2 : Option Value} {l4 : Option Value} {l5 : Option Value} {x : Int32} {r : List Value} : aw g 103 92 [l0, l1, l2, some (.int x), l4, l5] r σ Q = aw g 103 93 [l0, l1, l2, some (.int x), l4, l5] (.int x :: r) σ Q := (aw_eq g 103 92 _ _ _ _).trans (by rw [tq103_92]; exact (h_load rfl).trans (propext ⟨fun z => z.2, fun z => ⟨rfl, z⟩⟩))
theorem tq103_93 : tT g 103 93 = s_iinc 103 96 3 1 := rfl
theorem A103_93 {l0 : Option Value} {l1 : Option Value} {l2 : Option Value} {l4 : Option Value} {l5 : Option Value} {x : Int32} {r : List Value} : aw g 103 93 [l0, l1, l2, some (.int x), l4, l5] r σ Q = (oc l2 = true ∧ aw g 103 96 [l0, l1, l2, some (.int (x + 1)), l4, l5] r σ Q) := (aw_eq g 103 93 _ _ _ _).trans (by rw [tq103_93]; exact (h_iinc (o := oc l2) rfl rfl rfl))
theorem tq103_96 : tT g 103 96 = s_callvk 103 99 25 10 [0] 2 := rfl
theorem A103_96 {L : AL} {r : List Value} {a : Nat} {w0 : Value} : aw g 103 96 L (w0 :: .ref a :: r) σ Q = (hty σ a = some 10 ∧ (vI w0 && true) = true ∧ csum r ≤ 8 ∧ aw g 25 0 [some (.ref a), some w0] [] σ (kt (aw g) 103 99 L r Q)) := (aw_eq g 103 96 _ _ _ _).trans (by rw [tq103_96]; exact rfl)
theorem tq103_99 : tT g 103 99 = s_cast 103 102 [12] := rfl
theorem A103_99 {L : AL} {r : List Value} : aw g 103 99 L (.null :: r) σ Q = aw g 103 102 L (.null :: r) σ Q := (aw_eq g 103 99 _ _ _ _).trans (by rw [tq103_99]; exact rfl)
theorem A103_99r {L : AL} {r : List Value} {a : Nat} : aw g 103 99 L (.ref a :: r) σ Q = (hty σ a = some 12 ∧ aw g 103 102 L (.ref a :: r) σ Q) := (aw_eq g 103 99 _ _ _ _).trans (by rw [tq103_99]; exact propext ⟨fun z => (by obtain ⟨⟨u, hu, hu2⟩, z2⟩ := z; rw [List.mem_singleton] at hu; subst hu; exact ⟨hu2, z2⟩), fun z => ⟨⟨_, List.mem_cons_self, z.1⟩, z.2⟩⟩)
theorem tq103_102 : tT g 103 102 = s_callvk 103 105 8 12 [] 1 := rfl
theorem A103_102 {L : AL} {r : List Value} {a : Nat} : aw g 103 102 L (.ref a :: r) σ Q = (hty σ a = some 12 ∧ true = true ∧ csum r ≤ 8 ∧ aw g 8 0 [some (.ref a)] [] σ (kt (aw g) 103 105 L r Q)) := (aw_eq g 103 102 _ _ _ _).trans (by rw [tq103_102]; exact rfl)
theorem tq103_105 : tT g 103 105 = s_goto 103 109 := rfl
theorem A103_105 {L : AL} {r : List Value} : aw g 103 105 L r σ Q = aw g 103 109 L r σ Q := (aw_eq g 103 105 _ _ _ _).trans (by rw [tq103_105]; exact rfl)
theorem tq103_108 : tT g 103 108 = s_const 103 109 (.int 0) := rfl
theorem A103_108 {L : AL} {r : List Value} : aw g 103 108 L r σ Q = aw g 103 109 L (.int 0 :: r) σ Q := (aw_eq g 103 108 _ _ _ _).trans (by rw [tq103_108]; exact rfl)
theorem tq103_109 : tT g 103 109 = s_callvk 103 112 204 6 [0] 3 := rfl
theorem A103_109 {L : AL} {r : List Value} {a : Nat} {w0 : Value} : aw g 103 109 L (w0 :: .ref a :: r) σ Q = (hty σ a = some 6 ∧ (vI w0 && true) = true ∧ csum r ≤ 8 ∧ aw g 204 0 [some (.ref a), some w0, none] [] σ (kt (aw g) 103 112 L r Q)) := (aw_eq g 103 109 _ _ _ _).trans (by rw [tq103_109]; exact rfl)
theorem tq103_112 : tT g 103 112 = s_load vRf 103 113 0 := rfl
theorem A103_112 {l1 : Option Value} {l2 : Option Value} {l3 : Option Value} {l4 : Option Value} {l5 : Option Value} {x : Value} {r : List Value} : aw g 103 112 [some (x), l1, l2, l3, l4, l5] r σ Q = (vRf x = true ∧ aw g 103 113 [some (x), l1, l2, l3, l4, l5] (x :: r) σ Q) := (aw_eq g 103 112 _ _ _ _).trans (by rw [tq103_112]; exact h_load rfl)
theorem tq103_113 : tT g 103 113 = s_load vRf 103 114 2 := rfl
theorem A103_113 {l0 : Option Value} {l1 : Option Value} {l3 : Option Value} {l4 : Option Value} {l5 : Option Value} {x : Value} {r : List Value} : aw g 103 113 [l0, l1, some (x), l3, l4, l5] r σ Q = (vRf x = true ∧ aw g 103 114 [l0, l1, some (x), l3, l4, l5] (x :: r) σ Q) := (aw_eq g 103 113 _ _ _ _).trans (by rw [tq103_113]; exact h_load rfl)
theorem tq103_114 : tT g 103 114 = s_load vI 103 116 4 := rfl
theorem A103_114 {l0 : Option Value} {l1 : Option Value} {l2 : Option Value} {l3 : Option Value} {l5 : Option Value} {x : Int32} {r : List Value} : aw g 103 114 [l0, l1, l2, l3, some (.int x), l5] r σ Q = aw g 103 116 [l0, l1, l2, l3, some (.int x), l5] (.int x :: r) σ Q := (aw_eq g 103 114 _ _ _ _).trans (by rw [tq103_114]; exact (h_load rfl).trans (propext ⟨fun z => z.2, fun z => ⟨rfl, z⟩⟩))
theorem tq103_116 : tT g 103 116 = s_callvk 103 119 104 9 [1, 0] 5 := rfl
theorem A103_116 {L : AL} {r : List Value} {a : Nat} {w0 w1 : Value} : aw g 103 116 L (w1 :: w0 :: .ref a :: r) σ Q = (hty σ a = some 9 ∧ (vRf w0 && (vI w1 && true)) = true ∧ csum r ≤ 8 ∧ aw g 104 0 [some (.ref a), some w0, some w1, none, none] [] σ (kt (aw g) 103 119 L r Q)) := (aw_eq g 103 116 _ _ _ _).trans (by rw [tq103_116]; exact rfl)
theorem tq103_119 : tT g 103 119 = s_iinc 103 122 4 1 := rfl
theorem A103_119 {l0 : Option Value} {l1 : Option Value} {l2 : Option Value} {l3 : Option Value} {l5 : Option Value} {x : Int32} {r : List Value} : aw g 103 119 [l0, l1, l2, l3, some (.int x), l5] r σ Q = (oc l3 = true ∧ aw g 103 122 [l0, l1, l2, l3, some (.int (x + 1)), l5] r σ Q) := (aw_eq g 103 119 _ _ _ _).trans (by rw [tq103_119]; exact (h_iinc (o := oc l3) rfl rfl rfl))
theorem tq103_122 : tT g 103 122 = s_goto 103 29 := rfl
theorem A103_122 {L : AL} {r : List Value} : aw g 103 122 L r σ Q = aw g 103 29 L r σ Q := (aw_eq g 103 122 _ _ _ _).trans (by rw [tq103_122]; exact rfl)
theorem tq103_125 : tT g 103 125 = s_load vRf 103 126 2 := rfl
theorem A103_125 {l0 : Option Value} {l1 : Option Value} {l3 : Option Value} {l4 : Option Value} {l5 : Option Value} {x : Value} {r : List Value} : aw g 103 125 [l0, l1, some (x), l3, l4, l5] r σ Q = (vRf x = true ∧ aw g 103 126 [l0, l1, some (x), l3, l4, l5] (x :: r) σ Q) := (aw_eq g 103 125 _ _ _ _).trans (by rw [tq103_125]; exact h_load rfl)
theorem tq103_126 : tT g 103 126 = s_ret pR := rfl
theorem A103_126 {L : AL} {v : Value} : aw g 103 126 L [v] σ Q = (pR v ∧ Q (.inl (some v)) σ) := (aw_eq g 103 126 _ _ _ _).trans (by rw [tq103_126]; exact rfl)
theorem tq104_0 : tT g 104 0 = s_load vRf 104 1 0 := rfl
theorem A104_0 {l1 : Option Value} {l2 : Option Value} {l3 : Option Value} {l4 : Option Value} {x : Value} {r : List Value} : aw g 104 0 [some (x), l1, l2, l3, l4] r σ Q = (vRf x = true ∧ aw g 104 1 [some (x), l1, l2, l3, l4] (x :: r) σ Q) := (aw_eq g 104 0 _ _ _ _).trans (by rw [tq104_0]; exact h_load rfl)
theorem tq104_1 : tT g 104 1 = s_getf 104 4 9 2 := rfl
theorem A104_1 {L : AL} {r : List Value} {a : Nat} : aw g 104 1 L (.ref a :: r) σ Q = (hty σ a = some 9 ∧ aw g 104 4 L (hv σ 9 a 2 :: r) σ Q) := (aw_eq g 104 1 _ _ _ _).trans (by rw [tq104_1]; exact rfl)
theorem tq104_4 : tT g 104 4 = s_callvk 104 7 22 10 [] 1 := rfl
theorem A104_4 {L : AL} {r : List Value} {a : Nat} : aw g 104 4 L (.ref a :: r) σ Q = (hty σ a = some 10 ∧ true = true ∧ csum r ≤ 8 ∧ aw g 22 0 [some (.ref a)] [] σ (kt (aw g) 104 7 L r Q)) := (aw_eq g 104 4 _ _ _ _).trans (by rw [tq104_4]; exact rfl)
theorem tq104_7 : tT g 104 7 = s_store vRf 104 8 3 := rfl
theorem A104_7 {l0 : Option Value} {l1 : Option Value} {l2 : Option Value} {l3 : Option Value} {l4 : Option Value} {x : Value} {r : List Value} : aw g 104 7 [l0, l1, l2, l3, l4] (x :: r) σ Q = (vRf x = true ∧ oc l2 = true ∧ aw g 104 8 [l0, l1, l2, some (x), l4] r σ Q) := (aw_eq g 104 7 _ _ _ _).trans (by rw [tq104_7]; exact (h_store (o := oc l2) rfl rfl rfl))
theorem tq104_8 : tT g 104 8 = s_load vRf 104 9 3 := rfl
theorem A104_8 {l0 : Option Value} {l1 : Option Value} {l2 : Option Value} {l4 : Option Value} {x : Value} {r : List Value} : aw g 104 8 [l0, l1, l2, some (x), l4] r σ Q = (vRf x = true ∧ aw g 104 9 [l0, l1, l2, some (x), l4] (x :: r) σ Q) := (aw_eq g 104 8 _ _ _ _).trans (by rw [tq104_8]; exact h_load rfl)
theorem tq104_9 : tT g 104 9 = s_callvk 104 14 3 11 [] 1 := rfl
theorem A104_9 {L : AL} {r : List Value} {a : Nat} : aw g 104 9 L (.ref a :: r) σ Q = (hty σ a = some 11 ∧ true = true ∧ csum r ≤ 8 ∧ aw g 3 0 [some (.ref a)] [] σ (kt (aw g) 104 14 L r Q)) := (aw_eq g 104 9 _ _ _ _).trans (by rw [tq104_9]; exact rfl)
theorem tq104_14 : tT g 104 14 = s_if 104 17 49 (fun a => a = 0) := rfl
theorem A104_14 {L : AL} {r : List Value} {a : Int32} : aw g 104 14 L (.int a :: r) σ Q = ((a = 0 → aw g 104 49 L r σ Q) ∧ (¬ a = 0 → aw g 104 17 L r σ Q)) := (aw_eq g 104 14 _ _ _ _).trans (by rw [tq104_14]; exact rfl)
theorem tq104_17 : tT g 104 17 = s_load vRf 104 18 3 := rfl
theorem A104_17 {l0 : Option Value} {l1 : Option Value} {l2 : Option Value} {l4 : Option Value} {x : Value} {r : List Value} : aw g 104 17 [l0, l1, l2, some (x), l4] r σ Q = (vRf x = true ∧ aw g 104 18 [l0, l1, l2, some (x), l4] (x :: r) σ Q) := (aw_eq g 104 17 _ _ _ _).trans (by rw [tq104_17]; exact h_load rfl)
theorem tq104_18 : tT g 104 18 = s_callvk 104 23 4 11 [] 3 := rfl
theorem A104_18 {L : AL} {r : List Value} {a : Nat} : aw g 104 18 L (.ref a :: r) σ Q = (hty σ a = some 11 ∧ true = true ∧ csum r ≤ 8 ∧ aw g 4 0 [some (.ref a), none, none] [] σ (kt (aw g) 104 23 L r Q)) := (aw_eq g 104 18 _ _ _ _).trans (by rw [tq104_18]; exact rfl)
theorem tq104_23 : tT g 104 23 = s_cast 104 26 [20] := rfl
theorem A104_23 {L : AL} {r : List Value} : aw g 104 23 L (.null :: r) σ Q = aw g 104 26 L (.null :: r) σ Q := (aw_eq g 104 23 _ _ _ _).trans (by rw [tq104_23]; exact rfl)
theorem A104_23r {L : AL} {r : List Value} {a : Nat} : aw g 104 23 L (.ref a :: r) σ Q = (hty σ a = some 20 ∧ aw g 104 26 L (.ref a :: r) σ Q) := (aw_eq g 104 23 _ _ _ _).trans (by rw [tq104_23]; exact propext ⟨fun z => (by obtain ⟨⟨u, hu, hu2⟩, z2⟩ := z; rw [List.mem_singleton] at hu; subst hu; exact ⟨hu2, z2⟩), fun z => ⟨⟨_, List.mem_cons_self, z.1⟩, z.2⟩⟩)
theorem tq104_26 : tT g 104 26 = s_store vRf 104 28 4 := rfl
theorem A104_26 {l0 : Option Value} {l1 : Option Value} {l2 : Option Value} {l3 : Option Value} {l4 : Option Value} {x : Value} {r : List Value} : aw g 104 26 [l0, l1, l2, l3, l4] (x :: r) σ Q = (vRf x = true ∧ oc l3 = true ∧ aw g 104 28 [l0, l1, l2, l3, some (x)] r σ Q) := (aw_eq g 104 26 _ _ _ _).trans (by rw [tq104_26]; exact (h_store (o := oc l3) rfl rfl rfl))
theorem tq104_28 : tT g 104 28 = s_load vRf 104 30 4 := rfl
theorem A104_28 {l0 : Option Value} {l1 : Option Value} {l2 : Option Value} {l3 : Option Value} {x : Value} {r : List Value} : aw g 104 28 [l0, l1, l2, l3, some (x)] r σ Q = (vRf x = true ∧ aw g 104 30 [l0, l1, l2, l3, some (x)] (x :: r) σ Q) := (aw_eq g 104 28 _ _ _ _).trans (by rw [tq104_28]; exact h_load rfl)
theorem tq104_30 : tT g 104 30 = s_const 104 31 (.int 0) := rfl
theorem A104_30 {L : AL} {r : List Value} : aw g 104 30 L r σ Q = aw g 104 31 L (.int 0 :: r) σ Q := (aw_eq g 104 30 _ _ _ _).trans (by rw [tq104_30]; exact rfl)
theorem tq104_31 : tT g 104 31 = s_ald 104 32 20 := rfl
theorem A104_31 {L : AL} {r : List Value} {a : Nat} {i : Int32} : aw g 104 31 L (.int i :: .ref a :: r) σ Q = (hty σ a = some 20 ∧ ¬ i < 0 ∧ i.toNatClampNeg < hln σ a ∧ aw g 104 32 L (hv σ 20 a i.toNatClampNeg :: r) σ Q) := (aw_eq g 104 31 _ _ _ _).trans (by rw [tq104_31]; exact rfl)
theorem tq104_32 : tT g 104 32 = s_load vI 104 33 2 := rfl
theorem A104_32 {l0 : Option Value} {l1 : Option Value} {l3 : Option Value} {l4 : Option Value} {x : Int32} {r : List Value} : aw g 104 32 [l0, l1, some (.int x), l3, l4] r σ Q = aw g 104 33 [l0, l1, some (.int x), l3, l4] (.int x :: r) σ Q := (aw_eq g 104 32 _ _ _ _).trans (by rw [tq104_32]; exact (h_load rfl).trans (propext ⟨fun z => z.2, fun z => ⟨rfl, z⟩⟩))
theorem tq104_33 : tT g 104 33 = s_icmp 104 46 36 (fun a b => a = b) := rfl
theorem A104_33 {L : AL} {r : List Value} {a b : Int32} : aw g 104 33 L (.int b :: .int a :: r) σ Q = ((a = b → aw g 104 36 L r σ Q) ∧ (¬ a = b → aw g 104 46 L r σ Q)) := (aw_eq g 104 33 _ _ _ _).trans (by rw [tq104_33]; exact rfl)
theorem tq104_36 : tT g 104 36 = s_load vRf 104 37 1 := rfl
theorem A104_36 {l0 : Option Value} {l2 : Option Value} {l3 : Option Value} {l4 : Option Value} {x : Value} {r : List Value} : aw g 104 36 [l0, some (x), l2, l3, l4] r σ Q = (vRf x = true ∧ aw g 104 37 [l0, some (x), l2, l3, l4] (x :: r) σ Q) := (aw_eq g 104 36 _ _ _ _).trans (by rw [tq104_36]; exact h_load rfl)
theorem tq104_37 : tT g 104 37 = s_getf 104 40 6 1 := rfl
theorem A104_37 {L : AL} {r : List Value} {a : Nat} : aw g 104 37 L (.ref a :: r) σ Q = (hty σ a = some 6 ∧ aw g 104 40 L (hv σ 6 a 1 :: r) σ Q) := (aw_eq g 104 37 _ _ _ _).trans (by rw [tq104_37]; exact rfl)
theorem tq104_40 : tT g 104 40 = s_load vRf 104 42 4 := rfl
theorem A104_40 {l0 : Option Value} {l1 : Option Value} {l2 : Option Value} {l3 : Option Value} {x : Value} {r : List Value} : aw g 104 40 [l0, l1, l2, l3, some (x)] r σ Q = (vRf x = true ∧ aw g 104 42 [l0, l1, l2, l3, some (x)] (x :: r) σ Q) := (aw_eq g 104 40 _ _ _ _).trans (by rw [tq104_40]; exact h_load rfl)
theorem tq104_42 : tT g 104 42 = s_const 104 43 (.int 1) := rfl
theorem A104_42 {L : AL} {r : List Value} : aw g 104 42 L r σ Q = aw g 104 43 L (.int 1 :: r) σ Q := (aw_eq g 104 42 _ _ _ _).trans (by rw [tq104_42]; exact rfl)
theorem tq104_43 : tT g 104 43 = s_ald 104 44 20 := rfl
theorem A104_43 {L : AL} {r : List Value} {a : Nat} {i : Int32} : aw g 104 43 L (.int i :: .ref a :: r) σ Q = (hty σ a = some 20 ∧ ¬ i < 0 ∧ i.toNatClampNeg < hln σ a ∧ aw g 104 44 L (hv σ 20 a i.toNatClampNeg :: r) σ Q) := (aw_eq g 104 43 _ _ _ _).trans (by rw [tq104_43]; exact rfl)
theorem tq104_44 : tT g 104 44 = s_const 104 45 (.int 0) := rfl
theorem A104_44 {L : AL} {r : List Value} : aw g 104 44 L r σ Q = aw g 104 45 L (.int 0 :: r) σ Q := (aw_eq g 104 44 _ _ _ _).trans (by rw [tq104_44]; exact rfl)
theorem tq104_45 : tT g 104 45 = s_ast g (fun _ v => vI v = true) 104 46 20 := rfl
theorem A104_45 {L : AL} {r : List Value} {a : Nat} {i : Int32} {v : Value} : aw g 104 45 L (v :: .int i :: .ref a :: r) σ Q = (hty σ a = some 20 ∧ gB g ≤ a ∧ ¬ i < 0 ∧ i.toNatClampNeg < hln σ a ∧ vI v = true ∧ aw g 104 46 L r (hput σ 20 a i.toNatClampNeg v) Q) := (aw_eq g 104 45 _ _ _ _).trans (by rw [tq104_45]; exact rfl)
theorem tq104_46 : tT g 104 46 = s_goto 104 8 := rfl
theorem A104_46 {L : AL} {r : List Value} : aw g 104 46 L r σ Q = aw g 104 8 L r σ Q := (aw_eq g 104 46 _ _ _ _).trans (by rw [tq104_46]; exact rfl)
theorem tq104_49 : tT g 104 49 = s_vret := rfl
theorem A104_49 {L : AL} : aw g 104 49 L [] σ Q = Q (.inl none) σ := (aw_eq g 104 49 _ _ _ _).trans (by rw [tq104_49]; exact rfl)
theorem tq105_0 : tT g 105 0 = s_new g 105 3 9 5 (fun k => defaultValue (tyX10 k)) := rfl
theorem A105_0 {L : AL} {r : List Value} : aw g 105 0 L r σ Q = (hsz σ + 1 ≤ gC g ∧ hsl σ + 5 ≤ gS g ∧ aw g 105 3 L (.ref (hsz σ) :: r) (hnew σ 9 0 (fun k => defaultValue (tyX10 k)) 5) Q) := (aw_eq g 105 0 _ _ _ _).trans (by rw [tq105_0]; exact rfl)
theorem tq105_3 : tT g 105 3 = s_dup 105 4 := rfl
theorem A105_3 {L : AL} {r : List Value} {v : Value} : aw g 105 3 L (v :: r) σ Q = (v.category = 1 ∧ aw g 105 4 L (v :: v :: r) σ Q) := (aw_eq g 105 3 _ _ _ _).trans (by rw [tq105_3]; exact rfl)
theorem tq105_4 : tT g 105 4 = s_load vRf 105 5 0 := rfl
theorem A105_4 {l1 : Option Value} {x : Value} {r : List Value} : aw g 105 4 [some (x), l1] r σ Q = (vRf x = true ∧ aw g 105 5 [some (x), l1] (x :: r) σ Q) := (aw_eq g 105 4 _ _ _ _).trans (by rw [tq105_4]; exact h_load rfl)
theorem tq105_5 : tT g 105 5 = s_getf 105 8 9 0 := rfl
theorem A105_5 {L : AL} {r : List Value} {a : Nat} : aw g 105 5 L (.ref a :: r) σ Q = (hty σ a = some 9 ∧ aw g 105 8 L (hv σ 9 a 0 :: r) σ Q) := (aw_eq g 105 5 _ _ _ _).trans (by rw [tq105_5]; exact rfl)
theorem tq105_8 : tT g 105 8 = s_callik 105 11 106 [1] 2 := rfl
theorem A105_8 {L : AL} {r : List Value} {a : Nat} {w0 : Value} : aw g 105 8 L (w0 :: .ref a :: r) σ Q = ((vRf w0 && true) = true ∧ csum r ≤ 8 ∧ aw g 106 0 [some (.ref a), some w0] [] σ (kt (aw g) 105 11 L r Q)) := (aw_eq g 105 8 _ _ _ _).trans (by rw [tq105_8]; exact rfl)
theorem tq105_11 : tT g 105 11 = s_store vRf 105 12 1 := rfl
theorem A105_11 {l0 : Option Value} {l1 : Option Value} {x : Value} {r : List Value} : aw g 105 11 [l0, l1] (x :: r) σ Q = (vRf x = true ∧ oc l0 = true ∧ aw g 105 12 [l0, some (x)] r σ Q) := (aw_eq g 105 11 _ _ _ _).trans (by rw [tq105_11]; exact (h_store (o := oc l0) rfl rfl rfl))
theorem tq105_12 : tT g 105 12 = s_load vRf 105 13 1 := rfl
theorem A105_12 {l0 : Option Value} {x : Value} {r : List Value} : aw g 105 12 [l0, some (x)] r σ Q = (vRf x = true ∧ aw g 105 13 [l0, some (x)] (x :: r) σ Q) := (aw_eq g 105 12 _ _ _ _).trans (by rw [tq105_12]; exact h_load rfl)
theorem tq105_13 : tT g 105 13 = s_getf 105 16 9 1 := rfl
theorem A105_13 {L : AL} {r : List Value} {a : Nat} : aw g 105 13 L (.ref a :: r) σ Q = (hty σ a = some 9 ∧ aw g 105 16 L (hv σ 9 a 1 :: r) σ Q) := (aw_eq g 105 13 _ _ _ _).trans (by rw [tq105_13]; exact rfl)
theorem tq105_16 : tT g 105 16 = s_load vRf 105 17 0 := rfl
theorem A105_16 {l1 : Option Value} {x : Value} {r : List Value} : aw g 105 16 [some (x), l1] r σ Q = (vRf x = true ∧ aw g 105 17 [some (x), l1] (x :: r) σ Q) := (aw_eq g 105 16 _ _ _ _).trans (by rw [tq105_16]; exact h_load rfl)
theorem tq105_17 : tT g 105 17 = s_getf 105 20 9 1 := rfl
theorem A105_17 {L : AL} {r : List Value} {a : Nat} : aw g 105 17 L (.ref a :: r) σ Q = (hty σ a = some 9 ∧ aw g 105 20 L (hv σ 9 a 1 :: r) σ Q) := (aw_eq g 105 17 _ _ _ _).trans (by rw [tq105_17]; exact rfl)
theorem tq105_20 : tT g 105 20 = s_callvk 105 23 27 10 [1] 6 := rfl
theorem A105_20 {L : AL} {r : List Value} {a : Nat} {w0 : Value} : aw g 105 20 L (w0 :: .ref a :: r) σ Q = (hty σ a = some 10 ∧ (vRf w0 && true) = true ∧ csum r ≤ 8 ∧ aw g 27 0 [some (.ref a), some w0, none, none, none, none] [] σ (kt (aw g) 105 23 L r Q)) := (aw_eq g 105 20 _ _ _ _).trans (by rw [tq105_20]; exact rfl)
theorem tq105_23 : tT g 105 23 = s_pop 105 24 := rfl
theorem A105_23 {L : AL} {r : List Value} {v : Value} : aw g 105 23 L (v :: r) σ Q = (v.category = 1 ∧ aw g 105 24 L r σ Q) := (aw_eq g 105 23 _ _ _ _).trans (by rw [tq105_23]; exact rfl)
theorem tq105_24 : tT g 105 24 = s_load vRf 105 25 1 := rfl
theorem A105_24 {l0 : Option Value} {x : Value} {r : List Value} : aw g 105 24 [l0, some (x)] r σ Q = (vRf x = true ∧ aw g 105 25 [l0, some (x)] (x :: r) σ Q) := (aw_eq g 105 24 _ _ _ _).trans (by rw [tq105_24]; exact h_load rfl)
theorem tq105_25 : tT g 105 25 = s_getf 105 28 9 2 := rfl
theorem A105_25 {L : AL} {r : List Value} {a : Nat} : aw g 105 25 L (.ref a :: r) σ Q = (hty σ a = some 9 ∧ aw g 105 28 L (hv σ 9 a 2 :: r) σ Q) := (aw_eq g 105 25 _ _ _ _).trans (by rw [tq105_25]; exact rfl)
theorem tq105_28 : tT g 105 28 = s_load vRf 105 29 0 := rfl
theorem A105_28 {l1 : Option Value} {x : Value} {r : List Value} : aw g 105 28 [some (x), l1] r σ Q = (vRf x = true ∧ aw g 105 29 [some (x), l1] (x :: r) σ Q) := (aw_eq g 105 28 _ _ _ _).trans (by rw [tq105_28]; exact h_load rfl)
theorem tq105_29 : tT g 105 29 = s_getf 105 32 9 2 := rfl
theorem A105_29 {L : AL} {r : List Value} {a : Nat} : aw g 105 29 L (.ref a :: r) σ Q = (hty σ a = some 9 ∧ aw g 105 32 L (hv σ 9 a 2 :: r) σ Q) := (aw_eq g 105 29 _ _ _ _).trans (by rw [tq105_29]; exact rfl)
theorem tq105_32 : tT g 105 32 = s_callvk 105 35 27 10 [1] 6 := rfl
theorem A105_32 {L : AL} {r : List Value} {a : Nat} {w0 : Value} : aw g 105 32 L (w0 :: .ref a :: r) σ Q = (hty σ a = some 10 ∧ (vRf w0 && true) = true ∧ csum r ≤ 8 ∧ aw g 27 0 [some (.ref a), some w0, none, none, none, none] [] σ (kt (aw g) 105 35 L r Q)) := (aw_eq g 105 32 _ _ _ _).trans (by rw [tq105_32]; exact rfl)
theorem tq105_35 : tT g 105 35 = s_pop 105 36 := rfl
theorem A105_35 {L : AL} {r : List Value} {v : Value} : aw g 105 35 L (v :: r) σ Q = (v.category = 1 ∧ aw g 105 36 L r σ Q) := (aw_eq g 105 35 _ _ _ _).trans (by rw [tq105_35]; exact rfl)
theorem tq105_36 : tT g 105 36 = s_load vRf 105 37 1 := rfl
theorem A105_36 {l0 : Option Value} {x : Value} {r : List Value} : aw g 105 36 [l0, some (x)] r σ Q = (vRf x = true ∧ aw g 105 37 [l0, some (x)] (x :: r) σ Q) := (aw_eq g 105 36 _ _ _ _).trans (by rw [tq105_36]; exact h_load rfl)
theorem tq105_37 : tT g 105 37 = s_load vRf 105 38 0 := rfl
theorem A105_37 {l1 : Option Value} {x : Value} {r : List Value} : aw g 105 37 [some (x), l1] r σ Q = (vRf x = true ∧ aw g 105 38 [some (x), l1] (x :: r) σ Q) := (aw_eq g 105 37 _ _ _ _).trans (by rw [tq105_37]; exact h_load rfl)
theorem tq105_38 : tT g 105 38 = s_getf 105 41 9 3 := rfl
theorem A105_38 {L : AL} {r : List Value} {a : Nat} : aw g 105 38 L (.ref a :: r) σ Q = (hty σ a = some 9 ∧ aw g 105 41 L (hv σ 9 a 3 :: r) σ Q) := (aw_eq g 105 38 _ _ _ _).trans (by rw [tq105_38]; exact rfl)
theorem tq105_41 : tT g 105 41 = s_putf g pI 105 44 9 3 := rfl
theorem A105_41 {L : AL} {r : List Value} {a : Nat} {v : Value} : aw g 105 41 L (v :: .ref a :: r) σ Q = (hty σ a = some 9 ∧ gB g ≤ a ∧ pI v ∧ aw g 105 44 L r (hput σ 9 a 3 v) Q) := (aw_eq g 105 41 _ _ _ _).trans (by rw [tq105_41]; exact rfl)
theorem tq105_44 : tT g 105 44 = s_load vRf 105 45 1 := rfl
theorem A105_44 {l0 : Option Value} {x : Value} {r : List Value} : aw g 105 44 [l0, some (x)] r σ Q = (vRf x = true ∧ aw g 105 45 [l0, some (x)] (x :: r) σ Q) := (aw_eq g 105 44 _ _ _ _).trans (by rw [tq105_44]; exact h_load rfl)
theorem tq105_45 : tT g 105 45 = s_load vRf 105 46 0 := rfl
theorem A105_45 {l1 : Option Value} {x : Value} {r : List Value} : aw g 105 45 [some (x), l1] r σ Q = (vRf x = true ∧ aw g 105 46 [some (x), l1] (x :: r) σ Q) := (aw_eq g 105 45 _ _ _ _).trans (by rw [tq105_45]; exact h_load rfl)
theorem tq105_46 : tT g 105 46 = s_getf 105 49 9 4 := rfl
theorem A105_46 {L : AL} {r : List Value} {a : Nat} : aw g 105 46 L (.ref a :: r) σ Q = (hty σ a = some 9 ∧ aw g 105 49 L (hv σ 9 a 4 :: r) σ Q) := (aw_eq g 105 46 _ _ _ _).trans (by rw [tq105_46]; exact rfl)
theorem tq105_49 : tT g 105 49 = s_putf g vZ 105 52 9 4 := rfl
theorem A105_49 {L : AL} {r : List Value} {a : Nat} {v : Value} : aw g 105 49 L (v :: .ref a :: r) σ Q = (hty σ a = some 9 ∧ gB g ≤ a ∧ vZ v ∧ aw g 105 52 L r (hput σ 9 a 4 v) Q) := (aw_eq g 105 49 _ _ _ _).trans (by rw [tq105_49]; exact rfl)
theorem tq105_52 : tT g 105 52 = s_load vRf 105 53 1 := rfl
theorem A105_52 {l0 : Option Value} {x : Value} {r : List Value} : aw g 105 52 [l0, some (x)] r σ Q = (vRf x = true ∧ aw g 105 53 [l0, some (x)] (x :: r) σ Q) := (aw_eq g 105 52 _ _ _ _).trans (by rw [tq105_52]; exact h_load rfl)
theorem tq105_53 : tT g 105 53 = s_ret pR := rfl
theorem A105_53 {L : AL} {v : Value} : aw g 105 53 L [v] σ Q = (pR v ∧ Q (.inl (some v)) σ) := (aw_eq g 105 53 _ _ _ _).trans (by rw [tq105_53]; exact rfl)
theorem tq106_0 : tT g 106 0 = s_load vRf 106 1 0 := rfl
theorem A106_0 {l1 : Option Value} {x : Value} {r : List Value} : aw g 106 0 [some (x), l1] r σ Q = (vRf x = true ∧ aw g 106 1 [some (x), l1] (x :: r) σ Q) := (aw_eq g 106 0 _ _ _ _).trans (by rw [tq106_0]; exact h_load rfl)
theorem tq106_1 : tT g 106 1 = s_oinit 106 4 := rfl
theorem A106_1 {L : AL} {r : List Value} {a : Nat} : aw g 106 1 L (.ref a :: r) σ Q = (csum r ≤ 8 ∧ aw g 106 4 L r σ Q) := (aw_eq g 106 1 _ _ _ _).trans (by rw [tq106_1]; exact rfl)
theorem tq106_4 : tT g 106 4 = s_load vRf 106 5 0 := rfl
theorem A106_4 {l1 : Option Value} {x : Value} {r : List Value} : aw g 106 4 [some (x), l1] r σ Q = (vRf x = true ∧ aw g 106 5 [some (x), l1] (x :: r) σ Q) := (aw_eq g 106 4 _ _ _ _).trans (by rw [tq106_4]; exact h_load rfl)
theorem tq106_5 : tT g 106 5 = s_new g 106 8 10 3 (fun k => defaultValue (tyJ2 k)) := rfl
theorem A106_5 {L : AL} {r : List Value} : aw g 106 5 L r σ Q = (hsz σ + 1 ≤ gC g ∧ hsl σ + 3 ≤ gS g ∧ aw g 106 8 L (.ref (hsz σ) :: r) (hnew σ 10 0 (fun k => defaultValue (tyJ2 k)) 3) Q) := (aw_eq g 106 5 _ _ _ _).trans (by rw [tq106_5]; exact rfl)
theorem tq106_8 : tT g 106 8 = s_dup 106 9 := rfl
theorem A106_8 {L : AL} {r : List Value} {v : Value} : aw g 106 8 L (v :: r) σ Q = (v.category = 1 ∧ aw g 106 9 L (v :: v :: r) σ Q) := (aw_eq g 106 8 _ _ _ _).trans (by rw [tq106_8]; exact rfl)
theorem tq106_9 : tT g 106 9 = s_callik 106 12 14 [] 1 := rfl
theorem A106_9 {L : AL} {r : List Value} {a : Nat} : aw g 106 9 L (.ref a :: r) σ Q = (true = true ∧ csum r ≤ 8 ∧ aw g 14 0 [some (.ref a)] [] σ (kt (aw g) 106 12 L r Q)) := (aw_eq g 106 9 _ _ _ _).trans (by rw [tq106_9]; exact rfl)
theorem tq106_12 : tT g 106 12 = s_putf g pR 106 15 9 1 := rfl
theorem A106_12 {L : AL} {r : List Value} {a : Nat} {v : Value} : aw g 106 12 L (v :: .ref a :: r) σ Q = (hty σ a = some 9 ∧ gB g ≤ a ∧ pR v ∧ aw g 106 15 L r (hput σ 9 a 1 v) Q) := (aw_eq g 106 12 _ _ _ _).trans (by rw [tq106_12]; exact rfl)
theorem tq106_15 : tT g 106 15 = s_load vRf 106 16 0 := rfl
theorem A106_15 {l1 : Option Value} {x : Value} {r : List Value} : aw g 106 15 [some (x), l1] r σ Q = (vRf x = true ∧ aw g 106 16 [some (x), l1] (x :: r) σ Q) := (aw_eq g 106 15 _ _ _ _).trans (by rw [tq106_15]; exact h_load rfl)
theorem tq106_16 : tT g 106 16 = s_new g 106 19 10 3 (fun k => defaultValue (tyJ2 k)) := rfl
theorem A106_16 {L : AL} {r : List Value} : aw g 106 16 L r σ Q = (hsz σ + 1 ≤ gC g ∧ hsl σ + 3 ≤ gS g ∧ aw g 106 19 L (.ref (hsz σ) :: r) (hnew σ 10 0 (fun k => defaultValue (tyJ2 k)) 3) Q) := (aw_eq g 106 16 _ _ _ _).trans (by rw [tq106_16]; exact rfl)
theorem tq106_19 : tT g 106 19 = s_dup 106 20 := rfl
theorem A106_19 {L : AL} {r : List Value} {v : Value} : aw g 106 19 L (v :: r) σ Q = (v.category = 1 ∧ aw g 106 20 L (v :: v :: r) σ Q) := (aw_eq g 106 19 _ _ _ _).trans (by rw [tq106_19]; exact rfl)
theorem tq106_20 : tT g 106 20 = s_callik 106 23 14 [] 1 := rfl
theorem A106_20 {L : AL} {r : List Value} {a : Nat} : aw g 106 20 L (.ref a :: r) σ Q = (true = true ∧ csum r ≤ 8 ∧ aw g 14 0 [some (.ref a)] [] σ (kt (aw g) 106 23 L r Q)) := (aw_eq g 106 20 _ _ _ _).trans (by rw [tq106_20]; exact rfl)
theorem tq106_23 : tT g 106 23 = s_putf g pR 106 26 9 2 := rfl
theorem A106_23 {L : AL} {r : List Value} {a : Nat} {v : Value} : aw g 106 23 L (v :: .ref a :: r) σ Q = (hty σ a = some 9 ∧ gB g ≤ a ∧ pR v ∧ aw g 106 26 L r (hput σ 9 a 2 v) Q) := (aw_eq g 106 23 _ _ _ _).trans (by rw [tq106_23]; exact rfl)
theorem tq106_26 : tT g 106 26 = s_load vRf 106 27 0 := rfl
theorem A106_26 {l1 : Option Value} {x : Value} {r : List Value} : aw g 106 26 [some (x), l1] r σ Q = (vRf x = true ∧ aw g 106 27 [some (x), l1] (x :: r) σ Q) := (aw_eq g 106 26 _ _ _ _).trans (by rw [tq106_26]; exact h_load rfl)
theorem tq106_27 : tT g 106 27 = s_load vRf 106 28 1 := rfl
theorem A106_27 {l0 : Option Value} {x : Value} {r : List Value} : aw g 106 27 [l0, some (x)] r σ Q = (vRf x = true ∧ aw g 106 28 [l0, some (x)] (x :: r) σ Q) := (aw_eq g 106 27 _ _ _ _).trans (by rw [tq106_27]; exact h_load rfl)
theorem tq106_28 : tT g 106 28 = s_putf g pR 106 31 9 0 := rfl
theorem A106_28 {L : AL} {r : List Value} {a : Nat} {v : Value} : aw g 106 28 L (v :: .ref a :: r) σ Q = (hty σ a = some 9 ∧ gB g ≤ a ∧ pR v ∧ aw g 106 31 L r (hput σ 9 a 0 v) Q) := (aw_eq g 106 28 _ _ _ _).trans (by rw [tq106_28]; exact rfl)
theorem tq106_31 : tT g 106 31 = s_vret := rfl
theorem A106_31 {L : AL} : aw g 106 31 L [] σ Q = Q (.inl none) σ := (aw_eq g 106 31 _ _ _ _).trans (by rw [tq106_31]; exact rfl)
theorem tq107_0 : tT g 107 0 = s_load vRf 107 1 0 := rfl
theorem A107_0 {l1 : Option Value} {x : Value} {r : List Value} : aw g 107 0 [some (x), l1] r σ Q = (vRf x = true ∧ aw g 107 1 [some (x), l1] (x :: r) σ Q) := (aw_eq g 107 0 _ _ _ _).trans (by rw [tq107_0]; exact h_load rfl)
theorem tq107_1 : tT g 107 1 = s_getf 107 4 9 1 := rfl
theorem A107_1 {L : AL} {r : List Value} {a : Nat} : aw g 107 1 L (.ref a :: r) σ Q = (hty σ a = some 9 ∧ aw g 107 4 L (hv σ 9 a 1 :: r) σ Q) := (aw_eq g 107 1 _ _ _ _).trans (by rw [tq107_1]; exact rfl)
theorem tq107_4 : tT g 107 4 = s_callvk 107 7 15 10 [] 1 := rfl
theorem A107_4 {L : AL} {r : List Value} {a : Nat} : aw g 107 4 L (.ref a :: r) σ Q = (hty σ a = some 10 ∧ true = true ∧ csum r ≤ 8 ∧ aw g 15 0 [some (.ref a)] [] σ (kt (aw g) 107 7 L r Q)) := (aw_eq g 107 4 _ _ _ _).trans (by rw [tq107_4]; exact rfl)
theorem tq107_7 : tT g 107 7 = s_const 107 9 (.int 60) := rfl
theorem A107_7 {L : AL} {r : List Value} : aw g 107 7 L r σ Q = aw g 107 9 L (.int 60 :: r) σ Q := (aw_eq g 107 7 _ _ _ _).trans (by rw [tq107_7]; exact rfl)
theorem tq107_9 : tT g 107 9 = s_icmp 107 20 12 (fun a b => a = b) := rfl
theorem A107_9 {L : AL} {r : List Value} {a b : Int32} : aw g 107 9 L (.int b :: .int a :: r) σ Q = ((a = b → aw g 107 12 L r σ Q) ∧ (¬ a = b → aw g 107 20 L r σ Q)) := (aw_eq g 107 9 _ _ _ _).trans (by rw [tq107_9]; exact rfl)
theorem tq107_12 : tT g 107 12 = s_load vRf 107 13 0 := rfl
theorem A107_12 {l1 : Option Value} {x : Value} {r : List Value} : aw g 107 12 [some (x), l1] r σ Q = (vRf x = true ∧ aw g 107 13 [some (x), l1] (x :: r) σ Q) := (aw_eq g 107 12 _ _ _ _).trans (by rw [tq107_12]; exact h_load rfl)
theorem tq107_13 : tT g 107 13 = s_const 107 14 (.int 1) := rfl
theorem A107_13 {L : AL} {r : List Value} : aw g 107 13 L r σ Q = aw g 107 14 L (.int 1 :: r) σ Q := (aw_eq g 107 13 _ _ _ _).trans (by rw [tq107_13]; exact rfl)
theorem tq107_14 : tT g 107 14 = s_putf g vZ 107 17 9 4 := rfl
theorem A107_14 {L : AL} {r : List Value} {a : Nat} {v : Value} : aw g 107 14 L (v :: .ref a :: r) σ Q = (hty σ a = some 9 ∧ gB g ≤ a ∧ vZ v ∧ aw g 107 17 L r (hput σ 9 a 4 v) Q) := (aw_eq g 107 14 _ _ _ _).trans (by rw [tq107_14]; exact rfl)
theorem tq107_17 : tT g 107 17 = s_goto 107 39 := rfl
theorem A107_17 {L : AL} {r : List Value} : aw g 107 17 L r σ Q = aw g 107 39 L r σ Q := (aw_eq g 107 17 _ _ _ _).trans (by rw [tq107_17]; exact rfl)
theorem tq107_20 : tT g 107 20 = s_load vRf 107 21 0 := rfl
theorem A107_20 {l1 : Option Value} {x : Value} {r : List Value} : aw g 107 20 [some (x), l1] r σ Q = (vRf x = true ∧ aw g 107 21 [some (x), l1] (x :: r) σ Q) := (aw_eq g 107 20 _ _ _ _).trans (by rw [tq107_20]; exact h_load rfl)
theorem tq107_21 : tT g 107 21 = s_getf 107 24 9 4 := rfl
theorem A107_21 {L : AL} {r : List Value} {a : Nat} : aw g 107 21 L (.ref a :: r) σ Q = (hty σ a = some 9 ∧ aw g 107 24 L (hv σ 9 a 4 :: r) σ Q) := (aw_eq g 107 21 _ _ _ _).trans (by rw [tq107_21]; exact rfl)
theorem tq107_24 : tT g 107 24 = s_if 107 39 27 (fun a => a = 0) := rfl
theorem A107_24 {L : AL} {r : List Value} {a : Int32} : aw g 107 24 L (.int a :: r) σ Q = ((a = 0 → aw g 107 27 L r σ Q) ∧ (¬ a = 0 → aw g 107 39 L r σ Q)) := (aw_eq g 107 24 _ _ _ _).trans (by rw [tq107_24]; exact rfl)
theorem tq107_27 : tT g 107 27 = s_load vRf 107 28 0 := rfl
theorem A107_27 {l1 : Option Value} {x : Value} {r : List Value} : aw g 107 27 [some (x), l1] r σ Q = (vRf x = true ∧ aw g 107 28 [some (x), l1] (x :: r) σ Q) := (aw_eq g 107 27 _ _ _ _).trans (by rw [tq107_27]; exact h_load rfl)
theorem tq107_28 : tT g 107 28 = s_getf 107 31 9 1 := rfl
theorem A107_28 {L : AL} {r : List Value} {a : Nat} : aw g 107 28 L (.ref a :: r) σ Q = (hty σ a = some 9 ∧ aw g 107 31 L (hv σ 9 a 1 :: r) σ Q) := (aw_eq g 107 28 _ _ _ _).trans (by rw [tq107_28]; exact rfl)
theorem tq107_31 : tT g 107 31 = s_load vI 107 32 1 := rfl
theorem A107_31 {l0 : Option Value} {x : Int32} {r : List Value} : aw g 107 31 [l0, some (.int x)] r σ Q = aw g 107 32 [l0, some (.int x)] (.int x :: r) σ Q := (aw_eq g 107 31 _ _ _ _).trans (by rw [tq107_31]; exact (h_load rfl).trans (propext ⟨fun z => z.2, fun z => ⟨rfl, z⟩⟩))
theorem tq107_32 : tT g 107 32 = s_callk 107 35 9 [0] 1 := rfl
theorem A107_32 {L : AL} {r : List Value} {w0 : Value} : aw g 107 32 L (w0 :: r) σ Q = ((vI w0 && true) = true ∧ csum r ≤ 8 ∧ aw g 9 0 [some w0] [] σ (kt (aw g) 107 35 L r Q)) := (aw_eq g 107 32 _ _ _ _).trans (by rw [tq107_32]; exact rfl)
theorem tq107_35 : tT g 107 35 = s_callvk 107 38 18 10 [1] 2 := rfl
theorem A107_35 {L : AL} {r : List Value} {a : Nat} {w0 : Value} : aw g 107 35 L (w0 :: .ref a :: r) σ Q = (hty σ a = some 10 ∧ (vRf w0 && true) = true ∧ csum r ≤ 8 ∧ aw g 18 0 [some (.ref a), some w0] [] σ (kt (aw g) 107 38 L r Q)) := (aw_eq g 107 35 _ _ _ _).trans (by rw [tq107_35]; exact rfl)
theorem tq107_38 : tT g 107 38 = s_pop 107 39 := rfl
theorem A107_38 {L : AL} {r : List Value} {v : Value} : aw g 107 38 L (v :: r) σ Q = (v.category = 1 ∧ aw g 107 39 L r σ Q) := (aw_eq g 107 38 _ _ _ _).trans (by rw [tq107_38]; exact rfl)
theorem tq107_39 : tT g 107 39 = s_vret := rfl
theorem A107_39 {L : AL} : aw g 107 39 L [] σ Q = Q (.inl none) σ := (aw_eq g 107 39 _ _ _ _).trans (by rw [tq107_39]; exact rfl)
theorem tq134_0 : tT g 134 0 = s_load vRf 134 1 0 := rfl
theorem A134_0  {x : Value} {r : List Value} : aw g 134 0 [some (x)] r σ Q = (vRf x = true ∧ aw g 134 1 [some (x)] (x :: r) σ Q) := (aw_eq g 134 0 _ _ _ _).trans (by rw [tq134_0]; exact h_load rfl)
theorem tq134_1 : tT g 134 1 = s_const 134 2 .null := rfl
theorem A134_1 {L : AL} {r : List Value} : aw g 134 1 L r σ Q = aw g 134 2 L (.null :: r) σ Q := (aw_eq g 134 1 _ _ _ _).trans (by rw [tq134_1]; exact rfl)
theorem tq134_2 : tT g 134 2 = s_const 134 3 (.int (-1)) := rfl
theorem A134_2 {L : AL} {r : List Value} : aw g 134 2 L r σ Q = aw g 134 3 L (.int (-1) :: r) σ Q := (aw_eq g 134 2 _ _ _ _).trans (by rw [tq134_2]; exact rfl)
theorem tq134_3 : tT g 134 3 = s_const 134 4 (.int (-1)) := rfl
theorem A134_3 {L : AL} {r : List Value} : aw g 134 3 L r σ Q = aw g 134 4 L (.int (-1) :: r) σ Q := (aw_eq g 134 3 _ _ _ _).trans (by rw [tq134_3]; exact rfl)
theorem tq134_4 : tT g 134 4 = s_callvk 134 7 135 2 [1, 0, 0] 4 := rfl
theorem A134_4 {L : AL} {r : List Value} {a : Nat} {w0 w1 w2 : Value} : aw g 134 4 L (w2 :: w1 :: w0 :: .ref a :: r) σ Q = (hty σ a = some 2 ∧ (vRf w0 && (vI w1 && (vI w2 && true))) = true ∧ csum r ≤ 8 ∧ aw g 135 0 [some (.ref a), some w0, some w1, some w2] [] σ (kt (aw g) 134 7 L r Q)) := (aw_eq g 134 4 _ _ _ _).trans (by rw [tq134_4]; exact rfl)
theorem tq134_7 : tT g 134 7 = s_vret := rfl
theorem A134_7 {L : AL} : aw g 134 7 L [] σ Q = Q (.inl none) σ := (aw_eq g 134 7 _ _ _ _).trans (by rw [tq134_7]; exact rfl)
theorem tq135_0 : tT g 135 0 = s_load vRf 135 1 0 := rfl
theorem A135_0 {l1 : Option Value} {l2 : Option Value} {l3 : Option Value} {x : Value} {r : List Value} : aw g 135 0 [some (x), l1, l2, l3] r σ Q = (vRf x = true ∧ aw g 135 1 [some (x), l1, l2, l3] (x :: r) σ Q) := (aw_eq g 135 0 _ _ _ _).trans (by rw [tq135_0]; exact h_load rfl)
theorem tq135_1 : tT g 135 1 = s_load vRf 135 2 1 := rfl
theorem A135_1 {l0 : Option Value} {l2 : Option Value} {l3 : Option Value} {x : Value} {r : List Value} : aw g 135 1 [l0, some (x), l2, l3] r σ Q = (vRf x = true ∧ aw g 135 2 [l0, some (x), l2, l3] (x :: r) σ Q) := (aw_eq g 135 1 _ _ _ _).trans (by rw [tq135_1]; exact h_load rfl)
theorem tq135_2 : tT g 135 2 = s_putf g pR 135 5 2 0 := rfl
theorem A135_2 {L : AL} {r : List Value} {a : Nat} {v : Value} : aw g 135 2 L (v :: .ref a :: r) σ Q = (hty σ a = some 2 ∧ gB g ≤ a ∧ pR v ∧ aw g 135 5 L r (hput σ 2 a 0 v) Q) := (aw_eq g 135 2 _ _ _ _).trans (by rw [tq135_2]; exact rfl)
theorem tq135_5 : tT g 135 5 = s_load vRf 135 6 0 := rfl
theorem A135_5 {l1 : Option Value} {l2 : Option Value} {l3 : Option Value} {x : Value} {r : List Value} : aw g 135 5 [some (x), l1, l2, l3] r σ Q = (vRf x = true ∧ aw g 135 6 [some (x), l1, l2, l3] (x :: r) σ Q) := (aw_eq g 135 5 _ _ _ _).trans (by rw [tq135_5]; exact h_load rfl)
theorem tq135_6 : tT g 135 6 = s_load vI 135 7 2 := rfl
theorem A135_6 {l0 : Option Value} {l1 : Option Value} {l3 : Option Value} {x : Int32} {r : List Value} : aw g 135 6 [l0, l1, some (.int x), l3] r σ Q = aw g 135 7 [l0, l1, some (.int x), l3] (.int x :: r) σ Q := (aw_eq g 135 6 _ _ _ _).trans (by rw [tq135_6]; exact (h_load rfl).trans (propext ⟨fun z => z.2, fun z => ⟨rfl, z⟩⟩))
theorem tq135_7 : tT g 135 7 = s_putf g pI 135 10 2 1 := rfl
theorem A135_7 {L : AL} {r : List Value} {a : Nat} {v : Value} : aw g 135 7 L (v :: .ref a :: r) σ Q = (hty σ a = some 2 ∧ gB g ≤ a ∧ pI v ∧ aw g 135 10 L r (hput σ 2 a 1 v) Q) := (aw_eq g 135 7 _ _ _ _).trans (by rw [tq135_7]; exact rfl)
theorem tq135_10 : tT g 135 10 = s_load vRf 135 11 0 := rfl
theorem A135_10 {l1 : Option Value} {l2 : Option Value} {l3 : Option Value} {x : Value} {r : List Value} : aw g 135 10 [some (x), l1, l2, l3] r σ Q = (vRf x = true ∧ aw g 135 11 [some (x), l1, l2, l3] (x :: r) σ Q) := (aw_eq g 135 10 _ _ _ _).trans (by rw [tq135_10]; exact h_load rfl)
theorem tq135_11 : tT g 135 11 = s_load vI 135 12 3 := rfl
theorem A135_11 {l0 : Option Value} {l1 : Option Value} {l2 : Option Value} {x : Int32} {r : List Value} : aw g 135 11 [l0, l1, l2, some (.int x)] r σ Q = aw g 135 12 [l0, l1, l2, some (.int x)] (.int x :: r) σ Q := (aw_eq g 135 11 _ _ _ _).trans (by rw [tq135_11]; exact (h_load rfl).trans (propext ⟨fun z => z.2, fun z => ⟨rfl, z⟩⟩))
theorem tq135_12 : tT g 135 12 = s_putf g pI 135 15 2 2 := rfl
theorem A135_12 {L : AL} {r : List Value} {a : Nat} {v : Value} : aw g 135 12 L (v :: .ref a :: r) σ Q = (hty σ a = some 2 ∧ gB g ≤ a ∧ pI v ∧ aw g 135 15 L r (hput σ 2 a 2 v) Q) := (aw_eq g 135 12 _ _ _ _).trans (by rw [tq135_12]; exact rfl)
theorem tq135_15 : tT g 135 15 = s_vret := rfl
theorem A135_15 {L : AL} : aw g 135 15 L [] σ Q = Q (.inl none) σ := (aw_eq g 135 15 _ _ _ _).trans (by rw [tq135_15]; exact rfl)
theorem tq136_0 : tT g 136 0 = s_load vRf 136 1 0 := rfl
theorem A136_0  {x : Value} {r : List Value} : aw g 136 0 [some (x)] r σ Q = (vRf x = true ∧ aw g 136 1 [some (x)] (x :: r) σ Q) := (aw_eq g 136 0 _ _ _ _).trans (by rw [tq136_0]; exact h_load rfl)
theorem tq136_1 : tT g 136 1 = s_oinit 136 4 := rfl
theorem A136_1 {L : AL} {r : List Value} {a : Nat} : aw g 136 1 L (.ref a :: r) σ Q = (csum r ≤ 8 ∧ aw g 136 4 L r σ Q) := (aw_eq g 136 1 _ _ _ _).trans (by rw [tq136_1]; exact rfl)
theorem tq136_4 : tT g 136 4 = s_load vRf 136 5 0 := rfl
theorem A136_4  {x : Value} {r : List Value} : aw g 136 4 [some (x)] r σ Q = (vRf x = true ∧ aw g 136 5 [some (x)] (x :: r) σ Q) := (aw_eq g 136 4 _ _ _ _).trans (by rw [tq136_4]; exact h_load rfl)
theorem tq136_5 : tT g 136 5 = s_const 136 6 (.int (-1)) := rfl
theorem A136_5 {L : AL} {r : List Value} : aw g 136 5 L r σ Q = aw g 136 6 L (.int (-1) :: r) σ Q := (aw_eq g 136 5 _ _ _ _).trans (by rw [tq136_5]; exact rfl)
theorem tq136_6 : tT g 136 6 = s_putf g pI 136 9 2 1 := rfl
theorem A136_6 {L : AL} {r : List Value} {a : Nat} {v : Value} : aw g 136 6 L (v :: .ref a :: r) σ Q = (hty σ a = some 2 ∧ gB g ≤ a ∧ pI v ∧ aw g 136 9 L r (hput σ 2 a 1 v) Q) := (aw_eq g 136 6 _ _ _ _).trans (by rw [tq136_6]; exact rfl)
theorem tq136_9 : tT g 136 9 = s_load vRf 136 10 0 := rfl
theorem A136_9  {x : Value} {r : List Value} : aw g 136 9 [some (x)] r σ Q = (vRf x = true ∧ aw g 136 10 [some (x)] (x :: r) σ Q) := (aw_eq g 136 9 _ _ _ _).trans (by rw [tq136_9]; exact h_load rfl)
theorem tq136_10 : tT g 136 10 = s_const 136 11 (.int (-1)) := rfl
theorem A136_10 {L : AL} {r : List Value} : aw g 136 10 L r σ Q = aw g 136 11 L (.int (-1) :: r) σ Q := (aw_eq g 136 10 _ _ _ _).trans (by rw [tq136_10]; exact rfl)
theorem tq136_11 : tT g 136 11 = s_putf g pI 136 14 2 2 := rfl
theorem A136_11 {L : AL} {r : List Value} {a : Nat} {v : Value} : aw g 136 11 L (v :: .ref a :: r) σ Q = (hty σ a = some 2 ∧ gB g ≤ a ∧ pI v ∧ aw g 136 14 L r (hput σ 2 a 2 v) Q) := (aw_eq g 136 11 _ _ _ _).trans (by rw [tq136_11]; exact rfl)
theorem tq136_14 : tT g 136 14 = s_vret := rfl
theorem A136_14 {L : AL} : aw g 136 14 L [] σ Q = Q (.inl none) σ := (aw_eq g 136 14 _ _ _ _).trans (by rw [tq136_14]; exact rfl)
theorem tq193_0 : tT g 193 0 = s_const 193 1 (.int 0) := rfl
theorem A193_0 {L : AL} {r : List Value} : aw g 193 0 L r σ Q = aw g 193 1 L (.int 0 :: r) σ Q := (aw_eq g 193 0 _ _ _ _).trans (by rw [tq193_0]; exact rfl)
theorem tq193_1 : tT g 193 1 = s_store vI 193 2 1 := rfl
theorem A193_1 {l0 : Option Value} {l1 : Option Value} {l2 : Option Value} {x : Int32} {r : List Value} : aw g 193 1 [l0, l1, l2] (.int x :: r) σ Q = (oc l0 = true ∧ aw g 193 2 [l0, some (.int x), l2] r σ Q) := (aw_eq g 193 1 _ _ _ _).trans (by rw [tq193_1]; exact (h_store (o := oc l0) rfl rfl rfl).trans (propext ⟨fun z => z.2, fun z => ⟨rfl, z⟩⟩))
theorem tq193_2 : tT g 193 2 = s_const 193 3 (.int 0) := rfl
theorem A193_2 {L : AL} {r : List Value} : aw g 193 2 L r σ Q = aw g 193 3 L (.int 0 :: r) σ Q := (aw_eq g 193 2 _ _ _ _).trans (by rw [tq193_2]; exact rfl)
theorem tq193_3 : tT g 193 3 = s_store vI 193 4 2 := rfl
theorem A193_3 {l0 : Option Value} {l1 : Option Value} {l2 : Option Value} {x : Int32} {r : List Value} : aw g 193 3 [l0, l1, l2] (.int x :: r) σ Q = (oc l1 = true ∧ aw g 193 4 [l0, l1, some (.int x)] r σ Q) := (aw_eq g 193 3 _ _ _ _).trans (by rw [tq193_3]; exact (h_store (o := oc l1) rfl rfl rfl).trans (propext ⟨fun z => z.2, fun z => ⟨rfl, z⟩⟩))
theorem tq193_4 : tT g 193 4 = s_load vRf 193 5 0 := rfl
theorem A193_4 {l1 : Option Value} {l2 : Option Value} {x : Value} {r : List Value} : aw g 193 4 [some (x), l1, l2] r σ Q = (vRf x = true ∧ aw g 193 5 [some (x), l1, l2] (x :: r) σ Q) := (aw_eq g 193 4 _ _ _ _).trans (by rw [tq193_4]; exact h_load rfl)
theorem tq193_5 : tT g 193 5 = s_callvk 193 8 194 5 [] 1 := rfl
theorem A193_5 {L : AL} {r : List Value} {a : Nat} : aw g 193 5 L (.ref a :: r) σ Q = (hty σ a = some 5 ∧ true = true ∧ csum r ≤ 8 ∧ aw g 194 0 [some (.ref a)] [] σ (kt (aw g) 193 8 L r Q)) := (aw_eq g 193 5 _ _ _ _).trans (by rw [tq193_5]; exact rfl)
theorem tq193_8 : tT g 193 8 = s_if 193 11 35 (fun a => a = 0) := rfl
theorem A193_8 {L : AL} {r : List Value} {a : Int32} : aw g 193 8 L (.int a :: r) σ Q = ((a = 0 → aw g 193 35 L r σ Q) ∧ (¬ a = 0 → aw g 193 11 L r σ Q)) := (aw_eq g 193 8 _ _ _ _).trans (by rw [tq193_8]; exact rfl)
theorem tq193_11 : tT g 193 11 = s_load vI 193 12 2 := rfl
theorem A193_11 {l0 : Option Value} {l1 : Option Value} {x : Int32} {r : List Value} : aw g 193 11 [l0, l1, some (.int x)] r σ Q = aw g 193 12 [l0, l1, some (.int x)] (.int x :: r) σ Q := (aw_eq g 193 11 _ _ _ _).trans (by rw [tq193_11]; exact (h_load rfl).trans (propext ⟨fun z => z.2, fun z => ⟨rfl, z⟩⟩))
theorem tq193_12 : tT g 193 12 = s_const 193 14 (.int 6) := rfl
theorem A193_12 {L : AL} {r : List Value} : aw g 193 12 L r σ Q = aw g 193 14 L (.int 6 :: r) σ Q := (aw_eq g 193 12 _ _ _ _).trans (by rw [tq193_12]; exact rfl)
theorem tq193_14 : tT g 193 14 = s_icmp 193 17 35 (fun a b => b ≤ a) := rfl
theorem A193_14 {L : AL} {r : List Value} {a b : Int32} : aw g 193 14 L (.int b :: .int a :: r) σ Q = ((b ≤ a → aw g 193 35 L r σ Q) ∧ (¬ b ≤ a → aw g 193 17 L r σ Q)) := (aw_eq g 193 14 _ _ _ _).trans (by rw [tq193_14]; exact rfl)
theorem tq193_17 : tT g 193 17 = s_load vI 193 18 1 := rfl
theorem A193_17 {l0 : Option Value} {l2 : Option Value} {x : Int32} {r : List Value} : aw g 193 17 [l0, some (.int x), l2] r σ Q = aw g 193 18 [l0, some (.int x), l2] (.int x :: r) σ Q := (aw_eq g 193 17 _ _ _ _).trans (by rw [tq193_17]; exact (h_load rfl).trans (propext ⟨fun z => z.2, fun z => ⟨rfl, z⟩⟩))
theorem tq193_18 : tT g 193 18 = s_load vRf 193 19 0 := rfl
theorem A193_18 {l1 : Option Value} {l2 : Option Value} {x : Value} {r : List Value} : aw g 193 18 [some (x), l1, l2] r σ Q = (vRf x = true ∧ aw g 193 19 [some (x), l1, l2] (x :: r) σ Q) := (aw_eq g 193 18 _ _ _ _).trans (by rw [tq193_18]; exact h_load rfl)
theorem tq193_19 : tT g 193 19 = s_getf 193 22 5 16 := rfl
theorem A193_19 {L : AL} {r : List Value} {a : Nat} : aw g 193 19 L (.ref a :: r) σ Q = (hty σ a = some 5 ∧ aw g 193 22 L (hv σ 5 a 16 :: r) σ Q) := (aw_eq g 193 19 _ _ _ _).trans (by rw [tq193_19]; exact rfl)
theorem tq193_22 : tT g 193 22 = s_load vI 193 23 2 := rfl
theorem A193_22 {l0 : Option Value} {l1 : Option Value} {x : Int32} {r : List Value} : aw g 193 22 [l0, l1, some (.int x)] r σ Q = aw g 193 23 [l0, l1, some (.int x)] (.int x :: r) σ Q := (aw_eq g 193 22 _ _ _ _).trans (by rw [tq193_22]; exact (h_load rfl).trans (propext ⟨fun z => z.2, fun z => ⟨rfl, z⟩⟩))
theorem tq193_23 : tT g 193 23 = s_ald 193 24 21 := rfl
theorem A193_23 {L : AL} {r : List Value} {a : Nat} {i : Int32} : aw g 193 23 L (.int i :: .ref a :: r) σ Q = (hty σ a = some 21 ∧ ¬ i < 0 ∧ i.toNatClampNeg < hln σ a ∧ aw g 193 24 L (hv σ 21 a i.toNatClampNeg :: r) σ Q) := (aw_eq g 193 23 _ _ _ _).trans (by rw [tq193_23]; exact rfl)
theorem tq193_24 : tT g 193 24 = s_callk 193 27 61 [0] 1 := rfl
theorem A193_24 {L : AL} {r : List Value} {w0 : Value} : aw g 193 24 L (w0 :: r) σ Q = ((vI w0 && true) = true ∧ csum r ≤ 8 ∧ aw g 61 0 [some w0] [] σ (kt (aw g) 193 27 L r Q)) := (aw_eq g 193 24 _ _ _ _).trans (by rw [tq193_24]; exact rfl)
theorem tq193_27 : tT g 193 27 = s_bin 193 28 (fun a b => a + b) := rfl
theorem A193_27 {L : AL} {r : List Value} {a b : Int32} : aw g 193 27 L (.int b :: .int a :: r) σ Q = aw g 193 28 L (.int (a + b) :: r) σ Q := (aw_eq g 193 27 _ _ _ _).trans (by rw [tq193_27]; exact rfl)
theorem tq193_28 : tT g 193 28 = s_store vI 193 29 1 := rfl
theorem A193_28 {l0 : Option Value} {l1 : Option Value} {l2 : Option Value} {x : Int32} {r : List Value} : aw g 193 28 [l0, l1, l2] (.int x :: r) σ Q = (oc l0 = true ∧ aw g 193 29 [l0, some (.int x), l2] r σ Q) := (aw_eq g 193 28 _ _ _ _).trans (by rw [tq193_28]; exact (h_store (o := oc l0) rfl rfl rfl).trans (propext ⟨fun z => z.2, fun z => ⟨rfl, z⟩⟩))
theorem tq193_29 : tT g 193 29 = s_iinc 193 32 2 1 := rfl
theorem A193_29 {l0 : Option Value} {l1 : Option Value} {x : Int32} {r : List Value} : aw g 193 29 [l0, l1, some (.int x)] r σ Q = (oc l1 = true ∧ aw g 193 32 [l0, l1, some (.int (x + 1))] r σ Q) := (aw_eq g 193 29 _ _ _ _).trans (by rw [tq193_29]; exact (h_iinc (o := oc l1) rfl rfl rfl))
theorem tq193_32 : tT g 193 32 = s_goto 193 4 := rfl
theorem A193_32 {L : AL} {r : List Value} : aw g 193 32 L r σ Q = aw g 193 4 L r σ Q := (aw_eq g 193 32 _ _ _ _).trans (by rw [tq193_32]; exact rfl)
theorem tq193_35 : tT g 193 35 = s_load vRf 193 36 0 := rfl
theorem A193_35 {l1 : Option Value} {l2 : Option Value} {x : Value} {r : List Value} : aw g 193 35 [some (x), l1, l2] r σ Q = (vRf x = true ∧ aw g 193 36 [some (x), l1, l2] (x :: r) σ Q) := (aw_eq g 193 35 _ _ _ _).trans (by rw [tq193_35]; exact h_load rfl)
theorem tq193_36 : tT g 193 36 = s_callvk 193 39 194 5 [] 1 := rfl
theorem A193_36 {L : AL} {r : List Value} {a : Nat} : aw g 193 36 L (.ref a :: r) σ Q = (hty σ a = some 5 ∧ true = true ∧ csum r ≤ 8 ∧ aw g 194 0 [some (.ref a)] [] σ (kt (aw g) 193 39 L r Q)) := (aw_eq g 193 36 _ _ _ _).trans (by rw [tq193_36]; exact rfl)
theorem tq193_39 : tT g 193 39 = s_if 193 42 46 (fun a => a = 0) := rfl
theorem A193_39 {L : AL} {r : List Value} {a : Int32} : aw g 193 39 L (.int a :: r) σ Q = ((a = 0 → aw g 193 46 L r σ Q) ∧ (¬ a = 0 → aw g 193 42 L r σ Q)) := (aw_eq g 193 39 _ _ _ _).trans (by rw [tq193_39]; exact rfl)
theorem tq193_42 : tT g 193 42 = s_load vI 193 43 1 := rfl
theorem A193_42 {l0 : Option Value} {l2 : Option Value} {x : Int32} {r : List Value} : aw g 193 42 [l0, some (.int x), l2] r σ Q = aw g 193 43 [l0, some (.int x), l2] (.int x :: r) σ Q := (aw_eq g 193 42 _ _ _ _).trans (by rw [tq193_42]; exact (h_load rfl).trans (propext ⟨fun z => z.2, fun z => ⟨rfl, z⟩⟩))
theorem tq193_43 : tT g 193 43 = s_goto 193 47 := rfl
theorem A193_43 {L : AL} {r : List Value} : aw g 193 43 L r σ Q = aw g 193 47 L r σ Q := (aw_eq g 193 43 _ _ _ _).trans (by rw [tq193_43]; exact rfl)
theorem tq193_46 : tT g 193 46 = s_const 193 47 (.int (-1)) := rfl
theorem A193_46 {L : AL} {r : List Value} : aw g 193 46 L r σ Q = aw g 193 47 L (.int (-1) :: r) σ Q := (aw_eq g 193 46 _ _ _ _).trans (by rw [tq193_46]; exact rfl)
theorem tq193_47 : tT g 193 47 = s_ret pI := rfl
theorem A193_47 {L : AL} {v : Value} : aw g 193 47 L [v] σ Q = (pI v ∧ Q (.inl (some v)) σ) := (aw_eq g 193 47 _ _ _ _).trans (by rw [tq193_47]; exact rfl)
theorem tq194_0 : tT g 194 0 = s_load vRf 194 1 0 := rfl
theorem A194_0  {x : Value} {r : List Value} : aw g 194 0 [some (x)] r σ Q = (vRf x = true ∧ aw g 194 1 [some (x)] (x :: r) σ Q) := (aw_eq g 194 0 _ _ _ _).trans (by rw [tq194_0]; exact h_load rfl)
theorem tq194_1 : tT g 194 1 = s_getf 194 4 5 16 := rfl
theorem A194_1 {L : AL} {r : List Value} {a : Nat} : aw g 194 1 L (.ref a :: r) σ Q = (hty σ a = some 5 ∧ aw g 194 4 L (hv σ 5 a 16 :: r) σ Q) := (aw_eq g 194 1 _ _ _ _).trans (by rw [tq194_1]; exact rfl)
theorem tq194_4 : tT g 194 4 = s_ifnull 194 7 11 := rfl
theorem A194_4 {L : AL} {r : List Value} {a : Value} : aw g 194 4 L (a :: r) σ Q = (vRf a = true ∧ (a = .null → aw g 194 11 L r σ Q) ∧ (a ≠ .null → aw g 194 7 L r σ Q)) := (aw_eq g 194 4 _ _ _ _).trans (by rw [tq194_4]; exact rfl)
theorem tq194_7 : tT g 194 7 = s_const 194 8 (.int 1) := rfl
theorem A194_7 {L : AL} {r : List Value} : aw g 194 7 L r σ Q = aw g 194 8 L (.int 1 :: r) σ Q := (aw_eq g 194 7 _ _ _ _).trans (by rw [tq194_7]; exact rfl)
theorem tq194_8 : tT g 194 8 = s_goto 194 12 := rfl
theorem A194_8 {L : AL} {r : List Value} : aw g 194 8 L r σ Q = aw g 194 12 L r σ Q := (aw_eq g 194 8 _ _ _ _).trans (by rw [tq194_8]; exact rfl)
theorem tq194_11 : tT g 194 11 = s_const 194 12 (.int 0) := rfl
theorem A194_11 {L : AL} {r : List Value} : aw g 194 11 L r σ Q = aw g 194 12 L (.int 0 :: r) σ Q := (aw_eq g 194 11 _ _ _ _).trans (by rw [tq194_11]; exact rfl)
theorem tq194_12 : tT g 194 12 = s_ret vZ := rfl
theorem A194_12 {L : AL} {v : Value} : aw g 194 12 L [v] σ Q = (vZ v ∧ Q (.inl (some v)) σ) := (aw_eq g 194 12 _ _ _ _).trans (by rw [tq194_12]; exact rfl)
theorem tq195_0 : tT g 195 0 = s_new g 195 3 5 22 (fun k => defaultValue (tyX6 k)) := rfl
theorem A195_0 {L : AL} {r : List Value} : aw g 195 0 L r σ Q = (hsz σ + 1 ≤ gC g ∧ hsl σ + 22 ≤ gS g ∧ aw g 195 3 L (.ref (hsz σ) :: r) (hnew σ 5 0 (fun k => defaultValue (tyX6 k)) 22) Q) := (aw_eq g 195 0 _ _ _ _).trans (by rw [tq195_0]; exact rfl)
theorem tq195_3 : tT g 195 3 = s_dup 195 4 := rfl
theorem A195_3 {L : AL} {r : List Value} {v : Value} : aw g 195 3 L (v :: r) σ Q = (v.category = 1 ∧ aw g 195 4 L (v :: v :: r) σ Q) := (aw_eq g 195 3 _ _ _ _).trans (by rw [tq195_3]; exact rfl)
theorem tq195_4 : tT g 195 4 = s_load vRf 195 5 0 := rfl
theorem A195_4 {l1 : Option Value} {x : Value} {r : List Value} : aw g 195 4 [some (x), l1] r σ Q = (vRf x = true ∧ aw g 195 5 [some (x), l1] (x :: r) σ Q) := (aw_eq g 195 4 _ _ _ _).trans (by rw [tq195_4]; exact h_load rfl)
theorem tq195_5 : tT g 195 5 = s_getf 195 8 5 0 := rfl
theorem A195_5 {L : AL} {r : List Value} {a : Nat} : aw g 195 5 L (.ref a :: r) σ Q = (hty σ a = some 5 ∧ aw g 195 8 L (hv σ 5 a 0 :: r) σ Q) := (aw_eq g 195 5 _ _ _ _).trans (by rw [tq195_5]; exact rfl)
theorem tq195_8 : tT g 195 8 = s_load vRf 195 9 0 := rfl
theorem A195_8 {l1 : Option Value} {x : Value} {r : List Value} : aw g 195 8 [some (x), l1] r σ Q = (vRf x = true ∧ aw g 195 9 [some (x), l1] (x :: r) σ Q) := (aw_eq g 195 8 _ _ _ _).trans (by rw [tq195_8]; exact h_load rfl)
theorem tq195_9 : tT g 195 9 = s_getf 195 12 5 1 := rfl
theorem A195_9 {L : AL} {r : List Value} {a : Nat} : aw g 195 9 L (.ref a :: r) σ Q = (hty σ a = some 5 ∧ aw g 195 12 L (hv σ 5 a 1 :: r) σ Q) := (aw_eq g 195 9 _ _ _ _).trans (by rw [tq195_9]; exact rfl)
theorem tq195_12 : tT g 195 12 = s_callik 195 15 196 [0, 0] 3 := rfl
theorem A195_12 {L : AL} {r : List Value} {a : Nat} {w0 w1 : Value} : aw g 195 12 L (w1 :: w0 :: .ref a :: r) σ Q = ((vI w0 && (vI w1 && true)) = true ∧ csum r ≤ 8 ∧ aw g 196 0 [some (.ref a), some w0, some w1] [] σ (kt (aw g) 195 15 L r Q)) := (aw_eq g 195 12 _ _ _ _).trans (by rw [tq195_12]; exact rfl)
theorem tq195_15 : tT g 195 15 = s_store vRf 195 16 1 := rfl
theorem A195_15 {l0 : Option Value} {l1 : Option Value} {x : Value} {r : List Value} : aw g 195 15 [l0, l1] (x :: r) σ Q = (vRf x = true ∧ oc l0 = true ∧ aw g 195 16 [l0, some (x)] r σ Q) := (aw_eq g 195 15 _ _ _ _).trans (by rw [tq195_15]; exact (h_store (o := oc l0) rfl rfl rfl))
theorem tq195_16 : tT g 195 16 = s_load vRf 195 17 1 := rfl
theorem A195_16 {l0 : Option Value} {x : Value} {r : List Value} : aw g 195 16 [l0, some (x)] r σ Q = (vRf x = true ∧ aw g 195 17 [l0, some (x)] (x :: r) σ Q) := (aw_eq g 195 16 _ _ _ _).trans (by rw [tq195_16]; exact h_load rfl)
theorem tq195_17 : tT g 195 17 = s_load vRf 195 18 0 := rfl
theorem A195_17 {l1 : Option Value} {x : Value} {r : List Value} : aw g 195 17 [some (x), l1] r σ Q = (vRf x = true ∧ aw g 195 18 [some (x), l1] (x :: r) σ Q) := (aw_eq g 195 17 _ _ _ _).trans (by rw [tq195_17]; exact h_load rfl)
theorem tq195_18 : tT g 195 18 = s_getf 195 21 5 2 := rfl
theorem A195_18 {L : AL} {r : List Value} {a : Nat} : aw g 195 18 L (.ref a :: r) σ Q = (hty σ a = some 5 ∧ aw g 195 21 L (hv σ 5 a 2 :: r) σ Q) := (aw_eq g 195 18 _ _ _ _).trans (by rw [tq195_18]; exact rfl)
theorem tq195_21 : tT g 195 21 = s_callvk 195 24 201 6 [] 2 := rfl
theorem A195_21 {L : AL} {r : List Value} {a : Nat} : aw g 195 21 L (.ref a :: r) σ Q = (hty σ a = some 6 ∧ true = true ∧ csum r ≤ 8 ∧ aw g 201 0 [some (.ref a), none] [] σ (kt (aw g) 195 24 L r Q)) := (aw_eq g 195 21 _ _ _ _).trans (by rw [tq195_21]; exact rfl)
theorem tq195_24 : tT g 195 24 = s_putf g pR 195 27 5 2 := rfl
theorem A195_24 {L : AL} {r : List Value} {a : Nat} {v : Value} : aw g 195 24 L (v :: .ref a :: r) σ Q = (hty σ a = some 5 ∧ gB g ≤ a ∧ pR v ∧ aw g 195 27 L r (hput σ 5 a 2 v) Q) := (aw_eq g 195 24 _ _ _ _).trans (by rw [tq195_24]; exact rfl)
theorem tq195_27 : tT g 195 27 = s_load vRf 195 28 1 := rfl
theorem A195_27 {l0 : Option Value} {x : Value} {r : List Value} : aw g 195 27 [l0, some (x)] r σ Q = (vRf x = true ∧ aw g 195 28 [l0, some (x)] (x :: r) σ Q) := (aw_eq g 195 27 _ _ _ _).trans (by rw [tq195_27]; exact h_load rfl)
theorem tq195_28 : tT g 195 28 = s_load vRf 195 29 0 := rfl
theorem A195_28 {l1 : Option Value} {x : Value} {r : List Value} : aw g 195 28 [some (x), l1] r σ Q = (vRf x = true ∧ aw g 195 29 [some (x), l1] (x :: r) σ Q) := (aw_eq g 195 28 _ _ _ _).trans (by rw [tq195_28]; exact h_load rfl)
theorem tq195_29 : tT g 195 29 = s_getf 195 32 5 3 := rfl
theorem A195_29 {L : AL} {r : List Value} {a : Nat} : aw g 195 29 L (.ref a :: r) σ Q = (hty σ a = some 5 ∧ aw g 195 32 L (hv σ 5 a 3 :: r) σ Q) := (aw_eq g 195 29 _ _ _ _).trans (by rw [tq195_29]; exact rfl)
theorem tq195_32 : tT g 195 32 = s_putf g pI 195 35 5 3 := rfl
theorem A195_32 {L : AL} {r : List Value} {a : Nat} {v : Value} : aw g 195 32 L (v :: .ref a :: r) σ Q = (hty σ a = some 5 ∧ gB g ≤ a ∧ pI v ∧ aw g 195 35 L r (hput σ 5 a 3 v) Q) := (aw_eq g 195 32 _ _ _ _).trans (by rw [tq195_32]; exact rfl)
theorem tq195_35 : tT g 195 35 = s_load vRf 195 36 1 := rfl
theorem A195_35 {l0 : Option Value} {x : Value} {r : List Value} : aw g 195 35 [l0, some (x)] r σ Q = (vRf x = true ∧ aw g 195 36 [l0, some (x)] (x :: r) σ Q) := (aw_eq g 195 35 _ _ _ _).trans (by rw [tq195_35]; exact h_load rfl)
theorem tq195_36 : tT g 195 36 = s_load vRf 195 37 0 := rfl
theorem A195_36 {l1 : Option Value} {x : Value} {r : List Value} : aw g 195 36 [some (x), l1] r σ Q = (vRf x = true ∧ aw g 195 37 [some (x), l1] (x :: r) σ Q) := (aw_eq g 195 36 _ _ _ _).trans (by rw [tq195_36]; exact h_load rfl)
theorem tq195_37 : tT g 195 37 = s_getf 195 40 5 4 := rfl
theorem A195_37 {L : AL} {r : List Value} {a : Nat} : aw g 195 37 L (.ref a :: r) σ Q = (hty σ a = some 5 ∧ aw g 195 40 L (hv σ 5 a 4 :: r) σ Q) := (aw_eq g 195 37 _ _ _ _).trans (by rw [tq195_37]; exact rfl)
theorem tq195_40 : tT g 195 40 = s_putf g pI 195 43 5 4 := rfl
theorem A195_40 {L : AL} {r : List Value} {a : Nat} {v : Value} : aw g 195 40 L (v :: .ref a :: r) σ Q = (hty σ a = some 5 ∧ gB g ≤ a ∧ pI v ∧ aw g 195 43 L r (hput σ 5 a 4 v) Q) := (aw_eq g 195 40 _ _ _ _).trans (by rw [tq195_40]; exact rfl)
theorem tq195_43 : tT g 195 43 = s_load vRf 195 44 1 := rfl
theorem A195_43 {l0 : Option Value} {x : Value} {r : List Value} : aw g 195 43 [l0, some (x)] r σ Q = (vRf x = true ∧ aw g 195 44 [l0, some (x)] (x :: r) σ Q) := (aw_eq g 195 43 _ _ _ _).trans (by rw [tq195_43]; exact h_load rfl)
theorem tq195_44 : tT g 195 44 = s_load vRf 195 45 0 := rfl
theorem A195_44 {l1 : Option Value} {x : Value} {r : List Value} : aw g 195 44 [some (x), l1] r σ Q = (vRf x = true ∧ aw g 195 45 [some (x), l1] (x :: r) σ Q) := (aw_eq g 195 44 _ _ _ _).trans (by rw [tq195_44]; exact h_load rfl)
theorem tq195_45 : tT g 195 45 = s_getf 195 48 5 5 := rfl
theorem A195_45 {L : AL} {r : List Value} {a : Nat} : aw g 195 45 L (.ref a :: r) σ Q = (hty σ a = some 5 ∧ aw g 195 48 L (hv σ 5 a 5 :: r) σ Q) := (aw_eq g 195 45 _ _ _ _).trans (by rw [tq195_45]; exact rfl)
theorem tq195_48 : tT g 195 48 = s_putf g vZ 195 51 5 5 := rfl
theorem A195_48 {L : AL} {r : List Value} {a : Nat} {v : Value} : aw g 195 48 L (v :: .ref a :: r) σ Q = (hty σ a = some 5 ∧ gB g ≤ a ∧ vZ v ∧ aw g 195 51 L r (hput σ 5 a 5 v) Q) := (aw_eq g 195 48 _ _ _ _).trans (by rw [tq195_48]; exact rfl)
theorem tq195_51 : tT g 195 51 = s_load vRf 195 52 1 := rfl
theorem A195_51 {l0 : Option Value} {x : Value} {r : List Value} : aw g 195 51 [l0, some (x)] r σ Q = (vRf x = true ∧ aw g 195 52 [l0, some (x)] (x :: r) σ Q) := (aw_eq g 195 51 _ _ _ _).trans (by rw [tq195_51]; exact h_load rfl)
theorem tq195_52 : tT g 195 52 = s_load vRf 195 53 0 := rfl
theorem A195_52 {l1 : Option Value} {x : Value} {r : List Value} : aw g 195 52 [some (x), l1] r σ Q = (vRf x = true ∧ aw g 195 53 [some (x), l1] (x :: r) σ Q) := (aw_eq g 195 52 _ _ _ _).trans (by rw [tq195_52]; exact h_load rfl)
theorem tq195_53 : tT g 195 53 = s_getf 195 56 5 6 := rfl
theorem A195_53 {L : AL} {r : List Value} {a : Nat} : aw g 195 53 L (.ref a :: r) σ Q = (hty σ a = some 5 ∧ aw g 195 56 L (hv σ 5 a 6 :: r) σ Q) := (aw_eq g 195 53 _ _ _ _).trans (by rw [tq195_53]; exact rfl)
theorem tq195_56 : tT g 195 56 = s_putf g pI 195 59 5 6 := rfl
theorem A195_56 {L : AL} {r : List Value} {a : Nat} {v : Value} : aw g 195 56 L (v :: .ref a :: r) σ Q = (hty σ a = some 5 ∧ gB g ≤ a ∧ pI v ∧ aw g 195 59 L r (hput σ 5 a 6 v) Q) := (aw_eq g 195 56 _ _ _ _).trans (by rw [tq195_56]; exact rfl)
theorem tq195_59 : tT g 195 59 = s_load vRf 195 60 1 := rfl
theorem A195_59 {l0 : Option Value} {x : Value} {r : List Value} : aw g 195 59 [l0, some (x)] r σ Q = (vRf x = true ∧ aw g 195 60 [l0, some (x)] (x :: r) σ Q) := (aw_eq g 195 59 _ _ _ _).trans (by rw [tq195_59]; exact h_load rfl)
theorem tq195_60 : tT g 195 60 = s_load vRf 195 61 0 := rfl
theorem A195_60 {l1 : Option Value} {x : Value} {r : List Value} : aw g 195 60 [some (x), l1] r σ Q = (vRf x = true ∧ aw g 195 61 [some (x), l1] (x :: r) σ Q) := (aw_eq g 195 60 _ _ _ _).trans (by rw [tq195_60]; exact h_load rfl)
theorem tq195_61 : tT g 195 61 = s_getf 195 64 5 7 := rfl
theorem A195_61 {L : AL} {r : List Value} {a : Nat} : aw g 195 61 L (.ref a :: r) σ Q = (hty σ a = some 5 ∧ aw g 195 64 L (hv σ 5 a 7 :: r) σ Q) := (aw_eq g 195 61 _ _ _ _).trans (by rw [tq195_61]; exact rfl)
theorem tq195_64 : tT g 195 64 = s_putf g pI 195 67 5 7 := rfl
theorem A195_64 {L : AL} {r : List Value} {a : Nat} {v : Value} : aw g 195 64 L (v :: .ref a :: r) σ Q = (hty σ a = some 5 ∧ gB g ≤ a ∧ pI v ∧ aw g 195 67 L r (hput σ 5 a 7 v) Q) := (aw_eq g 195 64 _ _ _ _).trans (by rw [tq195_64]; exact rfl)
theorem tq195_67 : tT g 195 67 = s_load vRf 195 68 1 := rfl
theorem A195_67 {l0 : Option Value} {x : Value} {r : List Value} : aw g 195 67 [l0, some (x)] r σ Q = (vRf x = true ∧ aw g 195 68 [l0, some (x)] (x :: r) σ Q) := (aw_eq g 195 67 _ _ _ _).trans (by rw [tq195_67]; exact h_load rfl)
theorem tq195_68 : tT g 195 68 = s_load vRf 195 69 0 := rfl
theorem A195_68 {l1 : Option Value} {x : Value} {r : List Value} : aw g 195 68 [some (x), l1] r σ Q = (vRf x = true ∧ aw g 195 69 [some (x), l1] (x :: r) σ Q) := (aw_eq g 195 68 _ _ _ _).trans (by rw [tq195_68]; exact h_load rfl)
theorem tq195_69 : tT g 195 69 = s_getf 195 72 5 8 := rfl
theorem A195_69 {L : AL} {r : List Value} {a : Nat} : aw g 195 69 L (.ref a :: r) σ Q = (hty σ a = some 5 ∧ aw g 195 72 L (hv σ 5 a 8 :: r) σ Q) := (aw_eq g 195 69 _ _ _ _).trans (by rw [tq195_69]; exact rfl)
theorem tq195_72 : tT g 195 72 = s_putf g pI 195 75 5 8 := rfl
theorem A195_72 {L : AL} {r : List Value} {a : Nat} {v : Value} : aw g 195 72 L (v :: .ref a :: r) σ Q = (hty σ a = some 5 ∧ gB g ≤ a ∧ pI v ∧ aw g 195 75 L r (hput σ 5 a 8 v) Q) := (aw_eq g 195 72 _ _ _ _).trans (by rw [tq195_72]; exact rfl)
theorem tq195_75 : tT g 195 75 = s_load vRf 195 76 1 := rfl
theorem A195_75 {l0 : Option Value} {x : Value} {r : List Value} : aw g 195 75 [l0, some (x)] r σ Q = (vRf x = true ∧ aw g 195 76 [l0, some (x)] (x :: r) σ Q) := (aw_eq g 195 75 _ _ _ _).trans (by rw [tq195_75]; exact h_load rfl)
theorem tq195_76 : tT g 195 76 = s_load vRf 195 77 0 := rfl
theorem A195_76 {l1 : Option Value} {x : Value} {r : List Value} : aw g 195 76 [some (x), l1] r σ Q = (vRf x = true ∧ aw g 195 77 [some (x), l1] (x :: r) σ Q) := (aw_eq g 195 76 _ _ _ _).trans (by rw [tq195_76]; exact h_load rfl)
theorem tq195_77 : tT g 195 77 = s_getf 195 80 5 9 := rfl
theorem A195_77 {L : AL} {r : List Value} {a : Nat} : aw g 195 77 L (.ref a :: r) σ Q = (hty σ a = some 5 ∧ aw g 195 80 L (hv σ 5 a 9 :: r) σ Q) := (aw_eq g 195 77 _ _ _ _).trans (by rw [tq195_77]; exact rfl)
theorem tq195_80 : tT g 195 80 = s_putf g pI 195 83 5 9 := rfl
theorem A195_80 {L : AL} {r : List Value} {a : Nat} {v : Value} : aw g 195 80 L (v :: .ref a :: r) σ Q = (hty σ a = some 5 ∧ gB g ≤ a ∧ pI v ∧ aw g 195 83 L r (hput σ 5 a 9 v) Q) := (aw_eq g 195 80 _ _ _ _).trans (by rw [tq195_80]; exact rfl)
theorem tq195_83 : tT g 195 83 = s_load vRf 195 84 1 := rfl
theorem A195_83 {l0 : Option Value} {x : Value} {r : List Value} : aw g 195 83 [l0, some (x)] r σ Q = (vRf x = true ∧ aw g 195 84 [l0, some (x)] (x :: r) σ Q) := (aw_eq g 195 83 _ _ _ _).trans (by rw [tq195_83]; exact h_load rfl)
theorem tq195_84 : tT g 195 84 = s_load vRf 195 85 0 := rfl
theorem A195_84 {l1 : Option Value} {x : Value} {r : List Value} : aw g 195 84 [some (x), l1] r σ Q = (vRf x = true ∧ aw g 195 85 [some (x), l1] (x :: r) σ Q) := (aw_eq g 195 84 _ _ _ _).trans (by rw [tq195_84]; exact h_load rfl)
theorem tq195_85 : tT g 195 85 = s_getf 195 88 5 10 := rfl
theorem A195_85 {L : AL} {r : List Value} {a : Nat} : aw g 195 85 L (.ref a :: r) σ Q = (hty σ a = some 5 ∧ aw g 195 88 L (hv σ 5 a 10 :: r) σ Q) := (aw_eq g 195 85 _ _ _ _).trans (by rw [tq195_85]; exact rfl)
theorem tq195_88 : tT g 195 88 = s_putf g pI 195 91 5 10 := rfl
theorem A195_88 {L : AL} {r : List Value} {a : Nat} {v : Value} : aw g 195 88 L (v :: .ref a :: r) σ Q = (hty σ a = some 5 ∧ gB g ≤ a ∧ pI v ∧ aw g 195 91 L r (hput σ 5 a 10 v) Q) := (aw_eq g 195 88 _ _ _ _).trans (by rw [tq195_88]; exact rfl)
theorem tq195_91 : tT g 195 91 = s_load vRf 195 92 1 := rfl
theorem A195_91 {l0 : Option Value} {x : Value} {r : List Value} : aw g 195 91 [l0, some (x)] r σ Q = (vRf x = true ∧ aw g 195 92 [l0, some (x)] (x :: r) σ Q) := (aw_eq g 195 91 _ _ _ _).trans (by rw [tq195_91]; exact h_load rfl)
theorem tq195_92 : tT g 195 92 = s_load vRf 195 93 0 := rfl
theorem A195_92 {l1 : Option Value} {x : Value} {r : List Value} : aw g 195 92 [some (x), l1] r σ Q = (vRf x = true ∧ aw g 195 93 [some (x), l1] (x :: r) σ Q) := (aw_eq g 195 92 _ _ _ _).trans (by rw [tq195_92]; exact h_load rfl)
theorem tq195_93 : tT g 195 93 = s_getf 195 96 5 11 := rfl
theorem A195_93 {L : AL} {r : List Value} {a : Nat} : aw g 195 93 L (.ref a :: r) σ Q = (hty σ a = some 5 ∧ aw g 195 96 L (hv σ 5 a 11 :: r) σ Q) := (aw_eq g 195 93 _ _ _ _).trans (by rw [tq195_93]; exact rfl)
theorem tq195_96 : tT g 195 96 = s_putf g pI 195 99 5 11 := rfl
theorem A195_96 {L : AL} {r : List Value} {a : Nat} {v : Value} : aw g 195 96 L (v :: .ref a :: r) σ Q = (hty σ a = some 5 ∧ gB g ≤ a ∧ pI v ∧ aw g 195 99 L r (hput σ 5 a 11 v) Q) := (aw_eq g 195 96 _ _ _ _).trans (by rw [tq195_96]; exact rfl)
theorem tq195_99 : tT g 195 99 = s_load vRf 195 100 1 := rfl
theorem A195_99 {l0 : Option Value} {x : Value} {r : List Value} : aw g 195 99 [l0, some (x)] r σ Q = (vRf x = true ∧ aw g 195 100 [l0, some (x)] (x :: r) σ Q) := (aw_eq g 195 99 _ _ _ _).trans (by rw [tq195_99]; exact h_load rfl)
theorem tq195_100 : tT g 195 100 = s_load vRf 195 101 0 := rfl
theorem A195_100 {l1 : Option Value} {x : Value} {r : List Value} : aw g 195 100 [some (x), l1] r σ Q = (vRf x = true ∧ aw g 195 101 [some (x), l1] (x :: r) σ Q) := (aw_eq g 195 100 _ _ _ _).trans (by rw [tq195_100]; exact h_load rfl)
theorem tq195_101 : tT g 195 101 = s_getf 195 104 5 12 := rfl
theorem A195_101 {L : AL} {r : List Value} {a : Nat} : aw g 195 101 L (.ref a :: r) σ Q = (hty σ a = some 5 ∧ aw g 195 104 L (hv σ 5 a 12 :: r) σ Q) := (aw_eq g 195 101 _ _ _ _).trans (by rw [tq195_101]; exact rfl)
theorem tq195_104 : tT g 195 104 = s_putf g pI 195 107 5 12 := rfl
theorem A195_104 {L : AL} {r : List Value} {a : Nat} {v : Value} : aw g 195 104 L (v :: .ref a :: r) σ Q = (hty σ a = some 5 ∧ gB g ≤ a ∧ pI v ∧ aw g 195 107 L r (hput σ 5 a 12 v) Q) := (aw_eq g 195 104 _ _ _ _).trans (by rw [tq195_104]; exact rfl)
theorem tq195_107 : tT g 195 107 = s_load vRf 195 108 0 := rfl
theorem A195_107 {l1 : Option Value} {x : Value} {r : List Value} : aw g 195 107 [some (x), l1] r σ Q = (vRf x = true ∧ aw g 195 108 [some (x), l1] (x :: r) σ Q) := (aw_eq g 195 107 _ _ _ _).trans (by rw [tq195_107]; exact h_load rfl)
theorem tq195_108 : tT g 195 108 = s_getf 195 111 5 13 := rfl
theorem A195_108 {L : AL} {r : List Value} {a : Nat} : aw g 195 108 L (.ref a :: r) σ Q = (hty σ a = some 5 ∧ aw g 195 111 L (hv σ 5 a 13 :: r) σ Q) := (aw_eq g 195 108 _ _ _ _).trans (by rw [tq195_108]; exact rfl)
theorem tq195_111 : tT g 195 111 = s_const 195 112 (.int 0) := rfl
theorem A195_111 {L : AL} {r : List Value} : aw g 195 111 L r σ Q = aw g 195 112 L (.int 0 :: r) σ Q := (aw_eq g 195 111 _ _ _ _).trans (by rw [tq195_111]; exact rfl)
theorem tq195_112 : tT g 195 112 = s_load vRf 195 113 1 := rfl
theorem A195_112 {l0 : Option Value} {x : Value} {r : List Value} : aw g 195 112 [l0, some (x)] r σ Q = (vRf x = true ∧ aw g 195 113 [l0, some (x)] (x :: r) σ Q) := (aw_eq g 195 112 _ _ _ _).trans (by rw [tq195_112]; exact h_load rfl)
theorem tq195_113 : tT g 195 113 = s_getf 195 116 5 13 := rfl
theorem A195_113 {L : AL} {r : List Value} {a : Nat} : aw g 195 113 L (.ref a :: r) σ Q = (hty σ a = some 5 ∧ aw g 195 116 L (hv σ 5 a 13 :: r) σ Q) := (aw_eq g 195 113 _ _ _ _).trans (by rw [tq195_113]; exact rfl)
theorem tq195_116 : tT g 195 116 = s_const 195 117 (.int 0) := rfl
theorem A195_116 {L : AL} {r : List Value} : aw g 195 116 L r σ Q = aw g 195 117 L (.int 0 :: r) σ Q := (aw_eq g 195 116 _ _ _ _).trans (by rw [tq195_116]; exact rfl)
theorem tq195_117 : tT g 195 117 = s_const 195 118 (.int 5) := rfl
theorem A195_117 {L : AL} {r : List Value} : aw g 195 117 L r σ Q = aw g 195 118 L (.int 5 :: r) σ Q := (aw_eq g 195 117 _ _ _ _).trans (by rw [tq195_117]; exact rfl)
theorem tq195_118 : tT g 195 118 = s_acopy g (fun _ v => vI v = true) 195 121 20 := rfl
theorem A195_118 {L : AL} {r : List Value} {s e : Nat} {x z k : Int32} : aw g 195 118 L (.int k :: .int z :: .ref e :: .int x :: .ref s :: r) σ Q = (hty σ s = some 20 ∧ hty σ e = some 20 ∧ gB g ≤ e ∧ csum r ≤ 8 ∧ ¬ k < 0 ∧ ¬ x < 0 ∧ ¬ z < 0 ∧ x.toNatClampNeg + k.toNatClampNeg ≤ hln σ s ∧ z.toNatClampNeg + k.toNatClampNeg ≤ hln σ e ∧ (∀ i, i < k.toNatClampNeg → vI (hv σ 20 s (x.toNatClampNeg + i)) = true) ∧ aw g 195 121 L r (hcpy σ 20 s x.toNatClampNeg e z.toNatClampNeg k.toNatClampNeg) Q) := (aw_eq g 195 118 _ _ _ _).trans (by rw [tq195_118]; exact rfl)
theorem tq195_121 : tT g 195 121 = s_load vRf 195 122 0 := rfl
theorem A195_121 {l1 : Option Value} {x : Value} {r : List Value} : aw g 195 121 [some (x), l1] r σ Q = (vRf x = true ∧ aw g 195 122 [some (x), l1] (x :: r) σ Q) := (aw_eq g 195 121 _ _ _ _).trans (by rw [tq195_121]; exact h_load rfl)
theorem tq195_122 : tT g 195 122 = s_getf 195 125 5 14 := rfl
theorem A195_122 {L : AL} {r : List Value} {a : Nat} : aw g 195 122 L (.ref a :: r) σ Q = (hty σ a = some 5 ∧ aw g 195 125 L (hv σ 5 a 14 :: r) σ Q) := (aw_eq g 195 122 _ _ _ _).trans (by rw [tq195_122]; exact rfl)
theorem tq195_125 : tT g 195 125 = s_const 195 126 (.int 0) := rfl
theorem A195_125 {L : AL} {r : List Value} : aw g 195 125 L r σ Q = aw g 195 126 L (.int 0 :: r) σ Q := (aw_eq g 195 125 _ _ _ _).trans (by rw [tq195_125]; exact rfl)
theorem tq195_126 : tT g 195 126 = s_load vRf 195 127 1 := rfl
theorem A195_126 {l0 : Option Value} {x : Value} {r : List Value} : aw g 195 126 [l0, some (x)] r σ Q = (vRf x = true ∧ aw g 195 127 [l0, some (x)] (x :: r) σ Q) := (aw_eq g 195 126 _ _ _ _).trans (by rw [tq195_126]; exact h_load rfl)
theorem tq195_127 : tT g 195 127 = s_getf 195 130 5 14 := rfl
theorem A195_127 {L : AL} {r : List Value} {a : Nat} : aw g 195 127 L (.ref a :: r) σ Q = (hty σ a = some 5 ∧ aw g 195 130 L (hv σ 5 a 14 :: r) σ Q) := (aw_eq g 195 127 _ _ _ _).trans (by rw [tq195_127]; exact rfl)
theorem tq195_130 : tT g 195 130 = s_const 195 131 (.int 0) := rfl
theorem A195_130 {L : AL} {r : List Value} : aw g 195 130 L r σ Q = aw g 195 131 L (.int 0 :: r) σ Q := (aw_eq g 195 130 _ _ _ _).trans (by rw [tq195_130]; exact rfl)
theorem tq195_131 : tT g 195 131 = s_const 195 133 (.int 6) := rfl
theorem A195_131 {L : AL} {r : List Value} : aw g 195 131 L r σ Q = aw g 195 133 L (.int 6 :: r) σ Q := (aw_eq g 195 131 _ _ _ _).trans (by rw [tq195_131]; exact rfl)
theorem tq195_133 : tT g 195 133 = s_acopy g (fun _ v => vZ v) 195 136 21 := rfl
theorem A195_133 {L : AL} {r : List Value} {s e : Nat} {x z k : Int32} : aw g 195 133 L (.int k :: .int z :: .ref e :: .int x :: .ref s :: r) σ Q = (hty σ s = some 21 ∧ hty σ e = some 21 ∧ gB g ≤ e ∧ csum r ≤ 8 ∧ ¬ k < 0 ∧ ¬ x < 0 ∧ ¬ z < 0 ∧ x.toNatClampNeg + k.toNatClampNeg ≤ hln σ s ∧ z.toNatClampNeg + k.toNatClampNeg ≤ hln σ e ∧ (∀ i, i < k.toNatClampNeg → vZ (hv σ 21 s (x.toNatClampNeg + i))) ∧ aw g 195 136 L r (hcpy σ 21 s x.toNatClampNeg e z.toNatClampNeg k.toNatClampNeg) Q) := (aw_eq g 195 133 _ _ _ _).trans (by rw [tq195_133]; exact rfl)
theorem tq195_136 : tT g 195 136 = s_load vRf 195 137 0 := rfl
theorem A195_136 {l1 : Option Value} {x : Value} {r : List Value} : aw g 195 136 [some (x), l1] r σ Q = (vRf x = true ∧ aw g 195 137 [some (x), l1] (x :: r) σ Q) := (aw_eq g 195 136 _ _ _ _).trans (by rw [tq195_136]; exact h_load rfl)
theorem tq195_137 : tT g 195 137 = s_getf 195 140 5 15 := rfl
theorem A195_137 {L : AL} {r : List Value} {a : Nat} : aw g 195 137 L (.ref a :: r) σ Q = (hty σ a = some 5 ∧ aw g 195 140 L (hv σ 5 a 15 :: r) σ Q) := (aw_eq g 195 137 _ _ _ _).trans (by rw [tq195_137]; exact rfl)
theorem tq195_140 : tT g 195 140 = s_const 195 141 (.int 0) := rfl
theorem A195_140 {L : AL} {r : List Value} : aw g 195 140 L r σ Q = aw g 195 141 L (.int 0 :: r) σ Q := (aw_eq g 195 140 _ _ _ _).trans (by rw [tq195_140]; exact rfl)
theorem tq195_141 : tT g 195 141 = s_load vRf 195 142 1 := rfl
theorem A195_141 {l0 : Option Value} {x : Value} {r : List Value} : aw g 195 141 [l0, some (x)] r σ Q = (vRf x = true ∧ aw g 195 142 [l0, some (x)] (x :: r) σ Q) := (aw_eq g 195 141 _ _ _ _).trans (by rw [tq195_141]; exact h_load rfl)
theorem tq195_142 : tT g 195 142 = s_getf 195 145 5 15 := rfl
theorem A195_142 {L : AL} {r : List Value} {a : Nat} : aw g 195 142 L (.ref a :: r) σ Q = (hty σ a = some 5 ∧ aw g 195 145 L (hv σ 5 a 15 :: r) σ Q) := (aw_eq g 195 142 _ _ _ _).trans (by rw [tq195_142]; exact rfl)
theorem tq195_145 : tT g 195 145 = s_const 195 146 (.int 0) := rfl
theorem A195_145 {L : AL} {r : List Value} : aw g 195 145 L r σ Q = aw g 195 146 L (.int 0 :: r) σ Q := (aw_eq g 195 145 _ _ _ _).trans (by rw [tq195_145]; exact rfl)
theorem tq195_146 : tT g 195 146 = s_const 195 148 (.int 6) := rfl
theorem A195_146 {L : AL} {r : List Value} : aw g 195 146 L r σ Q = aw g 195 148 L (.int 6 :: r) σ Q := (aw_eq g 195 146 _ _ _ _).trans (by rw [tq195_146]; exact rfl)
theorem tq195_148 : tT g 195 148 = s_acopy g (fun _ v => vZ v) 195 151 21 := rfl
theorem A195_148 {L : AL} {r : List Value} {s e : Nat} {x z k : Int32} : aw g 195 148 L (.int k :: .int z :: .ref e :: .int x :: .ref s :: r) σ Q = (hty σ s = some 21 ∧ hty σ e = some 21 ∧ gB g ≤ e ∧ csum r ≤ 8 ∧ ¬ k < 0 ∧ ¬ x < 0 ∧ ¬ z < 0 ∧ x.toNatClampNeg + k.toNatClampNeg ≤ hln σ s ∧ z.toNatClampNeg + k.toNatClampNeg ≤ hln σ e ∧ (∀ i, i < k.toNatClampNeg → vZ (hv σ 21 s (x.toNatClampNeg + i))) ∧ aw g 195 151 L r (hcpy σ 21 s x.toNatClampNeg e z.toNatClampNeg k.toNatClampNeg) Q) := (aw_eq g 195 148 _ _ _ _).trans (by rw [tq195_148]; exact rfl)
theorem tq195_151 : tT g 195 151 = s_load vRf 195 152 1 := rfl
theorem A195_151 {l0 : Option Value} {x : Value} {r : List Value} : aw g 195 151 [l0, some (x)] r σ Q = (vRf x = true ∧ aw g 195 152 [l0, some (x)] (x :: r) σ Q) := (aw_eq g 195 151 _ _ _ _).trans (by rw [tq195_151]; exact h_load rfl)
theorem tq195_152 : tT g 195 152 = s_load vRf 195 153 0 := rfl
theorem A195_152 {l1 : Option Value} {x : Value} {r : List Value} : aw g 195 152 [some (x), l1] r σ Q = (vRf x = true ∧ aw g 195 153 [some (x), l1] (x :: r) σ Q) := (aw_eq g 195 152 _ _ _ _).trans (by rw [tq195_152]; exact h_load rfl)
theorem tq195_153 : tT g 195 153 = s_getf 195 156 5 16 := rfl
theorem A195_153 {L : AL} {r : List Value} {a : Nat} : aw g 195 153 L (.ref a :: r) σ Q = (hty σ a = some 5 ∧ aw g 195 156 L (hv σ 5 a 16 :: r) σ Q) := (aw_eq g 195 153 _ _ _ _).trans (by rw [tq195_153]; exact rfl)
theorem tq195_156 : tT g 195 156 = s_ifnn 195 159 163 := rfl
theorem A195_156 {L : AL} {r : List Value} {a : Value} : aw g 195 156 L (a :: r) σ Q = (vRf a = true ∧ (a = .null → aw g 195 159 L r σ Q) ∧ (a ≠ .null → aw g 195 163 L r σ Q)) := (aw_eq g 195 156 _ _ _ _).trans (by rw [tq195_156]; exact rfl)
theorem tq195_159 : tT g 195 159 = s_const 195 160 .null := rfl
theorem A195_159 {L : AL} {r : List Value} : aw g 195 159 L r σ Q = aw g 195 160 L (.null :: r) σ Q := (aw_eq g 195 159 _ _ _ _).trans (by rw [tq195_159]; exact rfl)
theorem tq195_160 : tT g 195 160 = s_goto 195 173 := rfl
theorem A195_160 {L : AL} {r : List Value} : aw g 195 160 L r σ Q = aw g 195 173 L r σ Q := (aw_eq g 195 160 _ _ _ _).trans (by rw [tq195_160]; exact rfl)
theorem tq195_163 : tT g 195 163 = s_load vRf 195 164 0 := rfl
theorem A195_163 {l1 : Option Value} {x : Value} {r : List Value} : aw g 195 163 [some (x), l1] r σ Q = (vRf x = true ∧ aw g 195 164 [some (x), l1] (x :: r) σ Q) := (aw_eq g 195 163 _ _ _ _).trans (by rw [tq195_163]; exact h_load rfl)
theorem tq195_164 : tT g 195 164 = s_getf 195 167 5 16 := rfl
theorem A195_164 {L : AL} {r : List Value} {a : Nat} : aw g 195 164 L (.ref a :: r) σ Q = (hty σ a = some 5 ∧ aw g 195 167 L (hv σ 5 a 16 :: r) σ Q) := (aw_eq g 195 164 _ _ _ _).trans (by rw [tq195_164]; exact rfl)
theorem tq195_167 : tT g 195 167 = s_clone g (fun _ v => vZ v) 195 170 21 := rfl
theorem A195_167 {L : AL} {r : List Value} {a : Nat} : aw g 195 167 L (.ref a :: r) σ Q = (hty σ a = some 21 ∧ csum r ≤ 8 ∧ hsz σ + 1 ≤ gC g ∧ hsl σ + hln σ a ≤ gS g ∧ (∀ i, i < hln σ a → vZ (hv σ 21 a i)) ∧ aw g 195 170 L (.ref (hsz σ) :: r) (hnew σ 21 (hln σ a) (hv σ 21 a) (hln σ a)) Q) := (aw_eq g 195 167 _ _ _ _).trans (by rw [tq195_167]; exact rfl)
theorem tq195_170 : tT g 195 170 = s_cast 195 173 [21] := rfl
theorem A195_170 {L : AL} {r : List Value} : aw g 195 170 L (.null :: r) σ Q = aw g 195 173 L (.null :: r) σ Q := (aw_eq g 195 170 _ _ _ _).trans (by rw [tq195_170]; exact rfl)
theorem A195_170r {L : AL} {r : List Value} {a : Nat} : aw g 195 170 L (.ref a :: r) σ Q = (hty σ a = some 21 ∧ aw g 195 173 L (.ref a :: r) σ Q) := (aw_eq g 195 170 _ _ _ _).trans (by rw [tq195_170]; exact propext ⟨fun z => (by obtain ⟨⟨u, hu, hu2⟩, z2⟩ := z; rw [List.mem_singleton] at hu; subst hu; exact ⟨hu2, z2⟩), fun z => ⟨⟨_, List.mem_cons_self, z.1⟩, z.2⟩⟩)
theorem tq195_173 : tT g 195 173 = s_putf g pR 195 176 5 16 := rfl
theorem A195_173 {L : AL} {r : List Value} {a : Nat} {v : Value} : aw g 195 173 L (v :: .ref a :: r) σ Q = (hty σ a = some 5 ∧ gB g ≤ a ∧ pR v ∧ aw g 195 176 L r (hput σ 5 a 16 v) Q) := (aw_eq g 195 173 _ _ _ _).trans (by rw [tq195_173]; exact rfl)
theorem tq195_176 : tT g 195 176 = s_load vRf 195 177 1 := rfl
theorem A195_176 {l0 : Option Value} {x : Value} {r : List Value} : aw g 195 176 [l0, some (x)] r σ Q = (vRf x = true ∧ aw g 195 177 [l0, some (x)] (x :: r) σ Q) := (aw_eq g 195 176 _ _ _ _).trans (by rw [tq195_176]; exact h_load rfl)
theorem tq195_177 : tT g 195 177 = s_load vRf 195 178 0 := rfl
theorem A195_177 {l1 : Option Value} {x : Value} {r : List Value} : aw g 195 177 [some (x), l1] r σ Q = (vRf x = true ∧ aw g 195 178 [some (x), l1] (x :: r) σ Q) := (aw_eq g 195 177 _ _ _ _).trans (by rw [tq195_177]; exact h_load rfl)
theorem tq195_178 : tT g 195 178 = s_getf 195 181 5 17 := rfl
theorem A195_178 {L : AL} {r : List Value} {a : Nat} : aw g 195 178 L (.ref a :: r) σ Q = (hty σ a = some 5 ∧ aw g 195 181 L (hv σ 5 a 17 :: r) σ Q) := (aw_eq g 195 178 _ _ _ _).trans (by rw [tq195_178]; exact rfl)
theorem tq195_181 : tT g 195 181 = s_putf g pI 195 184 5 17 := rfl
theorem A195_181 {L : AL} {r : List Value} {a : Nat} {v : Value} : aw g 195 181 L (v :: .ref a :: r) σ Q = (hty σ a = some 5 ∧ gB g ≤ a ∧ pI v ∧ aw g 195 184 L r (hput σ 5 a 17 v) Q) := (aw_eq g 195 181 _ _ _ _).trans (by rw [tq195_181]; exact rfl)
theorem tq195_184 : tT g 195 184 = s_load vRf 195 185 1 := rfl
theorem A195_184 {l0 : Option Value} {x : Value} {r : List Value} : aw g 195 184 [l0, some (x)] r σ Q = (vRf x = true ∧ aw g 195 185 [l0, some (x)] (x :: r) σ Q) := (aw_eq g 195 184 _ _ _ _).trans (by rw [tq195_184]; exact h_load rfl)
theorem tq195_185 : tT g 195 185 = s_load vRf 195 186 0 := rfl
theorem A195_185 {l1 : Option Value} {x : Value} {r : List Value} : aw g 195 185 [some (x), l1] r σ Q = (vRf x = true ∧ aw g 195 186 [some (x), l1] (x :: r) σ Q) := (aw_eq g 195 185 _ _ _ _).trans (by rw [tq195_185]; exact h_load rfl)
theorem tq195_186 : tT g 195 186 = s_getf 195 189 5 18 := rfl
theorem A195_186 {L : AL} {r : List Value} {a : Nat} : aw g 195 186 L (.ref a :: r) σ Q = (hty σ a = some 5 ∧ aw g 195 189 L (hv σ 5 a 18 :: r) σ Q) := (aw_eq g 195 186 _ _ _ _).trans (by rw [tq195_186]; exact rfl)
theorem tq195_189 : tT g 195 189 = s_putf g pI 195 192 5 18 := rfl
theorem A195_189 {L : AL} {r : List Value} {a : Nat} {v : Value} : aw g 195 189 L (v :: .ref a :: r) σ Q = (hty σ a = some 5 ∧ gB g ≤ a ∧ pI v ∧ aw g 195 192 L r (hput σ 5 a 18 v) Q) := (aw_eq g 195 189 _ _ _ _).trans (by rw [tq195_189]; exact rfl)
theorem tq195_192 : tT g 195 192 = s_load vRf 195 193 1 := rfl
theorem A195_192 {l0 : Option Value} {x : Value} {r : List Value} : aw g 195 192 [l0, some (x)] r σ Q = (vRf x = true ∧ aw g 195 193 [l0, some (x)] (x :: r) σ Q) := (aw_eq g 195 192 _ _ _ _).trans (by rw [tq195_192]; exact h_load rfl)
theorem tq195_193 : tT g 195 193 = s_load vRf 195 194 0 := rfl
theorem A195_193 {l1 : Option Value} {x : Value} {r : List Value} : aw g 195 193 [some (x), l1] r σ Q = (vRf x = true ∧ aw g 195 194 [some (x), l1] (x :: r) σ Q) := (aw_eq g 195 193 _ _ _ _).trans (by rw [tq195_193]; exact h_load rfl)
theorem tq195_194 : tT g 195 194 = s_getf 195 197 5 19 := rfl
theorem A195_194 {L : AL} {r : List Value} {a : Nat} : aw g 195 194 L (.ref a :: r) σ Q = (hty σ a = some 5 ∧ aw g 195 197 L (hv σ 5 a 19 :: r) σ Q) := (aw_eq g 195 194 _ _ _ _).trans (by rw [tq195_194]; exact rfl)
theorem tq195_197 : tT g 195 197 = s_putf g vZ 195 200 5 19 := rfl
theorem A195_197 {L : AL} {r : List Value} {a : Nat} {v : Value} : aw g 195 197 L (v :: .ref a :: r) σ Q = (hty σ a = some 5 ∧ gB g ≤ a ∧ vZ v ∧ aw g 195 200 L r (hput σ 5 a 19 v) Q) := (aw_eq g 195 197 _ _ _ _).trans (by rw [tq195_197]; exact rfl)
theorem tq195_200 : tT g 195 200 = s_load vRf 195 201 1 := rfl
theorem A195_200 {l0 : Option Value} {x : Value} {r : List Value} : aw g 195 200 [l0, some (x)] r σ Q = (vRf x = true ∧ aw g 195 201 [l0, some (x)] (x :: r) σ Q) := (aw_eq g 195 200 _ _ _ _).trans (by rw [tq195_200]; exact h_load rfl)
theorem tq195_201 : tT g 195 201 = s_load vRf 195 202 0 := rfl
theorem A195_201 {l1 : Option Value} {x : Value} {r : List Value} : aw g 195 201 [some (x), l1] r σ Q = (vRf x = true ∧ aw g 195 202 [some (x), l1] (x :: r) σ Q) := (aw_eq g 195 201 _ _ _ _).trans (by rw [tq195_201]; exact h_load rfl)
theorem tq195_202 : tT g 195 202 = s_getf 195 205 5 20 := rfl
theorem A195_202 {L : AL} {r : List Value} {a : Nat} : aw g 195 202 L (.ref a :: r) σ Q = (hty σ a = some 5 ∧ aw g 195 205 L (hv σ 5 a 20 :: r) σ Q) := (aw_eq g 195 202 _ _ _ _).trans (by rw [tq195_202]; exact rfl)
theorem tq195_205 : tT g 195 205 = s_putf g pI 195 208 5 20 := rfl
theorem A195_205 {L : AL} {r : List Value} {a : Nat} {v : Value} : aw g 195 205 L (v :: .ref a :: r) σ Q = (hty σ a = some 5 ∧ gB g ≤ a ∧ pI v ∧ aw g 195 208 L r (hput σ 5 a 20 v) Q) := (aw_eq g 195 205 _ _ _ _).trans (by rw [tq195_205]; exact rfl)
theorem tq195_208 : tT g 195 208 = s_load vRf 195 209 1 := rfl
theorem A195_208 {l0 : Option Value} {x : Value} {r : List Value} : aw g 195 208 [l0, some (x)] r σ Q = (vRf x = true ∧ aw g 195 209 [l0, some (x)] (x :: r) σ Q) := (aw_eq g 195 208 _ _ _ _).trans (by rw [tq195_208]; exact h_load rfl)
theorem tq195_209 : tT g 195 209 = s_load vRf 195 210 0 := rfl
theorem A195_209 {l1 : Option Value} {x : Value} {r : List Value} : aw g 195 209 [some (x), l1] r σ Q = (vRf x = true ∧ aw g 195 210 [some (x), l1] (x :: r) σ Q) := (aw_eq g 195 209 _ _ _ _).trans (by rw [tq195_209]; exact h_load rfl)
theorem tq195_210 : tT g 195 210 = s_getf 195 213 5 21 := rfl
theorem A195_210 {L : AL} {r : List Value} {a : Nat} : aw g 195 210 L (.ref a :: r) σ Q = (hty σ a = some 5 ∧ aw g 195 213 L (hv σ 5 a 21 :: r) σ Q) := (aw_eq g 195 210 _ _ _ _).trans (by rw [tq195_210]; exact rfl)
theorem tq195_213 : tT g 195 213 = s_ifnn 195 216 220 := rfl
theorem A195_213 {L : AL} {r : List Value} {a : Value} : aw g 195 213 L (a :: r) σ Q = (vRf a = true ∧ (a = .null → aw g 195 216 L r σ Q) ∧ (a ≠ .null → aw g 195 220 L r σ Q)) := (aw_eq g 195 213 _ _ _ _).trans (by rw [tq195_213]; exact rfl)
theorem tq195_216 : tT g 195 216 = s_const 195 217 .null := rfl
theorem A195_216 {L : AL} {r : List Value} : aw g 195 216 L r σ Q = aw g 195 217 L (.null :: r) σ Q := (aw_eq g 195 216 _ _ _ _).trans (by rw [tq195_216]; exact rfl)
theorem tq195_217 : tT g 195 217 = s_goto 195 227 := rfl
theorem A195_217 {L : AL} {r : List Value} : aw g 195 217 L r σ Q = aw g 195 227 L r σ Q := (aw_eq g 195 217 _ _ _ _).trans (by rw [tq195_217]; exact rfl)
theorem tq195_220 : tT g 195 220 = s_load vRf 195 221 0 := rfl
theorem A195_220 {l1 : Option Value} {x : Value} {r : List Value} : aw g 195 220 [some (x), l1] r σ Q = (vRf x = true ∧ aw g 195 221 [some (x), l1] (x :: r) σ Q) := (aw_eq g 195 220 _ _ _ _).trans (by rw [tq195_220]; exact h_load rfl)
theorem tq195_221 : tT g 195 221 = s_getf 195 224 5 21 := rfl
theorem A195_221 {L : AL} {r : List Value} {a : Nat} : aw g 195 221 L (.ref a :: r) σ Q = (hty σ a = some 5 ∧ aw g 195 224 L (hv σ 5 a 21 :: r) σ Q) := (aw_eq g 195 221 _ _ _ _).trans (by rw [tq195_221]; exact rfl)
theorem tq195_224 : tT g 195 224 = s_callvk 195 227 105 9 [] 2 := rfl
theorem A195_224 {L : AL} {r : List Value} {a : Nat} : aw g 195 224 L (.ref a :: r) σ Q = (hty σ a = some 9 ∧ true = true ∧ csum r ≤ 8 ∧ aw g 105 0 [some (.ref a), none] [] σ (kt (aw g) 195 227 L r Q)) := (aw_eq g 195 224 _ _ _ _).trans (by rw [tq195_224]; exact rfl)
theorem tq195_227 : tT g 195 227 = s_putf g pR 195 230 5 21 := rfl
theorem A195_227 {L : AL} {r : List Value} {a : Nat} {v : Value} : aw g 195 227 L (v :: .ref a :: r) σ Q = (hty σ a = some 5 ∧ gB g ≤ a ∧ pR v ∧ aw g 195 230 L r (hput σ 5 a 21 v) Q) := (aw_eq g 195 227 _ _ _ _).trans (by rw [tq195_227]; exact rfl)
theorem tq195_230 : tT g 195 230 = s_load vRf 195 231 1 := rfl
theorem A195_230 {l0 : Option Value} {x : Value} {r : List Value} : aw g 195 230 [l0, some (x)] r σ Q = (vRf x = true ∧ aw g 195 231 [l0, some (x)] (x :: r) σ Q) := (aw_eq g 195 230 _ _ _ _).trans (by rw [tq195_230]; exact h_load rfl)
theorem tq195_231 : tT g 195 231 = s_ret pR := rfl
theorem A195_231 {L : AL} {v : Value} : aw g 195 231 L [v] σ Q = (pR v ∧ Q (.inl (some v)) σ) := (aw_eq g 195 231 _ _ _ _).trans (by rw [tq195_231]; exact rfl)
theorem tq196_0 : tT g 196 0 = s_load vRf 196 1 0 := rfl
theorem A196_0 {l1 : Option Value} {l2 : Option Value} {x : Value} {r : List Value} : aw g 196 0 [some (x), l1, l2] r σ Q = (vRf x = true ∧ aw g 196 1 [some (x), l1, l2] (x :: r) σ Q) := (aw_eq g 196 0 _ _ _ _).trans (by rw [tq196_0]; exact h_load rfl)
theorem tq196_1 : tT g 196 1 = s_oinit 196 4 := rfl
theorem A196_1 {L : AL} {r : List Value} {a : Nat} : aw g 196 1 L (.ref a :: r) σ Q = (csum r ≤ 8 ∧ aw g 196 4 L r σ Q) := (aw_eq g 196 1 _ _ _ _).trans (by rw [tq196_1]; exact rfl)
theorem tq196_4 : tT g 196 4 = s_load vRf 196 5 0 := rfl
theorem A196_4 {l1 : Option Value} {l2 : Option Value} {x : Value} {r : List Value} : aw g 196 4 [some (x), l1, l2] r σ Q = (vRf x = true ∧ aw g 196 5 [some (x), l1, l2] (x :: r) σ Q) := (aw_eq g 196 4 _ _ _ _).trans (by rw [tq196_4]; exact h_load rfl)
theorem tq196_5 : tT g 196 5 = s_new g 196 8 6 4 (fun k => defaultValue (tyX7 k)) := rfl
theorem A196_5 {L : AL} {r : List Value} : aw g 196 5 L r σ Q = (hsz σ + 1 ≤ gC g ∧ hsl σ + 4 ≤ gS g ∧ aw g 196 8 L (.ref (hsz σ) :: r) (hnew σ 6 0 (fun k => defaultValue (tyX7 k)) 4) Q) := (aw_eq g 196 5 _ _ _ _).trans (by rw [tq196_5]; exact rfl)
theorem tq196_8 : tT g 196 8 = s_dup 196 9 := rfl
theorem A196_8 {L : AL} {r : List Value} {v : Value} : aw g 196 8 L (v :: r) σ Q = (v.category = 1 ∧ aw g 196 9 L (v :: v :: r) σ Q) := (aw_eq g 196 8 _ _ _ _).trans (by rw [tq196_8]; exact rfl)
theorem tq196_9 : tT g 196 9 = s_callik 196 12 202 [] 1 := rfl
theorem A196_9 {L : AL} {r : List Value} {a : Nat} : aw g 196 9 L (.ref a :: r) σ Q = (true = true ∧ csum r ≤ 8 ∧ aw g 202 0 [some (.ref a)] [] σ (kt (aw g) 196 12 L r Q)) := (aw_eq g 196 9 _ _ _ _).trans (by rw [tq196_9]; exact rfl)
theorem tq196_12 : tT g 196 12 = s_putf g pR 196 15 5 2 := rfl
theorem A196_12 {L : AL} {r : List Value} {a : Nat} {v : Value} : aw g 196 12 L (v :: .ref a :: r) σ Q = (hty σ a = some 5 ∧ gB g ≤ a ∧ pR v ∧ aw g 196 15 L r (hput σ 5 a 2 v) Q) := (aw_eq g 196 12 _ _ _ _).trans (by rw [tq196_12]; exact rfl)
theorem tq196_15 : tT g 196 15 = s_load vRf 196 16 0 := rfl
theorem A196_15 {l1 : Option Value} {l2 : Option Value} {x : Value} {r : List Value} : aw g 196 15 [some (x), l1, l2] r σ Q = (vRf x = true ∧ aw g 196 16 [some (x), l1, l2] (x :: r) σ Q) := (aw_eq g 196 15 _ _ _ _).trans (by rw [tq196_15]; exact h_load rfl)
theorem tq196_16 : tT g 196 16 = s_const 196 17 (.int 5) := rfl
theorem A196_16 {L : AL} {r : List Value} : aw g 196 16 L r σ Q = aw g 196 17 L (.int 5 :: r) σ Q := (aw_eq g 196 16 _ _ _ _).trans (by rw [tq196_16]; exact rfl)
theorem tq196_17 : tT g 196 17 = s_putf g pI 196 20 5 3 := rfl
theorem A196_17 {L : AL} {r : List Value} {a : Nat} {v : Value} : aw g 196 17 L (v :: .ref a :: r) σ Q = (hty σ a = some 5 ∧ gB g ≤ a ∧ pI v ∧ aw g 196 20 L r (hput σ 5 a 3 v) Q) := (aw_eq g 196 17 _ _ _ _).trans (by rw [tq196_17]; exact rfl)
theorem tq196_20 : tT g 196 20 = s_load vRf 196 21 0 := rfl
theorem A196_20 {l1 : Option Value} {l2 : Option Value} {x : Value} {r : List Value} : aw g 196 20 [some (x), l1, l2] r σ Q = (vRf x = true ∧ aw g 196 21 [some (x), l1, l2] (x :: r) σ Q) := (aw_eq g 196 20 _ _ _ _).trans (by rw [tq196_20]; exact h_load rfl)
theorem tq196_21 : tT g 196 21 = s_const 196 22 (.int 5) := rfl
theorem A196_21 {L : AL} {r : List Value} : aw g 196 21 L r σ Q = aw g 196 22 L (.int 5 :: r) σ Q := (aw_eq g 196 21 _ _ _ _).trans (by rw [tq196_21]; exact rfl)
theorem tq196_22 : tT g 196 22 = s_putf g pI 196 25 5 4 := rfl
theorem A196_22 {L : AL} {r : List Value} {a : Nat} {v : Value} : aw g 196 22 L (v :: .ref a :: r) σ Q = (hty σ a = some 5 ∧ gB g ≤ a ∧ pI v ∧ aw g 196 25 L r (hput σ 5 a 4 v) Q) := (aw_eq g 196 22 _ _ _ _).trans (by rw [tq196_22]; exact rfl)
theorem tq196_25 : tT g 196 25 = s_load vRf 196 26 0 := rfl
theorem A196_25 {l1 : Option Value} {l2 : Option Value} {x : Value} {r : List Value} : aw g 196 25 [some (x), l1, l2] r σ Q = (vRf x = true ∧ aw g 196 26 [some (x), l1, l2] (x :: r) σ Q) := (aw_eq g 196 25 _ _ _ _).trans (by rw [tq196_25]; exact h_load rfl)
theorem tq196_26 : tT g 196 26 = s_const 196 27 (.int (-1)) := rfl
theorem A196_26 {L : AL} {r : List Value} : aw g 196 26 L r σ Q = aw g 196 27 L (.int (-1) :: r) σ Q := (aw_eq g 196 26 _ _ _ _).trans (by rw [tq196_26]; exact rfl)
theorem tq196_27 : tT g 196 27 = s_putf g pI 196 30 5 6 := rfl
theorem A196_27 {L : AL} {r : List Value} {a : Nat} {v : Value} : aw g 196 27 L (v :: .ref a :: r) σ Q = (hty σ a = some 5 ∧ gB g ≤ a ∧ pI v ∧ aw g 196 30 L r (hput σ 5 a 6 v) Q) := (aw_eq g 196 27 _ _ _ _).trans (by rw [tq196_27]; exact rfl)
theorem tq196_30 : tT g 196 30 = s_load vRf 196 31 0 := rfl
theorem A196_30 {l1 : Option Value} {l2 : Option Value} {x : Value} {r : List Value} : aw g 196 30 [some (x), l1, l2] r σ Q = (vRf x = true ∧ aw g 196 31 [some (x), l1, l2] (x :: r) σ Q) := (aw_eq g 196 30 _ _ _ _).trans (by rw [tq196_30]; exact h_load rfl)
theorem tq196_31 : tT g 196 31 = s_const 196 32 (.int 5) := rfl
theorem A196_31 {L : AL} {r : List Value} : aw g 196 31 L r σ Q = aw g 196 32 L (.int 5 :: r) σ Q := (aw_eq g 196 31 _ _ _ _).trans (by rw [tq196_31]; exact rfl)
theorem tq196_32 : tT g 196 32 = s_newa g 196 34 20 (.int 0) := rfl
theorem A196_32 {L : AL} {r : List Value} {x : Int32} : aw g 196 32 L (.int x :: r) σ Q = (¬ x < 0 ∧ x.toNatClampNeg ≤ 65536 ∧ hsz σ + 1 ≤ gC g ∧ hsl σ + x.toNatClampNeg ≤ gS g ∧ aw g 196 34 L (.ref (hsz σ) :: r) (hnew σ 20 x.toNatClampNeg (fun _ => .int 0) x.toNatClampNeg) Q) := (aw_eq g 196 32 _ _ _ _).trans (by rw [tq196_32]; exact rfl)
theorem tq196_34 : tT g 196 34 = s_putf g pR 196 37 5 13 := rfl
theorem A196_34 {L : AL} {r : List Value} {a : Nat} {v : Value} : aw g 196 34 L (v :: .ref a :: r) σ Q = (hty σ a = some 5 ∧ gB g ≤ a ∧ pR v ∧ aw g 196 37 L r (hput σ 5 a 13 v) Q) := (aw_eq g 196 34 _ _ _ _).trans (by rw [tq196_34]; exact rfl)
theorem tq196_37 : tT g 196 37 = s_load vRf 196 38 0 := rfl
theorem A196_37 {l1 : Option Value} {l2 : Option Value} {x : Value} {r : List Value} : aw g 196 37 [some (x), l1, l2] r σ Q = (vRf x = true ∧ aw g 196 38 [some (x), l1, l2] (x :: r) σ Q) := (aw_eq g 196 37 _ _ _ _).trans (by rw [tq196_37]; exact h_load rfl)
theorem tq196_38 : tT g 196 38 = s_const 196 40 (.int 6) := rfl
theorem A196_38 {L : AL} {r : List Value} : aw g 196 38 L r σ Q = aw g 196 40 L (.int 6 :: r) σ Q := (aw_eq g 196 38 _ _ _ _).trans (by rw [tq196_38]; exact rfl)
theorem tq196_40 : tT g 196 40 = s_newa g 196 42 21 (.int 0) := rfl
theorem A196_40 {L : AL} {r : List Value} {x : Int32} : aw g 196 40 L (.int x :: r) σ Q = (¬ x < 0 ∧ x.toNatClampNeg ≤ 65536 ∧ hsz σ + 1 ≤ gC g ∧ hsl σ + x.toNatClampNeg ≤ gS g ∧ aw g 196 42 L (.ref (hsz σ) :: r) (hnew σ 21 x.toNatClampNeg (fun _ => .int 0) x.toNatClampNeg) Q) := (aw_eq g 196 40 _ _ _ _).trans (by rw [tq196_40]; exact rfl)
theorem tq196_42 : tT g 196 42 = s_putf g pR 196 45 5 14 := rfl
theorem A196_42 {L : AL} {r : List Value} {a : Nat} {v : Value} : aw g 196 42 L (v :: .ref a :: r) σ Q = (hty σ a = some 5 ∧ gB g ≤ a ∧ pR v ∧ aw g 196 45 L r (hput σ 5 a 14 v) Q) := (aw_eq g 196 42 _ _ _ _).trans (by rw [tq196_42]; exact rfl)
theorem tq196_45 : tT g 196 45 = s_load vRf 196 46 0 := rfl
theorem A196_45 {l1 : Option Value} {l2 : Option Value} {x : Value} {r : List Value} : aw g 196 45 [some (x), l1, l2] r σ Q = (vRf x = true ∧ aw g 196 46 [some (x), l1, l2] (x :: r) σ Q) := (aw_eq g 196 45 _ _ _ _).trans (by rw [tq196_45]; exact h_load rfl)
theorem tq196_46 : tT g 196 46 = s_const 196 48 (.int 6) := rfl
theorem A196_46 {L : AL} {r : List Value} : aw g 196 46 L r σ Q = aw g 196 48 L (.int 6 :: r) σ Q := (aw_eq g 196 46 _ _ _ _).trans (by rw [tq196_46]; exact rfl)
theorem tq196_48 : tT g 196 48 = s_newa g 196 50 21 (.int 0) := rfl
theorem A196_48 {L : AL} {r : List Value} {x : Int32} : aw g 196 48 L (.int x :: r) σ Q = (¬ x < 0 ∧ x.toNatClampNeg ≤ 65536 ∧ hsz σ + 1 ≤ gC g ∧ hsl σ + x.toNatClampNeg ≤ gS g ∧ aw g 196 50 L (.ref (hsz σ) :: r) (hnew σ 21 x.toNatClampNeg (fun _ => .int 0) x.toNatClampNeg) Q) := (aw_eq g 196 48 _ _ _ _).trans (by rw [tq196_48]; exact rfl)
theorem tq196_50 : tT g 196 50 = s_putf g pR 196 53 5 15 := rfl
theorem A196_50 {L : AL} {r : List Value} {a : Nat} {v : Value} : aw g 196 50 L (v :: .ref a :: r) σ Q = (hty σ a = some 5 ∧ gB g ≤ a ∧ pR v ∧ aw g 196 53 L r (hput σ 5 a 15 v) Q) := (aw_eq g 196 50 _ _ _ _).trans (by rw [tq196_50]; exact rfl)
theorem tq196_53 : tT g 196 53 = s_load vRf 196 54 0 := rfl
theorem A196_53 {l1 : Option Value} {l2 : Option Value} {x : Value} {r : List Value} : aw g 196 53 [some (x), l1, l2] r σ Q = (vRf x = true ∧ aw g 196 54 [some (x), l1, l2] (x :: r) σ Q) := (aw_eq g 196 53 _ _ _ _).trans (by rw [tq196_53]; exact h_load rfl)
theorem tq196_54 : tT g 196 54 = s_load vI 196 55 1 := rfl
theorem A196_54 {l0 : Option Value} {l2 : Option Value} {x : Int32} {r : List Value} : aw g 196 54 [l0, some (.int x), l2] r σ Q = aw g 196 55 [l0, some (.int x), l2] (.int x :: r) σ Q := (aw_eq g 196 54 _ _ _ _).trans (by rw [tq196_54]; exact (h_load rfl).trans (propext ⟨fun z => z.2, fun z => ⟨rfl, z⟩⟩))
theorem tq196_55 : tT g 196 55 = s_putf g pI 196 58 5 0 := rfl
theorem A196_55 {L : AL} {r : List Value} {a : Nat} {v : Value} : aw g 196 55 L (v :: .ref a :: r) σ Q = (hty σ a = some 5 ∧ gB g ≤ a ∧ pI v ∧ aw g 196 58 L r (hput σ 5 a 0 v) Q) := (aw_eq g 196 55 _ _ _ _).trans (by rw [tq196_55]; exact rfl)
theorem tq196_58 : tT g 196 58 = s_load vRf 196 59 0 := rfl
theorem A196_58 {l1 : Option Value} {l2 : Option Value} {x : Value} {r : List Value} : aw g 196 58 [some (x), l1, l2] r σ Q = (vRf x = true ∧ aw g 196 59 [some (x), l1, l2] (x :: r) σ Q) := (aw_eq g 196 58 _ _ _ _).trans (by rw [tq196_58]; exact h_load rfl)
theorem tq196_59 : tT g 196 59 = s_load vI 196 60 2 := rfl
theorem A196_59 {l0 : Option Value} {l1 : Option Value} {x : Int32} {r : List Value} : aw g 196 59 [l0, l1, some (.int x)] r σ Q = aw g 196 60 [l0, l1, some (.int x)] (.int x :: r) σ Q := (aw_eq g 196 59 _ _ _ _).trans (by rw [tq196_59]; exact (h_load rfl).trans (propext ⟨fun z => z.2, fun z => ⟨rfl, z⟩⟩))
theorem tq196_60 : tT g 196 60 = s_putf g pI 196 63 5 1 := rfl
theorem A196_60 {L : AL} {r : List Value} {a : Nat} {v : Value} : aw g 196 60 L (v :: .ref a :: r) σ Q = (hty σ a = some 5 ∧ gB g ≤ a ∧ pI v ∧ aw g 196 63 L r (hput σ 5 a 1 v) Q) := (aw_eq g 196 60 _ _ _ _).trans (by rw [tq196_60]; exact rfl)
theorem tq196_63 : tT g 196 63 = s_vret := rfl
theorem A196_63 {L : AL} : aw g 196 63 L [] σ Q = Q (.inl none) σ := (aw_eq g 196 63 _ _ _ _).trans (by rw [tq196_63]; exact rfl)
theorem tq197_0 : tT g 197 0 = s_load vRf 197 1 0 := rfl
theorem A197_0  {x : Value} {r : List Value} : aw g 197 0 [some (x)] r σ Q = (vRf x = true ∧ aw g 197 1 [some (x)] (x :: r) σ Q) := (aw_eq g 197 0 _ _ _ _).trans (by rw [tq197_0]; exact h_load rfl)
theorem tq197_1 : tT g 197 1 = s_getf 197 4 5 3 := rfl
theorem A197_1 {L : AL} {r : List Value} {a : Nat} : aw g 197 1 L (.ref a :: r) σ Q = (hty σ a = some 5 ∧ aw g 197 4 L (hv σ 5 a 3 :: r) σ Q) := (aw_eq g 197 1 _ _ _ _).trans (by rw [tq197_1]; exact rfl)
theorem tq197_4 : tT g 197 4 = s_const 197 5 (.int 4) := rfl
theorem A197_4 {L : AL} {r : List Value} : aw g 197 4 L r σ Q = aw g 197 5 L (.int 4 :: r) σ Q := (aw_eq g 197 4 _ _ _ _).trans (by rw [tq197_4]; exact rfl)
theorem tq197_5 : tT g 197 5 = s_icmp 197 12 8 (fun a b => a = b) := rfl
theorem A197_5 {L : AL} {r : List Value} {a b : Int32} : aw g 197 5 L (.int b :: .int a :: r) σ Q = ((a = b → aw g 197 8 L r σ Q) ∧ (¬ a = b → aw g 197 12 L r σ Q)) := (aw_eq g 197 5 _ _ _ _).trans (by rw [tq197_5]; exact rfl)
theorem tq197_8 : tT g 197 8 = s_const 197 9 (.int 1) := rfl
theorem A197_8 {L : AL} {r : List Value} : aw g 197 8 L r σ Q = aw g 197 9 L (.int 1 :: r) σ Q := (aw_eq g 197 8 _ _ _ _).trans (by rw [tq197_8]; exact rfl)
theorem tq197_9 : tT g 197 9 = s_goto 197 13 := rfl
theorem A197_9 {L : AL} {r : List Value} : aw g 197 9 L r σ Q = aw g 197 13 L r σ Q := (aw_eq g 197 9 _ _ _ _).trans (by rw [tq197_9]; exact rfl)
theorem tq197_12 : tT g 197 12 = s_const 197 13 (.int 0) := rfl
theorem A197_12 {L : AL} {r : List Value} : aw g 197 12 L r σ Q = aw g 197 13 L (.int 0 :: r) σ Q := (aw_eq g 197 12 _ _ _ _).trans (by rw [tq197_12]; exact rfl)
theorem tq197_13 : tT g 197 13 = s_ret vZ := rfl
theorem A197_13 {L : AL} {v : Value} : aw g 197 13 L [v] σ Q = (vZ v ∧ Q (.inl (some v)) σ) := (aw_eq g 197 13 _ _ _ _).trans (by rw [tq197_13]; exact rfl)
theorem tq198_0 : tT g 198 0 = s_load vRf 198 1 0 := rfl
theorem A198_0 {l1 : Option Value} {x : Value} {r : List Value} : aw g 198 0 [some (x), l1] r σ Q = (vRf x = true ∧ aw g 198 1 [some (x), l1] (x :: r) σ Q) := (aw_eq g 198 0 _ _ _ _).trans (by rw [tq198_0]; exact h_load rfl)
theorem tq198_1 : tT g 198 1 = s_getf 198 4 5 3 := rfl
theorem A198_1 {L : AL} {r : List Value} {a : Nat} : aw g 198 1 L (.ref a :: r) σ Q = (hty σ a = some 5 ∧ aw g 198 4 L (hv σ 5 a 3 :: r) σ Q) := (aw_eq g 198 1 _ _ _ _).trans (by rw [tq198_1]; exact rfl)
theorem tq198_4 : tT g 198 4 = s_const 198 5 (.int 2) := rfl
theorem A198_4 {L : AL} {r : List Value} : aw g 198 4 L r σ Q = aw g 198 5 L (.int 2 :: r) σ Q := (aw_eq g 198 4 _ _ _ _).trans (by rw [tq198_4]; exact rfl)
theorem tq198_5 : tT g 198 5 = s_icmp 198 16 8 (fun a b => a = b) := rfl
theorem A198_5 {L : AL} {r : List Value} {a b : Int32} : aw g 198 5 L (.int b :: .int a :: r) σ Q = ((a = b → aw g 198 8 L r σ Q) ∧ (¬ a = b → aw g 198 16 L r σ Q)) := (aw_eq g 198 5 _ _ _ _).trans (by rw [tq198_5]; exact rfl)
theorem tq198_8 : tT g 198 8 = s_load vRf 198 9 0 := rfl
theorem A198_8 {l1 : Option Value} {x : Value} {r : List Value} : aw g 198 8 [some (x), l1] r σ Q = (vRf x = true ∧ aw g 198 9 [some (x), l1] (x :: r) σ Q) := (aw_eq g 198 8 _ _ _ _).trans (by rw [tq198_8]; exact h_load rfl)
theorem tq198_9 : tT g 198 9 = s_getf 198 12 5 6 := rfl
theorem A198_9 {L : AL} {r : List Value} {a : Nat} : aw g 198 9 L (.ref a :: r) σ Q = (hty σ a = some 5 ∧ aw g 198 12 L (hv σ 5 a 6 :: r) σ Q) := (aw_eq g 198 9 _ _ _ _).trans (by rw [tq198_9]; exact rfl)
theorem tq198_12 : tT g 198 12 = s_load vI 198 13 1 := rfl
theorem A198_12 {l0 : Option Value} {x : Int32} {r : List Value} : aw g 198 12 [l0, some (.int x)] r σ Q = aw g 198 13 [l0, some (.int x)] (.int x :: r) σ Q := (aw_eq g 198 12 _ _ _ _).trans (by rw [tq198_12]; exact (h_load rfl).trans (propext ⟨fun z => z.2, fun z => ⟨rfl, z⟩⟩))
theorem tq198_13 : tT g 198 13 = s_icmp 198 16 17 (fun a b => a ≤ b) := rfl
theorem A198_13 {L : AL} {r : List Value} {a b : Int32} : aw g 198 13 L (.int b :: .int a :: r) σ Q = ((a ≤ b → aw g 198 17 L r σ Q) ∧ (¬ a ≤ b → aw g 198 16 L r σ Q)) := (aw_eq g 198 13 _ _ _ _).trans (by rw [tq198_13]; exact rfl)
theorem tq198_16 : tT g 198 16 = s_vret := rfl
theorem A198_16 {L : AL} : aw g 198 16 L [] σ Q = Q (.inl none) σ := (aw_eq g 198 16 _ _ _ _).trans (by rw [tq198_16]; exact rfl)
theorem tq198_17 : tT g 198 17 = s_load vRf 198 18 0 := rfl
theorem A198_17 {l1 : Option Value} {x : Value} {r : List Value} : aw g 198 17 [some (x), l1] r σ Q = (vRf x = true ∧ aw g 198 18 [some (x), l1] (x :: r) σ Q) := (aw_eq g 198 17 _ _ _ _).trans (by rw [tq198_17]; exact h_load rfl)
theorem tq198_18 : tT g 198 18 = s_const 198 19 (.int 0) := rfl
theorem A198_18 {L : AL} {r : List Value} : aw g 198 18 L r σ Q = aw g 198 19 L (.int 0 :: r) σ Q := (aw_eq g 198 18 _ _ _ _).trans (by rw [tq198_18]; exact rfl)
theorem tq198_19 : tT g 198 19 = s_putf g pI 198 22 5 3 := rfl
theorem A198_19 {L : AL} {r : List Value} {a : Nat} {v : Value} : aw g 198 19 L (v :: .ref a :: r) σ Q = (hty σ a = some 5 ∧ gB g ≤ a ∧ pI v ∧ aw g 198 22 L r (hput σ 5 a 3 v) Q) := (aw_eq g 198 19 _ _ _ _).trans (by rw [tq198_19]; exact rfl)
theorem tq198_22 : tT g 198 22 = s_load vRf 198 23 0 := rfl
theorem A198_22 {l1 : Option Value} {x : Value} {r : List Value} : aw g 198 22 [some (x), l1] r σ Q = (vRf x = true ∧ aw g 198 23 [some (x), l1] (x :: r) σ Q) := (aw_eq g 198 22 _ _ _ _).trans (by rw [tq198_22]; exact h_load rfl)
theorem tq198_23 : tT g 198 23 = s_const 198 24 (.int (-1)) := rfl
theorem A198_23 {L : AL} {r : List Value} : aw g 198 23 L r σ Q = aw g 198 24 L (.int (-1) :: r) σ Q := (aw_eq g 198 23 _ _ _ _).trans (by rw [tq198_23]; exact rfl)
theorem tq198_24 : tT g 198 24 = s_putf g pI 198 27 5 6 := rfl
theorem A198_24 {L : AL} {r : List Value} {a : Nat} {v : Value} : aw g 198 24 L (v :: .ref a :: r) σ Q = (hty σ a = some 5 ∧ gB g ≤ a ∧ pI v ∧ aw g 198 27 L r (hput σ 5 a 6 v) Q) := (aw_eq g 198 24 _ _ _ _).trans (by rw [tq198_24]; exact rfl)
theorem tq198_27 : tT g 198 27 = s_vret := rfl
theorem A198_27 {L : AL} : aw g 198 27 L [] σ Q = Q (.inl none) σ := (aw_eq g 198 27 _ _ _ _).trans (by rw [tq198_27]; exact rfl)
theorem tq199_0 : tT g 199 0 = s_load vRf 199 1 0 := rfl
theorem A199_0  {x : Value} {r : List Value} : aw g 199 0 [some (x)] r σ Q = (vRf x = true ∧ aw g 199 1 [some (x)] (x :: r) σ Q) := (aw_eq g 199 0 _ _ _ _).trans (by rw [tq199_0]; exact h_load rfl)
theorem tq199_1 : tT g 199 1 = s_load vRf 199 2 0 := rfl
theorem A199_1  {x : Value} {r : List Value} : aw g 199 1 [some (x)] r σ Q = (vRf x = true ∧ aw g 199 2 [some (x)] (x :: r) σ Q) := (aw_eq g 199 1 _ _ _ _).trans (by rw [tq199_1]; exact h_load rfl)
theorem tq199_2 : tT g 199 2 = s_getf 199 5 5 3 := rfl
theorem A199_2 {L : AL} {r : List Value} {a : Nat} : aw g 199 2 L (.ref a :: r) σ Q = (hty σ a = some 5 ∧ aw g 199 5 L (hv σ 5 a 3 :: r) σ Q) := (aw_eq g 199 2 _ _ _ _).trans (by rw [tq199_2]; exact rfl)
theorem tq199_5 : tT g 199 5 = s_putf g pI 199 8 5 4 := rfl
theorem A199_5 {L : AL} {r : List Value} {a : Nat} {v : Value} : aw g 199 5 L (v :: .ref a :: r) σ Q = (hty σ a = some 5 ∧ gB g ≤ a ∧ pI v ∧ aw g 199 8 L r (hput σ 5 a 4 v) Q) := (aw_eq g 199 5 _ _ _ _).trans (by rw [tq199_5]; exact rfl)
theorem tq199_8 : tT g 199 8 = s_load vRf 199 9 0 := rfl
theorem A199_8  {x : Value} {r : List Value} : aw g 199 8 [some (x)] r σ Q = (vRf x = true ∧ aw g 199 9 [some (x)] (x :: r) σ Q) := (aw_eq g 199 8 _ _ _ _).trans (by rw [tq199_8]; exact h_load rfl)
theorem tq199_9 : tT g 199 9 = s_const 199 10 (.int 3) := rfl
theorem A199_9 {L : AL} {r : List Value} : aw g 199 9 L r σ Q = aw g 199 10 L (.int 3 :: r) σ Q := (aw_eq g 199 9 _ _ _ _).trans (by rw [tq199_9]; exact rfl)
theorem tq199_10 : tT g 199 10 = s_putf g pI 199 13 5 3 := rfl
theorem A199_10 {L : AL} {r : List Value} {a : Nat} {v : Value} : aw g 199 10 L (v :: .ref a :: r) σ Q = (hty σ a = some 5 ∧ gB g ≤ a ∧ pI v ∧ aw g 199 13 L r (hput σ 5 a 3 v) Q) := (aw_eq g 199 10 _ _ _ _).trans (by rw [tq199_10]; exact rfl)
theorem tq199_13 : tT g 199 13 = s_vret := rfl
theorem A199_13 {L : AL} : aw g 199 13 L [] σ Q = Q (.inl none) σ := (aw_eq g 199 13 _ _ _ _).trans (by rw [tq199_13]; exact rfl)
theorem tq200_0 : tT g 200 0 = s_load vRf 200 1 0 := rfl
theorem A200_0 {l1 : Option Value} {x : Value} {r : List Value} : aw g 200 0 [some (x), l1] r σ Q = (vRf x = true ∧ aw g 200 1 [some (x), l1] (x :: r) σ Q) := (aw_eq g 200 0 _ _ _ _).trans (by rw [tq200_0]; exact h_load rfl)
theorem tq200_1 : tT g 200 1 = s_load vRf 200 2 0 := rfl
theorem A200_1 {l1 : Option Value} {x : Value} {r : List Value} : aw g 200 1 [some (x), l1] r σ Q = (vRf x = true ∧ aw g 200 2 [some (x), l1] (x :: r) σ Q) := (aw_eq g 200 1 _ _ _ _).trans (by rw [tq200_1]; exact h_load rfl)
theorem tq200_2 : tT g 200 2 = s_getf 200 5 5 4 := rfl
theorem A200_2 {L : AL} {r : List Value} {a : Nat} : aw g 200 2 L (.ref a :: r) σ Q = (hty σ a = some 5 ∧ aw g 200 5 L (hv σ 5 a 4 :: r) σ Q) := (aw_eq g 200 2 _ _ _ _).trans (by rw [tq200_2]; exact rfl)
theorem tq200_5 : tT g 200 5 = s_putf g pI 200 8 5 3 := rfl
theorem A200_5 {L : AL} {r : List Value} {a : Nat} {v : Value} : aw g 200 5 L (v :: .ref a :: r) σ Q = (hty σ a = some 5 ∧ gB g ≤ a ∧ pI v ∧ aw g 200 8 L r (hput σ 5 a 3 v) Q) := (aw_eq g 200 5 _ _ _ _).trans (by rw [tq200_5]; exact rfl)
theorem tq200_8 : tT g 200 8 = s_load vRf 200 9 0 := rfl
theorem A200_8 {l1 : Option Value} {x : Value} {r : List Value} : aw g 200 8 [some (x), l1] r σ Q = (vRf x = true ∧ aw g 200 9 [some (x), l1] (x :: r) σ Q) := (aw_eq g 200 8 _ _ _ _).trans (by rw [tq200_8]; exact h_load rfl)
theorem tq200_9 : tT g 200 9 = s_getf 200 12 5 3 := rfl
theorem A200_9 {L : AL} {r : List Value} {a : Nat} : aw g 200 9 L (.ref a :: r) σ Q = (hty σ a = some 5 ∧ aw g 200 12 L (hv σ 5 a 3 :: r) σ Q) := (aw_eq g 200 9 _ _ _ _).trans (by rw [tq200_9]; exact rfl)
theorem tq200_12 : tT g 200 12 = s_const 200 13 (.int 1) := rfl
theorem A200_12 {L : AL} {r : List Value} : aw g 200 12 L r σ Q = aw g 200 13 L (.int 1 :: r) σ Q := (aw_eq g 200 12 _ _ _ _).trans (by rw [tq200_12]; exact rfl)
theorem tq200_13 : tT g 200 13 = s_icmp 200 28 16 (fun a b => a = b) := rfl
theorem A200_13 {L : AL} {r : List Value} {a b : Int32} : aw g 200 13 L (.int b :: .int a :: r) σ Q = ((a = b → aw g 200 16 L r σ Q) ∧ (¬ a = b → aw g 200 28 L r σ Q)) := (aw_eq g 200 13 _ _ _ _).trans (by rw [tq200_13]; exact rfl)
theorem tq200_16 : tT g 200 16 = s_load vRf 200 17 0 := rfl
theorem A200_16 {l1 : Option Value} {x : Value} {r : List Value} : aw g 200 16 [some (x), l1] r σ Q = (vRf x = true ∧ aw g 200 17 [some (x), l1] (x :: r) σ Q) := (aw_eq g 200 16 _ _ _ _).trans (by rw [tq200_16]; exact h_load rfl)
theorem tq200_17 : tT g 200 17 = s_getf 200 20 5 8 := rfl
theorem A200_17 {L : AL} {r : List Value} {a : Nat} : aw g 200 17 L (.ref a :: r) σ Q = (hty σ a = some 5 ∧ aw g 200 20 L (hv σ 5 a 8 :: r) σ Q) := (aw_eq g 200 17 _ _ _ _).trans (by rw [tq200_17]; exact rfl)
theorem tq200_20 : tT g 200 20 = s_if 200 23 28 (fun a => a ≤ 0) := rfl
theorem A200_20 {L : AL} {r : List Value} {a : Int32} : aw g 200 20 L (.int a :: r) σ Q = ((a ≤ 0 → aw g 200 28 L r σ Q) ∧ (¬ a ≤ 0 → aw g 200 23 L r σ Q)) := (aw_eq g 200 20 _ _ _ _).trans (by rw [tq200_20]; exact rfl)
theorem tq200_23 : tT g 200 23 = s_load vRf 200 24 0 := rfl
theorem A200_23 {l1 : Option Value} {x : Value} {r : List Value} : aw g 200 23 [some (x), l1] r σ Q = (vRf x = true ∧ aw g 200 24 [some (x), l1] (x :: r) σ Q) := (aw_eq g 200 23 _ _ _ _).trans (by rw [tq200_23]; exact h_load rfl)
theorem tq200_24 : tT g 200 24 = s_const 200 25 (.int 0) := rfl
theorem A200_24 {L : AL} {r : List Value} : aw g 200 24 L r σ Q = aw g 200 25 L (.int 0 :: r) σ Q := (aw_eq g 200 24 _ _ _ _).trans (by rw [tq200_24]; exact rfl)
theorem tq200_25 : tT g 200 25 = s_putf g pI 200 28 5 3 := rfl
theorem A200_25 {L : AL} {r : List Value} {a : Nat} {v : Value} : aw g 200 25 L (v :: .ref a :: r) σ Q = (hty σ a = some 5 ∧ gB g ≤ a ∧ pI v ∧ aw g 200 28 L r (hput σ 5 a 3 v) Q) := (aw_eq g 200 25 _ _ _ _).trans (by rw [tq200_25]; exact rfl)
theorem tq200_28 : tT g 200 28 = s_load vRf 200 29 0 := rfl
theorem A200_28 {l1 : Option Value} {x : Value} {r : List Value} : aw g 200 28 [some (x), l1] r σ Q = (vRf x = true ∧ aw g 200 29 [some (x), l1] (x :: r) σ Q) := (aw_eq g 200 28 _ _ _ _).trans (by rw [tq200_28]; exact h_load rfl)
theorem tq200_29 : tT g 200 29 = s_load vI 200 30 1 := rfl
theorem A200_29 {l0 : Option Value} {x : Int32} {r : List Value} : aw g 200 29 [l0, some (.int x)] r σ Q = aw g 200 30 [l0, some (.int x)] (.int x :: r) σ Q := (aw_eq g 200 29 _ _ _ _).trans (by rw [tq200_29]; exact (h_load rfl).trans (propext ⟨fun z => z.2, fun z => ⟨rfl, z⟩⟩))
theorem tq200_30 : tT g 200 30 = s_callvk 200 33 198 5 [0] 2 := rfl
theorem A200_30 {L : AL} {r : List Value} {a : Nat} {w0 : Value} : aw g 200 30 L (w0 :: .ref a :: r) σ Q = (hty σ a = some 5 ∧ (vI w0 && true) = true ∧ csum r ≤ 8 ∧ aw g 198 0 [some (.ref a), some w0] [] σ (kt (aw g) 200 33 L r Q)) := (aw_eq g 200 30 _ _ _ _).trans (by rw [tq200_30]; exact rfl)
theorem tq200_33 : tT g 200 33 = s_vret := rfl
theorem A200_33 {L : AL} : aw g 200 33 L [] σ Q = Q (.inl none) σ := (aw_eq g 200 33 _ _ _ _).trans (by rw [tq200_33]; exact rfl)
theorem tq201_0 : tT g 201 0 = s_new g 201 3 6 4 (fun k => defaultValue (tyX7 k)) := rfl
theorem A201_0 {L : AL} {r : List Value} : aw g 201 0 L r σ Q = (hsz σ + 1 ≤ gC g ∧ hsl σ + 4 ≤ gS g ∧ aw g 201 3 L (.ref (hsz σ) :: r) (hnew σ 6 0 (fun k => defaultValue (tyX7 k)) 4) Q) := (aw_eq g 201 0 _ _ _ _).trans (by rw [tq201_0]; exact rfl)
theorem tq201_3 : tT g 201 3 = s_dup 201 4 := rfl
theorem A201_3 {L : AL} {r : List Value} {v : Value} : aw g 201 3 L (v :: r) σ Q = (v.category = 1 ∧ aw g 201 4 L (v :: v :: r) σ Q) := (aw_eq g 201 3 _ _ _ _).trans (by rw [tq201_3]; exact rfl)
theorem tq201_4 : tT g 201 4 = s_callik 201 7 202 [] 1 := rfl
theorem A201_4 {L : AL} {r : List Value} {a : Nat} : aw g 201 4 L (.ref a :: r) σ Q = (true = true ∧ csum r ≤ 8 ∧ aw g 202 0 [some (.ref a)] [] σ (kt (aw g) 201 7 L r Q)) := (aw_eq g 201 4 _ _ _ _).trans (by rw [tq201_4]; exact rfl)
theorem tq201_7 : tT g 201 7 = s_store vRf 201 8 1 := rfl
theorem A201_7 {l0 : Option Value} {l1 : Option Value} {x : Value} {r : List Value} : aw g 201 7 [l0, l1] (x :: r) σ Q = (vRf x = true ∧ oc l0 = true ∧ aw g 201 8 [l0, some (x)] r σ Q) := (aw_eq g 201 7 _ _ _ _).trans (by rw [tq201_7]; exact (h_store (o := oc l0) rfl rfl rfl))
theorem tq201_8 : tT g 201 8 = s_load vRf 201 9 1 := rfl
theorem A201_8 {l0 : Option Value} {x : Value} {r : List Value} : aw g 201 8 [l0, some (x)] r σ Q = (vRf x = true ∧ aw g 201 9 [l0, some (x)] (x :: r) σ Q) := (aw_eq g 201 8 _ _ _ _).trans (by rw [tq201_8]; exact h_load rfl)
theorem tq201_9 : tT g 201 9 = s_getf 201 12 6 0 := rfl
theorem A201_9 {L : AL} {r : List Value} {a : Nat} : aw g 201 9 L (.ref a :: r) σ Q = (hty σ a = some 6 ∧ aw g 201 12 L (hv σ 6 a 0 :: r) σ Q) := (aw_eq g 201 9 _ _ _ _).trans (by rw [tq201_9]; exact rfl)
theorem tq201_12 : tT g 201 12 = s_load vRf 201 13 0 := rfl
theorem A201_12 {l1 : Option Value} {x : Value} {r : List Value} : aw g 201 12 [some (x), l1] r σ Q = (vRf x = true ∧ aw g 201 13 [some (x), l1] (x :: r) σ Q) := (aw_eq g 201 12 _ _ _ _).trans (by rw [tq201_12]; exact h_load rfl)
theorem tq201_13 : tT g 201 13 = s_getf 201 16 6 0 := rfl
theorem A201_13 {L : AL} {r : List Value} {a : Nat} : aw g 201 13 L (.ref a :: r) σ Q = (hty σ a = some 6 ∧ aw g 201 16 L (hv σ 6 a 0 :: r) σ Q) := (aw_eq g 201 13 _ _ _ _).trans (by rw [tq201_13]; exact rfl)
theorem tq201_16 : tT g 201 16 = s_callvk 201 19 27 10 [1] 6 := rfl
theorem A201_16 {L : AL} {r : List Value} {a : Nat} {w0 : Value} : aw g 201 16 L (w0 :: .ref a :: r) σ Q = (hty σ a = some 10 ∧ (vRf w0 && true) = true ∧ csum r ≤ 8 ∧ aw g 27 0 [some (.ref a), some w0, none, none, none, none] [] σ (kt (aw g) 201 19 L r Q)) := (aw_eq g 201 16 _ _ _ _).trans (by rw [tq201_16]; exact rfl)
theorem tq201_19 : tT g 201 19 = s_pop 201 20 := rfl
theorem A201_19 {L : AL} {r : List Value} {v : Value} : aw g 201 19 L (v :: r) σ Q = (v.category = 1 ∧ aw g 201 20 L r σ Q) := (aw_eq g 201 19 _ _ _ _).trans (by rw [tq201_19]; exact rfl)
theorem tq201_20 : tT g 201 20 = s_load vRf 201 21 0 := rfl
theorem A201_20 {l1 : Option Value} {x : Value} {r : List Value} : aw g 201 20 [some (x), l1] r σ Q = (vRf x = true ∧ aw g 201 21 [some (x), l1] (x :: r) σ Q) := (aw_eq g 201 20 _ _ _ _).trans (by rw [tq201_20]; exact h_load rfl)
theorem tq201_21 : tT g 201 21 = s_getf 201 24 6 1 := rfl
theorem A201_21 {L : AL} {r : List Value} {a : Nat} : aw g 201 21 L (.ref a :: r) σ Q = (hty σ a = some 6 ∧ aw g 201 24 L (hv σ 6 a 1 :: r) σ Q) := (aw_eq g 201 21 _ _ _ _).trans (by rw [tq201_21]; exact rfl)
theorem tq201_24 : tT g 201 24 = s_const 201 25 (.int 0) := rfl
theorem A201_24 {L : AL} {r : List Value} : aw g 201 24 L r σ Q = aw g 201 25 L (.int 0 :: r) σ Q := (aw_eq g 201 24 _ _ _ _).trans (by rw [tq201_24]; exact rfl)
theorem tq201_25 : tT g 201 25 = s_load vRf 201 26 1 := rfl
theorem A201_25 {l0 : Option Value} {x : Value} {r : List Value} : aw g 201 25 [l0, some (x)] r σ Q = (vRf x = true ∧ aw g 201 26 [l0, some (x)] (x :: r) σ Q) := (aw_eq g 201 25 _ _ _ _).trans (by rw [tq201_25]; exact h_load rfl)
theorem tq201_26 : tT g 201 26 = s_getf 201 29 6 1 := rfl
theorem A201_26 {L : AL} {r : List Value} {a : Nat} : aw g 201 26 L (.ref a :: r) σ Q = (hty σ a = some 6 ∧ aw g 201 29 L (hv σ 6 a 1 :: r) σ Q) := (aw_eq g 201 26 _ _ _ _).trans (by rw [tq201_26]; exact rfl)
theorem tq201_29 : tT g 201 29 = s_const 201 30 (.int 0) := rfl
theorem A201_29 {L : AL} {r : List Value} : aw g 201 29 L r σ Q = aw g 201 30 L (.int 0 :: r) σ Q := (aw_eq g 201 29 _ _ _ _).trans (by rw [tq201_29]; exact rfl)
theorem tq201_30 : tT g 201 30 = s_const 201 32 (.int 6) := rfl
theorem A201_30 {L : AL} {r : List Value} : aw g 201 30 L r σ Q = aw g 201 32 L (.int 6 :: r) σ Q := (aw_eq g 201 30 _ _ _ _).trans (by rw [tq201_30]; exact rfl)
theorem tq201_32 : tT g 201 32 = s_acopy g (fun _ v => vI v = true) 201 35 20 := rfl
theorem A201_32 {L : AL} {r : List Value} {s e : Nat} {x z k : Int32} : aw g 201 32 L (.int k :: .int z :: .ref e :: .int x :: .ref s :: r) σ Q = (hty σ s = some 20 ∧ hty σ e = some 20 ∧ gB g ≤ e ∧ csum r ≤ 8 ∧ ¬ k < 0 ∧ ¬ x < 0 ∧ ¬ z < 0 ∧ x.toNatClampNeg + k.toNatClampNeg ≤ hln σ s ∧ z.toNatClampNeg + k.toNatClampNeg ≤ hln σ e ∧ (∀ i, i < k.toNatClampNeg → vI (hv σ 20 s (x.toNatClampNeg + i)) = true) ∧ aw g 201 35 L r (hcpy σ 20 s x.toNatClampNeg e z.toNatClampNeg k.toNatClampNeg) Q) := (aw_eq g 201 32 _ _ _ _).trans (by rw [tq201_32]; exact rfl)
theorem tq201_35 : tT g 201 35 = s_load vRf 201 36 1 := rfl
theorem A201_35 {l0 : Option Value} {x : Value} {r : List Value} : aw g 201 35 [l0, some (x)] r σ Q = (vRf x = true ∧ aw g 201 36 [l0, some (x)] (x :: r) σ Q) := (aw_eq g 201 35 _ _ _ _).trans (by rw [tq201_35]; exact h_load rfl)
theorem tq201_36 : tT g 201 36 = s_load vRf 201 37 0 := rfl
theorem A201_36 {l1 : Option Value} {x : Value} {r : List Value} : aw g 201 36 [some (x), l1] r σ Q = (vRf x = true ∧ aw g 201 37 [some (x), l1] (x :: r) σ Q) := (aw_eq g 201 36 _ _ _ _).trans (by rw [tq201_36]; exact h_load rfl)
theorem tq201_37 : tT g 201 37 = s_getf 201 40 6 2 := rfl
theorem A201_37 {L : AL} {r : List Value} {a : Nat} : aw g 201 37 L (.ref a :: r) σ Q = (hty σ a = some 6 ∧ aw g 201 40 L (hv σ 6 a 2 :: r) σ Q) := (aw_eq g 201 37 _ _ _ _).trans (by rw [tq201_37]; exact rfl)
theorem tq201_40 : tT g 201 40 = s_putf g pI 201 43 6 2 := rfl
theorem A201_40 {L : AL} {r : List Value} {a : Nat} {v : Value} : aw g 201 40 L (v :: .ref a :: r) σ Q = (hty σ a = some 6 ∧ gB g ≤ a ∧ pI v ∧ aw g 201 43 L r (hput σ 6 a 2 v) Q) := (aw_eq g 201 40 _ _ _ _).trans (by rw [tq201_40]; exact rfl)
theorem tq201_43 : tT g 201 43 = s_load vRf 201 44 1 := rfl
theorem A201_43 {l0 : Option Value} {x : Value} {r : List Value} : aw g 201 43 [l0, some (x)] r σ Q = (vRf x = true ∧ aw g 201 44 [l0, some (x)] (x :: r) σ Q) := (aw_eq g 201 43 _ _ _ _).trans (by rw [tq201_43]; exact h_load rfl)
theorem tq201_44 : tT g 201 44 = s_load vRf 201 45 0 := rfl
theorem A201_44 {l1 : Option Value} {x : Value} {r : List Value} : aw g 201 44 [some (x), l1] r σ Q = (vRf x = true ∧ aw g 201 45 [some (x), l1] (x :: r) σ Q) := (aw_eq g 201 44 _ _ _ _).trans (by rw [tq201_44]; exact h_load rfl)
theorem tq201_45 : tT g 201 45 = s_getf 201 48 6 3 := rfl
theorem A201_45 {L : AL} {r : List Value} {a : Nat} : aw g 201 45 L (.ref a :: r) σ Q = (hty σ a = some 6 ∧ aw g 201 48 L (hv σ 6 a 3 :: r) σ Q) := (aw_eq g 201 45 _ _ _ _).trans (by rw [tq201_45]; exact rfl)
theorem tq201_48 : tT g 201 48 = s_putf g pI 201 51 6 3 := rfl
theorem A201_48 {L : AL} {r : List Value} {a : Nat} {v : Value} : aw g 201 48 L (v :: .ref a :: r) σ Q = (hty σ a = some 6 ∧ gB g ≤ a ∧ pI v ∧ aw g 201 51 L r (hput σ 6 a 3 v) Q) := (aw_eq g 201 48 _ _ _ _).trans (by rw [tq201_48]; exact rfl)
theorem tq201_51 : tT g 201 51 = s_load vRf 201 52 1 := rfl
theorem A201_51 {l0 : Option Value} {x : Value} {r : List Value} : aw g 201 51 [l0, some (x)] r σ Q = (vRf x = true ∧ aw g 201 52 [l0, some (x)] (x :: r) σ Q) := (aw_eq g 201 51 _ _ _ _).trans (by rw [tq201_51]; exact h_load rfl)
theorem tq201_52 : tT g 201 52 = s_ret pR := rfl
theorem A201_52 {L : AL} {v : Value} : aw g 201 52 L [v] σ Q = (pR v ∧ Q (.inl (some v)) σ) := (aw_eq g 201 52 _ _ _ _).trans (by rw [tq201_52]; exact rfl)
theorem tq202_0 : tT g 202 0 = s_load vRf 202 1 0 := rfl
theorem A202_0  {x : Value} {r : List Value} : aw g 202 0 [some (x)] r σ Q = (vRf x = true ∧ aw g 202 1 [some (x)] (x :: r) σ Q) := (aw_eq g 202 0 _ _ _ _).trans (by rw [tq202_0]; exact h_load rfl)
theorem tq202_1 : tT g 202 1 = s_oinit 202 4 := rfl
theorem A202_1 {L : AL} {r : List Value} {a : Nat} : aw g 202 1 L (.ref a :: r) σ Q = (csum r ≤ 8 ∧ aw g 202 4 L r σ Q) := (aw_eq g 202 1 _ _ _ _).trans (by rw [tq202_1]; exact rfl)
theorem tq202_4 : tT g 202 4 = s_load vRf 202 5 0 := rfl
theorem A202_4  {x : Value} {r : List Value} : aw g 202 4 [some (x)] r σ Q = (vRf x = true ∧ aw g 202 5 [some (x)] (x :: r) σ Q) := (aw_eq g 202 4 _ _ _ _).trans (by rw [tq202_4]; exact h_load rfl)
theorem tq202_5 : tT g 202 5 = s_new g 202 8 10 3 (fun k => defaultValue (tyJ2 k)) := rfl
theorem A202_5 {L : AL} {r : List Value} : aw g 202 5 L r σ Q = (hsz σ + 1 ≤ gC g ∧ hsl σ + 3 ≤ gS g ∧ aw g 202 8 L (.ref (hsz σ) :: r) (hnew σ 10 0 (fun k => defaultValue (tyJ2 k)) 3) Q) := (aw_eq g 202 5 _ _ _ _).trans (by rw [tq202_5]; exact rfl)
theorem tq202_8 : tT g 202 8 = s_dup 202 9 := rfl
theorem A202_8 {L : AL} {r : List Value} {v : Value} : aw g 202 8 L (v :: r) σ Q = (v.category = 1 ∧ aw g 202 9 L (v :: v :: r) σ Q) := (aw_eq g 202 8 _ _ _ _).trans (by rw [tq202_8]; exact rfl)
theorem tq202_9 : tT g 202 9 = s_callik 202 12 14 [] 1 := rfl
theorem A202_9 {L : AL} {r : List Value} {a : Nat} : aw g 202 9 L (.ref a :: r) σ Q = (true = true ∧ csum r ≤ 8 ∧ aw g 14 0 [some (.ref a)] [] σ (kt (aw g) 202 12 L r Q)) := (aw_eq g 202 9 _ _ _ _).trans (by rw [tq202_9]; exact rfl)
theorem tq202_12 : tT g 202 12 = s_putf g pR 202 15 6 0 := rfl
theorem A202_12 {L : AL} {r : List Value} {a : Nat} {v : Value} : aw g 202 12 L (v :: .ref a :: r) σ Q = (hty σ a = some 6 ∧ gB g ≤ a ∧ pR v ∧ aw g 202 15 L r (hput σ 6 a 0 v) Q) := (aw_eq g 202 12 _ _ _ _).trans (by rw [tq202_12]; exact rfl)
theorem tq202_15 : tT g 202 15 = s_load vRf 202 16 0 := rfl
theorem A202_15  {x : Value} {r : List Value} : aw g 202 15 [some (x)] r σ Q = (vRf x = true ∧ aw g 202 16 [some (x)] (x :: r) σ Q) := (aw_eq g 202 15 _ _ _ _).trans (by rw [tq202_15]; exact h_load rfl)
theorem tq202_16 : tT g 202 16 = s_const 202 18 (.int 6) := rfl
theorem A202_16 {L : AL} {r : List Value} : aw g 202 16 L r σ Q = aw g 202 18 L (.int 6 :: r) σ Q := (aw_eq g 202 16 _ _ _ _).trans (by rw [tq202_16]; exact rfl)
theorem tq202_18 : tT g 202 18 = s_newa g 202 20 20 (.int 0) := rfl
theorem A202_18 {L : AL} {r : List Value} {x : Int32} : aw g 202 18 L (.int x :: r) σ Q = (¬ x < 0 ∧ x.toNatClampNeg ≤ 65536 ∧ hsz σ + 1 ≤ gC g ∧ hsl σ + x.toNatClampNeg ≤ gS g ∧ aw g 202 20 L (.ref (hsz σ) :: r) (hnew σ 20 x.toNatClampNeg (fun _ => .int 0) x.toNatClampNeg) Q) := (aw_eq g 202 18 _ _ _ _).trans (by rw [tq202_18]; exact rfl)
theorem tq202_20 : tT g 202 20 = s_putf g pR 202 23 6 1 := rfl
theorem A202_20 {L : AL} {r : List Value} {a : Nat} {v : Value} : aw g 202 20 L (v :: .ref a :: r) σ Q = (hty σ a = some 6 ∧ gB g ≤ a ∧ pR v ∧ aw g 202 23 L r (hput σ 6 a 1 v) Q) := (aw_eq g 202 20 _ _ _ _).trans (by rw [tq202_20]; exact rfl)
theorem tq202_23 : tT g 202 23 = s_vret := rfl
theorem A202_23 {L : AL} : aw g 202 23 L [] σ Q = Q (.inl none) σ := (aw_eq g 202 23 _ _ _ _).trans (by rw [tq202_23]; exact rfl)
theorem tq203_0 : tT g 203 0 = s_load vRf 203 1 0 := rfl
theorem A203_0  {x : Value} {r : List Value} : aw g 203 0 [some (x)] r σ Q = (vRf x = true ∧ aw g 203 1 [some (x)] (x :: r) σ Q) := (aw_eq g 203 0 _ _ _ _).trans (by rw [tq203_0]; exact h_load rfl)
theorem tq203_1 : tT g 203 1 = s_getf 203 4 6 0 := rfl
theorem A203_1 {L : AL} {r : List Value} {a : Nat} : aw g 203 1 L (.ref a :: r) σ Q = (hty σ a = some 6 ∧ aw g 203 4 L (hv σ 6 a 0 :: r) σ Q) := (aw_eq g 203 1 _ _ _ _).trans (by rw [tq203_1]; exact rfl)
theorem tq203_4 : tT g 203 4 = s_load vRf 203 5 0 := rfl
theorem A203_4  {x : Value} {r : List Value} : aw g 203 4 [some (x)] r σ Q = (vRf x = true ∧ aw g 203 5 [some (x)] (x :: r) σ Q) := (aw_eq g 203 4 _ _ _ _).trans (by rw [tq203_4]; exact h_load rfl)
theorem tq203_5 : tT g 203 5 = s_getf 203 8 6 2 := rfl
theorem A203_5 {L : AL} {r : List Value} {a : Nat} : aw g 203 5 L (.ref a :: r) σ Q = (hty σ a = some 6 ∧ aw g 203 8 L (hv σ 6 a 2 :: r) σ Q) := (aw_eq g 203 5 _ _ _ _).trans (by rw [tq203_5]; exact rfl)
theorem tq203_8 : tT g 203 8 = s_callvk 203 11 25 10 [0] 2 := rfl
theorem A203_8 {L : AL} {r : List Value} {a : Nat} {w0 : Value} : aw g 203 8 L (w0 :: .ref a :: r) σ Q = (hty σ a = some 10 ∧ (vI w0 && true) = true ∧ csum r ≤ 8 ∧ aw g 25 0 [some (.ref a), some w0] [] σ (kt (aw g) 203 11 L r Q)) := (aw_eq g 203 8 _ _ _ _).trans (by rw [tq203_8]; exact rfl)
theorem tq203_11 : tT g 203 11 = s_cast 203 14 [8] := rfl
theorem A203_11 {L : AL} {r : List Value} : aw g 203 11 L (.null :: r) σ Q = aw g 203 14 L (.null :: r) σ Q := (aw_eq g 203 11 _ _ _ _).trans (by rw [tq203_11]; exact rfl)
theorem A203_11r {L : AL} {r : List Value} {a : Nat} : aw g 203 11 L (.ref a :: r) σ Q = (hty σ a = some 8 ∧ aw g 203 14 L (.ref a :: r) σ Q) := (aw_eq g 203 11 _ _ _ _).trans (by rw [tq203_11]; exact propext ⟨fun z => (by obtain ⟨⟨u, hu, hu2⟩, z2⟩ := z; rw [List.mem_singleton] at hu; subst hu; exact ⟨hu2, z2⟩), fun z => ⟨⟨_, List.mem_cons_self, z.1⟩, z.2⟩⟩)
theorem tq203_14 : tT g 203 14 = s_ret pR := rfl
theorem A203_14 {L : AL} {v : Value} : aw g 203 14 L [v] σ Q = (pR v ∧ Q (.inl (some v)) σ) := (aw_eq g 203 14 _ _ _ _).trans (by rw [tq203_14]; exact rfl)
theorem tq204_0 : tT g 204 0 = s_load vRf 204 1 0 := rfl
theorem A204_0 {l1 : Option Value} {l2 : Option Value} {x : Value} {r : List Value} : aw g 204 0 [some (x), l1, l2] r σ Q = (vRf x = true ∧ aw g 204 1 [some (x), l1, l2] (x :: r) σ Q) := (aw_eq g 204 0 _ _ _ _).trans (by rw [tq204_0]; exact h_load rfl)
theorem tq204_1 : tT g 204 1 = s_callvk 204 4 203 6 [] 1 := rfl
theorem A204_1 {L : AL} {r : List Value} {a : Nat} : aw g 204 1 L (.ref a :: r) σ Q = (hty σ a = some 6 ∧ true = true ∧ csum r ≤ 8 ∧ aw g 203 0 [some (.ref a)] [] σ (kt (aw g) 204 4 L r Q)) := (aw_eq g 204 1 _ _ _ _).trans (by rw [tq204_1]; exact rfl)
theorem tq204_4 : tT g 204 4 = s_store vRf 204 5 2 := rfl
theorem A204_4 {l0 : Option Value} {l1 : Option Value} {l2 : Option Value} {x : Value} {r : List Value} : aw g 204 4 [l0, l1, l2] (x :: r) σ Q = (vRf x = true ∧ oc l1 = true ∧ aw g 204 5 [l0, l1, some (x)] r σ Q) := (aw_eq g 204 4 _ _ _ _).trans (by rw [tq204_4]; exact (h_store (o := oc l1) rfl rfl rfl))
theorem tq204_5 : tT g 204 5 = s_load vRf 204 6 2 := rfl
theorem A204_5 {l0 : Option Value} {l1 : Option Value} {x : Value} {r : List Value} : aw g 204 5 [l0, l1, some (x)] r σ Q = (vRf x = true ∧ aw g 204 6 [l0, l1, some (x)] (x :: r) σ Q) := (aw_eq g 204 5 _ _ _ _).trans (by rw [tq204_5]; exact h_load rfl)
theorem tq204_6 : tT g 204 6 = s_getf 204 9 8 0 := rfl
theorem A204_6 {L : AL} {r : List Value} {a : Nat} : aw g 204 6 L (.ref a :: r) σ Q = (hty σ a = some 8 ∧ aw g 204 9 L (hv σ 8 a 0 :: r) σ Q) := (aw_eq g 204 6 _ _ _ _).trans (by rw [tq204_6]; exact rfl)
theorem tq204_9 : tT g 204 9 = s_tsw 204 (tswf 1 134 [44, 71, 134, 105, 122]) := rfl
theorem A204_9 {L : AL} {r : List Value} {a : Int32} : aw g 204 9 L (.int a :: r) σ Q = aw g 204 (tswf 1 134 [44, 71, 134, 105, 122] a) L r σ Q := (aw_eq g 204 9 _ _ _ _).trans (by rw [tq204_9]; exact rfl)
theorem tq204_44 : tT g 204 44 = s_load vRf 204 45 0 := rfl
theorem A204_44 {l1 : Option Value} {l2 : Option Value} {x : Value} {r : List Value} : aw g 204 44 [some (x), l1, l2] r σ Q = (vRf x = true ∧ aw g 204 45 [some (x), l1, l2] (x :: r) σ Q) := (aw_eq g 204 44 _ _ _ _).trans (by rw [tq204_44]; exact h_load rfl)
theorem tq204_45 : tT g 204 45 = s_load vRf 204 46 0 := rfl
theorem A204_45 {l1 : Option Value} {l2 : Option Value} {x : Value} {r : List Value} : aw g 204 45 [some (x), l1, l2] r σ Q = (vRf x = true ∧ aw g 204 46 [some (x), l1, l2] (x :: r) σ Q) := (aw_eq g 204 45 _ _ _ _).trans (by rw [tq204_45]; exact h_load rfl)
theorem tq204_46 : tT g 204 46 = s_getf 204 49 6 3 := rfl
theorem A204_46 {L : AL} {r : List Value} {a : Nat} : aw g 204 46 L (.ref a :: r) σ Q = (hty σ a = some 6 ∧ aw g 204 49 L (hv σ 6 a 3 :: r) σ Q) := (aw_eq g 204 46 _ _ _ _).trans (by rw [tq204_46]; exact rfl)
theorem tq204_49 : tT g 204 49 = s_load vRf 204 50 0 := rfl
theorem A204_49 {l1 : Option Value} {l2 : Option Value} {x : Value} {r : List Value} : aw g 204 49 [some (x), l1, l2] r σ Q = (vRf x = true ∧ aw g 204 50 [some (x), l1, l2] (x :: r) σ Q) := (aw_eq g 204 49 _ _ _ _).trans (by rw [tq204_49]; exact h_load rfl)
theorem tq204_50 : tT g 204 50 = s_getf 204 53 6 1 := rfl
theorem A204_50 {L : AL} {r : List Value} {a : Nat} : aw g 204 50 L (.ref a :: r) σ Q = (hty σ a = some 6 ∧ aw g 204 53 L (hv σ 6 a 1 :: r) σ Q) := (aw_eq g 204 50 _ _ _ _).trans (by rw [tq204_50]; exact rfl)
theorem tq204_53 : tT g 204 53 = s_load vRf 204 54 2 := rfl
theorem A204_53 {l0 : Option Value} {l1 : Option Value} {x : Value} {r : List Value} : aw g 204 53 [l0, l1, some (x)] r σ Q = (vRf x = true ∧ aw g 204 54 [l0, l1, some (x)] (x :: r) σ Q) := (aw_eq g 204 53 _ _ _ _).trans (by rw [tq204_53]; exact h_load rfl)
theorem tq204_54 : tT g 204 54 = s_getf 204 57 8 1 := rfl
theorem A204_54 {L : AL} {r : List Value} {a : Nat} : aw g 204 54 L (.ref a :: r) σ Q = (hty σ a = some 8 ∧ aw g 204 57 L (hv σ 8 a 1 :: r) σ Q) := (aw_eq g 204 54 _ _ _ _).trans (by rw [tq204_54]; exact rfl)
theorem tq204_57 : tT g 204 57 = s_ald 204 58 20 := rfl
theorem A204_57 {L : AL} {r : List Value} {a : Nat} {i : Int32} : aw g 204 57 L (.int i :: .ref a :: r) σ Q = (hty σ a = some 20 ∧ ¬ i < 0 ∧ i.toNatClampNeg < hln σ a ∧ aw g 204 58 L (hv σ 20 a i.toNatClampNeg :: r) σ Q) := (aw_eq g 204 57 _ _ _ _).trans (by rw [tq204_57]; exact rfl)
theorem tq204_58 : tT g 204 58 = s_bin 204 59 (fun a b => a + b) := rfl
theorem A204_58 {L : AL} {r : List Value} {a b : Int32} : aw g 204 58 L (.int b :: .int a :: r) σ Q = aw g 204 59 L (.int (a + b) :: r) σ Q := (aw_eq g 204 58 _ _ _ _).trans (by rw [tq204_58]; exact rfl)
theorem tq204_59 : tT g 204 59 = s_const 204 60 (.int 1) := rfl
theorem A204_59 {L : AL} {r : List Value} : aw g 204 59 L r σ Q = aw g 204 60 L (.int 1 :: r) σ Q := (aw_eq g 204 59 _ _ _ _).trans (by rw [tq204_59]; exact rfl)
theorem tq204_60 : tT g 204 60 = s_bin 204 61 (fun a b => a + b) := rfl
theorem A204_60 {L : AL} {r : List Value} {a b : Int32} : aw g 204 60 L (.int b :: .int a :: r) σ Q = aw g 204 61 L (.int (a + b) :: r) σ Q := (aw_eq g 204 60 _ _ _ _).trans (by rw [tq204_60]; exact rfl)
theorem tq204_61 : tT g 204 61 = s_const 204 64 (.int 1000) := rfl
theorem A204_61 {L : AL} {r : List Value} : aw g 204 61 L r σ Q = aw g 204 64 L (.int 1000 :: r) σ Q := (aw_eq g 204 61 _ _ _ _).trans (by rw [tq204_61]; exact rfl)
theorem tq204_64 : tT g 204 64 = s_div 204 65 (fun a b => a - a / b * b) := rfl
theorem A204_64 {L : AL} {r : List Value} {a b : Int32} : aw g 204 64 L (.int b :: .int a :: r) σ Q = (b ≠ 0 ∧ aw g 204 65 L (.int (a - a / b * b) :: r) σ Q) := (aw_eq g 204 64 _ _ _ _).trans (by rw [tq204_64]; exact rfl)
theorem tq204_65 : tT g 204 65 = s_putf g pI 204 68 6 3 := rfl
theorem A204_65 {L : AL} {r : List Value} {a : Nat} {v : Value} : aw g 204 65 L (v :: .ref a :: r) σ Q = (hty σ a = some 6 ∧ gB g ≤ a ∧ pI v ∧ aw g 204 68 L r (hput σ 6 a 3 v) Q) := (aw_eq g 204 65 _ _ _ _).trans (by rw [tq204_65]; exact rfl)
theorem tq204_68 : tT g 204 68 = s_goto 204 134 := rfl
theorem A204_68 {L : AL} {r : List Value} : aw g 204 68 L r σ Q = aw g 204 134 L r σ Q := (aw_eq g 204 68 _ _ _ _).trans (by rw [tq204_68]; exact rfl)
theorem tq204_71 : tT g 204 71 = s_load vRf 204 72 0 := rfl
theorem A204_71 {l1 : Option Value} {l2 : Option Value} {x : Value} {r : List Value} : aw g 204 71 [some (x), l1, l2] r σ Q = (vRf x = true ∧ aw g 204 72 [some (x), l1, l2] (x :: r) σ Q) := (aw_eq g 204 71 _ _ _ _).trans (by rw [tq204_71]; exact h_load rfl)
theorem tq204_72 : tT g 204 72 = s_getf 204 75 6 1 := rfl
theorem A204_72 {L : AL} {r : List Value} {a : Nat} : aw g 204 72 L (.ref a :: r) σ Q = (hty σ a = some 6 ∧ aw g 204 75 L (hv σ 6 a 1 :: r) σ Q) := (aw_eq g 204 72 _ _ _ _).trans (by rw [tq204_72]; exact rfl)
theorem tq204_75 : tT g 204 75 = s_load vRf 204 76 2 := rfl
theorem A204_75 {l0 : Option Value} {l1 : Option Value} {x : Value} {r : List Value} : aw g 204 75 [l0, l1, some (x)] r σ Q = (vRf x = true ∧ aw g 204 76 [l0, l1, some (x)] (x :: r) σ Q) := (aw_eq g 204 75 _ _ _ _).trans (by rw [tq204_75]; exact h_load rfl)
theorem tq204_76 : tT g 204 76 = s_getf 204 79 8 1 := rfl
theorem A204_76 {L : AL} {r : List Value} {a : Nat} : aw g 204 76 L (.ref a :: r) σ Q = (hty σ a = some 8 ∧ aw g 204 79 L (hv σ 8 a 1 :: r) σ Q) := (aw_eq g 204 76 _ _ _ _).trans (by rw [tq204_76]; exact rfl)
theorem tq204_79 : tT g 204 79 = s_const 204 80 (.int 3) := rfl
theorem A204_79 {L : AL} {r : List Value} : aw g 204 79 L r σ Q = aw g 204 80 L (.int 3 :: r) σ Q := (aw_eq g 204 79 _ _ _ _).trans (by rw [tq204_79]; exact rfl)
theorem tq204_80 : tT g 204 80 = s_load vRf 204 81 0 := rfl
theorem A204_80 {l1 : Option Value} {l2 : Option Value} {x : Value} {r : List Value} : aw g 204 80 [some (x), l1, l2] r σ Q = (vRf x = true ∧ aw g 204 81 [some (x), l1, l2] (x :: r) σ Q) := (aw_eq g 204 80 _ _ _ _).trans (by rw [tq204_80]; exact h_load rfl)
theorem tq204_81 : tT g 204 81 = s_getf 204 84 6 1 := rfl
theorem A204_81 {L : AL} {r : List Value} {a : Nat} : aw g 204 81 L (.ref a :: r) σ Q = (hty σ a = some 6 ∧ aw g 204 84 L (hv σ 6 a 1 :: r) σ Q) := (aw_eq g 204 81 _ _ _ _).trans (by rw [tq204_81]; exact rfl)
theorem tq204_84 : tT g 204 84 = s_load vRf 204 85 2 := rfl
theorem A204_84 {l0 : Option Value} {l1 : Option Value} {x : Value} {r : List Value} : aw g 204 84 [l0, l1, some (x)] r σ Q = (vRf x = true ∧ aw g 204 85 [l0, l1, some (x)] (x :: r) σ Q) := (aw_eq g 204 84 _ _ _ _).trans (by rw [tq204_84]; exact h_load rfl)
theorem tq204_85 : tT g 204 85 = s_getf 204 88 8 1 := rfl
theorem A204_85 {L : AL} {r : List Value} {a : Nat} : aw g 204 85 L (.ref a :: r) σ Q = (hty σ a = some 8 ∧ aw g 204 88 L (hv σ 8 a 1 :: r) σ Q) := (aw_eq g 204 85 _ _ _ _).trans (by rw [tq204_85]; exact rfl)
theorem tq204_88 : tT g 204 88 = s_ald 204 89 20 := rfl
theorem A204_88 {L : AL} {r : List Value} {a : Nat} {i : Int32} : aw g 204 88 L (.int i :: .ref a :: r) σ Q = (hty σ a = some 20 ∧ ¬ i < 0 ∧ i.toNatClampNeg < hln σ a ∧ aw g 204 89 L (hv σ 20 a i.toNatClampNeg :: r) σ Q) := (aw_eq g 204 88 _ _ _ _).trans (by rw [tq204_88]; exact rfl)
theorem tq204_89 : tT g 204 89 = s_bin 204 90 (fun a b => a * b) := rfl
theorem A204_89 {L : AL} {r : List Value} {a b : Int32} : aw g 204 89 L (.int b :: .int a :: r) σ Q = aw g 204 90 L (.int (a * b) :: r) σ Q := (aw_eq g 204 89 _ _ _ _).trans (by rw [tq204_89]; exact rfl)
theorem tq204_90 : tT g 204 90 = s_load vRf 204 91 0 := rfl
theorem A204_90 {l1 : Option Value} {l2 : Option Value} {x : Value} {r : List Value} : aw g 204 90 [some (x), l1, l2] r σ Q = (vRf x = true ∧ aw g 204 91 [some (x), l1, l2] (x :: r) σ Q) := (aw_eq g 204 90 _ _ _ _).trans (by rw [tq204_90]; exact h_load rfl)
theorem tq204_91 : tT g 204 91 = s_getf 204 94 6 3 := rfl
theorem A204_91 {L : AL} {r : List Value} {a : Nat} : aw g 204 91 L (.ref a :: r) σ Q = (hty σ a = some 6 ∧ aw g 204 94 L (hv σ 6 a 3 :: r) σ Q) := (aw_eq g 204 91 _ _ _ _).trans (by rw [tq204_91]; exact rfl)
theorem tq204_94 : tT g 204 94 = s_bin 204 95 (fun a b => a + b) := rfl
theorem A204_94 {L : AL} {r : List Value} {a b : Int32} : aw g 204 94 L (.int b :: .int a :: r) σ Q = aw g 204 95 L (.int (a + b) :: r) σ Q := (aw_eq g 204 94 _ _ _ _).trans (by rw [tq204_94]; exact rfl)
theorem tq204_95 : tT g 204 95 = s_const 204 96 (.int 1) := rfl
theorem A204_95 {L : AL} {r : List Value} : aw g 204 95 L r σ Q = aw g 204 96 L (.int 1 :: r) σ Q := (aw_eq g 204 95 _ _ _ _).trans (by rw [tq204_95]; exact rfl)
theorem tq204_96 : tT g 204 96 = s_bin 204 97 (fun a b => a + b) := rfl
theorem A204_96 {L : AL} {r : List Value} {a b : Int32} : aw g 204 96 L (.int b :: .int a :: r) σ Q = aw g 204 97 L (.int (a + b) :: r) σ Q := (aw_eq g 204 96 _ _ _ _).trans (by rw [tq204_96]; exact rfl)
theorem tq204_97 : tT g 204 97 = s_const 204 100 (.int 1000) := rfl
theorem A204_97 {L : AL} {r : List Value} : aw g 204 97 L r σ Q = aw g 204 100 L (.int 1000 :: r) σ Q := (aw_eq g 204 97 _ _ _ _).trans (by rw [tq204_97]; exact rfl)
theorem tq204_100 : tT g 204 100 = s_div 204 101 (fun a b => a - a / b * b) := rfl
theorem A204_100 {L : AL} {r : List Value} {a b : Int32} : aw g 204 100 L (.int b :: .int a :: r) σ Q = (b ≠ 0 ∧ aw g 204 101 L (.int (a - a / b * b) :: r) σ Q) := (aw_eq g 204 100 _ _ _ _).trans (by rw [tq204_100]; exact rfl)
theorem tq204_101 : tT g 204 101 = s_ast g (fun _ v => vI v = true) 204 102 20 := rfl
theorem A204_101 {L : AL} {r : List Value} {a : Nat} {i : Int32} {v : Value} : aw g 204 101 L (v :: .int i :: .ref a :: r) σ Q = (hty σ a = some 20 ∧ gB g ≤ a ∧ ¬ i < 0 ∧ i.toNatClampNeg < hln σ a ∧ vI v = true ∧ aw g 204 102 L r (hput σ 20 a i.toNatClampNeg v) Q) := (aw_eq g 204 101 _ _ _ _).trans (by rw [tq204_101]; exact rfl)
theorem tq204_102 : tT g 204 102 = s_goto 204 134 := rfl
theorem A204_102 {L : AL} {r : List Value} : aw g 204 102 L r σ Q = aw g 204 134 L r σ Q := (aw_eq g 204 102 _ _ _ _).trans (by rw [tq204_102]; exact rfl)
theorem tq204_105 : tT g 204 105 = s_load vRf 204 106 0 := rfl
theorem A204_105 {l1 : Option Value} {l2 : Option Value} {x : Value} {r : List Value} : aw g 204 105 [some (x), l1, l2] r σ Q = (vRf x = true ∧ aw g 204 106 [some (x), l1, l2] (x :: r) σ Q) := (aw_eq g 204 105 _ _ _ _).trans (by rw [tq204_105]; exact h_load rfl)
theorem tq204_106 : tT g 204 106 = s_load vRf 204 107 0 := rfl
theorem A204_106 {l1 : Option Value} {l2 : Option Value} {x : Value} {r : List Value} : aw g 204 106 [some (x), l1, l2] r σ Q = (vRf x = true ∧ aw g 204 107 [some (x), l1, l2] (x :: r) σ Q) := (aw_eq g 204 106 _ _ _ _).trans (by rw [tq204_106]; exact h_load rfl)
theorem tq204_107 : tT g 204 107 = s_getf 204 110 6 3 := rfl
theorem A204_107 {L : AL} {r : List Value} {a : Nat} : aw g 204 107 L (.ref a :: r) σ Q = (hty σ a = some 6 ∧ aw g 204 110 L (hv σ 6 a 3 :: r) σ Q) := (aw_eq g 204 107 _ _ _ _).trans (by rw [tq204_107]; exact rfl)
theorem tq204_110 : tT g 204 110 = s_load vI 204 111 1 := rfl
theorem A204_110 {l0 : Option Value} {l2 : Option Value} {x : Int32} {r : List Value} : aw g 204 110 [l0, some (.int x), l2] r σ Q = aw g 204 111 [l0, some (.int x), l2] (.int x :: r) σ Q := (aw_eq g 204 110 _ _ _ _).trans (by rw [tq204_110]; exact (h_load rfl).trans (propext ⟨fun z => z.2, fun z => ⟨rfl, z⟩⟩))
theorem tq204_111 : tT g 204 111 = s_bin 204 112 (fun a b => a + b) := rfl
theorem A204_111 {L : AL} {r : List Value} {a b : Int32} : aw g 204 111 L (.int b :: .int a :: r) σ Q = aw g 204 112 L (.int (a + b) :: r) σ Q := (aw_eq g 204 111 _ _ _ _).trans (by rw [tq204_111]; exact rfl)
theorem tq204_112 : tT g 204 112 = s_const 204 115 (.int 1000) := rfl
theorem A204_112 {L : AL} {r : List Value} : aw g 204 112 L r σ Q = aw g 204 115 L (.int 1000 :: r) σ Q := (aw_eq g 204 112 _ _ _ _).trans (by rw [tq204_112]; exact rfl)
theorem tq204_115 : tT g 204 115 = s_div 204 116 (fun a b => a - a / b * b) := rfl
theorem A204_115 {L : AL} {r : List Value} {a b : Int32} : aw g 204 115 L (.int b :: .int a :: r) σ Q = (b ≠ 0 ∧ aw g 204 116 L (.int (a - a / b * b) :: r) σ Q) := (aw_eq g 204 115 _ _ _ _).trans (by rw [tq204_115]; exact rfl)
theorem tq204_116 : tT g 204 116 = s_putf g pI 204 119 6 3 := rfl
theorem A204_116 {L : AL} {r : List Value} {a : Nat} {v : Value} : aw g 204 116 L (v :: .ref a :: r) σ Q = (hty σ a = some 6 ∧ gB g ≤ a ∧ pI v ∧ aw g 204 119 L r (hput σ 6 a 3 v) Q) := (aw_eq g 204 116 _ _ _ _).trans (by rw [tq204_116]; exact rfl)
theorem tq204_119 : tT g 204 119 = s_goto 204 134 := rfl
theorem A204_119 {L : AL} {r : List Value} : aw g 204 119 L r σ Q = aw g 204 134 L r σ Q := (aw_eq g 204 119 _ _ _ _).trans (by rw [tq204_119]; exact rfl)
theorem tq204_122 : tT g 204 122 = s_load vRf 204 123 0 := rfl
theorem A204_122 {l1 : Option Value} {l2 : Option Value} {x : Value} {r : List Value} : aw g 204 122 [some (x), l1, l2] r σ Q = (vRf x = true ∧ aw g 204 123 [some (x), l1, l2] (x :: r) σ Q) := (aw_eq g 204 122 _ _ _ _).trans (by rw [tq204_122]; exact h_load rfl)
theorem tq204_123 : tT g 204 123 = s_load vI 204 124 1 := rfl
theorem A204_123 {l0 : Option Value} {l2 : Option Value} {x : Int32} {r : List Value} : aw g 204 123 [l0, some (.int x), l2] r σ Q = aw g 204 124 [l0, some (.int x), l2] (.int x :: r) σ Q := (aw_eq g 204 123 _ _ _ _).trans (by rw [tq204_123]; exact (h_load rfl).trans (propext ⟨fun z => z.2, fun z => ⟨rfl, z⟩⟩))
theorem tq204_124 : tT g 204 124 = s_const 204 127 (.int 1000) := rfl
theorem A204_124 {L : AL} {r : List Value} : aw g 204 124 L r σ Q = aw g 204 127 L (.int 1000 :: r) σ Q := (aw_eq g 204 124 _ _ _ _).trans (by rw [tq204_124]; exact rfl)
theorem tq204_127 : tT g 204 127 = s_div 204 128 (fun a b => a - a / b * b) := rfl
theorem A204_127 {L : AL} {r : List Value} {a b : Int32} : aw g 204 127 L (.int b :: .int a :: r) σ Q = (b ≠ 0 ∧ aw g 204 128 L (.int (a - a / b * b) :: r) σ Q) := (aw_eq g 204 127 _ _ _ _).trans (by rw [tq204_127]; exact rfl)
theorem tq204_128 : tT g 204 128 = s_putf g pI 204 131 6 3 := rfl
theorem A204_128 {L : AL} {r : List Value} {a : Nat} {v : Value} : aw g 204 128 L (v :: .ref a :: r) σ Q = (hty σ a = some 6 ∧ gB g ≤ a ∧ pI v ∧ aw g 204 131 L r (hput σ 6 a 3 v) Q) := (aw_eq g 204 128 _ _ _ _).trans (by rw [tq204_128]; exact rfl)
theorem tq204_131 : tT g 204 131 = s_goto 204 134 := rfl
theorem A204_131 {L : AL} {r : List Value} : aw g 204 131 L r σ Q = aw g 204 134 L r σ Q := (aw_eq g 204 131 _ _ _ _).trans (by rw [tq204_131]; exact rfl)
theorem tq204_134 : tT g 204 134 = s_load vRf 204 135 0 := rfl
theorem A204_134 {l1 : Option Value} {l2 : Option Value} {x : Value} {r : List Value} : aw g 204 134 [some (x), l1, l2] r σ Q = (vRf x = true ∧ aw g 204 135 [some (x), l1, l2] (x :: r) σ Q) := (aw_eq g 204 134 _ _ _ _).trans (by rw [tq204_134]; exact h_load rfl)
theorem tq204_135 : tT g 204 135 = s_load vRf 204 136 0 := rfl
theorem A204_135 {l1 : Option Value} {l2 : Option Value} {x : Value} {r : List Value} : aw g 204 135 [some (x), l1, l2] r σ Q = (vRf x = true ∧ aw g 204 136 [some (x), l1, l2] (x :: r) σ Q) := (aw_eq g 204 135 _ _ _ _).trans (by rw [tq204_135]; exact h_load rfl)
theorem tq204_136 : tT g 204 136 = s_getf 204 139 6 2 := rfl
theorem A204_136 {L : AL} {r : List Value} {a : Nat} : aw g 204 136 L (.ref a :: r) σ Q = (hty σ a = some 6 ∧ aw g 204 139 L (hv σ 6 a 2 :: r) σ Q) := (aw_eq g 204 136 _ _ _ _).trans (by rw [tq204_136]; exact rfl)
theorem tq204_139 : tT g 204 139 = s_const 204 140 (.int 1) := rfl
theorem A204_139 {L : AL} {r : List Value} : aw g 204 139 L r σ Q = aw g 204 140 L (.int 1 :: r) σ Q := (aw_eq g 204 139 _ _ _ _).trans (by rw [tq204_139]; exact rfl)
theorem tq204_140 : tT g 204 140 = s_bin 204 141 (fun a b => a + b) := rfl
theorem A204_140 {L : AL} {r : List Value} {a b : Int32} : aw g 204 140 L (.int b :: .int a :: r) σ Q = aw g 204 141 L (.int (a + b) :: r) σ Q := (aw_eq g 204 140 _ _ _ _).trans (by rw [tq204_140]; exact rfl)
theorem tq204_141 : tT g 204 141 = s_load vRf 204 142 0 := rfl
theorem A204_141 {l1 : Option Value} {l2 : Option Value} {x : Value} {r : List Value} : aw g 204 141 [some (x), l1, l2] r σ Q = (vRf x = true ∧ aw g 204 142 [some (x), l1, l2] (x :: r) σ Q) := (aw_eq g 204 141 _ _ _ _).trans (by rw [tq204_141]; exact h_load rfl)
theorem tq204_142 : tT g 204 142 = s_getf 204 145 6 0 := rfl
theorem A204_142 {L : AL} {r : List Value} {a : Nat} : aw g 204 142 L (.ref a :: r) σ Q = (hty σ a = some 6 ∧ aw g 204 145 L (hv σ 6 a 0 :: r) σ Q) := (aw_eq g 204 142 _ _ _ _).trans (by rw [tq204_142]; exact rfl)
theorem tq204_145 : tT g 204 145 = s_callvk 204 148 15 10 [] 1 := rfl
theorem A204_145 {L : AL} {r : List Value} {a : Nat} : aw g 204 145 L (.ref a :: r) σ Q = (hty σ a = some 10 ∧ true = true ∧ csum r ≤ 8 ∧ aw g 15 0 [some (.ref a)] [] σ (kt (aw g) 204 148 L r Q)) := (aw_eq g 204 145 _ _ _ _).trans (by rw [tq204_145]; exact rfl)
theorem tq204_148 : tT g 204 148 = s_div 204 149 (fun a b => a - a / b * b) := rfl
theorem A204_148 {L : AL} {r : List Value} {a b : Int32} : aw g 204 148 L (.int b :: .int a :: r) σ Q = (b ≠ 0 ∧ aw g 204 149 L (.int (a - a / b * b) :: r) σ Q) := (aw_eq g 204 148 _ _ _ _).trans (by rw [tq204_148]; exact rfl)
theorem tq204_149 : tT g 204 149 = s_putf g pI 204 152 6 2 := rfl
theorem A204_149 {L : AL} {r : List Value} {a : Nat} {v : Value} : aw g 204 149 L (v :: .ref a :: r) σ Q = (hty σ a = some 6 ∧ gB g ≤ a ∧ pI v ∧ aw g 204 152 L r (hput σ 6 a 2 v) Q) := (aw_eq g 204 149 _ _ _ _).trans (by rw [tq204_149]; exact rfl)
theorem tq204_152 : tT g 204 152 = s_vret := rfl
theorem A204_152 {L : AL} : aw g 204 152 L [] σ Q = Q (.inl none) σ := (aw_eq g 204 152 _ _ _ _).trans (by rw [tq204_152]; exact rfl)
theorem tq211_0 : tT g 211 0 = s_load vRf 211 1 0 := rfl
theorem A211_0 {l1 : Option Value} {l2 : Option Value} {x : Value} {r : List Value} : aw g 211 0 [some (x), l1, l2] r σ Q = (vRf x = true ∧ aw g 211 1 [some (x), l1, l2] (x :: r) σ Q) := (aw_eq g 211 0 _ _ _ _).trans (by rw [tq211_0]; exact h_load rfl)
theorem tq211_1 : tT g 211 1 = s_oinit 211 4 := rfl
theorem A211_1 {L : AL} {r : List Value} {a : Nat} : aw g 211 1 L (.ref a :: r) σ Q = (csum r ≤ 8 ∧ aw g 211 4 L r σ Q) := (aw_eq g 211 1 _ _ _ _).trans (by rw [tq211_1]; exact rfl)
theorem tq211_4 : tT g 211 4 = s_load vRf 211 5 0 := rfl
theorem A211_4 {l1 : Option Value} {l2 : Option Value} {x : Value} {r : List Value} : aw g 211 4 [some (x), l1, l2] r σ Q = (vRf x = true ∧ aw g 211 5 [some (x), l1, l2] (x :: r) σ Q) := (aw_eq g 211 4 _ _ _ _).trans (by rw [tq211_4]; exact h_load rfl)
theorem tq211_5 : tT g 211 5 = s_load vI 211 6 1 := rfl
theorem A211_5 {l0 : Option Value} {l2 : Option Value} {x : Int32} {r : List Value} : aw g 211 5 [l0, some (.int x), l2] r σ Q = aw g 211 6 [l0, some (.int x), l2] (.int x :: r) σ Q := (aw_eq g 211 5 _ _ _ _).trans (by rw [tq211_5]; exact (h_load rfl).trans (propext ⟨fun z => z.2, fun z => ⟨rfl, z⟩⟩))
theorem tq211_6 : tT g 211 6 = s_putf g pI 211 9 8 0 := rfl
theorem A211_6 {L : AL} {r : List Value} {a : Nat} {v : Value} : aw g 211 6 L (v :: .ref a :: r) σ Q = (hty σ a = some 8 ∧ gB g ≤ a ∧ pI v ∧ aw g 211 9 L r (hput σ 8 a 0 v) Q) := (aw_eq g 211 6 _ _ _ _).trans (by rw [tq211_6]; exact rfl)
theorem tq211_9 : tT g 211 9 = s_load vRf 211 10 0 := rfl
theorem A211_9 {l1 : Option Value} {l2 : Option Value} {x : Value} {r : List Value} : aw g 211 9 [some (x), l1, l2] r σ Q = (vRf x = true ∧ aw g 211 10 [some (x), l1, l2] (x :: r) σ Q) := (aw_eq g 211 9 _ _ _ _).trans (by rw [tq211_9]; exact h_load rfl)
theorem tq211_10 : tT g 211 10 = s_load vI 211 11 2 := rfl
theorem A211_10 {l0 : Option Value} {l1 : Option Value} {x : Int32} {r : List Value} : aw g 211 10 [l0, l1, some (.int x)] r σ Q = aw g 211 11 [l0, l1, some (.int x)] (.int x :: r) σ Q := (aw_eq g 211 10 _ _ _ _).trans (by rw [tq211_10]; exact (h_load rfl).trans (propext ⟨fun z => z.2, fun z => ⟨rfl, z⟩⟩))
theorem tq211_11 : tT g 211 11 = s_putf g pI 211 14 8 1 := rfl
theorem A211_11 {L : AL} {r : List Value} {a : Nat} {v : Value} : aw g 211 11 L (v :: .ref a :: r) σ Q = (hty σ a = some 8 ∧ gB g ≤ a ∧ pI v ∧ aw g 211 14 L r (hput σ 8 a 1 v) Q) := (aw_eq g 211 11 _ _ _ _).trans (by rw [tq211_11]; exact rfl)
theorem tq211_14 : tT g 211 14 = s_vret := rfl
theorem A211_14 {L : AL} : aw g 211 14 L [] σ Q = Q (.inl none) σ := (aw_eq g 211 14 _ _ _ _).trans (by rw [tq211_14]; exact rfl)
end STEPS
