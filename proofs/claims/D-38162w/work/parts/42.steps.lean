/-! one step of an abstract run, as an equation: printed by gen.py -/
section STEPS
variable {g : GC} {σ : AH} {Q : AQ}
theorem tq108_0 : tT g 108 0 = s_load vRf 108 1 0 := rfl
theorem A108_0  {x : Value} {r : List Value} : aw g 108 0 [some (x)] r σ Q = (vRf x = true ∧ aw g 108 1 [some (x)] (x :: r) σ Q) := (aw_eq g 108 0 _ _ _ _).trans (by rw [tq108_0]; exact h_load rfl)
theorem tq108_1 : tT g 108 1 = s_oinit 108 4 := rfl
theorem A108_1 {L : AL} {r : List Value} {a : Nat} : aw g 108 1 L (.ref a :: r) σ Q = (csum r ≤ 8 ∧ aw g 108 4 L r σ Q) := (aw_eq g 108 1 _ _ _ _).trans (by rw [tq108_1]; exact rfl)
theorem tq108_4 : tT g 108 4 = s_load vRf 108 5 0 := rfl
theorem A108_4  {x : Value} {r : List Value} : aw g 108 4 [some (x)] r σ Q = (vRf x = true ∧ aw g 108 5 [some (x)] (x :: r) σ Q) := (aw_eq g 108 4 _ _ _ _).trans (by rw [tq108_4]; exact h_load rfl)
theorem tq108_5 : tT g 108 5 = s_new g 108 8 10 3 (fun k => defaultValue (tyJ2 k)) := rfl
theorem A108_5 {L : AL} {r : List Value} : aw g 108 5 L r σ Q = (hsz σ + 1 ≤ gC g ∧ hsl σ + 3 ≤ gS g ∧ aw g 108 8 L (.ref (hsz σ) :: r) (hnew σ 10 0 (fun k => defaultValue (tyJ2 k)) 3) Q) := (aw_eq g 108 5 _ _ _ _).trans (by rw [tq108_5]; exact rfl)
theorem tq108_8 : tT g 108 8 = s_dup 108 9 := rfl
theorem A108_8 {L : AL} {r : List Value} {v : Value} : aw g 108 8 L (v :: r) σ Q = (v.category = 1 ∧ aw g 108 9 L (v :: v :: r) σ Q) := (aw_eq g 108 8 _ _ _ _).trans (by rw [tq108_8]; exact rfl)
theorem tq108_9 : tT g 108 9 = s_callik 108 12 14 [] 1 := rfl
theorem A108_9 {L : AL} {r : List Value} {a : Nat} : aw g 108 9 L (.ref a :: r) σ Q = (true = true ∧ csum r ≤ 8 ∧ aw g 14 0 [some (.ref a)] [] σ (kt (aw g) 108 12 L r Q)) := (aw_eq g 108 9 _ _ _ _).trans (by rw [tq108_9]; exact rfl)
theorem tq108_12 : tT g 108 12 = s_putf g pR 108 15 1 0 := rfl
theorem A108_12 {L : AL} {r : List Value} {a : Nat} {v : Value} : aw g 108 12 L (v :: .ref a :: r) σ Q = (hty σ a = some 1 ∧ gB g ≤ a ∧ pR v ∧ aw g 108 15 L r (hput σ 1 a 0 v) Q) := (aw_eq g 108 12 _ _ _ _).trans (by rw [tq108_12]; exact rfl)
theorem tq108_15 : tT g 108 15 = s_load vRf 108 16 0 := rfl
theorem A108_15  {x : Value} {r : List Value} : aw g 108 15 [some (x)] r σ Q = (vRf x = true ∧ aw g 108 16 [some (x)] (x :: r) σ Q) := (aw_eq g 108 15 _ _ _ _).trans (by rw [tq108_15]; exact h_load rfl)
theorem tq108_16 : tT g 108 16 = s_new g 108 19 10 3 (fun k => defaultValue (tyJ2 k)) := rfl
theorem A108_16 {L : AL} {r : List Value} : aw g 108 16 L r σ Q = (hsz σ + 1 ≤ gC g ∧ hsl σ + 3 ≤ gS g ∧ aw g 108 19 L (.ref (hsz σ) :: r) (hnew σ 10 0 (fun k => defaultValue (tyJ2 k)) 3) Q) := (aw_eq g 108 16 _ _ _ _).trans (by rw [tq108_16]; exact rfl)
theorem tq108_19 : tT g 108 19 = s_dup 108 20 := rfl
theorem A108_19 {L : AL} {r : List Value} {v : Value} : aw g 108 19 L (v :: r) σ Q = (v.category = 1 ∧ aw g 108 20 L (v :: v :: r) σ Q) := (aw_eq g 108 19 _ _ _ _).trans (by rw [tq108_19]; exact rfl)
theorem tq108_20 : tT g 108 20 = s_callik 108 23 14 [] 1 := rfl
theorem A108_20 {L : AL} {r : List Value} {a : Nat} : aw g 108 20 L (.ref a :: r) σ Q = (true = true ∧ csum r ≤ 8 ∧ aw g 14 0 [some (.ref a)] [] σ (kt (aw g) 108 23 L r Q)) := (aw_eq g 108 20 _ _ _ _).trans (by rw [tq108_20]; exact rfl)
theorem tq108_23 : tT g 108 23 = s_putf g pR 108 26 1 1 := rfl
theorem A108_23 {L : AL} {r : List Value} {a : Nat} {v : Value} : aw g 108 23 L (v :: .ref a :: r) σ Q = (hty σ a = some 1 ∧ gB g ≤ a ∧ pR v ∧ aw g 108 26 L r (hput σ 1 a 1 v) Q) := (aw_eq g 108 23 _ _ _ _).trans (by rw [tq108_23]; exact rfl)
theorem tq108_26 : tT g 108 26 = s_load vRf 108 27 0 := rfl
theorem A108_26  {x : Value} {r : List Value} : aw g 108 26 [some (x)] r σ Q = (vRf x = true ∧ aw g 108 27 [some (x)] (x :: r) σ Q) := (aw_eq g 108 26 _ _ _ _).trans (by rw [tq108_26]; exact h_load rfl)
theorem tq108_27 : tT g 108 27 = s_const 108 28 (.int (-1)) := rfl
theorem A108_27 {L : AL} {r : List Value} : aw g 108 27 L r σ Q = aw g 108 28 L (.int (-1) :: r) σ Q := (aw_eq g 108 27 _ _ _ _).trans (by rw [tq108_27]; exact rfl)
theorem tq108_28 : tT g 108 28 = s_putf g pI 108 31 1 5 := rfl
theorem A108_28 {L : AL} {r : List Value} {a : Nat} {v : Value} : aw g 108 28 L (v :: .ref a :: r) σ Q = (hty σ a = some 1 ∧ gB g ≤ a ∧ pI v ∧ aw g 108 31 L r (hput σ 1 a 5 v) Q) := (aw_eq g 108 28 _ _ _ _).trans (by rw [tq108_28]; exact rfl)
theorem tq108_31 : tT g 108 31 = s_load vRf 108 32 0 := rfl
theorem A108_31  {x : Value} {r : List Value} : aw g 108 31 [some (x)] r σ Q = (vRf x = true ∧ aw g 108 32 [some (x)] (x :: r) σ Q) := (aw_eq g 108 31 _ _ _ _).trans (by rw [tq108_31]; exact h_load rfl)
theorem tq108_32 : tT g 108 32 = s_const 108 33 (.int (-1)) := rfl
theorem A108_32 {L : AL} {r : List Value} : aw g 108 32 L r σ Q = aw g 108 33 L (.int (-1) :: r) σ Q := (aw_eq g 108 32 _ _ _ _).trans (by rw [tq108_32]; exact rfl)
theorem tq108_33 : tT g 108 33 = s_putf g pI 108 36 1 6 := rfl
theorem A108_33 {L : AL} {r : List Value} {a : Nat} {v : Value} : aw g 108 33 L (v :: .ref a :: r) σ Q = (hty σ a = some 1 ∧ gB g ≤ a ∧ pI v ∧ aw g 108 36 L r (hput σ 1 a 6 v) Q) := (aw_eq g 108 33 _ _ _ _).trans (by rw [tq108_33]; exact rfl)
theorem tq108_36 : tT g 108 36 = s_vret := rfl
theorem A108_36 {L : AL} : aw g 108 36 L [] σ Q = Q (.inl none) σ := (aw_eq g 108 36 _ _ _ _).trans (by rw [tq108_36]; exact rfl)
theorem tq109_0 : tT g 109 0 = s_load vRf 109 1 0 := rfl
theorem A109_0 {l1 : Option Value} {l2 : Option Value} {l3 : Option Value} {x : Value} {r : List Value} : aw g 109 0 [some (x), l1, l2, l3] r σ Q = (vRf x = true ∧ aw g 109 1 [some (x), l1, l2, l3] (x :: r) σ Q) := (aw_eq g 109 0 _ _ _ _).trans (by rw [tq109_0]; exact h_load rfl)
theorem tq109_1 : tT g 109 1 = s_getf 109 4 1 8 := rfl
theorem A109_1 {L : AL} {r : List Value} {a : Nat} : aw g 109 1 L (.ref a :: r) σ Q = (hty σ a = some 1 ∧ aw g 109 4 L (hv σ 1 a 8 :: r) σ Q) := (aw_eq g 109 1 _ _ _ _).trans (by rw [tq109_1]; exact rfl)
theorem tq109_4 : tT g 109 4 = s_store vI 109 5 2 := rfl
theorem A109_4 {l0 : Option Value} {l1 : Option Value} {l2 : Option Value} {l3 : Option Value} {x : Int32} {r : List Value} : aw g 109 4 [l0, l1, l2, l3] (.int x :: r) σ Q = (oc l1 = true ∧ aw g 109 5 [l0, l1, some (.int x), l3] r σ Q) := (aw_eq g 109 4 _ _ _ _).trans (by rw [tq109_4]; exact (h_store (o := oc l1) rfl rfl rfl).trans (propext ⟨fun z => z.2, fun z => ⟨rfl, z⟩⟩))
theorem tq109_5 : tT g 109 5 = s_load vRf 109 6 0 := rfl
theorem A109_5 {l1 : Option Value} {l2 : Option Value} {l3 : Option Value} {x : Value} {r : List Value} : aw g 109 5 [some (x), l1, l2, l3] r σ Q = (vRf x = true ∧ aw g 109 6 [some (x), l1, l2, l3] (x :: r) σ Q) := (aw_eq g 109 5 _ _ _ _).trans (by rw [tq109_5]; exact h_load rfl)
theorem tq109_6 : tT g 109 6 = s_getf 109 9 1 1 := rfl
theorem A109_6 {L : AL} {r : List Value} {a : Nat} : aw g 109 6 L (.ref a :: r) σ Q = (hty σ a = some 1 ∧ aw g 109 9 L (hv σ 1 a 1 :: r) σ Q) := (aw_eq g 109 6 _ _ _ _).trans (by rw [tq109_6]; exact rfl)
theorem tq109_9 : tT g 109 9 = s_callvk 109 12 15 10 [] 1 := rfl
theorem A109_9 {L : AL} {r : List Value} {a : Nat} : aw g 109 9 L (.ref a :: r) σ Q = (hty σ a = some 10 ∧ true = true ∧ csum r ≤ 8 ∧ aw g 15 0 [some (.ref a)] [] σ (kt (aw g) 109 12 L r Q)) := (aw_eq g 109 9 _ _ _ _).trans (by rw [tq109_9]; exact rfl)
theorem tq109_12 : tT g 109 12 = s_load vI 109 13 1 := rfl
theorem A109_12 {l0 : Option Value} {l2 : Option Value} {l3 : Option Value} {x : Int32} {r : List Value} : aw g 109 12 [l0, some (.int x), l2, l3] r σ Q = aw g 109 13 [l0, some (.int x), l2, l3] (.int x :: r) σ Q := (aw_eq g 109 12 _ _ _ _).trans (by rw [tq109_12]; exact (h_load rfl).trans (propext ⟨fun z => z.2, fun z => ⟨rfl, z⟩⟩))
theorem tq109_13 : tT g 109 13 = s_icmp 109 16 51 (fun a b => a ≤ b) := rfl
theorem A109_13 {L : AL} {r : List Value} {a b : Int32} : aw g 109 13 L (.int b :: .int a :: r) σ Q = ((a ≤ b → aw g 109 51 L r σ Q) ∧ (¬ a ≤ b → aw g 109 16 L r σ Q)) := (aw_eq g 109 13 _ _ _ _).trans (by rw [tq109_13]; exact rfl)
theorem tq109_16 : tT g 109 16 = s_load vRf 109 17 0 := rfl
theorem A109_16 {l1 : Option Value} {l2 : Option Value} {l3 : Option Value} {x : Value} {r : List Value} : aw g 109 16 [some (x), l1, l2, l3] r σ Q = (vRf x = true ∧ aw g 109 17 [some (x), l1, l2, l3] (x :: r) σ Q) := (aw_eq g 109 16 _ _ _ _).trans (by rw [tq109_16]; exact h_load rfl)
theorem tq109_17 : tT g 109 17 = s_getf 109 20 1 1 := rfl
theorem A109_17 {L : AL} {r : List Value} {a : Nat} : aw g 109 17 L (.ref a :: r) σ Q = (hty σ a = some 1 ∧ aw g 109 20 L (hv σ 1 a 1 :: r) σ Q) := (aw_eq g 109 17 _ _ _ _).trans (by rw [tq109_17]; exact rfl)
theorem tq109_20 : tT g 109 20 = s_load vRf 109 21 0 := rfl
theorem A109_20 {l1 : Option Value} {l2 : Option Value} {l3 : Option Value} {x : Value} {r : List Value} : aw g 109 20 [some (x), l1, l2, l3] r σ Q = (vRf x = true ∧ aw g 109 21 [some (x), l1, l2, l3] (x :: r) σ Q) := (aw_eq g 109 20 _ _ _ _).trans (by rw [tq109_20]; exact h_load rfl)
theorem tq109_21 : tT g 109 21 = s_getf 109 24 1 1 := rfl
theorem A109_21 {L : AL} {r : List Value} {a : Nat} : aw g 109 21 L (.ref a :: r) σ Q = (hty σ a = some 1 ∧ aw g 109 24 L (hv σ 1 a 1 :: r) σ Q) := (aw_eq g 109 21 _ _ _ _).trans (by rw [tq109_21]; exact rfl)
theorem tq109_24 : tT g 109 24 = s_callvk 109 27 15 10 [] 1 := rfl
theorem A109_24 {L : AL} {r : List Value} {a : Nat} : aw g 109 24 L (.ref a :: r) σ Q = (hty σ a = some 10 ∧ true = true ∧ csum r ≤ 8 ∧ aw g 15 0 [some (.ref a)] [] σ (kt (aw g) 109 27 L r Q)) := (aw_eq g 109 24 _ _ _ _).trans (by rw [tq109_24]; exact rfl)
theorem tq109_27 : tT g 109 27 = s_const 109 28 (.int 1) := rfl
theorem A109_27 {L : AL} {r : List Value} : aw g 109 27 L r σ Q = aw g 109 28 L (.int 1 :: r) σ Q := (aw_eq g 109 27 _ _ _ _).trans (by rw [tq109_27]; exact rfl)
theorem tq109_28 : tT g 109 28 = s_bin 109 29 (fun a b => a - b) := rfl
theorem A109_28 {L : AL} {r : List Value} {a b : Int32} : aw g 109 28 L (.int b :: .int a :: r) σ Q = aw g 109 29 L (.int (a - b) :: r) σ Q := (aw_eq g 109 28 _ _ _ _).trans (by rw [tq109_28]; exact rfl)
theorem tq109_29 : tT g 109 29 = s_callvk 109 32 16 10 [0] 4 := rfl
theorem A109_29 {L : AL} {r : List Value} {a : Nat} {w0 : Value} : aw g 109 29 L (w0 :: .ref a :: r) σ Q = (hty σ a = some 10 ∧ (vI w0 && true) = true ∧ csum r ≤ 8 ∧ aw g 16 0 [some (.ref a), some w0, none, none] [] σ (kt (aw g) 109 32 L r Q)) := (aw_eq g 109 29 _ _ _ _).trans (by rw [tq109_29]; exact rfl)
theorem tq109_32 : tT g 109 32 = s_cast 109 35 [2] := rfl
theorem A109_32 {L : AL} {r : List Value} : aw g 109 32 L (.null :: r) σ Q = aw g 109 35 L (.null :: r) σ Q := (aw_eq g 109 32 _ _ _ _).trans (by rw [tq109_32]; exact rfl)
theorem A109_32r {L : AL} {r : List Value} {a : Nat} : aw g 109 32 L (.ref a :: r) σ Q = (hty σ a = some 2 ∧ aw g 109 35 L (.ref a :: r) σ Q) := (aw_eq g 109 32 _ _ _ _).trans (by rw [tq109_32]; exact propext ⟨fun z => (by obtain ⟨⟨u, hu, hu2⟩, z2⟩ := z; rw [List.mem_singleton] at hu; subst hu; exact ⟨hu2, z2⟩), fun z => ⟨⟨_, List.mem_cons_self, z.1⟩, z.2⟩⟩)
theorem tq109_35 : tT g 109 35 = s_store vRf 109 36 3 := rfl
theorem A109_35 {l0 : Option Value} {l1 : Option Value} {l2 : Option Value} {l3 : Option Value} {x : Value} {r : List Value} : aw g 109 35 [l0, l1, l2, l3] (x :: r) σ Q = (vRf x = true ∧ oc l2 = true ∧ aw g 109 36 [l0, l1, l2, some (x)] r σ Q) := (aw_eq g 109 35 _ _ _ _).trans (by rw [tq109_35]; exact (h_store (o := oc l2) rfl rfl rfl))
theorem tq109_36 : tT g 109 36 = s_load vRf 109 37 3 := rfl
theorem A109_36 {l0 : Option Value} {l1 : Option Value} {l2 : Option Value} {x : Value} {r : List Value} : aw g 109 36 [l0, l1, l2, some (x)] r σ Q = (vRf x = true ∧ aw g 109 37 [l0, l1, l2, some (x)] (x :: r) σ Q) := (aw_eq g 109 36 _ _ _ _).trans (by rw [tq109_36]; exact h_load rfl)
theorem tq109_37 : tT g 109 37 = s_getf 109 40 2 0 := rfl
theorem A109_37 {L : AL} {r : List Value} {a : Nat} : aw g 109 37 L (.ref a :: r) σ Q = (hty σ a = some 2 ∧ aw g 109 40 L (hv σ 2 a 0 :: r) σ Q) := (aw_eq g 109 37 _ _ _ _).trans (by rw [tq109_37]; exact rfl)
theorem tq109_40 : tT g 109 40 = s_ifnull 109 43 48 := rfl
theorem A109_40 {L : AL} {r : List Value} {a : Value} : aw g 109 40 L (a :: r) σ Q = (vRf a = true ∧ (a = .null → aw g 109 48 L r σ Q) ∧ (a ≠ .null → aw g 109 43 L r σ Q)) := (aw_eq g 109 40 _ _ _ _).trans (by rw [tq109_40]; exact rfl)
theorem tq109_43 : tT g 109 43 = s_load vRf 109 44 0 := rfl
theorem A109_43 {l1 : Option Value} {l2 : Option Value} {l3 : Option Value} {x : Value} {r : List Value} : aw g 109 43 [some (x), l1, l2, l3] r σ Q = (vRf x = true ∧ aw g 109 44 [some (x), l1, l2, l3] (x :: r) σ Q) := (aw_eq g 109 43 _ _ _ _).trans (by rw [tq109_43]; exact h_load rfl)
theorem tq109_44 : tT g 109 44 = s_load vRf 109 45 3 := rfl
theorem A109_44 {l0 : Option Value} {l1 : Option Value} {l2 : Option Value} {x : Value} {r : List Value} : aw g 109 44 [l0, l1, l2, some (x)] r σ Q = (vRf x = true ∧ aw g 109 45 [l0, l1, l2, some (x)] (x :: r) σ Q) := (aw_eq g 109 44 _ _ _ _).trans (by rw [tq109_44]; exact h_load rfl)
theorem tq109_45 : tT g 109 45 = s_callvk 109 48 110 1 [1] 2 := rfl
theorem A109_45 {L : AL} {r : List Value} {a : Nat} {w0 : Value} : aw g 109 45 L (w0 :: .ref a :: r) σ Q = (hty σ a = some 1 ∧ (vRf w0 && true) = true ∧ csum r ≤ 8 ∧ aw g 110 0 [some (.ref a), some w0] [] σ (kt (aw g) 109 48 L r Q)) := (aw_eq g 109 45 _ _ _ _).trans (by rw [tq109_45]; exact rfl)
theorem tq109_48 : tT g 109 48 = s_goto 109 5 := rfl
theorem A109_48 {L : AL} {r : List Value} : aw g 109 48 L r σ Q = aw g 109 5 L r σ Q := (aw_eq g 109 48 _ _ _ _).trans (by rw [tq109_48]; exact rfl)
theorem tq109_51 : tT g 109 51 = s_load vRf 109 52 0 := rfl
theorem A109_51 {l1 : Option Value} {l2 : Option Value} {l3 : Option Value} {x : Value} {r : List Value} : aw g 109 51 [some (x), l1, l2, l3] r σ Q = (vRf x = true ∧ aw g 109 52 [some (x), l1, l2, l3] (x :: r) σ Q) := (aw_eq g 109 51 _ _ _ _).trans (by rw [tq109_51]; exact h_load rfl)
theorem tq109_52 : tT g 109 52 = s_getf 109 55 1 1 := rfl
theorem A109_52 {L : AL} {r : List Value} {a : Nat} : aw g 109 52 L (.ref a :: r) σ Q = (hty σ a = some 1 ∧ aw g 109 55 L (hv σ 1 a 1 :: r) σ Q) := (aw_eq g 109 52 _ _ _ _).trans (by rw [tq109_52]; exact rfl)
theorem tq109_55 : tT g 109 55 = s_callvk 109 58 15 10 [] 1 := rfl
theorem A109_55 {L : AL} {r : List Value} {a : Nat} : aw g 109 55 L (.ref a :: r) σ Q = (hty σ a = some 10 ∧ true = true ∧ csum r ≤ 8 ∧ aw g 15 0 [some (.ref a)] [] σ (kt (aw g) 109 58 L r Q)) := (aw_eq g 109 55 _ _ _ _).trans (by rw [tq109_55]; exact rfl)
theorem tq109_58 : tT g 109 58 = s_load vI 109 59 1 := rfl
theorem A109_58 {l0 : Option Value} {l2 : Option Value} {l3 : Option Value} {x : Int32} {r : List Value} : aw g 109 58 [l0, some (.int x), l2, l3] r σ Q = aw g 109 59 [l0, some (.int x), l2, l3] (.int x :: r) σ Q := (aw_eq g 109 58 _ _ _ _).trans (by rw [tq109_58]; exact (h_load rfl).trans (propext ⟨fun z => z.2, fun z => ⟨rfl, z⟩⟩))
theorem tq109_59 : tT g 109 59 = s_icmp 109 62 80 (fun a b => b ≤ a) := rfl
theorem A109_59 {L : AL} {r : List Value} {a b : Int32} : aw g 109 59 L (.int b :: .int a :: r) σ Q = ((b ≤ a → aw g 109 80 L r σ Q) ∧ (¬ b ≤ a → aw g 109 62 L r σ Q)) := (aw_eq g 109 59 _ _ _ _).trans (by rw [tq109_59]; exact rfl)
theorem tq109_62 : tT g 109 62 = s_load vRf 109 63 0 := rfl
theorem A109_62 {l1 : Option Value} {l2 : Option Value} {l3 : Option Value} {x : Value} {r : List Value} : aw g 109 62 [some (x), l1, l2, l3] r σ Q = (vRf x = true ∧ aw g 109 63 [some (x), l1, l2, l3] (x :: r) σ Q) := (aw_eq g 109 62 _ _ _ _).trans (by rw [tq109_62]; exact h_load rfl)
theorem tq109_63 : tT g 109 63 = s_getf 109 66 1 1 := rfl
theorem A109_63 {L : AL} {r : List Value} {a : Nat} : aw g 109 63 L (.ref a :: r) σ Q = (hty σ a = some 1 ∧ aw g 109 66 L (hv σ 1 a 1 :: r) σ Q) := (aw_eq g 109 63 _ _ _ _).trans (by rw [tq109_63]; exact rfl)
theorem tq109_66 : tT g 109 66 = s_new g 109 69 2 3 (fun k => defaultValue (tyX3 k)) := rfl
theorem A109_66 {L : AL} {r : List Value} : aw g 109 66 L r σ Q = (hsz σ + 1 ≤ gC g ∧ hsl σ + 3 ≤ gS g ∧ aw g 109 69 L (.ref (hsz σ) :: r) (hnew σ 2 0 (fun k => defaultValue (tyX3 k)) 3) Q) := (aw_eq g 109 66 _ _ _ _).trans (by rw [tq109_66]; exact rfl)
theorem tq109_69 : tT g 109 69 = s_dup 109 70 := rfl
theorem A109_69 {L : AL} {r : List Value} {v : Value} : aw g 109 69 L (v :: r) σ Q = (v.category = 1 ∧ aw g 109 70 L (v :: v :: r) σ Q) := (aw_eq g 109 69 _ _ _ _).trans (by rw [tq109_69]; exact rfl)
theorem tq109_70 : tT g 109 70 = s_callik 109 73 136 [] 1 := rfl
theorem A109_70 {L : AL} {r : List Value} {a : Nat} : aw g 109 70 L (.ref a :: r) σ Q = (true = true ∧ csum r ≤ 8 ∧ aw g 136 0 [some (.ref a)] [] σ (kt (aw g) 109 73 L r Q)) := (aw_eq g 109 70 _ _ _ _).trans (by rw [tq109_70]; exact rfl)
theorem tq109_73 : tT g 109 73 = s_callvk 109 76 18 10 [1] 2 := rfl
theorem A109_73 {L : AL} {r : List Value} {a : Nat} {w0 : Value} : aw g 109 73 L (w0 :: .ref a :: r) σ Q = (hty σ a = some 10 ∧ (vRf w0 && true) = true ∧ csum r ≤ 8 ∧ aw g 18 0 [some (.ref a), some w0] [] σ (kt (aw g) 109 76 L r Q)) := (aw_eq g 109 73 _ _ _ _).trans (by rw [tq109_73]; exact rfl)
theorem tq109_76 : tT g 109 76 = s_pop 109 77 := rfl
theorem A109_76 {L : AL} {r : List Value} {v : Value} : aw g 109 76 L (v :: r) σ Q = (v.category = 1 ∧ aw g 109 77 L r σ Q) := (aw_eq g 109 76 _ _ _ _).trans (by rw [tq109_76]; exact rfl)
theorem tq109_77 : tT g 109 77 = s_goto 109 51 := rfl
theorem A109_77 {L : AL} {r : List Value} : aw g 109 77 L r σ Q = aw g 109 51 L r σ Q := (aw_eq g 109 77 _ _ _ _).trans (by rw [tq109_77]; exact rfl)
theorem tq109_80 : tT g 109 80 = s_load vRf 109 81 0 := rfl
theorem A109_80 {l1 : Option Value} {l2 : Option Value} {l3 : Option Value} {x : Value} {r : List Value} : aw g 109 80 [some (x), l1, l2, l3] r σ Q = (vRf x = true ∧ aw g 109 81 [some (x), l1, l2, l3] (x :: r) σ Q) := (aw_eq g 109 80 _ _ _ _).trans (by rw [tq109_80]; exact h_load rfl)
theorem tq109_81 : tT g 109 81 = s_getf 109 84 1 8 := rfl
theorem A109_81 {L : AL} {r : List Value} {a : Nat} : aw g 109 81 L (.ref a :: r) σ Q = (hty σ a = some 1 ∧ aw g 109 84 L (hv σ 1 a 8 :: r) σ Q) := (aw_eq g 109 81 _ _ _ _).trans (by rw [tq109_81]; exact rfl)
theorem tq109_84 : tT g 109 84 = s_load vI 109 85 2 := rfl
theorem A109_84 {l0 : Option Value} {l1 : Option Value} {l3 : Option Value} {x : Int32} {r : List Value} : aw g 109 84 [l0, l1, some (.int x), l3] r σ Q = aw g 109 85 [l0, l1, some (.int x), l3] (.int x :: r) σ Q := (aw_eq g 109 84 _ _ _ _).trans (by rw [tq109_84]; exact (h_load rfl).trans (propext ⟨fun z => z.2, fun z => ⟨rfl, z⟩⟩))
theorem tq109_85 : tT g 109 85 = s_bin 109 86 (fun a b => a - b) := rfl
theorem A109_85 {L : AL} {r : List Value} {a b : Int32} : aw g 109 85 L (.int b :: .int a :: r) σ Q = aw g 109 86 L (.int (a - b) :: r) σ Q := (aw_eq g 109 85 _ _ _ _).trans (by rw [tq109_85]; exact rfl)
theorem tq109_86 : tT g 109 86 = s_ret pI := rfl
theorem A109_86 {L : AL} {v : Value} : aw g 109 86 L [v] σ Q = (pI v ∧ Q (.inl (some v)) σ) := (aw_eq g 109 86 _ _ _ _).trans (by rw [tq109_86]; exact rfl)
theorem tq110_0 : tT g 110 0 = s_load vRf 110 1 1 := rfl
theorem A110_0 {l0 : Option Value} {x : Value} {r : List Value} : aw g 110 0 [l0, some (x)] r σ Q = (vRf x = true ∧ aw g 110 1 [l0, some (x)] (x :: r) σ Q) := (aw_eq g 110 0 _ _ _ _).trans (by rw [tq110_0]; exact h_load rfl)
theorem tq110_1 : tT g 110 1 = s_getf 110 4 2 0 := rfl
theorem A110_1 {L : AL} {r : List Value} {a : Nat} : aw g 110 1 L (.ref a :: r) σ Q = (hty σ a = some 2 ∧ aw g 110 4 L (hv σ 2 a 0 :: r) σ Q) := (aw_eq g 110 1 _ _ _ _).trans (by rw [tq110_1]; exact rfl)
theorem tq110_4 : tT g 110 4 = s_getf 110 7 5 14 := rfl
theorem A110_4 {L : AL} {r : List Value} {a : Nat} : aw g 110 4 L (.ref a :: r) σ Q = (hty σ a = some 5 ∧ aw g 110 7 L (hv σ 5 a 14 :: r) σ Q) := (aw_eq g 110 4 _ _ _ _).trans (by rw [tq110_4]; exact rfl)
theorem tq110_7 : tT g 110 7 = s_load vRf 110 8 1 := rfl
theorem A110_7 {l0 : Option Value} {x : Value} {r : List Value} : aw g 110 7 [l0, some (x)] r σ Q = (vRf x = true ∧ aw g 110 8 [l0, some (x)] (x :: r) σ Q) := (aw_eq g 110 7 _ _ _ _).trans (by rw [tq110_7]; exact h_load rfl)
theorem tq110_8 : tT g 110 8 = s_getf 110 11 2 1 := rfl
theorem A110_8 {L : AL} {r : List Value} {a : Nat} : aw g 110 8 L (.ref a :: r) σ Q = (hty σ a = some 2 ∧ aw g 110 11 L (hv σ 2 a 1 :: r) σ Q) := (aw_eq g 110 8 _ _ _ _).trans (by rw [tq110_8]; exact rfl)
theorem tq110_11 : tT g 110 11 = s_const 110 12 (.int 1) := rfl
theorem A110_11 {L : AL} {r : List Value} : aw g 110 11 L r σ Q = aw g 110 12 L (.int 1 :: r) σ Q := (aw_eq g 110 11 _ _ _ _).trans (by rw [tq110_11]; exact rfl)
theorem tq110_12 : tT g 110 12 = s_ast g (fun _ v => vZ v) 110 13 21 := rfl
theorem A110_12 {L : AL} {r : List Value} {a : Nat} {i : Int32} {v : Value} : aw g 110 12 L (v :: .int i :: .ref a :: r) σ Q = (hty σ a = some 21 ∧ gB g ≤ a ∧ ¬ i < 0 ∧ i.toNatClampNeg < hln σ a ∧ vZ v ∧ aw g 110 13 L r (hput σ 21 a i.toNatClampNeg v) Q) := (aw_eq g 110 12 _ _ _ _).trans (by rw [tq110_12]; exact rfl)
theorem tq110_13 : tT g 110 13 = s_load vRf 110 14 1 := rfl
theorem A110_13 {l0 : Option Value} {x : Value} {r : List Value} : aw g 110 13 [l0, some (x)] r σ Q = (vRf x = true ∧ aw g 110 14 [l0, some (x)] (x :: r) σ Q) := (aw_eq g 110 13 _ _ _ _).trans (by rw [tq110_13]; exact h_load rfl)
theorem tq110_14 : tT g 110 14 = s_callvk 110 17 134 2 [] 1 := rfl
theorem A110_14 {L : AL} {r : List Value} {a : Nat} : aw g 110 14 L (.ref a :: r) σ Q = (hty σ a = some 2 ∧ true = true ∧ csum r ≤ 8 ∧ aw g 134 0 [some (.ref a)] [] σ (kt (aw g) 110 17 L r Q)) := (aw_eq g 110 14 _ _ _ _).trans (by rw [tq110_14]; exact rfl)
theorem tq110_17 : tT g 110 17 = s_load vRf 110 18 0 := rfl
theorem A110_17 {l1 : Option Value} {x : Value} {r : List Value} : aw g 110 17 [some (x), l1] r σ Q = (vRf x = true ∧ aw g 110 18 [some (x), l1] (x :: r) σ Q) := (aw_eq g 110 17 _ _ _ _).trans (by rw [tq110_17]; exact h_load rfl)
theorem tq110_18 : tT g 110 18 = s_dup 110 19 := rfl
theorem A110_18 {L : AL} {r : List Value} {v : Value} : aw g 110 18 L (v :: r) σ Q = (v.category = 1 ∧ aw g 110 19 L (v :: v :: r) σ Q) := (aw_eq g 110 18 _ _ _ _).trans (by rw [tq110_18]; exact rfl)
theorem tq110_19 : tT g 110 19 = s_getf 110 22 1 8 := rfl
theorem A110_19 {L : AL} {r : List Value} {a : Nat} : aw g 110 19 L (.ref a :: r) σ Q = (hty σ a = some 1 ∧ aw g 110 22 L (hv σ 1 a 8 :: r) σ Q) := (aw_eq g 110 19 _ _ _ _).trans (by rw [tq110_19]; exact rfl)
theorem tq110_22 : tT g 110 22 = s_const 110 23 (.int 1) := rfl
theorem A110_22 {L : AL} {r : List Value} : aw g 110 22 L r σ Q = aw g 110 23 L (.int 1 :: r) σ Q := (aw_eq g 110 22 _ _ _ _).trans (by rw [tq110_22]; exact rfl)
theorem tq110_23 : tT g 110 23 = s_bin 110 24 (fun a b => a + b) := rfl
theorem A110_23 {L : AL} {r : List Value} {a b : Int32} : aw g 110 23 L (.int b :: .int a :: r) σ Q = aw g 110 24 L (.int (a + b) :: r) σ Q := (aw_eq g 110 23 _ _ _ _).trans (by rw [tq110_23]; exact rfl)
theorem tq110_24 : tT g 110 24 = s_putf g pI 110 27 1 8 := rfl
theorem A110_24 {L : AL} {r : List Value} {a : Nat} {v : Value} : aw g 110 24 L (v :: .ref a :: r) σ Q = (hty σ a = some 1 ∧ gB g ≤ a ∧ pI v ∧ aw g 110 27 L r (hput σ 1 a 8 v) Q) := (aw_eq g 110 24 _ _ _ _).trans (by rw [tq110_24]; exact rfl)
theorem tq110_27 : tT g 110 27 = s_vret := rfl
theorem A110_27 {L : AL} : aw g 110 27 L [] σ Q = Q (.inl none) σ := (aw_eq g 110 27 _ _ _ _).trans (by rw [tq110_27]; exact rfl)
theorem tq111_0 : tT g 111 0 = s_load vRf 111 1 0 := rfl
theorem A111_0 {l1 : Option Value} {l2 : Option Value} {l3 : Option Value} {l4 : Option Value} {x : Value} {r : List Value} : aw g 111 0 [some (x), l1, l2, l3, l4] r σ Q = (vRf x = true ∧ aw g 111 1 [some (x), l1, l2, l3, l4] (x :: r) σ Q) := (aw_eq g 111 0 _ _ _ _).trans (by rw [tq111_0]; exact h_load rfl)
theorem tq111_1 : tT g 111 1 = s_getf 111 4 1 1 := rfl
theorem A111_1 {L : AL} {r : List Value} {a : Nat} : aw g 111 1 L (.ref a :: r) σ Q = (hty σ a = some 1 ∧ aw g 111 4 L (hv σ 1 a 1 :: r) σ Q) := (aw_eq g 111 1 _ _ _ _).trans (by rw [tq111_1]; exact rfl)
theorem tq111_4 : tT g 111 4 = s_callvk 111 7 22 10 [] 1 := rfl
theorem A111_4 {L : AL} {r : List Value} {a : Nat} : aw g 111 4 L (.ref a :: r) σ Q = (hty σ a = some 10 ∧ true = true ∧ csum r ≤ 8 ∧ aw g 22 0 [some (.ref a)] [] σ (kt (aw g) 111 7 L r Q)) := (aw_eq g 111 4 _ _ _ _).trans (by rw [tq111_4]; exact rfl)
theorem tq111_7 : tT g 111 7 = s_store vRf 111 8 3 := rfl
theorem A111_7 {l0 : Option Value} {l1 : Option Value} {l2 : Option Value} {l3 : Option Value} {l4 : Option Value} {x : Value} {r : List Value} : aw g 111 7 [l0, l1, l2, l3, l4] (x :: r) σ Q = (vRf x = true ∧ oc l2 = true ∧ aw g 111 8 [l0, l1, l2, some (x), l4] r σ Q) := (aw_eq g 111 7 _ _ _ _).trans (by rw [tq111_7]; exact (h_store (o := oc l2) rfl rfl rfl))
theorem tq111_8 : tT g 111 8 = s_load vRf 111 9 3 := rfl
theorem A111_8 {l0 : Option Value} {l1 : Option Value} {l2 : Option Value} {l4 : Option Value} {x : Value} {r : List Value} : aw g 111 8 [l0, l1, l2, some (x), l4] r σ Q = (vRf x = true ∧ aw g 111 9 [l0, l1, l2, some (x), l4] (x :: r) σ Q) := (aw_eq g 111 8 _ _ _ _).trans (by rw [tq111_8]; exact h_load rfl)
theorem tq111_9 : tT g 111 9 = s_callvk 111 14 3 11 [] 1 := rfl
theorem A111_9 {L : AL} {r : List Value} {a : Nat} : aw g 111 9 L (.ref a :: r) σ Q = (hty σ a = some 11 ∧ true = true ∧ csum r ≤ 8 ∧ aw g 3 0 [some (.ref a)] [] σ (kt (aw g) 111 14 L r Q)) := (aw_eq g 111 9 _ _ _ _).trans (by rw [tq111_9]; exact rfl)
theorem tq111_14 : tT g 111 14 = s_if 111 17 52 (fun a => a = 0) := rfl
theorem A111_14 {L : AL} {r : List Value} {a : Int32} : aw g 111 14 L (.int a :: r) σ Q = ((a = 0 → aw g 111 52 L r σ Q) ∧ (¬ a = 0 → aw g 111 17 L r σ Q)) := (aw_eq g 111 14 _ _ _ _).trans (by rw [tq111_14]; exact rfl)
theorem tq111_17 : tT g 111 17 = s_load vRf 111 18 3 := rfl
theorem A111_17 {l0 : Option Value} {l1 : Option Value} {l2 : Option Value} {l4 : Option Value} {x : Value} {r : List Value} : aw g 111 17 [l0, l1, l2, some (x), l4] r σ Q = (vRf x = true ∧ aw g 111 18 [l0, l1, l2, some (x), l4] (x :: r) σ Q) := (aw_eq g 111 17 _ _ _ _).trans (by rw [tq111_17]; exact h_load rfl)
theorem tq111_18 : tT g 111 18 = s_callvk 111 23 4 11 [] 3 := rfl
theorem A111_18 {L : AL} {r : List Value} {a : Nat} : aw g 111 18 L (.ref a :: r) σ Q = (hty σ a = some 11 ∧ true = true ∧ csum r ≤ 8 ∧ aw g 4 0 [some (.ref a), none, none] [] σ (kt (aw g) 111 23 L r Q)) := (aw_eq g 111 18 _ _ _ _).trans (by rw [tq111_18]; exact rfl)
theorem tq111_23 : tT g 111 23 = s_cast 111 26 [2] := rfl
theorem A111_23 {L : AL} {r : List Value} : aw g 111 23 L (.null :: r) σ Q = aw g 111 26 L (.null :: r) σ Q := (aw_eq g 111 23 _ _ _ _).trans (by rw [tq111_23]; exact rfl)
theorem A111_23r {L : AL} {r : List Value} {a : Nat} : aw g 111 23 L (.ref a :: r) σ Q = (hty σ a = some 2 ∧ aw g 111 26 L (.ref a :: r) σ Q) := (aw_eq g 111 23 _ _ _ _).trans (by rw [tq111_23]; exact propext ⟨fun z => (by obtain ⟨⟨u, hu, hu2⟩, z2⟩ := z; rw [List.mem_singleton] at hu; subst hu; exact ⟨hu2, z2⟩), fun z => ⟨⟨_, List.mem_cons_self, z.1⟩, z.2⟩⟩)
theorem tq111_26 : tT g 111 26 = s_store vRf 111 28 4 := rfl
theorem A111_26 {l0 : Option Value} {l1 : Option Value} {l2 : Option Value} {l3 : Option Value} {l4 : Option Value} {x : Value} {r : List Value} : aw g 111 26 [l0, l1, l2, l3, l4] (x :: r) σ Q = (vRf x = true ∧ oc l3 = true ∧ aw g 111 28 [l0, l1, l2, l3, some (x)] r σ Q) := (aw_eq g 111 26 _ _ _ _).trans (by rw [tq111_26]; exact (h_store (o := oc l3) rfl rfl rfl))
theorem tq111_28 : tT g 111 28 = s_load vRf 111 30 4 := rfl
theorem A111_28 {l0 : Option Value} {l1 : Option Value} {l2 : Option Value} {l3 : Option Value} {x : Value} {r : List Value} : aw g 111 28 [l0, l1, l2, l3, some (x)] r σ Q = (vRf x = true ∧ aw g 111 30 [l0, l1, l2, l3, some (x)] (x :: r) σ Q) := (aw_eq g 111 28 _ _ _ _).trans (by rw [tq111_28]; exact h_load rfl)
theorem tq111_30 : tT g 111 30 = s_getf 111 33 2 0 := rfl
theorem A111_30 {L : AL} {r : List Value} {a : Nat} : aw g 111 30 L (.ref a :: r) σ Q = (hty σ a = some 2 ∧ aw g 111 33 L (hv σ 2 a 0 :: r) σ Q) := (aw_eq g 111 30 _ _ _ _).trans (by rw [tq111_30]; exact rfl)
theorem tq111_33 : tT g 111 33 = s_load vRf 111 34 1 := rfl
theorem A111_33 {l0 : Option Value} {l2 : Option Value} {l3 : Option Value} {l4 : Option Value} {x : Value} {r : List Value} : aw g 111 33 [l0, some (x), l2, l3, l4] r σ Q = (vRf x = true ∧ aw g 111 34 [l0, some (x), l2, l3, l4] (x :: r) σ Q) := (aw_eq g 111 33 _ _ _ _).trans (by rw [tq111_33]; exact h_load rfl)
theorem tq111_34 : tT g 111 34 = s_acmpn 111 37 49 := rfl
theorem A111_34 {L : AL} {r : List Value} {a b : Value} : aw g 111 34 L (b :: a :: r) σ Q = (vRf a = true ∧ vRf b = true ∧ (a = b → aw g 111 37 L r σ Q) ∧ (a ≠ b → aw g 111 49 L r σ Q)) := (aw_eq g 111 34 _ _ _ _).trans (by rw [tq111_34]; exact rfl)
theorem tq111_37 : tT g 111 37 = s_load vRf 111 39 4 := rfl
theorem A111_37 {l0 : Option Value} {l1 : Option Value} {l2 : Option Value} {l3 : Option Value} {x : Value} {r : List Value} : aw g 111 37 [l0, l1, l2, l3, some (x)] r σ Q = (vRf x = true ∧ aw g 111 39 [l0, l1, l2, l3, some (x)] (x :: r) σ Q) := (aw_eq g 111 37 _ _ _ _).trans (by rw [tq111_37]; exact h_load rfl)
theorem tq111_39 : tT g 111 39 = s_getf 111 42 2 1 := rfl
theorem A111_39 {L : AL} {r : List Value} {a : Nat} : aw g 111 39 L (.ref a :: r) σ Q = (hty σ a = some 2 ∧ aw g 111 42 L (hv σ 2 a 1 :: r) σ Q) := (aw_eq g 111 39 _ _ _ _).trans (by rw [tq111_39]; exact rfl)
theorem tq111_42 : tT g 111 42 = s_load vI 111 43 2 := rfl
theorem A111_42 {l0 : Option Value} {l1 : Option Value} {l3 : Option Value} {l4 : Option Value} {x : Int32} {r : List Value} : aw g 111 42 [l0, l1, some (.int x), l3, l4] r σ Q = aw g 111 43 [l0, l1, some (.int x), l3, l4] (.int x :: r) σ Q := (aw_eq g 111 42 _ _ _ _).trans (by rw [tq111_42]; exact (h_load rfl).trans (propext ⟨fun z => z.2, fun z => ⟨rfl, z⟩⟩))
theorem tq111_43 : tT g 111 43 = s_icmp 111 49 46 (fun a b => a = b) := rfl
theorem A111_43 {L : AL} {r : List Value} {a b : Int32} : aw g 111 43 L (.int b :: .int a :: r) σ Q = ((a = b → aw g 111 46 L r σ Q) ∧ (¬ a = b → aw g 111 49 L r σ Q)) := (aw_eq g 111 43 _ _ _ _).trans (by rw [tq111_43]; exact rfl)
theorem tq111_46 : tT g 111 46 = s_load vRf 111 48 4 := rfl
theorem A111_46 {l0 : Option Value} {l1 : Option Value} {l2 : Option Value} {l3 : Option Value} {x : Value} {r : List Value} : aw g 111 46 [l0, l1, l2, l3, some (x)] r σ Q = (vRf x = true ∧ aw g 111 48 [l0, l1, l2, l3, some (x)] (x :: r) σ Q) := (aw_eq g 111 46 _ _ _ _).trans (by rw [tq111_46]; exact h_load rfl)
theorem tq111_48 : tT g 111 48 = s_ret pR := rfl
theorem A111_48 {L : AL} {v : Value} : aw g 111 48 L [v] σ Q = (pR v ∧ Q (.inl (some v)) σ) := (aw_eq g 111 48 _ _ _ _).trans (by rw [tq111_48]; exact rfl)
theorem tq111_49 : tT g 111 49 = s_goto 111 8 := rfl
theorem A111_49 {L : AL} {r : List Value} : aw g 111 49 L r σ Q = aw g 111 8 L r σ Q := (aw_eq g 111 49 _ _ _ _).trans (by rw [tq111_49]; exact rfl)
theorem tq111_52 : tT g 111 52 = s_const 111 53 .null := rfl
theorem A111_52 {L : AL} {r : List Value} : aw g 111 52 L r σ Q = aw g 111 53 L (.null :: r) σ Q := (aw_eq g 111 52 _ _ _ _).trans (by rw [tq111_52]; exact rfl)
theorem tq111_53 : tT g 111 53 = s_ret pR := rfl
theorem A111_53 {L : AL} {v : Value} : aw g 111 53 L [v] σ Q = (pR v ∧ Q (.inl (some v)) σ) := (aw_eq g 111 53 _ _ _ _).trans (by rw [tq111_53]; exact rfl)
theorem tq112_0 : tT g 112 0 = s_new g 112 3 1 10 (fun k => defaultValue (tyX2 k)) := rfl
theorem A112_0 {L : AL} {r : List Value} : aw g 112 0 L r σ Q = (hsz σ + 1 ≤ gC g ∧ hsl σ + 10 ≤ gS g ∧ aw g 112 3 L (.ref (hsz σ) :: r) (hnew σ 1 0 (fun k => defaultValue (tyX2 k)) 10) Q) := (aw_eq g 112 0 _ _ _ _).trans (by rw [tq112_0]; exact rfl)
theorem tq112_3 : tT g 112 3 = s_dup 112 4 := rfl
theorem A112_3 {L : AL} {r : List Value} {v : Value} : aw g 112 3 L (v :: r) σ Q = (v.category = 1 ∧ aw g 112 4 L (v :: v :: r) σ Q) := (aw_eq g 112 3 _ _ _ _).trans (by rw [tq112_3]; exact rfl)
theorem tq112_4 : tT g 112 4 = s_callik 112 7 108 [] 1 := rfl
theorem A112_4 {L : AL} {r : List Value} {a : Nat} : aw g 112 4 L (.ref a :: r) σ Q = (true = true ∧ csum r ≤ 8 ∧ aw g 108 0 [some (.ref a)] [] σ (kt (aw g) 112 7 L r Q)) := (aw_eq g 112 4 _ _ _ _).trans (by rw [tq112_4]; exact rfl)
theorem tq112_7 : tT g 112 7 = s_store vRf 112 8 1 := rfl
theorem A112_7 {l0 : Option Value} {l1 : Option Value} {l2 : Option Value} {l3 : Option Value} {l4 : Option Value} {x : Value} {r : List Value} : aw g 112 7 [l0, l1, l2, l3, l4] (x :: r) σ Q = (vRf x = true ∧ oc l0 = true ∧ aw g 112 8 [l0, some (x), l2, l3, l4] r σ Q) := (aw_eq g 112 7 _ _ _ _).trans (by rw [tq112_7]; exact (h_store (o := oc l0) rfl rfl rfl))
theorem tq112_8 : tT g 112 8 = s_load vRf 112 9 0 := rfl
theorem A112_8 {l1 : Option Value} {l2 : Option Value} {l3 : Option Value} {l4 : Option Value} {x : Value} {r : List Value} : aw g 112 8 [some (x), l1, l2, l3, l4] r σ Q = (vRf x = true ∧ aw g 112 9 [some (x), l1, l2, l3, l4] (x :: r) σ Q) := (aw_eq g 112 8 _ _ _ _).trans (by rw [tq112_8]; exact h_load rfl)
theorem tq112_9 : tT g 112 9 = s_getf 112 12 1 0 := rfl
theorem A112_9 {L : AL} {r : List Value} {a : Nat} : aw g 112 9 L (.ref a :: r) σ Q = (hty σ a = some 1 ∧ aw g 112 12 L (hv σ 1 a 0 :: r) σ Q) := (aw_eq g 112 9 _ _ _ _).trans (by rw [tq112_9]; exact rfl)
theorem tq112_12 : tT g 112 12 = s_callvk 112 15 22 10 [] 1 := rfl
theorem A112_12 {L : AL} {r : List Value} {a : Nat} : aw g 112 12 L (.ref a :: r) σ Q = (hty σ a = some 10 ∧ true = true ∧ csum r ≤ 8 ∧ aw g 22 0 [some (.ref a)] [] σ (kt (aw g) 112 15 L r Q)) := (aw_eq g 112 12 _ _ _ _).trans (by rw [tq112_12]; exact rfl)
theorem tq112_15 : tT g 112 15 = s_store vRf 112 16 2 := rfl
theorem A112_15 {l0 : Option Value} {l1 : Option Value} {l2 : Option Value} {l3 : Option Value} {l4 : Option Value} {x : Value} {r : List Value} : aw g 112 15 [l0, l1, l2, l3, l4] (x :: r) σ Q = (vRf x = true ∧ oc l1 = true ∧ aw g 112 16 [l0, l1, some (x), l3, l4] r σ Q) := (aw_eq g 112 15 _ _ _ _).trans (by rw [tq112_15]; exact (h_store (o := oc l1) rfl rfl rfl))
theorem tq112_16 : tT g 112 16 = s_load vRf 112 17 2 := rfl
theorem A112_16 {l0 : Option Value} {l1 : Option Value} {l3 : Option Value} {l4 : Option Value} {x : Value} {r : List Value} : aw g 112 16 [l0, l1, some (x), l3, l4] r σ Q = (vRf x = true ∧ aw g 112 17 [l0, l1, some (x), l3, l4] (x :: r) σ Q) := (aw_eq g 112 16 _ _ _ _).trans (by rw [tq112_16]; exact h_load rfl)
theorem tq112_17 : tT g 112 17 = s_callvk 112 22 3 11 [] 1 := rfl
theorem A112_17 {L : AL} {r : List Value} {a : Nat} : aw g 112 17 L (.ref a :: r) σ Q = (hty σ a = some 11 ∧ true = true ∧ csum r ≤ 8 ∧ aw g 3 0 [some (.ref a)] [] σ (kt (aw g) 112 22 L r Q)) := (aw_eq g 112 17 _ _ _ _).trans (by rw [tq112_17]; exact rfl)
theorem tq112_22 : tT g 112 22 = s_if 112 25 50 (fun a => a = 0) := rfl
theorem A112_22 {L : AL} {r : List Value} {a : Int32} : aw g 112 22 L (.int a :: r) σ Q = ((a = 0 → aw g 112 50 L r σ Q) ∧ (¬ a = 0 → aw g 112 25 L r σ Q)) := (aw_eq g 112 22 _ _ _ _).trans (by rw [tq112_22]; exact rfl)
theorem tq112_25 : tT g 112 25 = s_load vRf 112 26 2 := rfl
theorem A112_25 {l0 : Option Value} {l1 : Option Value} {l3 : Option Value} {l4 : Option Value} {x : Value} {r : List Value} : aw g 112 25 [l0, l1, some (x), l3, l4] r σ Q = (vRf x = true ∧ aw g 112 26 [l0, l1, some (x), l3, l4] (x :: r) σ Q) := (aw_eq g 112 25 _ _ _ _).trans (by rw [tq112_25]; exact h_load rfl)
theorem tq112_26 : tT g 112 26 = s_callvk 112 31 4 11 [] 3 := rfl
theorem A112_26 {L : AL} {r : List Value} {a : Nat} : aw g 112 26 L (.ref a :: r) σ Q = (hty σ a = some 11 ∧ true = true ∧ csum r ≤ 8 ∧ aw g 4 0 [some (.ref a), none, none] [] σ (kt (aw g) 112 31 L r Q)) := (aw_eq g 112 26 _ _ _ _).trans (by rw [tq112_26]; exact rfl)
theorem tq112_31 : tT g 112 31 = s_cast 112 34 [5] := rfl
theorem A112_31 {L : AL} {r : List Value} : aw g 112 31 L (.null :: r) σ Q = aw g 112 34 L (.null :: r) σ Q := (aw_eq g 112 31 _ _ _ _).trans (by rw [tq112_31]; exact rfl)
theorem A112_31r {L : AL} {r : List Value} {a : Nat} : aw g 112 31 L (.ref a :: r) σ Q = (hty σ a = some 5 ∧ aw g 112 34 L (.ref a :: r) σ Q) := (aw_eq g 112 31 _ _ _ _).trans (by rw [tq112_31]; exact propext ⟨fun z => (by obtain ⟨⟨u, hu, hu2⟩, z2⟩ := z; rw [List.mem_singleton] at hu; subst hu; exact ⟨hu2, z2⟩), fun z => ⟨⟨_, List.mem_cons_self, z.1⟩, z.2⟩⟩)
theorem tq112_34 : tT g 112 34 = s_store vRf 112 35 3 := rfl
theorem A112_34 {l0 : Option Value} {l1 : Option Value} {l2 : Option Value} {l3 : Option Value} {l4 : Option Value} {x : Value} {r : List Value} : aw g 112 34 [l0, l1, l2, l3, l4] (x :: r) σ Q = (vRf x = true ∧ oc l2 = true ∧ aw g 112 35 [l0, l1, l2, some (x), l4] r σ Q) := (aw_eq g 112 34 _ _ _ _).trans (by rw [tq112_34]; exact (h_store (o := oc l2) rfl rfl rfl))
theorem tq112_35 : tT g 112 35 = s_load vRf 112 36 1 := rfl
theorem A112_35 {l0 : Option Value} {l2 : Option Value} {l3 : Option Value} {l4 : Option Value} {x : Value} {r : List Value} : aw g 112 35 [l0, some (x), l2, l3, l4] r σ Q = (vRf x = true ∧ aw g 112 36 [l0, some (x), l2, l3, l4] (x :: r) σ Q) := (aw_eq g 112 35 _ _ _ _).trans (by rw [tq112_35]; exact h_load rfl)
theorem tq112_36 : tT g 112 36 = s_getf 112 39 1 0 := rfl
theorem A112_36 {L : AL} {r : List Value} {a : Nat} : aw g 112 36 L (.ref a :: r) σ Q = (hty σ a = some 1 ∧ aw g 112 39 L (hv σ 1 a 0 :: r) σ Q) := (aw_eq g 112 36 _ _ _ _).trans (by rw [tq112_36]; exact rfl)
theorem tq112_39 : tT g 112 39 = s_load vRf 112 40 3 := rfl
theorem A112_39 {l0 : Option Value} {l1 : Option Value} {l2 : Option Value} {l4 : Option Value} {x : Value} {r : List Value} : aw g 112 39 [l0, l1, l2, some (x), l4] r σ Q = (vRf x = true ∧ aw g 112 40 [l0, l1, l2, some (x), l4] (x :: r) σ Q) := (aw_eq g 112 39 _ _ _ _).trans (by rw [tq112_39]; exact h_load rfl)
theorem tq112_40 : tT g 112 40 = s_callvk 112 43 195 5 [] 2 := rfl
theorem A112_40 {L : AL} {r : List Value} {a : Nat} : aw g 112 40 L (.ref a :: r) σ Q = (hty σ a = some 5 ∧ true = true ∧ csum r ≤ 8 ∧ aw g 195 0 [some (.ref a), none] [] σ (kt (aw g) 112 43 L r Q)) := (aw_eq g 112 40 _ _ _ _).trans (by rw [tq112_40]; exact rfl)
theorem tq112_43 : tT g 112 43 = s_callvk 112 46 18 10 [1] 2 := rfl
theorem A112_43 {L : AL} {r : List Value} {a : Nat} {w0 : Value} : aw g 112 43 L (w0 :: .ref a :: r) σ Q = (hty σ a = some 10 ∧ (vRf w0 && true) = true ∧ csum r ≤ 8 ∧ aw g 18 0 [some (.ref a), some w0] [] σ (kt (aw g) 112 46 L r Q)) := (aw_eq g 112 43 _ _ _ _).trans (by rw [tq112_43]; exact rfl)
theorem tq112_46 : tT g 112 46 = s_pop 112 47 := rfl
theorem A112_46 {L : AL} {r : List Value} {v : Value} : aw g 112 46 L (v :: r) σ Q = (v.category = 1 ∧ aw g 112 47 L r σ Q) := (aw_eq g 112 46 _ _ _ _).trans (by rw [tq112_46]; exact rfl)
theorem tq112_47 : tT g 112 47 = s_goto 112 16 := rfl
theorem A112_47 {L : AL} {r : List Value} : aw g 112 47 L r σ Q = aw g 112 16 L r σ Q := (aw_eq g 112 47 _ _ _ _).trans (by rw [tq112_47]; exact rfl)
theorem tq112_50 : tT g 112 50 = s_load vRf 112 51 0 := rfl
theorem A112_50 {l1 : Option Value} {l2 : Option Value} {l3 : Option Value} {l4 : Option Value} {x : Value} {r : List Value} : aw g 112 50 [some (x), l1, l2, l3, l4] r σ Q = (vRf x = true ∧ aw g 112 51 [some (x), l1, l2, l3, l4] (x :: r) σ Q) := (aw_eq g 112 50 _ _ _ _).trans (by rw [tq112_50]; exact h_load rfl)
theorem tq112_51 : tT g 112 51 = s_getf 112 54 1 1 := rfl
theorem A112_51 {L : AL} {r : List Value} {a : Nat} : aw g 112 51 L (.ref a :: r) σ Q = (hty σ a = some 1 ∧ aw g 112 54 L (hv σ 1 a 1 :: r) σ Q) := (aw_eq g 112 51 _ _ _ _).trans (by rw [tq112_51]; exact rfl)
theorem tq112_54 : tT g 112 54 = s_callvk 112 57 22 10 [] 1 := rfl
theorem A112_54 {L : AL} {r : List Value} {a : Nat} : aw g 112 54 L (.ref a :: r) σ Q = (hty σ a = some 10 ∧ true = true ∧ csum r ≤ 8 ∧ aw g 22 0 [some (.ref a)] [] σ (kt (aw g) 112 57 L r Q)) := (aw_eq g 112 54 _ _ _ _).trans (by rw [tq112_54]; exact rfl)
theorem tq112_57 : tT g 112 57 = s_store vRf 112 58 2 := rfl
theorem A112_57 {l0 : Option Value} {l1 : Option Value} {l2 : Option Value} {l3 : Option Value} {l4 : Option Value} {x : Value} {r : List Value} : aw g 112 57 [l0, l1, l2, l3, l4] (x :: r) σ Q = (vRf x = true ∧ oc l1 = true ∧ aw g 112 58 [l0, l1, some (x), l3, l4] r σ Q) := (aw_eq g 112 57 _ _ _ _).trans (by rw [tq112_57]; exact (h_store (o := oc l1) rfl rfl rfl))
theorem tq112_58 : tT g 112 58 = s_load vRf 112 59 2 := rfl
theorem A112_58 {l0 : Option Value} {l1 : Option Value} {l3 : Option Value} {l4 : Option Value} {x : Value} {r : List Value} : aw g 112 58 [l0, l1, some (x), l3, l4] r σ Q = (vRf x = true ∧ aw g 112 59 [l0, l1, some (x), l3, l4] (x :: r) σ Q) := (aw_eq g 112 58 _ _ _ _).trans (by rw [tq112_58]; exact h_load rfl)
theorem tq112_59 : tT g 112 59 = s_callvk 112 64 3 11 [] 1 := rfl
theorem A112_59 {L : AL} {r : List Value} {a : Nat} : aw g 112 59 L (.ref a :: r) σ Q = (hty σ a = some 11 ∧ true = true ∧ csum r ≤ 8 ∧ aw g 3 0 [some (.ref a)] [] σ (kt (aw g) 112 64 L r Q)) := (aw_eq g 112 59 _ _ _ _).trans (by rw [tq112_59]; exact rfl)
theorem tq112_64 : tT g 112 64 = s_if 112 67 140 (fun a => a = 0) := rfl
theorem A112_64 {L : AL} {r : List Value} {a : Int32} : aw g 112 64 L (.int a :: r) σ Q = ((a = 0 → aw g 112 140 L r σ Q) ∧ (¬ a = 0 → aw g 112 67 L r σ Q)) := (aw_eq g 112 64 _ _ _ _).trans (by rw [tq112_64]; exact rfl)
theorem tq112_67 : tT g 112 67 = s_load vRf 112 68 2 := rfl
theorem A112_67 {l0 : Option Value} {l1 : Option Value} {l3 : Option Value} {l4 : Option Value} {x : Value} {r : List Value} : aw g 112 67 [l0, l1, some (x), l3, l4] r σ Q = (vRf x = true ∧ aw g 112 68 [l0, l1, some (x), l3, l4] (x :: r) σ Q) := (aw_eq g 112 67 _ _ _ _).trans (by rw [tq112_67]; exact h_load rfl)
theorem tq112_68 : tT g 112 68 = s_callvk 112 73 4 11 [] 3 := rfl
theorem A112_68 {L : AL} {r : List Value} {a : Nat} : aw g 112 68 L (.ref a :: r) σ Q = (hty σ a = some 11 ∧ true = true ∧ csum r ≤ 8 ∧ aw g 4 0 [some (.ref a), none, none] [] σ (kt (aw g) 112 73 L r Q)) := (aw_eq g 112 68 _ _ _ _).trans (by rw [tq112_68]; exact rfl)
theorem tq112_73 : tT g 112 73 = s_cast 112 76 [2] := rfl
theorem A112_73 {L : AL} {r : List Value} : aw g 112 73 L (.null :: r) σ Q = aw g 112 76 L (.null :: r) σ Q := (aw_eq g 112 73 _ _ _ _).trans (by rw [tq112_73]; exact rfl)
theorem A112_73r {L : AL} {r : List Value} {a : Nat} : aw g 112 73 L (.ref a :: r) σ Q = (hty σ a = some 2 ∧ aw g 112 76 L (.ref a :: r) σ Q) := (aw_eq g 112 73 _ _ _ _).trans (by rw [tq112_73]; exact propext ⟨fun z => (by obtain ⟨⟨u, hu, hu2⟩, z2⟩ := z; rw [List.mem_singleton] at hu; subst hu; exact ⟨hu2, z2⟩), fun z => ⟨⟨_, List.mem_cons_self, z.1⟩, z.2⟩⟩)
theorem tq112_76 : tT g 112 76 = s_store vRf 112 77 3 := rfl
theorem A112_76 {l0 : Option Value} {l1 : Option Value} {l2 : Option Value} {l3 : Option Value} {l4 : Option Value} {x : Value} {r : List Value} : aw g 112 76 [l0, l1, l2, l3, l4] (x :: r) σ Q = (vRf x = true ∧ oc l2 = true ∧ aw g 112 77 [l0, l1, l2, some (x), l4] r σ Q) := (aw_eq g 112 76 _ _ _ _).trans (by rw [tq112_76]; exact (h_store (o := oc l2) rfl rfl rfl))
theorem tq112_77 : tT g 112 77 = s_new g 112 80 2 3 (fun k => defaultValue (tyX3 k)) := rfl
theorem A112_77 {L : AL} {r : List Value} : aw g 112 77 L r σ Q = (hsz σ + 1 ≤ gC g ∧ hsl σ + 3 ≤ gS g ∧ aw g 112 80 L (.ref (hsz σ) :: r) (hnew σ 2 0 (fun k => defaultValue (tyX3 k)) 3) Q) := (aw_eq g 112 77 _ _ _ _).trans (by rw [tq112_77]; exact rfl)
theorem tq112_80 : tT g 112 80 = s_dup 112 81 := rfl
theorem A112_80 {L : AL} {r : List Value} {v : Value} : aw g 112 80 L (v :: r) σ Q = (v.category = 1 ∧ aw g 112 81 L (v :: v :: r) σ Q) := (aw_eq g 112 80 _ _ _ _).trans (by rw [tq112_80]; exact rfl)
theorem tq112_81 : tT g 112 81 = s_callik 112 84 136 [] 1 := rfl
theorem A112_81 {L : AL} {r : List Value} {a : Nat} : aw g 112 81 L (.ref a :: r) σ Q = (true = true ∧ csum r ≤ 8 ∧ aw g 136 0 [some (.ref a)] [] σ (kt (aw g) 112 84 L r Q)) := (aw_eq g 112 81 _ _ _ _).trans (by rw [tq112_81]; exact rfl)
theorem tq112_84 : tT g 112 84 = s_store vRf 112 86 4 := rfl
theorem A112_84 {l0 : Option Value} {l1 : Option Value} {l2 : Option Value} {l3 : Option Value} {l4 : Option Value} {x : Value} {r : List Value} : aw g 112 84 [l0, l1, l2, l3, l4] (x :: r) σ Q = (vRf x = true ∧ oc l3 = true ∧ aw g 112 86 [l0, l1, l2, l3, some (x)] r σ Q) := (aw_eq g 112 84 _ _ _ _).trans (by rw [tq112_84]; exact (h_store (o := oc l3) rfl rfl rfl))
theorem tq112_86 : tT g 112 86 = s_load vRf 112 88 4 := rfl
theorem A112_86 {l0 : Option Value} {l1 : Option Value} {l2 : Option Value} {l3 : Option Value} {x : Value} {r : List Value} : aw g 112 86 [l0, l1, l2, l3, some (x)] r σ Q = (vRf x = true ∧ aw g 112 88 [l0, l1, l2, l3, some (x)] (x :: r) σ Q) := (aw_eq g 112 86 _ _ _ _).trans (by rw [tq112_86]; exact h_load rfl)
theorem tq112_88 : tT g 112 88 = s_load vRf 112 89 3 := rfl
theorem A112_88 {l0 : Option Value} {l1 : Option Value} {l2 : Option Value} {l4 : Option Value} {x : Value} {r : List Value} : aw g 112 88 [l0, l1, l2, some (x), l4] r σ Q = (vRf x = true ∧ aw g 112 89 [l0, l1, l2, some (x), l4] (x :: r) σ Q) := (aw_eq g 112 88 _ _ _ _).trans (by rw [tq112_88]; exact h_load rfl)
theorem tq112_89 : tT g 112 89 = s_getf 112 92 2 0 := rfl
theorem A112_89 {L : AL} {r : List Value} {a : Nat} : aw g 112 89 L (.ref a :: r) σ Q = (hty σ a = some 2 ∧ aw g 112 92 L (hv σ 2 a 0 :: r) σ Q) := (aw_eq g 112 89 _ _ _ _).trans (by rw [tq112_89]; exact rfl)
theorem tq112_92 : tT g 112 92 = s_ifnn 112 95 99 := rfl
theorem A112_92 {L : AL} {r : List Value} {a : Value} : aw g 112 92 L (a :: r) σ Q = (vRf a = true ∧ (a = .null → aw g 112 95 L r σ Q) ∧ (a ≠ .null → aw g 112 99 L r σ Q)) := (aw_eq g 112 92 _ _ _ _).trans (by rw [tq112_92]; exact rfl)
theorem tq112_95 : tT g 112 95 = s_const 112 96 .null := rfl
theorem A112_95 {L : AL} {r : List Value} : aw g 112 95 L r σ Q = aw g 112 96 L (.null :: r) σ Q := (aw_eq g 112 95 _ _ _ _).trans (by rw [tq112_95]; exact rfl)
theorem tq112_96 : tT g 112 96 = s_goto 112 116 := rfl
theorem A112_96 {L : AL} {r : List Value} : aw g 112 96 L r σ Q = aw g 112 116 L r σ Q := (aw_eq g 112 96 _ _ _ _).trans (by rw [tq112_96]; exact rfl)
theorem tq112_99 : tT g 112 99 = s_load vRf 112 100 1 := rfl
theorem A112_99 {l0 : Option Value} {l2 : Option Value} {l3 : Option Value} {l4 : Option Value} {x : Value} {r : List Value} : aw g 112 99 [l0, some (x), l2, l3, l4] r σ Q = (vRf x = true ∧ aw g 112 100 [l0, some (x), l2, l3, l4] (x :: r) σ Q) := (aw_eq g 112 99 _ _ _ _).trans (by rw [tq112_99]; exact h_load rfl)
theorem tq112_100 : tT g 112 100 = s_getf 112 103 1 0 := rfl
theorem A112_100 {L : AL} {r : List Value} {a : Nat} : aw g 112 100 L (.ref a :: r) σ Q = (hty σ a = some 1 ∧ aw g 112 103 L (hv σ 1 a 0 :: r) σ Q) := (aw_eq g 112 100 _ _ _ _).trans (by rw [tq112_100]; exact rfl)
theorem tq112_103 : tT g 112 103 = s_load vRf 112 104 3 := rfl
theorem A112_103 {l0 : Option Value} {l1 : Option Value} {l2 : Option Value} {l4 : Option Value} {x : Value} {r : List Value} : aw g 112 103 [l0, l1, l2, some (x), l4] r σ Q = (vRf x = true ∧ aw g 112 104 [l0, l1, l2, some (x), l4] (x :: r) σ Q) := (aw_eq g 112 103 _ _ _ _).trans (by rw [tq112_103]; exact h_load rfl)
theorem tq112_104 : tT g 112 104 = s_getf 112 107 2 0 := rfl
theorem A112_104 {L : AL} {r : List Value} {a : Nat} : aw g 112 104 L (.ref a :: r) σ Q = (hty σ a = some 2 ∧ aw g 112 107 L (hv σ 2 a 0 :: r) σ Q) := (aw_eq g 112 104 _ _ _ _).trans (by rw [tq112_104]; exact rfl)
theorem tq112_107 : tT g 112 107 = s_getf 112 110 5 0 := rfl
theorem A112_107 {L : AL} {r : List Value} {a : Nat} : aw g 112 107 L (.ref a :: r) σ Q = (hty σ a = some 5 ∧ aw g 112 110 L (hv σ 5 a 0 :: r) σ Q) := (aw_eq g 112 107 _ _ _ _).trans (by rw [tq112_107]; exact rfl)
theorem tq112_110 : tT g 112 110 = s_callvk 112 113 25 10 [0] 2 := rfl
theorem A112_110 {L : AL} {r : List Value} {a : Nat} {w0 : Value} : aw g 112 110 L (w0 :: .ref a :: r) σ Q = (hty σ a = some 10 ∧ (vI w0 && true) = true ∧ csum r ≤ 8 ∧ aw g 25 0 [some (.ref a), some w0] [] σ (kt (aw g) 112 113 L r Q)) := (aw_eq g 112 110 _ _ _ _).trans (by rw [tq112_110]; exact rfl)
theorem tq112_113 : tT g 112 113 = s_cast 112 116 [5] := rfl
theorem A112_113 {L : AL} {r : List Value} : aw g 112 113 L (.null :: r) σ Q = aw g 112 116 L (.null :: r) σ Q := (aw_eq g 112 113 _ _ _ _).trans (by rw [tq112_113]; exact rfl)
theorem A112_113r {L : AL} {r : List Value} {a : Nat} : aw g 112 113 L (.ref a :: r) σ Q = (hty σ a = some 5 ∧ aw g 112 116 L (.ref a :: r) σ Q) := (aw_eq g 112 113 _ _ _ _).trans (by rw [tq112_113]; exact propext ⟨fun z => (by obtain ⟨⟨u, hu, hu2⟩, z2⟩ := z; rw [List.mem_singleton] at hu; subst hu; exact ⟨hu2, z2⟩), fun z => ⟨⟨_, List.mem_cons_self, z.1⟩, z.2⟩⟩)
theorem tq112_116 : tT g 112 116 = s_load vRf 112 117 3 := rfl
theorem A112_116 {l0 : Option Value} {l1 : Option Value} {l2 : Option Value} {l4 : Option Value} {x : Value} {r : List Value} : aw g 112 116 [l0, l1, l2, some (x), l4] r σ Q = (vRf x = true ∧ aw g 112 117 [l0, l1, l2, some (x), l4] (x :: r) σ Q) := (aw_eq g 112 116 _ _ _ _).trans (by rw [tq112_116]; exact h_load rfl)
theorem tq112_117 : tT g 112 117 = s_getf 112 120 2 1 := rfl
theorem A112_117 {L : AL} {r : List Value} {a : Nat} : aw g 112 117 L (.ref a :: r) σ Q = (hty σ a = some 2 ∧ aw g 112 120 L (hv σ 2 a 1 :: r) σ Q) := (aw_eq g 112 117 _ _ _ _).trans (by rw [tq112_117]; exact rfl)
theorem tq112_120 : tT g 112 120 = s_load vRf 112 121 3 := rfl
theorem A112_120 {l0 : Option Value} {l1 : Option Value} {l2 : Option Value} {l4 : Option Value} {x : Value} {r : List Value} : aw g 112 120 [l0, l1, l2, some (x), l4] r σ Q = (vRf x = true ∧ aw g 112 121 [l0, l1, l2, some (x), l4] (x :: r) σ Q) := (aw_eq g 112 120 _ _ _ _).trans (by rw [tq112_120]; exact h_load rfl)
theorem tq112_121 : tT g 112 121 = s_getf 112 124 2 2 := rfl
theorem A112_121 {L : AL} {r : List Value} {a : Nat} : aw g 112 121 L (.ref a :: r) σ Q = (hty σ a = some 2 ∧ aw g 112 124 L (hv σ 2 a 2 :: r) σ Q) := (aw_eq g 112 121 _ _ _ _).trans (by rw [tq112_121]; exact rfl)
theorem tq112_124 : tT g 112 124 = s_callvk 112 127 135 2 [1, 0, 0] 4 := rfl
theorem A112_124 {L : AL} {r : List Value} {a : Nat} {w0 w1 w2 : Value} : aw g 112 124 L (w2 :: w1 :: w0 :: .ref a :: r) σ Q = (hty σ a = some 2 ∧ (vRf w0 && (vI w1 && (vI w2 && true))) = true ∧ csum r ≤ 8 ∧ aw g 135 0 [some (.ref a), some w0, some w1, some w2] [] σ (kt (aw g) 112 127 L r Q)) := (aw_eq g 112 124 _ _ _ _).trans (by rw [tq112_124]; exact rfl)
theorem tq112_127 : tT g 112 127 = s_load vRf 112 128 1 := rfl
theorem A112_127 {l0 : Option Value} {l2 : Option Value} {l3 : Option Value} {l4 : Option Value} {x : Value} {r : List Value} : aw g 112 127 [l0, some (x), l2, l3, l4] r σ Q = (vRf x = true ∧ aw g 112 128 [l0, some (x), l2, l3, l4] (x :: r) σ Q) := (aw_eq g 112 127 _ _ _ _).trans (by rw [tq112_127]; exact h_load rfl)
theorem tq112_128 : tT g 112 128 = s_getf 112 131 1 1 := rfl
theorem A112_128 {L : AL} {r : List Value} {a : Nat} : aw g 112 128 L (.ref a :: r) σ Q = (hty σ a = some 1 ∧ aw g 112 131 L (hv σ 1 a 1 :: r) σ Q) := (aw_eq g 112 128 _ _ _ _).trans (by rw [tq112_128]; exact rfl)
theorem tq112_131 : tT g 112 131 = s_load vRf 112 133 4 := rfl
theorem A112_131 {l0 : Option Value} {l1 : Option Value} {l2 : Option Value} {l3 : Option Value} {x : Value} {r : List Value} : aw g 112 131 [l0, l1, l2, l3, some (x)] r σ Q = (vRf x = true ∧ aw g 112 133 [l0, l1, l2, l3, some (x)] (x :: r) σ Q) := (aw_eq g 112 131 _ _ _ _).trans (by rw [tq112_131]; exact h_load rfl)
theorem tq112_133 : tT g 112 133 = s_callvk 112 136 18 10 [1] 2 := rfl
theorem A112_133 {L : AL} {r : List Value} {a : Nat} {w0 : Value} : aw g 112 133 L (w0 :: .ref a :: r) σ Q = (hty σ a = some 10 ∧ (vRf w0 && true) = true ∧ csum r ≤ 8 ∧ aw g 18 0 [some (.ref a), some w0] [] σ (kt (aw g) 112 136 L r Q)) := (aw_eq g 112 133 _ _ _ _).trans (by rw [tq112_133]; exact rfl)
theorem tq112_136 : tT g 112 136 = s_pop 112 137 := rfl
theorem A112_136 {L : AL} {r : List Value} {v : Value} : aw g 112 136 L (v :: r) σ Q = (v.category = 1 ∧ aw g 112 137 L r σ Q) := (aw_eq g 112 136 _ _ _ _).trans (by rw [tq112_136]; exact rfl)
theorem tq112_137 : tT g 112 137 = s_goto 112 58 := rfl
theorem A112_137 {L : AL} {r : List Value} : aw g 112 137 L r σ Q = aw g 112 58 L r σ Q := (aw_eq g 112 137 _ _ _ _).trans (by rw [tq112_137]; exact rfl)
theorem tq112_140 : tT g 112 140 = s_load vRf 112 141 1 := rfl
theorem A112_140 {l0 : Option Value} {l2 : Option Value} {l3 : Option Value} {l4 : Option Value} {x : Value} {r : List Value} : aw g 112 140 [l0, some (x), l2, l3, l4] r σ Q = (vRf x = true ∧ aw g 112 141 [l0, some (x), l2, l3, l4] (x :: r) σ Q) := (aw_eq g 112 140 _ _ _ _).trans (by rw [tq112_140]; exact h_load rfl)
theorem tq112_141 : tT g 112 141 = s_load vRf 112 142 0 := rfl
theorem A112_141 {l1 : Option Value} {l2 : Option Value} {l3 : Option Value} {l4 : Option Value} {x : Value} {r : List Value} : aw g 112 141 [some (x), l1, l2, l3, l4] r σ Q = (vRf x = true ∧ aw g 112 142 [some (x), l1, l2, l3, l4] (x :: r) σ Q) := (aw_eq g 112 141 _ _ _ _).trans (by rw [tq112_141]; exact h_load rfl)
theorem tq112_142 : tT g 112 142 = s_getf 112 145 1 2 := rfl
theorem A112_142 {L : AL} {r : List Value} {a : Nat} : aw g 112 142 L (.ref a :: r) σ Q = (hty σ a = some 1 ∧ aw g 112 145 L (hv σ 1 a 2 :: r) σ Q) := (aw_eq g 112 142 _ _ _ _).trans (by rw [tq112_142]; exact rfl)
theorem tq112_145 : tT g 112 145 = s_putf g pI 112 148 1 2 := rfl
theorem A112_145 {L : AL} {r : List Value} {a : Nat} {v : Value} : aw g 112 145 L (v :: .ref a :: r) σ Q = (hty σ a = some 1 ∧ gB g ≤ a ∧ pI v ∧ aw g 112 148 L r (hput σ 1 a 2 v) Q) := (aw_eq g 112 145 _ _ _ _).trans (by rw [tq112_145]; exact rfl)
theorem tq112_148 : tT g 112 148 = s_load vRf 112 149 1 := rfl
theorem A112_148 {l0 : Option Value} {l2 : Option Value} {l3 : Option Value} {l4 : Option Value} {x : Value} {r : List Value} : aw g 112 148 [l0, some (x), l2, l3, l4] r σ Q = (vRf x = true ∧ aw g 112 149 [l0, some (x), l2, l3, l4] (x :: r) σ Q) := (aw_eq g 112 148 _ _ _ _).trans (by rw [tq112_148]; exact h_load rfl)
theorem tq112_149 : tT g 112 149 = s_load vRf 112 150 0 := rfl
theorem A112_149 {l1 : Option Value} {l2 : Option Value} {l3 : Option Value} {l4 : Option Value} {x : Value} {r : List Value} : aw g 112 149 [some (x), l1, l2, l3, l4] r σ Q = (vRf x = true ∧ aw g 112 150 [some (x), l1, l2, l3, l4] (x :: r) σ Q) := (aw_eq g 112 149 _ _ _ _).trans (by rw [tq112_149]; exact h_load rfl)
theorem tq112_150 : tT g 112 150 = s_getf 112 153 1 3 := rfl
theorem A112_150 {L : AL} {r : List Value} {a : Nat} : aw g 112 150 L (.ref a :: r) σ Q = (hty σ a = some 1 ∧ aw g 112 153 L (hv σ 1 a 3 :: r) σ Q) := (aw_eq g 112 150 _ _ _ _).trans (by rw [tq112_150]; exact rfl)
theorem tq112_153 : tT g 112 153 = s_ifnn 112 156 160 := rfl
theorem A112_153 {L : AL} {r : List Value} {a : Value} : aw g 112 153 L (a :: r) σ Q = (vRf a = true ∧ (a = .null → aw g 112 156 L r σ Q) ∧ (a ≠ .null → aw g 112 160 L r σ Q)) := (aw_eq g 112 153 _ _ _ _).trans (by rw [tq112_153]; exact rfl)
theorem tq112_156 : tT g 112 156 = s_const 112 157 .null := rfl
theorem A112_156 {L : AL} {r : List Value} : aw g 112 156 L r σ Q = aw g 112 157 L (.null :: r) σ Q := (aw_eq g 112 156 _ _ _ _).trans (by rw [tq112_156]; exact rfl)
theorem tq112_157 : tT g 112 157 = s_goto 112 177 := rfl
theorem A112_157 {L : AL} {r : List Value} : aw g 112 157 L r σ Q = aw g 112 177 L r σ Q := (aw_eq g 112 157 _ _ _ _).trans (by rw [tq112_157]; exact rfl)
theorem tq112_160 : tT g 112 160 = s_load vRf 112 161 1 := rfl
theorem A112_160 {l0 : Option Value} {l2 : Option Value} {l3 : Option Value} {l4 : Option Value} {x : Value} {r : List Value} : aw g 112 160 [l0, some (x), l2, l3, l4] r σ Q = (vRf x = true ∧ aw g 112 161 [l0, some (x), l2, l3, l4] (x :: r) σ Q) := (aw_eq g 112 160 _ _ _ _).trans (by rw [tq112_160]; exact h_load rfl)
theorem tq112_161 : tT g 112 161 = s_getf 112 164 1 0 := rfl
theorem A112_161 {L : AL} {r : List Value} {a : Nat} : aw g 112 161 L (.ref a :: r) σ Q = (hty σ a = some 1 ∧ aw g 112 164 L (hv σ 1 a 0 :: r) σ Q) := (aw_eq g 112 161 _ _ _ _).trans (by rw [tq112_161]; exact rfl)
theorem tq112_164 : tT g 112 164 = s_load vRf 112 165 0 := rfl
theorem A112_164 {l1 : Option Value} {l2 : Option Value} {l3 : Option Value} {l4 : Option Value} {x : Value} {r : List Value} : aw g 112 164 [some (x), l1, l2, l3, l4] r σ Q = (vRf x = true ∧ aw g 112 165 [some (x), l1, l2, l3, l4] (x :: r) σ Q) := (aw_eq g 112 164 _ _ _ _).trans (by rw [tq112_164]; exact h_load rfl)
theorem tq112_165 : tT g 112 165 = s_getf 112 168 1 3 := rfl
theorem A112_165 {L : AL} {r : List Value} {a : Nat} : aw g 112 165 L (.ref a :: r) σ Q = (hty σ a = some 1 ∧ aw g 112 168 L (hv σ 1 a 3 :: r) σ Q) := (aw_eq g 112 165 _ _ _ _).trans (by rw [tq112_165]; exact rfl)
theorem tq112_168 : tT g 112 168 = s_getf 112 171 5 0 := rfl
theorem A112_168 {L : AL} {r : List Value} {a : Nat} : aw g 112 168 L (.ref a :: r) σ Q = (hty σ a = some 5 ∧ aw g 112 171 L (hv σ 5 a 0 :: r) σ Q) := (aw_eq g 112 168 _ _ _ _).trans (by rw [tq112_168]; exact rfl)
theorem tq112_171 : tT g 112 171 = s_callvk 112 174 25 10 [0] 2 := rfl
theorem A112_171 {L : AL} {r : List Value} {a : Nat} {w0 : Value} : aw g 112 171 L (w0 :: .ref a :: r) σ Q = (hty σ a = some 10 ∧ (vI w0 && true) = true ∧ csum r ≤ 8 ∧ aw g 25 0 [some (.ref a), some w0] [] σ (kt (aw g) 112 174 L r Q)) := (aw_eq g 112 171 _ _ _ _).trans (by rw [tq112_171]; exact rfl)
theorem tq112_174 : tT g 112 174 = s_cast 112 177 [5] := rfl
theorem A112_174 {L : AL} {r : List Value} : aw g 112 174 L (.null :: r) σ Q = aw g 112 177 L (.null :: r) σ Q := (aw_eq g 112 174 _ _ _ _).trans (by rw [tq112_174]; exact rfl)
theorem A112_174r {L : AL} {r : List Value} {a : Nat} : aw g 112 174 L (.ref a :: r) σ Q = (hty σ a = some 5 ∧ aw g 112 177 L (.ref a :: r) σ Q) := (aw_eq g 112 174 _ _ _ _).trans (by rw [tq112_174]; exact propext ⟨fun z => (by obtain ⟨⟨u, hu, hu2⟩, z2⟩ := z; rw [List.mem_singleton] at hu; subst hu; exact ⟨hu2, z2⟩), fun z => ⟨⟨_, List.mem_cons_self, z.1⟩, z.2⟩⟩)
theorem tq112_177 : tT g 112 177 = s_putf g pR 112 180 1 3 := rfl
theorem A112_177 {L : AL} {r : List Value} {a : Nat} {v : Value} : aw g 112 177 L (v :: .ref a :: r) σ Q = (hty σ a = some 1 ∧ gB g ≤ a ∧ pR v ∧ aw g 112 180 L r (hput σ 1 a 3 v) Q) := (aw_eq g 112 177 _ _ _ _).trans (by rw [tq112_177]; exact rfl)
theorem tq112_180 : tT g 112 180 = s_load vRf 112 181 1 := rfl
theorem A112_180 {l0 : Option Value} {l2 : Option Value} {l3 : Option Value} {l4 : Option Value} {x : Value} {r : List Value} : aw g 112 180 [l0, some (x), l2, l3, l4] r σ Q = (vRf x = true ∧ aw g 112 181 [l0, some (x), l2, l3, l4] (x :: r) σ Q) := (aw_eq g 112 180 _ _ _ _).trans (by rw [tq112_180]; exact h_load rfl)
theorem tq112_181 : tT g 112 181 = s_load vRf 112 182 0 := rfl
theorem A112_181 {l1 : Option Value} {l2 : Option Value} {l3 : Option Value} {l4 : Option Value} {x : Value} {r : List Value} : aw g 112 181 [some (x), l1, l2, l3, l4] r σ Q = (vRf x = true ∧ aw g 112 182 [some (x), l1, l2, l3, l4] (x :: r) σ Q) := (aw_eq g 112 181 _ _ _ _).trans (by rw [tq112_181]; exact h_load rfl)
theorem tq112_182 : tT g 112 182 = s_getf 112 185 1 4 := rfl
theorem A112_182 {L : AL} {r : List Value} {a : Nat} : aw g 112 182 L (.ref a :: r) σ Q = (hty σ a = some 1 ∧ aw g 112 185 L (hv σ 1 a 4 :: r) σ Q) := (aw_eq g 112 182 _ _ _ _).trans (by rw [tq112_182]; exact rfl)
theorem tq112_185 : tT g 112 185 = s_ifnn 112 188 192 := rfl
theorem A112_185 {L : AL} {r : List Value} {a : Value} : aw g 112 185 L (a :: r) σ Q = (vRf a = true ∧ (a = .null → aw g 112 188 L r σ Q) ∧ (a ≠ .null → aw g 112 192 L r σ Q)) := (aw_eq g 112 185 _ _ _ _).trans (by rw [tq112_185]; exact rfl)
theorem tq112_188 : tT g 112 188 = s_const 112 189 .null := rfl
theorem A112_188 {L : AL} {r : List Value} : aw g 112 188 L r σ Q = aw g 112 189 L (.null :: r) σ Q := (aw_eq g 112 188 _ _ _ _).trans (by rw [tq112_188]; exact rfl)
theorem tq112_189 : tT g 112 189 = s_goto 112 209 := rfl
theorem A112_189 {L : AL} {r : List Value} : aw g 112 189 L r σ Q = aw g 112 209 L r σ Q := (aw_eq g 112 189 _ _ _ _).trans (by rw [tq112_189]; exact rfl)
theorem tq112_192 : tT g 112 192 = s_load vRf 112 193 1 := rfl
theorem A112_192 {l0 : Option Value} {l2 : Option Value} {l3 : Option Value} {l4 : Option Value} {x : Value} {r : List Value} : aw g 112 192 [l0, some (x), l2, l3, l4] r σ Q = (vRf x = true ∧ aw g 112 193 [l0, some (x), l2, l3, l4] (x :: r) σ Q) := (aw_eq g 112 192 _ _ _ _).trans (by rw [tq112_192]; exact h_load rfl)
theorem tq112_193 : tT g 112 193 = s_getf 112 196 1 0 := rfl
theorem A112_193 {L : AL} {r : List Value} {a : Nat} : aw g 112 193 L (.ref a :: r) σ Q = (hty σ a = some 1 ∧ aw g 112 196 L (hv σ 1 a 0 :: r) σ Q) := (aw_eq g 112 193 _ _ _ _).trans (by rw [tq112_193]; exact rfl)
theorem tq112_196 : tT g 112 196 = s_load vRf 112 197 0 := rfl
theorem A112_196 {l1 : Option Value} {l2 : Option Value} {l3 : Option Value} {l4 : Option Value} {x : Value} {r : List Value} : aw g 112 196 [some (x), l1, l2, l3, l4] r σ Q = (vRf x = true ∧ aw g 112 197 [some (x), l1, l2, l3, l4] (x :: r) σ Q) := (aw_eq g 112 196 _ _ _ _).trans (by rw [tq112_196]; exact h_load rfl)
theorem tq112_197 : tT g 112 197 = s_getf 112 200 1 4 := rfl
theorem A112_197 {L : AL} {r : List Value} {a : Nat} : aw g 112 197 L (.ref a :: r) σ Q = (hty σ a = some 1 ∧ aw g 112 200 L (hv σ 1 a 4 :: r) σ Q) := (aw_eq g 112 197 _ _ _ _).trans (by rw [tq112_197]; exact rfl)
theorem tq112_200 : tT g 112 200 = s_getf 112 203 5 0 := rfl
theorem A112_200 {L : AL} {r : List Value} {a : Nat} : aw g 112 200 L (.ref a :: r) σ Q = (hty σ a = some 5 ∧ aw g 112 203 L (hv σ 5 a 0 :: r) σ Q) := (aw_eq g 112 200 _ _ _ _).trans (by rw [tq112_200]; exact rfl)
theorem tq112_203 : tT g 112 203 = s_callvk 112 206 25 10 [0] 2 := rfl
theorem A112_203 {L : AL} {r : List Value} {a : Nat} {w0 : Value} : aw g 112 203 L (w0 :: .ref a :: r) σ Q = (hty σ a = some 10 ∧ (vI w0 && true) = true ∧ csum r ≤ 8 ∧ aw g 25 0 [some (.ref a), some w0] [] σ (kt (aw g) 112 206 L r Q)) := (aw_eq g 112 203 _ _ _ _).trans (by rw [tq112_203]; exact rfl)
theorem tq112_206 : tT g 112 206 = s_cast 112 209 [5] := rfl
theorem A112_206 {L : AL} {r : List Value} : aw g 112 206 L (.null :: r) σ Q = aw g 112 209 L (.null :: r) σ Q := (aw_eq g 112 206 _ _ _ _).trans (by rw [tq112_206]; exact rfl)
theorem A112_206r {L : AL} {r : List Value} {a : Nat} : aw g 112 206 L (.ref a :: r) σ Q = (hty σ a = some 5 ∧ aw g 112 209 L (.ref a :: r) σ Q) := (aw_eq g 112 206 _ _ _ _).trans (by rw [tq112_206]; exact propext ⟨fun z => (by obtain ⟨⟨u, hu, hu2⟩, z2⟩ := z; rw [List.mem_singleton] at hu; subst hu; exact ⟨hu2, z2⟩), fun z => ⟨⟨_, List.mem_cons_self, z.1⟩, z.2⟩⟩)
theorem tq112_209 : tT g 112 209 = s_putf g pR 112 212 1 4 := rfl
theorem A112_209 {L : AL} {r : List Value} {a : Nat} {v : Value} : aw g 112 209 L (v :: .ref a :: r) σ Q = (hty σ a = some 1 ∧ gB g ≤ a ∧ pR v ∧ aw g 112 212 L r (hput σ 1 a 4 v) Q) := (aw_eq g 112 209 _ _ _ _).trans (by rw [tq112_209]; exact rfl)
theorem tq112_212 : tT g 112 212 = s_load vRf 112 213 1 := rfl
theorem A112_212 {l0 : Option Value} {l2 : Option Value} {l3 : Option Value} {l4 : Option Value} {x : Value} {r : List Value} : aw g 112 212 [l0, some (x), l2, l3, l4] r σ Q = (vRf x = true ∧ aw g 112 213 [l0, some (x), l2, l3, l4] (x :: r) σ Q) := (aw_eq g 112 212 _ _ _ _).trans (by rw [tq112_212]; exact h_load rfl)
theorem tq112_213 : tT g 112 213 = s_load vRf 112 214 0 := rfl
theorem A112_213 {l1 : Option Value} {l2 : Option Value} {l3 : Option Value} {l4 : Option Value} {x : Value} {r : List Value} : aw g 112 213 [some (x), l1, l2, l3, l4] r σ Q = (vRf x = true ∧ aw g 112 214 [some (x), l1, l2, l3, l4] (x :: r) σ Q) := (aw_eq g 112 213 _ _ _ _).trans (by rw [tq112_213]; exact h_load rfl)
theorem tq112_214 : tT g 112 214 = s_getf 112 217 1 5 := rfl
theorem A112_214 {L : AL} {r : List Value} {a : Nat} : aw g 112 214 L (.ref a :: r) σ Q = (hty σ a = some 1 ∧ aw g 112 217 L (hv σ 1 a 5 :: r) σ Q) := (aw_eq g 112 214 _ _ _ _).trans (by rw [tq112_214]; exact rfl)
theorem tq112_217 : tT g 112 217 = s_putf g pI 112 220 1 5 := rfl
theorem A112_217 {L : AL} {r : List Value} {a : Nat} {v : Value} : aw g 112 217 L (v :: .ref a :: r) σ Q = (hty σ a = some 1 ∧ gB g ≤ a ∧ pI v ∧ aw g 112 220 L r (hput σ 1 a 5 v) Q) := (aw_eq g 112 217 _ _ _ _).trans (by rw [tq112_217]; exact rfl)
theorem tq112_220 : tT g 112 220 = s_load vRf 112 221 1 := rfl
theorem A112_220 {l0 : Option Value} {l2 : Option Value} {l3 : Option Value} {l4 : Option Value} {x : Value} {r : List Value} : aw g 112 220 [l0, some (x), l2, l3, l4] r σ Q = (vRf x = true ∧ aw g 112 221 [l0, some (x), l2, l3, l4] (x :: r) σ Q) := (aw_eq g 112 220 _ _ _ _).trans (by rw [tq112_220]; exact h_load rfl)
theorem tq112_221 : tT g 112 221 = s_load vRf 112 222 0 := rfl
theorem A112_221 {l1 : Option Value} {l2 : Option Value} {l3 : Option Value} {l4 : Option Value} {x : Value} {r : List Value} : aw g 112 221 [some (x), l1, l2, l3, l4] r σ Q = (vRf x = true ∧ aw g 112 222 [some (x), l1, l2, l3, l4] (x :: r) σ Q) := (aw_eq g 112 221 _ _ _ _).trans (by rw [tq112_221]; exact h_load rfl)
theorem tq112_222 : tT g 112 222 = s_getf 112 225 1 6 := rfl
theorem A112_222 {L : AL} {r : List Value} {a : Nat} : aw g 112 222 L (.ref a :: r) σ Q = (hty σ a = some 1 ∧ aw g 112 225 L (hv σ 1 a 6 :: r) σ Q) := (aw_eq g 112 222 _ _ _ _).trans (by rw [tq112_222]; exact rfl)
theorem tq112_225 : tT g 112 225 = s_putf g pI 112 228 1 6 := rfl
theorem A112_225 {L : AL} {r : List Value} {a : Nat} {v : Value} : aw g 112 225 L (v :: .ref a :: r) σ Q = (hty σ a = some 1 ∧ gB g ≤ a ∧ pI v ∧ aw g 112 228 L r (hput σ 1 a 6 v) Q) := (aw_eq g 112 225 _ _ _ _).trans (by rw [tq112_225]; exact rfl)
theorem tq112_228 : tT g 112 228 = s_load vRf 112 229 1 := rfl
theorem A112_228 {l0 : Option Value} {l2 : Option Value} {l3 : Option Value} {l4 : Option Value} {x : Value} {r : List Value} : aw g 112 228 [l0, some (x), l2, l3, l4] r σ Q = (vRf x = true ∧ aw g 112 229 [l0, some (x), l2, l3, l4] (x :: r) σ Q) := (aw_eq g 112 228 _ _ _ _).trans (by rw [tq112_228]; exact h_load rfl)
theorem tq112_229 : tT g 112 229 = s_load vRf 112 230 0 := rfl
theorem A112_229 {l1 : Option Value} {l2 : Option Value} {l3 : Option Value} {l4 : Option Value} {x : Value} {r : List Value} : aw g 112 229 [some (x), l1, l2, l3, l4] r σ Q = (vRf x = true ∧ aw g 112 230 [some (x), l1, l2, l3, l4] (x :: r) σ Q) := (aw_eq g 112 229 _ _ _ _).trans (by rw [tq112_229]; exact h_load rfl)
theorem tq112_230 : tT g 112 230 = s_getf 112 233 1 7 := rfl
theorem A112_230 {L : AL} {r : List Value} {a : Nat} : aw g 112 230 L (.ref a :: r) σ Q = (hty σ a = some 1 ∧ aw g 112 233 L (hv σ 1 a 7 :: r) σ Q) := (aw_eq g 112 230 _ _ _ _).trans (by rw [tq112_230]; exact rfl)
theorem tq112_233 : tT g 112 233 = s_putf g pI 112 236 1 7 := rfl
theorem A112_233 {L : AL} {r : List Value} {a : Nat} {v : Value} : aw g 112 233 L (v :: .ref a :: r) σ Q = (hty σ a = some 1 ∧ gB g ≤ a ∧ pI v ∧ aw g 112 236 L r (hput σ 1 a 7 v) Q) := (aw_eq g 112 233 _ _ _ _).trans (by rw [tq112_233]; exact rfl)
theorem tq112_236 : tT g 112 236 = s_load vRf 112 237 1 := rfl
theorem A112_236 {l0 : Option Value} {l2 : Option Value} {l3 : Option Value} {l4 : Option Value} {x : Value} {r : List Value} : aw g 112 236 [l0, some (x), l2, l3, l4] r σ Q = (vRf x = true ∧ aw g 112 237 [l0, some (x), l2, l3, l4] (x :: r) σ Q) := (aw_eq g 112 236 _ _ _ _).trans (by rw [tq112_236]; exact h_load rfl)
theorem tq112_237 : tT g 112 237 = s_load vRf 112 238 0 := rfl
theorem A112_237 {l1 : Option Value} {l2 : Option Value} {l3 : Option Value} {l4 : Option Value} {x : Value} {r : List Value} : aw g 112 237 [some (x), l1, l2, l3, l4] r σ Q = (vRf x = true ∧ aw g 112 238 [some (x), l1, l2, l3, l4] (x :: r) σ Q) := (aw_eq g 112 237 _ _ _ _).trans (by rw [tq112_237]; exact h_load rfl)
theorem tq112_238 : tT g 112 238 = s_getf 112 241 1 8 := rfl
theorem A112_238 {L : AL} {r : List Value} {a : Nat} : aw g 112 238 L (.ref a :: r) σ Q = (hty σ a = some 1 ∧ aw g 112 241 L (hv σ 1 a 8 :: r) σ Q) := (aw_eq g 112 238 _ _ _ _).trans (by rw [tq112_238]; exact rfl)
theorem tq112_241 : tT g 112 241 = s_putf g pI 112 244 1 8 := rfl
theorem A112_241 {L : AL} {r : List Value} {a : Nat} {v : Value} : aw g 112 241 L (v :: .ref a :: r) σ Q = (hty σ a = some 1 ∧ gB g ≤ a ∧ pI v ∧ aw g 112 244 L r (hput σ 1 a 8 v) Q) := (aw_eq g 112 241 _ _ _ _).trans (by rw [tq112_241]; exact rfl)
theorem tq112_244 : tT g 112 244 = s_load vRf 112 245 1 := rfl
theorem A112_244 {l0 : Option Value} {l2 : Option Value} {l3 : Option Value} {l4 : Option Value} {x : Value} {r : List Value} : aw g 112 244 [l0, some (x), l2, l3, l4] r σ Q = (vRf x = true ∧ aw g 112 245 [l0, some (x), l2, l3, l4] (x :: r) σ Q) := (aw_eq g 112 244 _ _ _ _).trans (by rw [tq112_244]; exact h_load rfl)
theorem tq112_245 : tT g 112 245 = s_load vRf 112 246 0 := rfl
theorem A112_245 {l1 : Option Value} {l2 : Option Value} {l3 : Option Value} {l4 : Option Value} {x : Value} {r : List Value} : aw g 112 245 [some (x), l1, l2, l3, l4] r σ Q = (vRf x = true ∧ aw g 112 246 [some (x), l1, l2, l3, l4] (x :: r) σ Q) := (aw_eq g 112 245 _ _ _ _).trans (by rw [tq112_245]; exact h_load rfl)
theorem tq112_246 : tT g 112 246 = s_getf 112 249 1 9 := rfl
theorem A112_246 {L : AL} {r : List Value} {a : Nat} : aw g 112 246 L (.ref a :: r) σ Q = (hty σ a = some 1 ∧ aw g 112 249 L (hv σ 1 a 9 :: r) σ Q) := (aw_eq g 112 246 _ _ _ _).trans (by rw [tq112_246]; exact rfl)
theorem tq112_249 : tT g 112 249 = s_putf g pI 112 252 1 9 := rfl
theorem A112_249 {L : AL} {r : List Value} {a : Nat} {v : Value} : aw g 112 249 L (v :: .ref a :: r) σ Q = (hty σ a = some 1 ∧ gB g ≤ a ∧ pI v ∧ aw g 112 252 L r (hput σ 1 a 9 v) Q) := (aw_eq g 112 249 _ _ _ _).trans (by rw [tq112_249]; exact rfl)
theorem tq112_252 : tT g 112 252 = s_load vRf 112 253 1 := rfl
theorem A112_252 {l0 : Option Value} {l2 : Option Value} {l3 : Option Value} {l4 : Option Value} {x : Value} {r : List Value} : aw g 112 252 [l0, some (x), l2, l3, l4] r σ Q = (vRf x = true ∧ aw g 112 253 [l0, some (x), l2, l3, l4] (x :: r) σ Q) := (aw_eq g 112 252 _ _ _ _).trans (by rw [tq112_252]; exact h_load rfl)
theorem tq112_253 : tT g 112 253 = s_ret pR := rfl
theorem A112_253 {L : AL} {v : Value} : aw g 112 253 L [v] σ Q = (pR v ∧ Q (.inl (some v)) σ) := (aw_eq g 112 253 _ _ _ _).trans (by rw [tq112_253]; exact rfl)
theorem tq113_0 : tT g 113 0 = s_load vRf 113 1 0 := rfl
theorem A113_0 {l1 : Option Value} {l2 : Option Value} {l3 : Option Value} {x : Value} {r : List Value} : aw g 113 0 [some (x), l1, l2, l3] r σ Q = (vRf x = true ∧ aw g 113 1 [some (x), l1, l2, l3] (x :: r) σ Q) := (aw_eq g 113 0 _ _ _ _).trans (by rw [tq113_0]; exact h_load rfl)
theorem tq113_1 : tT g 113 1 = s_callvk 113 4 114 1 [] 4 := rfl
theorem A113_1 {L : AL} {r : List Value} {a : Nat} : aw g 113 1 L (.ref a :: r) σ Q = (hty σ a = some 1 ∧ true = true ∧ csum r ≤ 8 ∧ aw g 114 0 [some (.ref a), none, none, none] [] σ (kt (aw g) 113 4 L r Q)) := (aw_eq g 113 1 _ _ _ _).trans (by rw [tq113_1]; exact rfl)
theorem tq113_4 : tT g 113 4 = s_store vI 113 5 2 := rfl
theorem A113_4 {l0 : Option Value} {l1 : Option Value} {l2 : Option Value} {l3 : Option Value} {x : Int32} {r : List Value} : aw g 113 4 [l0, l1, l2, l3] (.int x :: r) σ Q = (oc l1 = true ∧ aw g 113 5 [l0, l1, some (.int x), l3] r σ Q) := (aw_eq g 113 4 _ _ _ _).trans (by rw [tq113_4]; exact (h_store (o := oc l1) rfl rfl rfl).trans (propext ⟨fun z => z.2, fun z => ⟨rfl, z⟩⟩))
theorem tq113_5 : tT g 113 5 = s_const 113 6 (.int 0) := rfl
theorem A113_5 {L : AL} {r : List Value} : aw g 113 5 L r σ Q = aw g 113 6 L (.int 0 :: r) σ Q := (aw_eq g 113 5 _ _ _ _).trans (by rw [tq113_5]; exact rfl)
theorem tq113_6 : tT g 113 6 = s_store vI 113 7 3 := rfl
theorem A113_6 {l0 : Option Value} {l1 : Option Value} {l2 : Option Value} {l3 : Option Value} {x : Int32} {r : List Value} : aw g 113 6 [l0, l1, l2, l3] (.int x :: r) σ Q = (oc l2 = true ∧ aw g 113 7 [l0, l1, l2, some (.int x)] r σ Q) := (aw_eq g 113 6 _ _ _ _).trans (by rw [tq113_6]; exact (h_store (o := oc l2) rfl rfl rfl).trans (propext ⟨fun z => z.2, fun z => ⟨rfl, z⟩⟩))
theorem tq113_7 : tT g 113 7 = s_load vI 113 8 3 := rfl
theorem A113_7 {l0 : Option Value} {l1 : Option Value} {l2 : Option Value} {x : Int32} {r : List Value} : aw g 113 7 [l0, l1, l2, some (.int x)] r σ Q = aw g 113 8 [l0, l1, l2, some (.int x)] (.int x :: r) σ Q := (aw_eq g 113 7 _ _ _ _).trans (by rw [tq113_7]; exact (h_load rfl).trans (propext ⟨fun z => z.2, fun z => ⟨rfl, z⟩⟩))
theorem tq113_8 : tT g 113 8 = s_load vI 113 9 1 := rfl
theorem A113_8 {l0 : Option Value} {l2 : Option Value} {l3 : Option Value} {x : Int32} {r : List Value} : aw g 113 8 [l0, some (.int x), l2, l3] r σ Q = aw g 113 9 [l0, some (.int x), l2, l3] (.int x :: r) σ Q := (aw_eq g 113 8 _ _ _ _).trans (by rw [tq113_8]; exact (h_load rfl).trans (propext ⟨fun z => z.2, fun z => ⟨rfl, z⟩⟩))
theorem tq113_9 : tT g 113 9 = s_icmp 113 12 22 (fun a b => b ≤ a) := rfl
theorem A113_9 {L : AL} {r : List Value} {a b : Int32} : aw g 113 9 L (.int b :: .int a :: r) σ Q = ((b ≤ a → aw g 113 22 L r σ Q) ∧ (¬ b ≤ a → aw g 113 12 L r σ Q)) := (aw_eq g 113 9 _ _ _ _).trans (by rw [tq113_9]; exact rfl)
theorem tq113_12 : tT g 113 12 = s_load vRf 113 13 0 := rfl
theorem A113_12 {l1 : Option Value} {l2 : Option Value} {l3 : Option Value} {x : Value} {r : List Value} : aw g 113 12 [some (x), l1, l2, l3] r σ Q = (vRf x = true ∧ aw g 113 13 [some (x), l1, l2, l3] (x :: r) σ Q) := (aw_eq g 113 12 _ _ _ _).trans (by rw [tq113_12]; exact h_load rfl)
theorem tq113_13 : tT g 113 13 = s_callvk 113 16 115 1 [] 3 := rfl
theorem A113_13 {L : AL} {r : List Value} {a : Nat} : aw g 113 13 L (.ref a :: r) σ Q = (hty σ a = some 1 ∧ true = true ∧ csum r ≤ 8 ∧ aw g 115 0 [some (.ref a), none, none] [] σ (kt (aw g) 113 16 L r Q)) := (aw_eq g 113 13 _ _ _ _).trans (by rw [tq113_13]; exact rfl)
theorem tq113_16 : tT g 113 16 = s_iinc 113 19 3 1 := rfl
theorem A113_16 {l0 : Option Value} {l1 : Option Value} {l2 : Option Value} {x : Int32} {r : List Value} : aw g 113 16 [l0, l1, l2, some (.int x)] r σ Q = (oc l2 = true ∧ aw g 113 19 [l0, l1, l2, some (.int (x + 1))] r σ Q) := (aw_eq g 113 16 _ _ _ _).trans (by rw [tq113_16]; exact (h_iinc (o := oc l2) rfl rfl rfl))
theorem tq113_19 : tT g 113 19 = s_goto 113 7 := rfl
theorem A113_19 {L : AL} {r : List Value} : aw g 113 19 L r σ Q = aw g 113 7 L r σ Q := (aw_eq g 113 19 _ _ _ _).trans (by rw [tq113_19]; exact rfl)
theorem tq113_22 : tT g 113 22 = s_load vRf 113 23 0 := rfl
theorem A113_22 {l1 : Option Value} {l2 : Option Value} {l3 : Option Value} {x : Value} {r : List Value} : aw g 113 22 [some (x), l1, l2, l3] r σ Q = (vRf x = true ∧ aw g 113 23 [some (x), l1, l2, l3] (x :: r) σ Q) := (aw_eq g 113 22 _ _ _ _).trans (by rw [tq113_22]; exact h_load rfl)
theorem tq113_23 : tT g 113 23 = s_callvk 113 26 114 1 [] 4 := rfl
theorem A113_23 {L : AL} {r : List Value} {a : Nat} : aw g 113 23 L (.ref a :: r) σ Q = (hty σ a = some 1 ∧ true = true ∧ csum r ≤ 8 ∧ aw g 114 0 [some (.ref a), none, none, none] [] σ (kt (aw g) 113 26 L r Q)) := (aw_eq g 113 23 _ _ _ _).trans (by rw [tq113_23]; exact rfl)
theorem tq113_26 : tT g 113 26 = s_load vI 113 27 2 := rfl
theorem A113_26 {l0 : Option Value} {l1 : Option Value} {l3 : Option Value} {x : Int32} {r : List Value} : aw g 113 26 [l0, l1, some (.int x), l3] r σ Q = aw g 113 27 [l0, l1, some (.int x), l3] (.int x :: r) σ Q := (aw_eq g 113 26 _ _ _ _).trans (by rw [tq113_26]; exact (h_load rfl).trans (propext ⟨fun z => z.2, fun z => ⟨rfl, z⟩⟩))
theorem tq113_27 : tT g 113 27 = s_bin 113 28 (fun a b => a - b) := rfl
theorem A113_27 {L : AL} {r : List Value} {a b : Int32} : aw g 113 27 L (.int b :: .int a :: r) σ Q = aw g 113 28 L (.int (a - b) :: r) σ Q := (aw_eq g 113 27 _ _ _ _).trans (by rw [tq113_27]; exact rfl)
theorem tq113_28 : tT g 113 28 = s_ret pI := rfl
theorem A113_28 {L : AL} {v : Value} : aw g 113 28 L [v] σ Q = (pI v ∧ Q (.inl (some v)) σ) := (aw_eq g 113 28 _ _ _ _).trans (by rw [tq113_28]; exact rfl)
theorem tq114_0 : tT g 114 0 = s_const 114 1 (.int 0) := rfl
theorem A114_0 {L : AL} {r : List Value} : aw g 114 0 L r σ Q = aw g 114 1 L (.int 0 :: r) σ Q := (aw_eq g 114 0 _ _ _ _).trans (by rw [tq114_0]; exact rfl)
theorem tq114_1 : tT g 114 1 = s_store vI 114 2 1 := rfl
theorem A114_1 {l0 : Option Value} {l1 : Option Value} {l2 : Option Value} {l3 : Option Value} {x : Int32} {r : List Value} : aw g 114 1 [l0, l1, l2, l3] (.int x :: r) σ Q = (oc l0 = true ∧ aw g 114 2 [l0, some (.int x), l2, l3] r σ Q) := (aw_eq g 114 1 _ _ _ _).trans (by rw [tq114_1]; exact (h_store (o := oc l0) rfl rfl rfl).trans (propext ⟨fun z => z.2, fun z => ⟨rfl, z⟩⟩))
theorem tq114_2 : tT g 114 2 = s_load vRf 114 3 0 := rfl
theorem A114_2 {l1 : Option Value} {l2 : Option Value} {l3 : Option Value} {x : Value} {r : List Value} : aw g 114 2 [some (x), l1, l2, l3] r σ Q = (vRf x = true ∧ aw g 114 3 [some (x), l1, l2, l3] (x :: r) σ Q) := (aw_eq g 114 2 _ _ _ _).trans (by rw [tq114_2]; exact h_load rfl)
theorem tq114_3 : tT g 114 3 = s_getf 114 6 1 0 := rfl
theorem A114_3 {L : AL} {r : List Value} {a : Nat} : aw g 114 3 L (.ref a :: r) σ Q = (hty σ a = some 1 ∧ aw g 114 6 L (hv σ 1 a 0 :: r) σ Q) := (aw_eq g 114 3 _ _ _ _).trans (by rw [tq114_3]; exact rfl)
theorem tq114_6 : tT g 114 6 = s_callvk 114 9 22 10 [] 1 := rfl
theorem A114_6 {L : AL} {r : List Value} {a : Nat} : aw g 114 6 L (.ref a :: r) σ Q = (hty σ a = some 10 ∧ true = true ∧ csum r ≤ 8 ∧ aw g 22 0 [some (.ref a)] [] σ (kt (aw g) 114 9 L r Q)) := (aw_eq g 114 6 _ _ _ _).trans (by rw [tq114_6]; exact rfl)
theorem tq114_9 : tT g 114 9 = s_store vRf 114 10 2 := rfl
theorem A114_9 {l0 : Option Value} {l1 : Option Value} {l2 : Option Value} {l3 : Option Value} {x : Value} {r : List Value} : aw g 114 9 [l0, l1, l2, l3] (x :: r) σ Q = (vRf x = true ∧ oc l1 = true ∧ aw g 114 10 [l0, l1, some (x), l3] r σ Q) := (aw_eq g 114 9 _ _ _ _).trans (by rw [tq114_9]; exact (h_store (o := oc l1) rfl rfl rfl))
theorem tq114_10 : tT g 114 10 = s_load vRf 114 11 2 := rfl
theorem A114_10 {l0 : Option Value} {l1 : Option Value} {l3 : Option Value} {x : Value} {r : List Value} : aw g 114 10 [l0, l1, some (x), l3] r σ Q = (vRf x = true ∧ aw g 114 11 [l0, l1, some (x), l3] (x :: r) σ Q) := (aw_eq g 114 10 _ _ _ _).trans (by rw [tq114_10]; exact h_load rfl)
theorem tq114_11 : tT g 114 11 = s_callvk 114 16 3 11 [] 1 := rfl
theorem A114_11 {L : AL} {r : List Value} {a : Nat} : aw g 114 11 L (.ref a :: r) σ Q = (hty σ a = some 11 ∧ true = true ∧ csum r ≤ 8 ∧ aw g 3 0 [some (.ref a)] [] σ (kt (aw g) 114 16 L r Q)) := (aw_eq g 114 11 _ _ _ _).trans (by rw [tq114_11]; exact rfl)
theorem tq114_16 : tT g 114 16 = s_if 114 19 39 (fun a => a = 0) := rfl
theorem A114_16 {L : AL} {r : List Value} {a : Int32} : aw g 114 16 L (.int a :: r) σ Q = ((a = 0 → aw g 114 39 L r σ Q) ∧ (¬ a = 0 → aw g 114 19 L r σ Q)) := (aw_eq g 114 16 _ _ _ _).trans (by rw [tq114_16]; exact rfl)
theorem tq114_19 : tT g 114 19 = s_load vRf 114 20 2 := rfl
theorem A114_19 {l0 : Option Value} {l1 : Option Value} {l3 : Option Value} {x : Value} {r : List Value} : aw g 114 19 [l0, l1, some (x), l3] r σ Q = (vRf x = true ∧ aw g 114 20 [l0, l1, some (x), l3] (x :: r) σ Q) := (aw_eq g 114 19 _ _ _ _).trans (by rw [tq114_19]; exact h_load rfl)
theorem tq114_20 : tT g 114 20 = s_callvk 114 25 4 11 [] 3 := rfl
theorem A114_20 {L : AL} {r : List Value} {a : Nat} : aw g 114 20 L (.ref a :: r) σ Q = (hty σ a = some 11 ∧ true = true ∧ csum r ≤ 8 ∧ aw g 4 0 [some (.ref a), none, none] [] σ (kt (aw g) 114 25 L r Q)) := (aw_eq g 114 20 _ _ _ _).trans (by rw [tq114_20]; exact rfl)
theorem tq114_25 : tT g 114 25 = s_cast 114 28 [5] := rfl
theorem A114_25 {L : AL} {r : List Value} : aw g 114 25 L (.null :: r) σ Q = aw g 114 28 L (.null :: r) σ Q := (aw_eq g 114 25 _ _ _ _).trans (by rw [tq114_25]; exact rfl)
theorem A114_25r {L : AL} {r : List Value} {a : Nat} : aw g 114 25 L (.ref a :: r) σ Q = (hty σ a = some 5 ∧ aw g 114 28 L (.ref a :: r) σ Q) := (aw_eq g 114 25 _ _ _ _).trans (by rw [tq114_25]; exact propext ⟨fun z => (by obtain ⟨⟨u, hu, hu2⟩, z2⟩ := z; rw [List.mem_singleton] at hu; subst hu; exact ⟨hu2, z2⟩), fun z => ⟨⟨_, List.mem_cons_self, z.1⟩, z.2⟩⟩)
theorem tq114_28 : tT g 114 28 = s_store vRf 114 29 3 := rfl
theorem A114_28 {l0 : Option Value} {l1 : Option Value} {l2 : Option Value} {l3 : Option Value} {x : Value} {r : List Value} : aw g 114 28 [l0, l1, l2, l3] (x :: r) σ Q = (vRf x = true ∧ oc l2 = true ∧ aw g 114 29 [l0, l1, l2, some (x)] r σ Q) := (aw_eq g 114 28 _ _ _ _).trans (by rw [tq114_28]; exact (h_store (o := oc l2) rfl rfl rfl))
theorem tq114_29 : tT g 114 29 = s_load vI 114 30 1 := rfl
theorem A114_29 {l0 : Option Value} {l2 : Option Value} {l3 : Option Value} {x : Int32} {r : List Value} : aw g 114 29 [l0, some (.int x), l2, l3] r σ Q = aw g 114 30 [l0, some (.int x), l2, l3] (.int x :: r) σ Q := (aw_eq g 114 29 _ _ _ _).trans (by rw [tq114_29]; exact (h_load rfl).trans (propext ⟨fun z => z.2, fun z => ⟨rfl, z⟩⟩))
theorem tq114_30 : tT g 114 30 = s_load vRf 114 31 3 := rfl
theorem A114_30 {l0 : Option Value} {l1 : Option Value} {l2 : Option Value} {x : Value} {r : List Value} : aw g 114 30 [l0, l1, l2, some (x)] r σ Q = (vRf x = true ∧ aw g 114 31 [l0, l1, l2, some (x)] (x :: r) σ Q) := (aw_eq g 114 30 _ _ _ _).trans (by rw [tq114_30]; exact h_load rfl)
theorem tq114_31 : tT g 114 31 = s_getf 114 34 5 10 := rfl
theorem A114_31 {L : AL} {r : List Value} {a : Nat} : aw g 114 31 L (.ref a :: r) σ Q = (hty σ a = some 5 ∧ aw g 114 34 L (hv σ 5 a 10 :: r) σ Q) := (aw_eq g 114 31 _ _ _ _).trans (by rw [tq114_31]; exact rfl)
theorem tq114_34 : tT g 114 34 = s_bin 114 35 (fun a b => a + b) := rfl
theorem A114_34 {L : AL} {r : List Value} {a b : Int32} : aw g 114 34 L (.int b :: .int a :: r) σ Q = aw g 114 35 L (.int (a + b) :: r) σ Q := (aw_eq g 114 34 _ _ _ _).trans (by rw [tq114_34]; exact rfl)
theorem tq114_35 : tT g 114 35 = s_store vI 114 36 1 := rfl
theorem A114_35 {l0 : Option Value} {l1 : Option Value} {l2 : Option Value} {l3 : Option Value} {x : Int32} {r : List Value} : aw g 114 35 [l0, l1, l2, l3] (.int x :: r) σ Q = (oc l0 = true ∧ aw g 114 36 [l0, some (.int x), l2, l3] r σ Q) := (aw_eq g 114 35 _ _ _ _).trans (by rw [tq114_35]; exact (h_store (o := oc l0) rfl rfl rfl).trans (propext ⟨fun z => z.2, fun z => ⟨rfl, z⟩⟩))
theorem tq114_36 : tT g 114 36 = s_goto 114 10 := rfl
theorem A114_36 {L : AL} {r : List Value} : aw g 114 36 L r σ Q = aw g 114 10 L r σ Q := (aw_eq g 114 36 _ _ _ _).trans (by rw [tq114_36]; exact rfl)
theorem tq114_39 : tT g 114 39 = s_load vI 114 40 1 := rfl
theorem A114_39 {l0 : Option Value} {l2 : Option Value} {l3 : Option Value} {x : Int32} {r : List Value} : aw g 114 39 [l0, some (.int x), l2, l3] r σ Q = aw g 114 40 [l0, some (.int x), l2, l3] (.int x :: r) σ Q := (aw_eq g 114 39 _ _ _ _).trans (by rw [tq114_39]; exact (h_load rfl).trans (propext ⟨fun z => z.2, fun z => ⟨rfl, z⟩⟩))
theorem tq114_40 : tT g 114 40 = s_ret pI := rfl
theorem A114_40 {L : AL} {v : Value} : aw g 114 40 L [v] σ Q = (pI v ∧ Q (.inl (some v)) σ) := (aw_eq g 114 40 _ _ _ _).trans (by rw [tq114_40]; exact rfl)
theorem tq115_0 : tT g 115 0 = s_load vRf 115 1 0 := rfl
theorem A115_0 {l1 : Option Value} {l2 : Option Value} {x : Value} {r : List Value} : aw g 115 0 [some (x), l1, l2] r σ Q = (vRf x = true ∧ aw g 115 1 [some (x), l1, l2] (x :: r) σ Q) := (aw_eq g 115 0 _ _ _ _).trans (by rw [tq115_0]; exact h_load rfl)
theorem tq115_1 : tT g 115 1 = s_dup 115 2 := rfl
theorem A115_1 {L : AL} {r : List Value} {v : Value} : aw g 115 1 L (v :: r) σ Q = (v.category = 1 ∧ aw g 115 2 L (v :: v :: r) σ Q) := (aw_eq g 115 1 _ _ _ _).trans (by rw [tq115_1]; exact rfl)
theorem tq115_2 : tT g 115 2 = s_getf 115 5 1 2 := rfl
theorem A115_2 {L : AL} {r : List Value} {a : Nat} : aw g 115 2 L (.ref a :: r) σ Q = (hty σ a = some 1 ∧ aw g 115 5 L (hv σ 1 a 2 :: r) σ Q) := (aw_eq g 115 2 _ _ _ _).trans (by rw [tq115_2]; exact rfl)
theorem tq115_5 : tT g 115 5 = s_const 115 6 (.int 1) := rfl
theorem A115_5 {L : AL} {r : List Value} : aw g 115 5 L r σ Q = aw g 115 6 L (.int 1 :: r) σ Q := (aw_eq g 115 5 _ _ _ _).trans (by rw [tq115_5]; exact rfl)
theorem tq115_6 : tT g 115 6 = s_bin 115 7 (fun a b => a + b) := rfl
theorem A115_6 {L : AL} {r : List Value} {a b : Int32} : aw g 115 6 L (.int b :: .int a :: r) σ Q = aw g 115 7 L (.int (a + b) :: r) σ Q := (aw_eq g 115 6 _ _ _ _).trans (by rw [tq115_6]; exact rfl)
theorem tq115_7 : tT g 115 7 = s_putf g pI 115 10 1 2 := rfl
theorem A115_7 {L : AL} {r : List Value} {a : Nat} {v : Value} : aw g 115 7 L (v :: .ref a :: r) σ Q = (hty σ a = some 1 ∧ gB g ≤ a ∧ pI v ∧ aw g 115 10 L r (hput σ 1 a 2 v) Q) := (aw_eq g 115 7 _ _ _ _).trans (by rw [tq115_7]; exact rfl)
theorem tq115_10 : tT g 115 10 = s_load vRf 115 11 0 := rfl
theorem A115_10 {l1 : Option Value} {l2 : Option Value} {x : Value} {r : List Value} : aw g 115 10 [some (x), l1, l2] r σ Q = (vRf x = true ∧ aw g 115 11 [some (x), l1, l2] (x :: r) σ Q) := (aw_eq g 115 10 _ _ _ _).trans (by rw [tq115_10]; exact h_load rfl)
theorem tq115_11 : tT g 115 11 = s_getf 115 14 1 0 := rfl
theorem A115_11 {L : AL} {r : List Value} {a : Nat} : aw g 115 11 L (.ref a :: r) σ Q = (hty σ a = some 1 ∧ aw g 115 14 L (hv σ 1 a 0 :: r) σ Q) := (aw_eq g 115 11 _ _ _ _).trans (by rw [tq115_11]; exact rfl)
theorem tq115_14 : tT g 115 14 = s_callvk 115 17 22 10 [] 1 := rfl
theorem A115_14 {L : AL} {r : List Value} {a : Nat} : aw g 115 14 L (.ref a :: r) σ Q = (hty σ a = some 10 ∧ true = true ∧ csum r ≤ 8 ∧ aw g 22 0 [some (.ref a)] [] σ (kt (aw g) 115 17 L r Q)) := (aw_eq g 115 14 _ _ _ _).trans (by rw [tq115_14]; exact rfl)
theorem tq115_17 : tT g 115 17 = s_store vRf 115 18 1 := rfl
theorem A115_17 {l0 : Option Value} {l1 : Option Value} {l2 : Option Value} {x : Value} {r : List Value} : aw g 115 17 [l0, l1, l2] (x :: r) σ Q = (vRf x = true ∧ oc l0 = true ∧ aw g 115 18 [l0, some (x), l2] r σ Q) := (aw_eq g 115 17 _ _ _ _).trans (by rw [tq115_17]; exact (h_store (o := oc l0) rfl rfl rfl))
theorem tq115_18 : tT g 115 18 = s_load vRf 115 19 1 := rfl
theorem A115_18 {l0 : Option Value} {l2 : Option Value} {x : Value} {r : List Value} : aw g 115 18 [l0, some (x), l2] r σ Q = (vRf x = true ∧ aw g 115 19 [l0, some (x), l2] (x :: r) σ Q) := (aw_eq g 115 18 _ _ _ _).trans (by rw [tq115_18]; exact h_load rfl)
theorem tq115_19 : tT g 115 19 = s_callvk 115 24 3 11 [] 1 := rfl
theorem A115_19 {L : AL} {r : List Value} {a : Nat} : aw g 115 19 L (.ref a :: r) σ Q = (hty σ a = some 11 ∧ true = true ∧ csum r ≤ 8 ∧ aw g 3 0 [some (.ref a)] [] σ (kt (aw g) 115 24 L r Q)) := (aw_eq g 115 19 _ _ _ _).trans (by rw [tq115_19]; exact rfl)
theorem tq115_24 : tT g 115 24 = s_if 115 27 73 (fun a => a = 0) := rfl
theorem A115_24 {L : AL} {r : List Value} {a : Int32} : aw g 115 24 L (.int a :: r) σ Q = ((a = 0 → aw g 115 73 L r σ Q) ∧ (¬ a = 0 → aw g 115 27 L r σ Q)) := (aw_eq g 115 24 _ _ _ _).trans (by rw [tq115_24]; exact rfl)
theorem tq115_27 : tT g 115 27 = s_load vRf 115 28 1 := rfl
theorem A115_27 {l0 : Option Value} {l2 : Option Value} {x : Value} {r : List Value} : aw g 115 27 [l0, some (x), l2] r σ Q = (vRf x = true ∧ aw g 115 28 [l0, some (x), l2] (x :: r) σ Q) := (aw_eq g 115 27 _ _ _ _).trans (by rw [tq115_27]; exact h_load rfl)
theorem tq115_28 : tT g 115 28 = s_callvk 115 33 4 11 [] 3 := rfl
theorem A115_28 {L : AL} {r : List Value} {a : Nat} : aw g 115 28 L (.ref a :: r) σ Q = (hty σ a = some 11 ∧ true = true ∧ csum r ≤ 8 ∧ aw g 4 0 [some (.ref a), none, none] [] σ (kt (aw g) 115 33 L r Q)) := (aw_eq g 115 28 _ _ _ _).trans (by rw [tq115_28]; exact rfl)
theorem tq115_33 : tT g 115 33 = s_cast 115 36 [5] := rfl
theorem A115_33 {L : AL} {r : List Value} : aw g 115 33 L (.null :: r) σ Q = aw g 115 36 L (.null :: r) σ Q := (aw_eq g 115 33 _ _ _ _).trans (by rw [tq115_33]; exact rfl)
theorem A115_33r {L : AL} {r : List Value} {a : Nat} : aw g 115 33 L (.ref a :: r) σ Q = (hty σ a = some 5 ∧ aw g 115 36 L (.ref a :: r) σ Q) := (aw_eq g 115 33 _ _ _ _).trans (by rw [tq115_33]; exact propext ⟨fun z => (by obtain ⟨⟨u, hu, hu2⟩, z2⟩ := z; rw [List.mem_singleton] at hu; subst hu; exact ⟨hu2, z2⟩), fun z => ⟨⟨_, List.mem_cons_self, z.1⟩, z.2⟩⟩)
theorem tq115_36 : tT g 115 36 = s_store vRf 115 37 2 := rfl
theorem A115_36 {l0 : Option Value} {l1 : Option Value} {l2 : Option Value} {x : Value} {r : List Value} : aw g 115 36 [l0, l1, l2] (x :: r) σ Q = (vRf x = true ∧ oc l1 = true ∧ aw g 115 37 [l0, l1, some (x)] r σ Q) := (aw_eq g 115 36 _ _ _ _).trans (by rw [tq115_36]; exact (h_store (o := oc l1) rfl rfl rfl))
theorem tq115_37 : tT g 115 37 = s_load vRf 115 38 2 := rfl
theorem A115_37 {l0 : Option Value} {l1 : Option Value} {x : Value} {r : List Value} : aw g 115 37 [l0, l1, some (x)] r σ Q = (vRf x = true ∧ aw g 115 38 [l0, l1, some (x)] (x :: r) σ Q) := (aw_eq g 115 37 _ _ _ _).trans (by rw [tq115_37]; exact h_load rfl)
theorem tq115_38 : tT g 115 38 = s_getf 115 41 5 3 := rfl
theorem A115_38 {L : AL} {r : List Value} {a : Nat} : aw g 115 38 L (.ref a :: r) σ Q = (hty σ a = some 5 ∧ aw g 115 41 L (hv σ 5 a 3 :: r) σ Q) := (aw_eq g 115 38 _ _ _ _).trans (by rw [tq115_38]; exact rfl)
theorem tq115_41 : tT g 115 41 = s_const 115 42 (.int 3) := rfl
theorem A115_41 {L : AL} {r : List Value} : aw g 115 41 L r σ Q = aw g 115 42 L (.int 3 :: r) σ Q := (aw_eq g 115 41 _ _ _ _).trans (by rw [tq115_41]; exact rfl)
theorem tq115_42 : tT g 115 42 = s_icmp 115 45 62 (fun a b => a = b) := rfl
theorem A115_42 {L : AL} {r : List Value} {a b : Int32} : aw g 115 42 L (.int b :: .int a :: r) σ Q = ((a = b → aw g 115 62 L r σ Q) ∧ (¬ a = b → aw g 115 45 L r σ Q)) := (aw_eq g 115 42 _ _ _ _).trans (by rw [tq115_42]; exact rfl)
theorem tq115_45 : tT g 115 45 = s_load vRf 115 46 2 := rfl
theorem A115_45 {l0 : Option Value} {l1 : Option Value} {x : Value} {r : List Value} : aw g 115 45 [l0, l1, some (x)] r σ Q = (vRf x = true ∧ aw g 115 46 [l0, l1, some (x)] (x :: r) σ Q) := (aw_eq g 115 45 _ _ _ _).trans (by rw [tq115_45]; exact h_load rfl)
theorem tq115_46 : tT g 115 46 = s_callvk 115 49 197 5 [] 1 := rfl
theorem A115_46 {L : AL} {r : List Value} {a : Nat} : aw g 115 46 L (.ref a :: r) σ Q = (hty σ a = some 5 ∧ true = true ∧ csum r ≤ 8 ∧ aw g 197 0 [some (.ref a)] [] σ (kt (aw g) 115 49 L r Q)) := (aw_eq g 115 46 _ _ _ _).trans (by rw [tq115_46]; exact rfl)
theorem tq115_49 : tT g 115 49 = s_if 115 62 52 (fun a => a = 0) := rfl
theorem A115_49 {L : AL} {r : List Value} {a : Int32} : aw g 115 49 L (.int a :: r) σ Q = ((a = 0 → aw g 115 52 L r σ Q) ∧ (¬ a = 0 → aw g 115 62 L r σ Q)) := (aw_eq g 115 49 _ _ _ _).trans (by rw [tq115_49]; exact rfl)
theorem tq115_52 : tT g 115 52 = s_load vRf 115 53 2 := rfl
theorem A115_52 {l0 : Option Value} {l1 : Option Value} {x : Value} {r : List Value} : aw g 115 52 [l0, l1, some (x)] r σ Q = (vRf x = true ∧ aw g 115 53 [l0, l1, some (x)] (x :: r) σ Q) := (aw_eq g 115 52 _ _ _ _).trans (by rw [tq115_52]; exact h_load rfl)
theorem tq115_53 : tT g 115 53 = s_dup 115 54 := rfl
theorem A115_53 {L : AL} {r : List Value} {v : Value} : aw g 115 53 L (v :: r) σ Q = (v.category = 1 ∧ aw g 115 54 L (v :: v :: r) σ Q) := (aw_eq g 115 53 _ _ _ _).trans (by rw [tq115_53]; exact rfl)
theorem tq115_54 : tT g 115 54 = s_getf 115 57 5 7 := rfl
theorem A115_54 {L : AL} {r : List Value} {a : Nat} : aw g 115 54 L (.ref a :: r) σ Q = (hty σ a = some 5 ∧ aw g 115 57 L (hv σ 5 a 7 :: r) σ Q) := (aw_eq g 115 54 _ _ _ _).trans (by rw [tq115_54]; exact rfl)
theorem tq115_57 : tT g 115 57 = s_const 115 58 (.int 1) := rfl
theorem A115_57 {L : AL} {r : List Value} : aw g 115 57 L r σ Q = aw g 115 58 L (.int 1 :: r) σ Q := (aw_eq g 115 57 _ _ _ _).trans (by rw [tq115_57]; exact rfl)
theorem tq115_58 : tT g 115 58 = s_bin 115 59 (fun a b => a + b) := rfl
theorem A115_58 {L : AL} {r : List Value} {a b : Int32} : aw g 115 58 L (.int b :: .int a :: r) σ Q = aw g 115 59 L (.int (a + b) :: r) σ Q := (aw_eq g 115 58 _ _ _ _).trans (by rw [tq115_58]; exact rfl)
theorem tq115_59 : tT g 115 59 = s_putf g pI 115 62 5 7 := rfl
theorem A115_59 {L : AL} {r : List Value} {a : Nat} {v : Value} : aw g 115 59 L (v :: .ref a :: r) σ Q = (hty σ a = some 5 ∧ gB g ≤ a ∧ pI v ∧ aw g 115 62 L r (hput σ 5 a 7 v) Q) := (aw_eq g 115 59 _ _ _ _).trans (by rw [tq115_59]; exact rfl)
theorem tq115_62 : tT g 115 62 = s_load vRf 115 63 2 := rfl
theorem A115_62 {l0 : Option Value} {l1 : Option Value} {x : Value} {r : List Value} : aw g 115 62 [l0, l1, some (x)] r σ Q = (vRf x = true ∧ aw g 115 63 [l0, l1, some (x)] (x :: r) σ Q) := (aw_eq g 115 62 _ _ _ _).trans (by rw [tq115_62]; exact h_load rfl)
theorem tq115_63 : tT g 115 63 = s_load vRf 115 64 0 := rfl
theorem A115_63 {l1 : Option Value} {l2 : Option Value} {x : Value} {r : List Value} : aw g 115 63 [some (x), l1, l2] r σ Q = (vRf x = true ∧ aw g 115 64 [some (x), l1, l2] (x :: r) σ Q) := (aw_eq g 115 63 _ _ _ _).trans (by rw [tq115_63]; exact h_load rfl)
theorem tq115_64 : tT g 115 64 = s_getf 115 67 1 2 := rfl
theorem A115_64 {L : AL} {r : List Value} {a : Nat} : aw g 115 64 L (.ref a :: r) σ Q = (hty σ a = some 1 ∧ aw g 115 67 L (hv σ 1 a 2 :: r) σ Q) := (aw_eq g 115 64 _ _ _ _).trans (by rw [tq115_64]; exact rfl)
theorem tq115_67 : tT g 115 67 = s_callvk 115 70 198 5 [0] 2 := rfl
theorem A115_67 {L : AL} {r : List Value} {a : Nat} {w0 : Value} : aw g 115 67 L (w0 :: .ref a :: r) σ Q = (hty σ a = some 5 ∧ (vI w0 && true) = true ∧ csum r ≤ 8 ∧ aw g 198 0 [some (.ref a), some w0] [] σ (kt (aw g) 115 70 L r Q)) := (aw_eq g 115 67 _ _ _ _).trans (by rw [tq115_67]; exact rfl)
theorem tq115_70 : tT g 115 70 = s_goto 115 18 := rfl
theorem A115_70 {L : AL} {r : List Value} : aw g 115 70 L r σ Q = aw g 115 18 L r σ Q := (aw_eq g 115 70 _ _ _ _).trans (by rw [tq115_70]; exact rfl)
theorem tq115_73 : tT g 115 73 = s_load vRf 115 74 0 := rfl
theorem A115_73 {l1 : Option Value} {l2 : Option Value} {x : Value} {r : List Value} : aw g 115 73 [some (x), l1, l2] r σ Q = (vRf x = true ∧ aw g 115 74 [some (x), l1, l2] (x :: r) σ Q) := (aw_eq g 115 73 _ _ _ _).trans (by rw [tq115_73]; exact h_load rfl)
theorem tq115_74 : tT g 115 74 = s_load vRf 115 75 0 := rfl
theorem A115_74 {l1 : Option Value} {l2 : Option Value} {x : Value} {r : List Value} : aw g 115 74 [some (x), l1, l2] r σ Q = (vRf x = true ∧ aw g 115 75 [some (x), l1, l2] (x :: r) σ Q) := (aw_eq g 115 74 _ _ _ _).trans (by rw [tq115_74]; exact h_load rfl)
theorem tq115_75 : tT g 115 75 = s_callvk 115 78 116 1 [] 4 := rfl
theorem A115_75 {L : AL} {r : List Value} {a : Nat} : aw g 115 75 L (.ref a :: r) σ Q = (hty σ a = some 1 ∧ true = true ∧ csum r ≤ 8 ∧ aw g 116 0 [some (.ref a), none, none, none] [] σ (kt (aw g) 115 78 L r Q)) := (aw_eq g 115 75 _ _ _ _).trans (by rw [tq115_75]; exact rfl)
theorem tq115_78 : tT g 115 78 = s_putf g pR 115 81 1 3 := rfl
theorem A115_78 {L : AL} {r : List Value} {a : Nat} {v : Value} : aw g 115 78 L (v :: .ref a :: r) σ Q = (hty σ a = some 1 ∧ gB g ≤ a ∧ pR v ∧ aw g 115 81 L r (hput σ 1 a 3 v) Q) := (aw_eq g 115 78 _ _ _ _).trans (by rw [tq115_78]; exact rfl)
theorem tq115_81 : tT g 115 81 = s_load vRf 115 82 0 := rfl
theorem A115_81 {l1 : Option Value} {l2 : Option Value} {x : Value} {r : List Value} : aw g 115 81 [some (x), l1, l2] r σ Q = (vRf x = true ∧ aw g 115 82 [some (x), l1, l2] (x :: r) σ Q) := (aw_eq g 115 81 _ _ _ _).trans (by rw [tq115_81]; exact h_load rfl)
theorem tq115_82 : tT g 115 82 = s_getf 115 85 1 3 := rfl
theorem A115_82 {L : AL} {r : List Value} {a : Nat} : aw g 115 82 L (.ref a :: r) σ Q = (hty σ a = some 1 ∧ aw g 115 85 L (hv σ 1 a 3 :: r) σ Q) := (aw_eq g 115 82 _ _ _ _).trans (by rw [tq115_82]; exact rfl)
theorem tq115_85 : tT g 115 85 = s_ifnn 115 88 101 := rfl
theorem A115_85 {L : AL} {r : List Value} {a : Value} : aw g 115 85 L (a :: r) σ Q = (vRf a = true ∧ (a = .null → aw g 115 88 L r σ Q) ∧ (a ≠ .null → aw g 115 101 L r σ Q)) := (aw_eq g 115 85 _ _ _ _).trans (by rw [tq115_85]; exact rfl)
theorem tq115_88 : tT g 115 88 = s_load vRf 115 89 0 := rfl
theorem A115_88 {l1 : Option Value} {l2 : Option Value} {x : Value} {r : List Value} : aw g 115 88 [some (x), l1, l2] r σ Q = (vRf x = true ∧ aw g 115 89 [some (x), l1, l2] (x :: r) σ Q) := (aw_eq g 115 88 _ _ _ _).trans (by rw [tq115_88]; exact h_load rfl)
theorem tq115_89 : tT g 115 89 = s_dup 115 90 := rfl
theorem A115_89 {L : AL} {r : List Value} {v : Value} : aw g 115 89 L (v :: r) σ Q = (v.category = 1 ∧ aw g 115 90 L (v :: v :: r) σ Q) := (aw_eq g 115 89 _ _ _ _).trans (by rw [tq115_89]; exact rfl)
theorem tq115_90 : tT g 115 90 = s_getf 115 93 1 7 := rfl
theorem A115_90 {L : AL} {r : List Value} {a : Nat} : aw g 115 90 L (.ref a :: r) σ Q = (hty σ a = some 1 ∧ aw g 115 93 L (hv σ 1 a 7 :: r) σ Q) := (aw_eq g 115 90 _ _ _ _).trans (by rw [tq115_90]; exact rfl)
theorem tq115_93 : tT g 115 93 = s_const 115 94 (.int 1) := rfl
theorem A115_93 {L : AL} {r : List Value} : aw g 115 93 L r σ Q = aw g 115 94 L (.int 1 :: r) σ Q := (aw_eq g 115 93 _ _ _ _).trans (by rw [tq115_93]; exact rfl)
theorem tq115_94 : tT g 115 94 = s_bin 115 95 (fun a b => a + b) := rfl
theorem A115_94 {L : AL} {r : List Value} {a b : Int32} : aw g 115 94 L (.int b :: .int a :: r) σ Q = aw g 115 95 L (.int (a + b) :: r) σ Q := (aw_eq g 115 94 _ _ _ _).trans (by rw [tq115_94]; exact rfl)
theorem tq115_95 : tT g 115 95 = s_putf g pI 115 98 1 7 := rfl
theorem A115_95 {L : AL} {r : List Value} {a : Nat} {v : Value} : aw g 115 95 L (v :: .ref a :: r) σ Q = (hty σ a = some 1 ∧ gB g ≤ a ∧ pI v ∧ aw g 115 98 L r (hput σ 1 a 7 v) Q) := (aw_eq g 115 95 _ _ _ _).trans (by rw [tq115_95]; exact rfl)
theorem tq115_98 : tT g 115 98 = s_goto 115 184 := rfl
theorem A115_98 {L : AL} {r : List Value} : aw g 115 98 L r σ Q = aw g 115 184 L r σ Q := (aw_eq g 115 98 _ _ _ _).trans (by rw [tq115_98]; exact rfl)
theorem tq115_101 : tT g 115 101 = s_load vRf 115 102 0 := rfl
theorem A115_101 {l1 : Option Value} {l2 : Option Value} {x : Value} {r : List Value} : aw g 115 101 [some (x), l1, l2] r σ Q = (vRf x = true ∧ aw g 115 102 [some (x), l1, l2] (x :: r) σ Q) := (aw_eq g 115 101 _ _ _ _).trans (by rw [tq115_101]; exact h_load rfl)
theorem tq115_102 : tT g 115 102 = s_getf 115 105 1 0 := rfl
theorem A115_102 {L : AL} {r : List Value} {a : Nat} : aw g 115 102 L (.ref a :: r) σ Q = (hty σ a = some 1 ∧ aw g 115 105 L (hv σ 1 a 0 :: r) σ Q) := (aw_eq g 115 102 _ _ _ _).trans (by rw [tq115_102]; exact rfl)
theorem tq115_105 : tT g 115 105 = s_callvk 115 108 22 10 [] 1 := rfl
theorem A115_105 {L : AL} {r : List Value} {a : Nat} : aw g 115 105 L (.ref a :: r) σ Q = (hty σ a = some 10 ∧ true = true ∧ csum r ≤ 8 ∧ aw g 22 0 [some (.ref a)] [] σ (kt (aw g) 115 108 L r Q)) := (aw_eq g 115 105 _ _ _ _).trans (by rw [tq115_105]; exact rfl)
theorem tq115_108 : tT g 115 108 = s_store vRf 115 109 1 := rfl
theorem A115_108 {l0 : Option Value} {l1 : Option Value} {l2 : Option Value} {x : Value} {r : List Value} : aw g 115 108 [l0, l1, l2] (x :: r) σ Q = (vRf x = true ∧ oc l0 = true ∧ aw g 115 109 [l0, some (x), l2] r σ Q) := (aw_eq g 115 108 _ _ _ _).trans (by rw [tq115_108]; exact (h_store (o := oc l0) rfl rfl rfl))
theorem tq115_109 : tT g 115 109 = s_load vRf 115 110 1 := rfl
theorem A115_109 {l0 : Option Value} {l2 : Option Value} {x : Value} {r : List Value} : aw g 115 109 [l0, some (x), l2] r σ Q = (vRf x = true ∧ aw g 115 110 [l0, some (x), l2] (x :: r) σ Q) := (aw_eq g 115 109 _ _ _ _).trans (by rw [tq115_109]; exact h_load rfl)
theorem tq115_110 : tT g 115 110 = s_callvk 115 115 3 11 [] 1 := rfl
theorem A115_110 {L : AL} {r : List Value} {a : Nat} : aw g 115 110 L (.ref a :: r) σ Q = (hty σ a = some 11 ∧ true = true ∧ csum r ≤ 8 ∧ aw g 3 0 [some (.ref a)] [] σ (kt (aw g) 115 115 L r Q)) := (aw_eq g 115 110 _ _ _ _).trans (by rw [tq115_110]; exact rfl)
theorem tq115_115 : tT g 115 115 = s_if 115 118 163 (fun a => a = 0) := rfl
theorem A115_115 {L : AL} {r : List Value} {a : Int32} : aw g 115 115 L (.int a :: r) σ Q = ((a = 0 → aw g 115 163 L r σ Q) ∧ (¬ a = 0 → aw g 115 118 L r σ Q)) := (aw_eq g 115 115 _ _ _ _).trans (by rw [tq115_115]; exact rfl)
theorem tq115_118 : tT g 115 118 = s_load vRf 115 119 1 := rfl
theorem A115_118 {l0 : Option Value} {l2 : Option Value} {x : Value} {r : List Value} : aw g 115 118 [l0, some (x), l2] r σ Q = (vRf x = true ∧ aw g 115 119 [l0, some (x), l2] (x :: r) σ Q) := (aw_eq g 115 118 _ _ _ _).trans (by rw [tq115_118]; exact h_load rfl)
theorem tq115_119 : tT g 115 119 = s_callvk 115 124 4 11 [] 3 := rfl
theorem A115_119 {L : AL} {r : List Value} {a : Nat} : aw g 115 119 L (.ref a :: r) σ Q = (hty σ a = some 11 ∧ true = true ∧ csum r ≤ 8 ∧ aw g 4 0 [some (.ref a), none, none] [] σ (kt (aw g) 115 124 L r Q)) := (aw_eq g 115 119 _ _ _ _).trans (by rw [tq115_119]; exact rfl)
theorem tq115_124 : tT g 115 124 = s_cast 115 127 [5] := rfl
theorem A115_124 {L : AL} {r : List Value} : aw g 115 124 L (.null :: r) σ Q = aw g 115 127 L (.null :: r) σ Q := (aw_eq g 115 124 _ _ _ _).trans (by rw [tq115_124]; exact rfl)
theorem A115_124r {L : AL} {r : List Value} {a : Nat} : aw g 115 124 L (.ref a :: r) σ Q = (hty σ a = some 5 ∧ aw g 115 127 L (.ref a :: r) σ Q) := (aw_eq g 115 124 _ _ _ _).trans (by rw [tq115_124]; exact propext ⟨fun z => (by obtain ⟨⟨u, hu, hu2⟩, z2⟩ := z; rw [List.mem_singleton] at hu; subst hu; exact ⟨hu2, z2⟩), fun z => ⟨⟨_, List.mem_cons_self, z.1⟩, z.2⟩⟩)
theorem tq115_127 : tT g 115 127 = s_store vRf 115 128 2 := rfl
theorem A115_127 {l0 : Option Value} {l1 : Option Value} {l2 : Option Value} {x : Value} {r : List Value} : aw g 115 127 [l0, l1, l2] (x :: r) σ Q = (vRf x = true ∧ oc l1 = true ∧ aw g 115 128 [l0, l1, some (x)] r σ Q) := (aw_eq g 115 127 _ _ _ _).trans (by rw [tq115_127]; exact (h_store (o := oc l1) rfl rfl rfl))
theorem tq115_128 : tT g 115 128 = s_load vRf 115 129 2 := rfl
theorem A115_128 {l0 : Option Value} {l1 : Option Value} {x : Value} {r : List Value} : aw g 115 128 [l0, l1, some (x)] r σ Q = (vRf x = true ∧ aw g 115 129 [l0, l1, some (x)] (x :: r) σ Q) := (aw_eq g 115 128 _ _ _ _).trans (by rw [tq115_128]; exact h_load rfl)
theorem tq115_129 : tT g 115 129 = s_dup 115 130 := rfl
theorem A115_129 {L : AL} {r : List Value} {v : Value} : aw g 115 129 L (v :: r) σ Q = (v.category = 1 ∧ aw g 115 130 L (v :: v :: r) σ Q) := (aw_eq g 115 129 _ _ _ _).trans (by rw [tq115_129]; exact rfl)
theorem tq115_130 : tT g 115 130 = s_getf 115 133 5 11 := rfl
theorem A115_130 {L : AL} {r : List Value} {a : Nat} : aw g 115 130 L (.ref a :: r) σ Q = (hty σ a = some 5 ∧ aw g 115 133 L (hv σ 5 a 11 :: r) σ Q) := (aw_eq g 115 130 _ _ _ _).trans (by rw [tq115_130]; exact rfl)
theorem tq115_133 : tT g 115 133 = s_load vRf 115 134 2 := rfl
theorem A115_133 {l0 : Option Value} {l1 : Option Value} {x : Value} {r : List Value} : aw g 115 133 [l0, l1, some (x)] r σ Q = (vRf x = true ∧ aw g 115 134 [l0, l1, some (x)] (x :: r) σ Q) := (aw_eq g 115 133 _ _ _ _).trans (by rw [tq115_133]; exact h_load rfl)
theorem tq115_134 : tT g 115 134 = s_getf 115 137 5 3 := rfl
theorem A115_134 {L : AL} {r : List Value} {a : Nat} : aw g 115 134 L (.ref a :: r) σ Q = (hty σ a = some 5 ∧ aw g 115 137 L (hv σ 5 a 3 :: r) σ Q) := (aw_eq g 115 134 _ _ _ _).trans (by rw [tq115_134]; exact rfl)
theorem tq115_137 : tT g 115 137 = s_if 115 152 140 (fun a => a = 0) := rfl
theorem A115_137 {L : AL} {r : List Value} {a : Int32} : aw g 115 137 L (.int a :: r) σ Q = ((a = 0 → aw g 115 140 L r σ Q) ∧ (¬ a = 0 → aw g 115 152 L r σ Q)) := (aw_eq g 115 137 _ _ _ _).trans (by rw [tq115_137]; exact rfl)
theorem tq115_140 : tT g 115 140 = s_load vRf 115 141 2 := rfl
theorem A115_140 {l0 : Option Value} {l1 : Option Value} {x : Value} {r : List Value} : aw g 115 140 [l0, l1, some (x)] r σ Q = (vRf x = true ∧ aw g 115 141 [l0, l1, some (x)] (x :: r) σ Q) := (aw_eq g 115 140 _ _ _ _).trans (by rw [tq115_140]; exact h_load rfl)
theorem tq115_141 : tT g 115 141 = s_load vRf 115 142 0 := rfl
theorem A115_141 {l1 : Option Value} {l2 : Option Value} {x : Value} {r : List Value} : aw g 115 141 [some (x), l1, l2] r σ Q = (vRf x = true ∧ aw g 115 142 [some (x), l1, l2] (x :: r) σ Q) := (aw_eq g 115 141 _ _ _ _).trans (by rw [tq115_141]; exact h_load rfl)
theorem tq115_142 : tT g 115 142 = s_getf 115 145 1 3 := rfl
theorem A115_142 {L : AL} {r : List Value} {a : Nat} : aw g 115 142 L (.ref a :: r) σ Q = (hty σ a = some 1 ∧ aw g 115 145 L (hv σ 1 a 3 :: r) σ Q) := (aw_eq g 115 142 _ _ _ _).trans (by rw [tq115_142]; exact rfl)
theorem tq115_145 : tT g 115 145 = s_acmp 115 148 152 := rfl
theorem A115_145 {L : AL} {r : List Value} {a b : Value} : aw g 115 145 L (b :: a :: r) σ Q = (vRf a = true ∧ vRf b = true ∧ (a = b → aw g 115 152 L r σ Q) ∧ (a ≠ b → aw g 115 148 L r σ Q)) := (aw_eq g 115 145 _ _ _ _).trans (by rw [tq115_145]; exact rfl)
theorem tq115_148 : tT g 115 148 = s_const 115 149 (.int 1) := rfl
theorem A115_148 {L : AL} {r : List Value} : aw g 115 148 L r σ Q = aw g 115 149 L (.int 1 :: r) σ Q := (aw_eq g 115 148 _ _ _ _).trans (by rw [tq115_148]; exact rfl)
theorem tq115_149 : tT g 115 149 = s_goto 115 153 := rfl
theorem A115_149 {L : AL} {r : List Value} : aw g 115 149 L r σ Q = aw g 115 153 L r σ Q := (aw_eq g 115 149 _ _ _ _).trans (by rw [tq115_149]; exact rfl)
theorem tq115_152 : tT g 115 152 = s_const 115 153 (.int 0) := rfl
theorem A115_152 {L : AL} {r : List Value} : aw g 115 152 L r σ Q = aw g 115 153 L (.int 0 :: r) σ Q := (aw_eq g 115 152 _ _ _ _).trans (by rw [tq115_152]; exact rfl)
theorem tq115_153 : tT g 115 153 = s_callk 115 156 61 [0] 1 := rfl
theorem A115_153 {L : AL} {r : List Value} {w0 : Value} : aw g 115 153 L (w0 :: r) σ Q = ((vI w0 && true) = true ∧ csum r ≤ 8 ∧ aw g 61 0 [some w0] [] σ (kt (aw g) 115 156 L r Q)) := (aw_eq g 115 153 _ _ _ _).trans (by rw [tq115_153]; exact rfl)
theorem tq115_156 : tT g 115 156 = s_bin 115 157 (fun a b => a + b) := rfl
theorem A115_156 {L : AL} {r : List Value} {a b : Int32} : aw g 115 156 L (.int b :: .int a :: r) σ Q = aw g 115 157 L (.int (a + b) :: r) σ Q := (aw_eq g 115 156 _ _ _ _).trans (by rw [tq115_156]; exact rfl)
theorem tq115_157 : tT g 115 157 = s_putf g pI 115 160 5 11 := rfl
theorem A115_157 {L : AL} {r : List Value} {a : Nat} {v : Value} : aw g 115 157 L (v :: .ref a :: r) σ Q = (hty σ a = some 5 ∧ gB g ≤ a ∧ pI v ∧ aw g 115 160 L r (hput σ 5 a 11 v) Q) := (aw_eq g 115 157 _ _ _ _).trans (by rw [tq115_157]; exact rfl)
theorem tq115_160 : tT g 115 160 = s_goto 115 109 := rfl
theorem A115_160 {L : AL} {r : List Value} : aw g 115 160 L r σ Q = aw g 115 109 L r σ Q := (aw_eq g 115 160 _ _ _ _).trans (by rw [tq115_160]; exact rfl)
theorem tq115_163 : tT g 115 163 = s_load vRf 115 164 0 := rfl
theorem A115_163 {l1 : Option Value} {l2 : Option Value} {x : Value} {r : List Value} : aw g 115 163 [some (x), l1, l2] r σ Q = (vRf x = true ∧ aw g 115 164 [some (x), l1, l2] (x :: r) σ Q) := (aw_eq g 115 163 _ _ _ _).trans (by rw [tq115_163]; exact h_load rfl)
theorem tq115_164 : tT g 115 164 = s_getf 115 167 1 3 := rfl
theorem A115_164 {L : AL} {r : List Value} {a : Nat} : aw g 115 164 L (.ref a :: r) σ Q = (hty σ a = some 1 ∧ aw g 115 167 L (hv σ 1 a 3 :: r) σ Q) := (aw_eq g 115 164 _ _ _ _).trans (by rw [tq115_164]; exact rfl)
theorem tq115_167 : tT g 115 167 = s_dup 115 168 := rfl
theorem A115_167 {L : AL} {r : List Value} {v : Value} : aw g 115 167 L (v :: r) σ Q = (v.category = 1 ∧ aw g 115 168 L (v :: v :: r) σ Q) := (aw_eq g 115 167 _ _ _ _).trans (by rw [tq115_167]; exact rfl)
theorem tq115_168 : tT g 115 168 = s_getf 115 171 5 9 := rfl
theorem A115_168 {L : AL} {r : List Value} {a : Nat} : aw g 115 168 L (.ref a :: r) σ Q = (hty σ a = some 5 ∧ aw g 115 171 L (hv σ 5 a 9 :: r) σ Q) := (aw_eq g 115 168 _ _ _ _).trans (by rw [tq115_168]; exact rfl)
theorem tq115_171 : tT g 115 171 = s_const 115 172 (.int 1) := rfl
theorem A115_171 {L : AL} {r : List Value} : aw g 115 171 L r σ Q = aw g 115 172 L (.int 1 :: r) σ Q := (aw_eq g 115 171 _ _ _ _).trans (by rw [tq115_171]; exact rfl)
theorem tq115_172 : tT g 115 172 = s_bin 115 173 (fun a b => a - b) := rfl
theorem A115_172 {L : AL} {r : List Value} {a b : Int32} : aw g 115 172 L (.int b :: .int a :: r) σ Q = aw g 115 173 L (.int (a - b) :: r) σ Q := (aw_eq g 115 172 _ _ _ _).trans (by rw [tq115_172]; exact rfl)
theorem tq115_173 : tT g 115 173 = s_putf g pI 115 176 5 9 := rfl
theorem A115_173 {L : AL} {r : List Value} {a : Nat} {v : Value} : aw g 115 173 L (v :: .ref a :: r) σ Q = (hty σ a = some 5 ∧ gB g ≤ a ∧ pI v ∧ aw g 115 176 L r (hput σ 5 a 9 v) Q) := (aw_eq g 115 173 _ _ _ _).trans (by rw [tq115_173]; exact rfl)
theorem tq115_176 : tT g 115 176 = s_load vRf 115 177 0 := rfl
theorem A115_176 {l1 : Option Value} {l2 : Option Value} {x : Value} {r : List Value} : aw g 115 176 [some (x), l1, l2] r σ Q = (vRf x = true ∧ aw g 115 177 [some (x), l1, l2] (x :: r) σ Q) := (aw_eq g 115 176 _ _ _ _).trans (by rw [tq115_176]; exact h_load rfl)
theorem tq115_177 : tT g 115 177 = s_load vRf 115 178 0 := rfl
theorem A115_177 {l1 : Option Value} {l2 : Option Value} {x : Value} {r : List Value} : aw g 115 177 [some (x), l1, l2] r σ Q = (vRf x = true ∧ aw g 115 178 [some (x), l1, l2] (x :: r) σ Q) := (aw_eq g 115 177 _ _ _ _).trans (by rw [tq115_177]; exact h_load rfl)
theorem tq115_178 : tT g 115 178 = s_getf 115 181 1 3 := rfl
theorem A115_178 {L : AL} {r : List Value} {a : Nat} : aw g 115 178 L (.ref a :: r) σ Q = (hty σ a = some 1 ∧ aw g 115 181 L (hv σ 1 a 3 :: r) σ Q) := (aw_eq g 115 178 _ _ _ _).trans (by rw [tq115_178]; exact rfl)
theorem tq115_181 : tT g 115 181 = s_callvk 115 184 118 1 [1] 3 := rfl
theorem A115_181 {L : AL} {r : List Value} {a : Nat} {w0 : Value} : aw g 115 181 L (w0 :: .ref a :: r) σ Q = (hty σ a = some 1 ∧ (vRf w0 && true) = true ∧ csum r ≤ 8 ∧ aw g 118 0 [some (.ref a), some w0, none] [] σ (kt (aw g) 115 184 L r Q)) := (aw_eq g 115 181 _ _ _ _).trans (by rw [tq115_181]; exact rfl)
theorem tq115_184 : tT g 115 184 = s_load vRf 115 185 0 := rfl
theorem A115_184 {l1 : Option Value} {l2 : Option Value} {x : Value} {r : List Value} : aw g 115 184 [some (x), l1, l2] r σ Q = (vRf x = true ∧ aw g 115 185 [some (x), l1, l2] (x :: r) σ Q) := (aw_eq g 115 184 _ _ _ _).trans (by rw [tq115_184]; exact h_load rfl)
theorem tq115_185 : tT g 115 185 = s_callvk 115 188 126 1 [] 3 := rfl
theorem A115_185 {L : AL} {r : List Value} {a : Nat} : aw g 115 185 L (.ref a :: r) σ Q = (hty σ a = some 1 ∧ true = true ∧ csum r ≤ 8 ∧ aw g 126 0 [some (.ref a), none, none] [] σ (kt (aw g) 115 188 L r Q)) := (aw_eq g 115 185 _ _ _ _).trans (by rw [tq115_185]; exact rfl)
theorem tq115_188 : tT g 115 188 = s_load vRf 115 189 0 := rfl
theorem A115_188 {l1 : Option Value} {l2 : Option Value} {x : Value} {r : List Value} : aw g 115 188 [some (x), l1, l2] r σ Q = (vRf x = true ∧ aw g 115 189 [some (x), l1, l2] (x :: r) σ Q) := (aw_eq g 115 188 _ _ _ _).trans (by rw [tq115_188]; exact h_load rfl)
theorem tq115_189 : tT g 115 189 = s_getf 115 192 1 0 := rfl
theorem A115_189 {L : AL} {r : List Value} {a : Nat} : aw g 115 189 L (.ref a :: r) σ Q = (hty σ a = some 1 ∧ aw g 115 192 L (hv σ 1 a 0 :: r) σ Q) := (aw_eq g 115 189 _ _ _ _).trans (by rw [tq115_189]; exact rfl)
theorem tq115_192 : tT g 115 192 = s_callvk 115 195 22 10 [] 1 := rfl
theorem A115_192 {L : AL} {r : List Value} {a : Nat} : aw g 115 192 L (.ref a :: r) σ Q = (hty σ a = some 10 ∧ true = true ∧ csum r ≤ 8 ∧ aw g 22 0 [some (.ref a)] [] σ (kt (aw g) 115 195 L r Q)) := (aw_eq g 115 192 _ _ _ _).trans (by rw [tq115_192]; exact rfl)
theorem tq115_195 : tT g 115 195 = s_store vRf 115 196 1 := rfl
theorem A115_195 {l0 : Option Value} {l1 : Option Value} {l2 : Option Value} {x : Value} {r : List Value} : aw g 115 195 [l0, l1, l2] (x :: r) σ Q = (vRf x = true ∧ oc l0 = true ∧ aw g 115 196 [l0, some (x), l2] r σ Q) := (aw_eq g 115 195 _ _ _ _).trans (by rw [tq115_195]; exact (h_store (o := oc l0) rfl rfl rfl))
theorem tq115_196 : tT g 115 196 = s_load vRf 115 197 1 := rfl
theorem A115_196 {l0 : Option Value} {l2 : Option Value} {x : Value} {r : List Value} : aw g 115 196 [l0, some (x), l2] r σ Q = (vRf x = true ∧ aw g 115 197 [l0, some (x), l2] (x :: r) σ Q) := (aw_eq g 115 196 _ _ _ _).trans (by rw [tq115_196]; exact h_load rfl)
theorem tq115_197 : tT g 115 197 = s_callvk 115 202 3 11 [] 1 := rfl
theorem A115_197 {L : AL} {r : List Value} {a : Nat} : aw g 115 197 L (.ref a :: r) σ Q = (hty σ a = some 11 ∧ true = true ∧ csum r ≤ 8 ∧ aw g 3 0 [some (.ref a)] [] σ (kt (aw g) 115 202 L r Q)) := (aw_eq g 115 197 _ _ _ _).trans (by rw [tq115_197]; exact rfl)
theorem tq115_202 : tT g 115 202 = s_if 115 205 230 (fun a => a = 0) := rfl
theorem A115_202 {L : AL} {r : List Value} {a : Int32} : aw g 115 202 L (.int a :: r) σ Q = ((a = 0 → aw g 115 230 L r σ Q) ∧ (¬ a = 0 → aw g 115 205 L r σ Q)) := (aw_eq g 115 202 _ _ _ _).trans (by rw [tq115_202]; exact rfl)
theorem tq115_205 : tT g 115 205 = s_load vRf 115 206 1 := rfl
theorem A115_205 {l0 : Option Value} {l2 : Option Value} {x : Value} {r : List Value} : aw g 115 205 [l0, some (x), l2] r σ Q = (vRf x = true ∧ aw g 115 206 [l0, some (x), l2] (x :: r) σ Q) := (aw_eq g 115 205 _ _ _ _).trans (by rw [tq115_205]; exact h_load rfl)
theorem tq115_206 : tT g 115 206 = s_callvk 115 211 4 11 [] 3 := rfl
theorem A115_206 {L : AL} {r : List Value} {a : Nat} : aw g 115 206 L (.ref a :: r) σ Q = (hty σ a = some 11 ∧ true = true ∧ csum r ≤ 8 ∧ aw g 4 0 [some (.ref a), none, none] [] σ (kt (aw g) 115 211 L r Q)) := (aw_eq g 115 206 _ _ _ _).trans (by rw [tq115_206]; exact rfl)
theorem tq115_211 : tT g 115 211 = s_cast 115 214 [5] := rfl
theorem A115_211 {L : AL} {r : List Value} : aw g 115 211 L (.null :: r) σ Q = aw g 115 214 L (.null :: r) σ Q := (aw_eq g 115 211 _ _ _ _).trans (by rw [tq115_211]; exact rfl)
theorem A115_211r {L : AL} {r : List Value} {a : Nat} : aw g 115 211 L (.ref a :: r) σ Q = (hty σ a = some 5 ∧ aw g 115 214 L (.ref a :: r) σ Q) := (aw_eq g 115 211 _ _ _ _).trans (by rw [tq115_211]; exact propext ⟨fun z => (by obtain ⟨⟨u, hu, hu2⟩, z2⟩ := z; rw [List.mem_singleton] at hu; subst hu; exact ⟨hu2, z2⟩), fun z => ⟨⟨_, List.mem_cons_self, z.1⟩, z.2⟩⟩)
theorem tq115_214 : tT g 115 214 = s_store vRf 115 215 2 := rfl
theorem A115_214 {l0 : Option Value} {l1 : Option Value} {l2 : Option Value} {x : Value} {r : List Value} : aw g 115 214 [l0, l1, l2] (x :: r) σ Q = (vRf x = true ∧ oc l1 = true ∧ aw g 115 215 [l0, l1, some (x)] r σ Q) := (aw_eq g 115 214 _ _ _ _).trans (by rw [tq115_214]; exact (h_store (o := oc l1) rfl rfl rfl))
theorem tq115_215 : tT g 115 215 = s_load vRf 115 216 2 := rfl
theorem A115_215 {l0 : Option Value} {l1 : Option Value} {x : Value} {r : List Value} : aw g 115 215 [l0, l1, some (x)] r σ Q = (vRf x = true ∧ aw g 115 216 [l0, l1, some (x)] (x :: r) σ Q) := (aw_eq g 115 215 _ _ _ _).trans (by rw [tq115_215]; exact h_load rfl)
theorem tq115_216 : tT g 115 216 = s_callvk 115 219 194 5 [] 1 := rfl
theorem A115_216 {L : AL} {r : List Value} {a : Nat} : aw g 115 216 L (.ref a :: r) σ Q = (hty σ a = some 5 ∧ true = true ∧ csum r ≤ 8 ∧ aw g 194 0 [some (.ref a)] [] σ (kt (aw g) 115 219 L r Q)) := (aw_eq g 115 216 _ _ _ _).trans (by rw [tq115_216]; exact rfl)
theorem tq115_219 : tT g 115 219 = s_if 115 222 227 (fun a => a = 0) := rfl
theorem A115_219 {L : AL} {r : List Value} {a : Int32} : aw g 115 219 L (.int a :: r) σ Q = ((a = 0 → aw g 115 227 L r σ Q) ∧ (¬ a = 0 → aw g 115 222 L r σ Q)) := (aw_eq g 115 219 _ _ _ _).trans (by rw [tq115_219]; exact rfl)
theorem tq115_222 : tT g 115 222 = s_load vRf 115 223 0 := rfl
theorem A115_222 {l1 : Option Value} {l2 : Option Value} {x : Value} {r : List Value} : aw g 115 222 [some (x), l1, l2] r σ Q = (vRf x = true ∧ aw g 115 223 [some (x), l1, l2] (x :: r) σ Q) := (aw_eq g 115 222 _ _ _ _).trans (by rw [tq115_222]; exact h_load rfl)
theorem tq115_223 : tT g 115 223 = s_load vRf 115 224 2 := rfl
theorem A115_223 {l0 : Option Value} {l1 : Option Value} {x : Value} {r : List Value} : aw g 115 223 [l0, l1, some (x)] r σ Q = (vRf x = true ∧ aw g 115 224 [l0, l1, some (x)] (x :: r) σ Q) := (aw_eq g 115 223 _ _ _ _).trans (by rw [tq115_223]; exact h_load rfl)
theorem tq115_224 : tT g 115 224 = s_callvk 115 227 129 1 [1] 5 := rfl
theorem A115_224 {L : AL} {r : List Value} {a : Nat} {w0 : Value} : aw g 115 224 L (w0 :: .ref a :: r) σ Q = (hty σ a = some 1 ∧ (vRf w0 && true) = true ∧ csum r ≤ 8 ∧ aw g 129 0 [some (.ref a), some w0, none, none, none] [] σ (kt (aw g) 115 227 L r Q)) := (aw_eq g 115 224 _ _ _ _).trans (by rw [tq115_224]; exact rfl)
theorem tq115_227 : tT g 115 227 = s_goto 115 196 := rfl
theorem A115_227 {L : AL} {r : List Value} : aw g 115 227 L r σ Q = aw g 115 196 L r σ Q := (aw_eq g 115 227 _ _ _ _).trans (by rw [tq115_227]; exact rfl)
theorem tq115_230 : tT g 115 230 = s_vret := rfl
theorem A115_230 {L : AL} : aw g 115 230 L [] σ Q = Q (.inl none) σ := (aw_eq g 115 230 _ _ _ _).trans (by rw [tq115_230]; exact rfl)
theorem tq116_0 : tT g 116 0 = s_load vRf 116 1 0 := rfl
theorem A116_0 {l1 : Option Value} {l2 : Option Value} {l3 : Option Value} {x : Value} {r : List Value} : aw g 116 0 [some (x), l1, l2, l3] r σ Q = (vRf x = true ∧ aw g 116 1 [some (x), l1, l2, l3] (x :: r) σ Q) := (aw_eq g 116 0 _ _ _ _).trans (by rw [tq116_0]; exact h_load rfl)
theorem tq116_1 : tT g 116 1 = s_callvk 116 4 117 1 [] 4 := rfl
theorem A116_1 {L : AL} {r : List Value} {a : Nat} : aw g 116 1 L (.ref a :: r) σ Q = (hty σ a = some 1 ∧ true = true ∧ csum r ≤ 8 ∧ aw g 117 0 [some (.ref a), none, none, none] [] σ (kt (aw g) 116 4 L r Q)) := (aw_eq g 116 1 _ _ _ _).trans (by rw [tq116_1]; exact rfl)
theorem tq116_4 : tT g 116 4 = s_store vRf 116 5 1 := rfl
theorem A116_4 {l0 : Option Value} {l1 : Option Value} {l2 : Option Value} {l3 : Option Value} {x : Value} {r : List Value} : aw g 116 4 [l0, l1, l2, l3] (x :: r) σ Q = (vRf x = true ∧ oc l0 = true ∧ aw g 116 5 [l0, some (x), l2, l3] r σ Q) := (aw_eq g 116 4 _ _ _ _).trans (by rw [tq116_4]; exact (h_store (o := oc l0) rfl rfl rfl))
theorem tq116_5 : tT g 116 5 = s_load vRf 116 6 1 := rfl
theorem A116_5 {l0 : Option Value} {l2 : Option Value} {l3 : Option Value} {x : Value} {r : List Value} : aw g 116 5 [l0, some (x), l2, l3] r σ Q = (vRf x = true ∧ aw g 116 6 [l0, some (x), l2, l3] (x :: r) σ Q) := (aw_eq g 116 5 _ _ _ _).trans (by rw [tq116_5]; exact h_load rfl)
theorem tq116_6 : tT g 116 6 = s_ifnull 116 9 16 := rfl
theorem A116_6 {L : AL} {r : List Value} {a : Value} : aw g 116 6 L (a :: r) σ Q = (vRf a = true ∧ (a = .null → aw g 116 16 L r σ Q) ∧ (a ≠ .null → aw g 116 9 L r σ Q)) := (aw_eq g 116 6 _ _ _ _).trans (by rw [tq116_6]; exact rfl)
theorem tq116_9 : tT g 116 9 = s_load vRf 116 10 1 := rfl
theorem A116_9 {l0 : Option Value} {l2 : Option Value} {l3 : Option Value} {x : Value} {r : List Value} : aw g 116 9 [l0, some (x), l2, l3] r σ Q = (vRf x = true ∧ aw g 116 10 [l0, some (x), l2, l3] (x :: r) σ Q) := (aw_eq g 116 9 _ _ _ _).trans (by rw [tq116_9]; exact h_load rfl)
theorem tq116_10 : tT g 116 10 = s_getf 116 13 5 9 := rfl
theorem A116_10 {L : AL} {r : List Value} {a : Nat} : aw g 116 10 L (.ref a :: r) σ Q = (hty σ a = some 5 ∧ aw g 116 13 L (hv σ 5 a 9 :: r) σ Q) := (aw_eq g 116 10 _ _ _ _).trans (by rw [tq116_10]; exact rfl)
theorem tq116_13 : tT g 116 13 = s_if 116 16 18 (fun a => a ≤ 0) := rfl
theorem A116_13 {L : AL} {r : List Value} {a : Int32} : aw g 116 13 L (.int a :: r) σ Q = ((a ≤ 0 → aw g 116 18 L r σ Q) ∧ (¬ a ≤ 0 → aw g 116 16 L r σ Q)) := (aw_eq g 116 13 _ _ _ _).trans (by rw [tq116_13]; exact rfl)
theorem tq116_16 : tT g 116 16 = s_load vRf 116 17 1 := rfl
theorem A116_16 {l0 : Option Value} {l2 : Option Value} {l3 : Option Value} {x : Value} {r : List Value} : aw g 116 16 [l0, some (x), l2, l3] r σ Q = (vRf x = true ∧ aw g 116 17 [l0, some (x), l2, l3] (x :: r) σ Q) := (aw_eq g 116 16 _ _ _ _).trans (by rw [tq116_16]; exact h_load rfl)
theorem tq116_17 : tT g 116 17 = s_ret pR := rfl
theorem A116_17 {L : AL} {v : Value} : aw g 116 17 L [v] σ Q = (pR v ∧ Q (.inl (some v)) σ) := (aw_eq g 116 17 _ _ _ _).trans (by rw [tq116_17]; exact rfl)
theorem tq116_18 : tT g 116 18 = s_load vRf 116 19 0 := rfl
theorem A116_18 {l1 : Option Value} {l2 : Option Value} {l3 : Option Value} {x : Value} {r : List Value} : aw g 116 18 [some (x), l1, l2, l3] r σ Q = (vRf x = true ∧ aw g 116 19 [some (x), l1, l2, l3] (x :: r) σ Q) := (aw_eq g 116 18 _ _ _ _).trans (by rw [tq116_18]; exact h_load rfl)
theorem tq116_19 : tT g 116 19 = s_getf 116 22 1 0 := rfl
theorem A116_19 {L : AL} {r : List Value} {a : Nat} : aw g 116 19 L (.ref a :: r) σ Q = (hty σ a = some 1 ∧ aw g 116 22 L (hv σ 1 a 0 :: r) σ Q) := (aw_eq g 116 19 _ _ _ _).trans (by rw [tq116_19]; exact rfl)
theorem tq116_22 : tT g 116 22 = s_callvk 116 25 22 10 [] 1 := rfl
theorem A116_22 {L : AL} {r : List Value} {a : Nat} : aw g 116 22 L (.ref a :: r) σ Q = (hty σ a = some 10 ∧ true = true ∧ csum r ≤ 8 ∧ aw g 22 0 [some (.ref a)] [] σ (kt (aw g) 116 25 L r Q)) := (aw_eq g 116 22 _ _ _ _).trans (by rw [tq116_22]; exact rfl)
theorem tq116_25 : tT g 116 25 = s_store vRf 116 26 2 := rfl
theorem A116_25 {l0 : Option Value} {l1 : Option Value} {l2 : Option Value} {l3 : Option Value} {x : Value} {r : List Value} : aw g 116 25 [l0, l1, l2, l3] (x :: r) σ Q = (vRf x = true ∧ oc l1 = true ∧ aw g 116 26 [l0, l1, some (x), l3] r σ Q) := (aw_eq g 116 25 _ _ _ _).trans (by rw [tq116_25]; exact (h_store (o := oc l1) rfl rfl rfl))
theorem tq116_26 : tT g 116 26 = s_load vRf 116 27 2 := rfl
theorem A116_26 {l0 : Option Value} {l1 : Option Value} {l3 : Option Value} {x : Value} {r : List Value} : aw g 116 26 [l0, l1, some (x), l3] r σ Q = (vRf x = true ∧ aw g 116 27 [l0, l1, some (x), l3] (x :: r) σ Q) := (aw_eq g 116 26 _ _ _ _).trans (by rw [tq116_26]; exact h_load rfl)
theorem tq116_27 : tT g 116 27 = s_callvk 116 32 3 11 [] 1 := rfl
theorem A116_27 {L : AL} {r : List Value} {a : Nat} : aw g 116 27 L (.ref a :: r) σ Q = (hty σ a = some 11 ∧ true = true ∧ csum r ≤ 8 ∧ aw g 3 0 [some (.ref a)] [] σ (kt (aw g) 116 32 L r Q)) := (aw_eq g 116 27 _ _ _ _).trans (by rw [tq116_27]; exact rfl)
theorem tq116_32 : tT g 116 32 = s_if 116 35 80 (fun a => a = 0) := rfl
theorem A116_32 {L : AL} {r : List Value} {a : Int32} : aw g 116 32 L (.int a :: r) σ Q = ((a = 0 → aw g 116 80 L r σ Q) ∧ (¬ a = 0 → aw g 116 35 L r σ Q)) := (aw_eq g 116 32 _ _ _ _).trans (by rw [tq116_32]; exact rfl)
theorem tq116_35 : tT g 116 35 = s_load vRf 116 36 2 := rfl
theorem A116_35 {l0 : Option Value} {l1 : Option Value} {l3 : Option Value} {x : Value} {r : List Value} : aw g 116 35 [l0, l1, some (x), l3] r σ Q = (vRf x = true ∧ aw g 116 36 [l0, l1, some (x), l3] (x :: r) σ Q) := (aw_eq g 116 35 _ _ _ _).trans (by rw [tq116_35]; exact h_load rfl)
theorem tq116_36 : tT g 116 36 = s_callvk 116 41 4 11 [] 3 := rfl
theorem A116_36 {L : AL} {r : List Value} {a : Nat} : aw g 116 36 L (.ref a :: r) σ Q = (hty σ a = some 11 ∧ true = true ∧ csum r ≤ 8 ∧ aw g 4 0 [some (.ref a), none, none] [] σ (kt (aw g) 116 41 L r Q)) := (aw_eq g 116 36 _ _ _ _).trans (by rw [tq116_36]; exact rfl)
theorem tq116_41 : tT g 116 41 = s_cast 116 44 [5] := rfl
theorem A116_41 {L : AL} {r : List Value} : aw g 116 41 L (.null :: r) σ Q = aw g 116 44 L (.null :: r) σ Q := (aw_eq g 116 41 _ _ _ _).trans (by rw [tq116_41]; exact rfl)
theorem A116_41r {L : AL} {r : List Value} {a : Nat} : aw g 116 41 L (.ref a :: r) σ Q = (hty σ a = some 5 ∧ aw g 116 44 L (.ref a :: r) σ Q) := (aw_eq g 116 41 _ _ _ _).trans (by rw [tq116_41]; exact propext ⟨fun z => (by obtain ⟨⟨u, hu, hu2⟩, z2⟩ := z; rw [List.mem_singleton] at hu; subst hu; exact ⟨hu2, z2⟩), fun z => ⟨⟨_, List.mem_cons_self, z.1⟩, z.2⟩⟩)
theorem tq116_44 : tT g 116 44 = s_store vRf 116 45 3 := rfl
theorem A116_44 {l0 : Option Value} {l1 : Option Value} {l2 : Option Value} {l3 : Option Value} {x : Value} {r : List Value} : aw g 116 44 [l0, l1, l2, l3] (x :: r) σ Q = (vRf x = true ∧ oc l2 = true ∧ aw g 116 45 [l0, l1, l2, some (x)] r σ Q) := (aw_eq g 116 44 _ _ _ _).trans (by rw [tq116_44]; exact (h_store (o := oc l2) rfl rfl rfl))
theorem tq116_45 : tT g 116 45 = s_load vRf 116 46 3 := rfl
theorem A116_45 {l0 : Option Value} {l1 : Option Value} {l2 : Option Value} {x : Value} {r : List Value} : aw g 116 45 [l0, l1, l2, some (x)] r σ Q = (vRf x = true ∧ aw g 116 46 [l0, l1, l2, some (x)] (x :: r) σ Q) := (aw_eq g 116 45 _ _ _ _).trans (by rw [tq116_45]; exact h_load rfl)
theorem tq116_46 : tT g 116 46 = s_callvk 116 49 197 5 [] 1 := rfl
theorem A116_46 {L : AL} {r : List Value} {a : Nat} : aw g 116 46 L (.ref a :: r) σ Q = (hty σ a = some 5 ∧ true = true ∧ csum r ≤ 8 ∧ aw g 197 0 [some (.ref a)] [] σ (kt (aw g) 116 49 L r Q)) := (aw_eq g 116 46 _ _ _ _).trans (by rw [tq116_46]; exact rfl)
theorem tq116_49 : tT g 116 49 = s_if 116 77 52 (fun a => a = 0) := rfl
theorem A116_49 {L : AL} {r : List Value} {a : Int32} : aw g 116 49 L (.int a :: r) σ Q = ((a = 0 → aw g 116 52 L r σ Q) ∧ (¬ a = 0 → aw g 116 77 L r σ Q)) := (aw_eq g 116 49 _ _ _ _).trans (by rw [tq116_49]; exact rfl)
theorem tq116_52 : tT g 116 52 = s_load vRf 116 53 3 := rfl
theorem A116_52 {l0 : Option Value} {l1 : Option Value} {l2 : Option Value} {x : Value} {r : List Value} : aw g 116 52 [l0, l1, l2, some (x)] r σ Q = (vRf x = true ∧ aw g 116 53 [l0, l1, l2, some (x)] (x :: r) σ Q) := (aw_eq g 116 52 _ _ _ _).trans (by rw [tq116_52]; exact h_load rfl)
theorem tq116_53 : tT g 116 53 = s_const 116 55 (.int 8) := rfl
theorem A116_53 {L : AL} {r : List Value} : aw g 116 53 L r σ Q = aw g 116 55 L (.int 8 :: r) σ Q := (aw_eq g 116 53 _ _ _ _).trans (by rw [tq116_53]; exact rfl)
theorem tq116_55 : tT g 116 55 = s_load vRf 116 56 3 := rfl
theorem A116_55 {l0 : Option Value} {l1 : Option Value} {l2 : Option Value} {x : Value} {r : List Value} : aw g 116 55 [l0, l1, l2, some (x)] r σ Q = (vRf x = true ∧ aw g 116 56 [l0, l1, l2, some (x)] (x :: r) σ Q) := (aw_eq g 116 55 _ _ _ _).trans (by rw [tq116_55]; exact h_load rfl)
theorem tq116_56 : tT g 116 56 = s_getf 116 59 5 1 := rfl
theorem A116_56 {L : AL} {r : List Value} {a : Nat} : aw g 116 56 L (.ref a :: r) σ Q = (hty σ a = some 5 ∧ aw g 116 59 L (hv σ 5 a 1 :: r) σ Q) := (aw_eq g 116 56 _ _ _ _).trans (by rw [tq116_56]; exact rfl)
theorem tq116_59 : tT g 116 59 = s_bin 116 60 (fun a b => a * b) := rfl
theorem A116_59 {L : AL} {r : List Value} {a b : Int32} : aw g 116 59 L (.int b :: .int a :: r) σ Q = aw g 116 60 L (.int (a * b) :: r) σ Q := (aw_eq g 116 59 _ _ _ _).trans (by rw [tq116_59]; exact rfl)
theorem tq116_60 : tT g 116 60 = s_load vRf 116 61 3 := rfl
theorem A116_60 {l0 : Option Value} {l1 : Option Value} {l2 : Option Value} {x : Value} {r : List Value} : aw g 116 60 [l0, l1, l2, some (x)] r σ Q = (vRf x = true ∧ aw g 116 61 [l0, l1, l2, some (x)] (x :: r) σ Q) := (aw_eq g 116 60 _ _ _ _).trans (by rw [tq116_60]; exact h_load rfl)
theorem tq116_61 : tT g 116 61 = s_getf 116 64 5 9 := rfl
theorem A116_61 {L : AL} {r : List Value} {a : Nat} : aw g 116 61 L (.ref a :: r) σ Q = (hty σ a = some 5 ∧ aw g 116 64 L (hv σ 5 a 9 :: r) σ Q) := (aw_eq g 116 61 _ _ _ _).trans (by rw [tq116_61]; exact rfl)
theorem tq116_64 : tT g 116 64 = s_const 116 65 (.int 4) := rfl
theorem A116_64 {L : AL} {r : List Value} : aw g 116 64 L r σ Q = aw g 116 65 L (.int 4 :: r) σ Q := (aw_eq g 116 64 _ _ _ _).trans (by rw [tq116_64]; exact rfl)
theorem tq116_65 : tT g 116 65 = s_load vRf 116 66 3 := rfl
theorem A116_65 {l0 : Option Value} {l1 : Option Value} {l2 : Option Value} {x : Value} {r : List Value} : aw g 116 65 [l0, l1, l2, some (x)] r σ Q = (vRf x = true ∧ aw g 116 66 [l0, l1, l2, some (x)] (x :: r) σ Q) := (aw_eq g 116 65 _ _ _ _).trans (by rw [tq116_65]; exact h_load rfl)
theorem tq116_66 : tT g 116 66 = s_getf 116 69 5 1 := rfl
theorem A116_66 {L : AL} {r : List Value} {a : Nat} : aw g 116 66 L (.ref a :: r) σ Q = (hty σ a = some 5 ∧ aw g 116 69 L (hv σ 5 a 1 :: r) σ Q) := (aw_eq g 116 66 _ _ _ _).trans (by rw [tq116_66]; exact rfl)
theorem tq116_69 : tT g 116 69 = s_bin 116 70 (fun a b => a * b) := rfl
theorem A116_69 {L : AL} {r : List Value} {a b : Int32} : aw g 116 69 L (.int b :: .int a :: r) σ Q = aw g 116 70 L (.int (a * b) :: r) σ Q := (aw_eq g 116 69 _ _ _ _).trans (by rw [tq116_69]; exact rfl)
theorem tq116_70 : tT g 116 70 = s_bin 116 71 (fun a b => a + b) := rfl
theorem A116_70 {L : AL} {r : List Value} {a b : Int32} : aw g 116 70 L (.int b :: .int a :: r) σ Q = aw g 116 71 L (.int (a + b) :: r) σ Q := (aw_eq g 116 70 _ _ _ _).trans (by rw [tq116_70]; exact rfl)
theorem tq116_71 : tT g 116 71 = s_callk 116 74 35 [0, 0] 2 := rfl
theorem A116_71 {L : AL} {r : List Value} {w0 w1 : Value} : aw g 116 71 L (w1 :: w0 :: r) σ Q = ((vI w0 && (vI w1 && true)) = true ∧ csum r ≤ 8 ∧ aw g 35 0 [some w0, some w1] [] σ (kt (aw g) 116 74 L r Q)) := (aw_eq g 116 71 _ _ _ _).trans (by rw [tq116_71]; exact rfl)
theorem tq116_74 : tT g 116 74 = s_putf g pI 116 77 5 9 := rfl
theorem A116_74 {L : AL} {r : List Value} {a : Nat} {v : Value} : aw g 116 74 L (v :: .ref a :: r) σ Q = (hty σ a = some 5 ∧ gB g ≤ a ∧ pI v ∧ aw g 116 77 L r (hput σ 5 a 9 v) Q) := (aw_eq g 116 74 _ _ _ _).trans (by rw [tq116_74]; exact rfl)
theorem tq116_77 : tT g 116 77 = s_goto 116 26 := rfl
theorem A116_77 {L : AL} {r : List Value} : aw g 116 77 L r σ Q = aw g 116 26 L r σ Q := (aw_eq g 116 77 _ _ _ _).trans (by rw [tq116_77]; exact rfl)
theorem tq116_80 : tT g 116 80 = s_load vRf 116 81 0 := rfl
theorem A116_80 {l1 : Option Value} {l2 : Option Value} {l3 : Option Value} {x : Value} {r : List Value} : aw g 116 80 [some (x), l1, l2, l3] r σ Q = (vRf x = true ∧ aw g 116 81 [some (x), l1, l2, l3] (x :: r) σ Q) := (aw_eq g 116 80 _ _ _ _).trans (by rw [tq116_80]; exact h_load rfl)
theorem tq116_81 : tT g 116 81 = s_callvk 116 84 117 1 [] 4 := rfl
theorem A116_81 {L : AL} {r : List Value} {a : Nat} : aw g 116 81 L (.ref a :: r) σ Q = (hty σ a = some 1 ∧ true = true ∧ csum r ≤ 8 ∧ aw g 117 0 [some (.ref a), none, none, none] [] σ (kt (aw g) 116 84 L r Q)) := (aw_eq g 116 81 _ _ _ _).trans (by rw [tq116_81]; exact rfl)
theorem tq116_84 : tT g 116 84 = s_ret pR := rfl
theorem A116_84 {L : AL} {v : Value} : aw g 116 84 L [v] σ Q = (pR v ∧ Q (.inl (some v)) σ) := (aw_eq g 116 84 _ _ _ _).trans (by rw [tq116_84]; exact rfl)
theorem tq117_0 : tT g 117 0 = s_const 117 1 .null := rfl
theorem A117_0 {L : AL} {r : List Value} : aw g 117 0 L r σ Q = aw g 117 1 L (.null :: r) σ Q := (aw_eq g 117 0 _ _ _ _).trans (by rw [tq117_0]; exact rfl)
theorem tq117_1 : tT g 117 1 = s_store vRf 117 2 1 := rfl
theorem A117_1 {l0 : Option Value} {l1 : Option Value} {l2 : Option Value} {l3 : Option Value} {x : Value} {r : List Value} : aw g 117 1 [l0, l1, l2, l3] (x :: r) σ Q = (vRf x = true ∧ oc l0 = true ∧ aw g 117 2 [l0, some (x), l2, l3] r σ Q) := (aw_eq g 117 1 _ _ _ _).trans (by rw [tq117_1]; exact (h_store (o := oc l0) rfl rfl rfl))
theorem tq117_2 : tT g 117 2 = s_load vRf 117 3 0 := rfl
theorem A117_2 {l1 : Option Value} {l2 : Option Value} {l3 : Option Value} {x : Value} {r : List Value} : aw g 117 2 [some (x), l1, l2, l3] r σ Q = (vRf x = true ∧ aw g 117 3 [some (x), l1, l2, l3] (x :: r) σ Q) := (aw_eq g 117 2 _ _ _ _).trans (by rw [tq117_2]; exact h_load rfl)
theorem tq117_3 : tT g 117 3 = s_getf 117 6 1 0 := rfl
theorem A117_3 {L : AL} {r : List Value} {a : Nat} : aw g 117 3 L (.ref a :: r) σ Q = (hty σ a = some 1 ∧ aw g 117 6 L (hv σ 1 a 0 :: r) σ Q) := (aw_eq g 117 3 _ _ _ _).trans (by rw [tq117_3]; exact rfl)
theorem tq117_6 : tT g 117 6 = s_callvk 117 9 22 10 [] 1 := rfl
theorem A117_6 {L : AL} {r : List Value} {a : Nat} : aw g 117 6 L (.ref a :: r) σ Q = (hty σ a = some 10 ∧ true = true ∧ csum r ≤ 8 ∧ aw g 22 0 [some (.ref a)] [] σ (kt (aw g) 117 9 L r Q)) := (aw_eq g 117 6 _ _ _ _).trans (by rw [tq117_6]; exact rfl)
theorem tq117_9 : tT g 117 9 = s_store vRf 117 10 2 := rfl
theorem A117_9 {l0 : Option Value} {l1 : Option Value} {l2 : Option Value} {l3 : Option Value} {x : Value} {r : List Value} : aw g 117 9 [l0, l1, l2, l3] (x :: r) σ Q = (vRf x = true ∧ oc l1 = true ∧ aw g 117 10 [l0, l1, some (x), l3] r σ Q) := (aw_eq g 117 9 _ _ _ _).trans (by rw [tq117_9]; exact (h_store (o := oc l1) rfl rfl rfl))
theorem tq117_10 : tT g 117 10 = s_load vRf 117 11 2 := rfl
theorem A117_10 {l0 : Option Value} {l1 : Option Value} {l3 : Option Value} {x : Value} {r : List Value} : aw g 117 10 [l0, l1, some (x), l3] r σ Q = (vRf x = true ∧ aw g 117 11 [l0, l1, some (x), l3] (x :: r) σ Q) := (aw_eq g 117 10 _ _ _ _).trans (by rw [tq117_10]; exact h_load rfl)
theorem tq117_11 : tT g 117 11 = s_callvk 117 16 3 11 [] 1 := rfl
theorem A117_11 {L : AL} {r : List Value} {a : Nat} : aw g 117 11 L (.ref a :: r) σ Q = (hty σ a = some 11 ∧ true = true ∧ csum r ≤ 8 ∧ aw g 3 0 [some (.ref a)] [] σ (kt (aw g) 117 16 L r Q)) := (aw_eq g 117 11 _ _ _ _).trans (by rw [tq117_11]; exact rfl)
theorem tq117_16 : tT g 117 16 = s_if 117 19 56 (fun a => a = 0) := rfl
theorem A117_16 {L : AL} {r : List Value} {a : Int32} : aw g 117 16 L (.int a :: r) σ Q = ((a = 0 → aw g 117 56 L r σ Q) ∧ (¬ a = 0 → aw g 117 19 L r σ Q)) := (aw_eq g 117 16 _ _ _ _).trans (by rw [tq117_16]; exact rfl)
theorem tq117_19 : tT g 117 19 = s_load vRf 117 20 2 := rfl
theorem A117_19 {l0 : Option Value} {l1 : Option Value} {l3 : Option Value} {x : Value} {r : List Value} : aw g 117 19 [l0, l1, some (x), l3] r σ Q = (vRf x = true ∧ aw g 117 20 [l0, l1, some (x), l3] (x :: r) σ Q) := (aw_eq g 117 19 _ _ _ _).trans (by rw [tq117_19]; exact h_load rfl)
theorem tq117_20 : tT g 117 20 = s_callvk 117 25 4 11 [] 3 := rfl
theorem A117_20 {L : AL} {r : List Value} {a : Nat} : aw g 117 20 L (.ref a :: r) σ Q = (hty σ a = some 11 ∧ true = true ∧ csum r ≤ 8 ∧ aw g 4 0 [some (.ref a), none, none] [] σ (kt (aw g) 117 25 L r Q)) := (aw_eq g 117 20 _ _ _ _).trans (by rw [tq117_20]; exact rfl)
theorem tq117_25 : tT g 117 25 = s_cast 117 28 [5] := rfl
theorem A117_25 {L : AL} {r : List Value} : aw g 117 25 L (.null :: r) σ Q = aw g 117 28 L (.null :: r) σ Q := (aw_eq g 117 25 _ _ _ _).trans (by rw [tq117_25]; exact rfl)
theorem A117_25r {L : AL} {r : List Value} {a : Nat} : aw g 117 25 L (.ref a :: r) σ Q = (hty σ a = some 5 ∧ aw g 117 28 L (.ref a :: r) σ Q) := (aw_eq g 117 25 _ _ _ _).trans (by rw [tq117_25]; exact propext ⟨fun z => (by obtain ⟨⟨u, hu, hu2⟩, z2⟩ := z; rw [List.mem_singleton] at hu; subst hu; exact ⟨hu2, z2⟩), fun z => ⟨⟨_, List.mem_cons_self, z.1⟩, z.2⟩⟩)
theorem tq117_28 : tT g 117 28 = s_store vRf 117 29 3 := rfl
theorem A117_28 {l0 : Option Value} {l1 : Option Value} {l2 : Option Value} {l3 : Option Value} {x : Value} {r : List Value} : aw g 117 28 [l0, l1, l2, l3] (x :: r) σ Q = (vRf x = true ∧ oc l2 = true ∧ aw g 117 29 [l0, l1, l2, some (x)] r σ Q) := (aw_eq g 117 28 _ _ _ _).trans (by rw [tq117_28]; exact (h_store (o := oc l2) rfl rfl rfl))
theorem tq117_29 : tT g 117 29 = s_load vRf 117 30 3 := rfl
theorem A117_29 {l0 : Option Value} {l1 : Option Value} {l2 : Option Value} {x : Value} {r : List Value} : aw g 117 29 [l0, l1, l2, some (x)] r σ Q = (vRf x = true ∧ aw g 117 30 [l0, l1, l2, some (x)] (x :: r) σ Q) := (aw_eq g 117 29 _ _ _ _).trans (by rw [tq117_29]; exact h_load rfl)
theorem tq117_30 : tT g 117 30 = s_getf 117 33 5 3 := rfl
theorem A117_30 {L : AL} {r : List Value} {a : Nat} : aw g 117 30 L (.ref a :: r) σ Q = (hty σ a = some 5 ∧ aw g 117 33 L (hv σ 5 a 3 :: r) σ Q) := (aw_eq g 117 30 _ _ _ _).trans (by rw [tq117_30]; exact rfl)
theorem tq117_33 : tT g 117 33 = s_if 117 53 36 (fun a => a = 0) := rfl
theorem A117_33 {L : AL} {r : List Value} {a : Int32} : aw g 117 33 L (.int a :: r) σ Q = ((a = 0 → aw g 117 36 L r σ Q) ∧ (¬ a = 0 → aw g 117 53 L r σ Q)) := (aw_eq g 117 33 _ _ _ _).trans (by rw [tq117_33]; exact rfl)
theorem tq117_36 : tT g 117 36 = s_load vRf 117 37 1 := rfl
theorem A117_36 {l0 : Option Value} {l2 : Option Value} {l3 : Option Value} {x : Value} {r : List Value} : aw g 117 36 [l0, some (x), l2, l3] r σ Q = (vRf x = true ∧ aw g 117 37 [l0, some (x), l2, l3] (x :: r) σ Q) := (aw_eq g 117 36 _ _ _ _).trans (by rw [tq117_36]; exact h_load rfl)
theorem tq117_37 : tT g 117 37 = s_ifnull 117 40 51 := rfl
theorem A117_37 {L : AL} {r : List Value} {a : Value} : aw g 117 37 L (a :: r) σ Q = (vRf a = true ∧ (a = .null → aw g 117 51 L r σ Q) ∧ (a ≠ .null → aw g 117 40 L r σ Q)) := (aw_eq g 117 37 _ _ _ _).trans (by rw [tq117_37]; exact rfl)
theorem tq117_40 : tT g 117 40 = s_load vRf 117 41 3 := rfl
theorem A117_40 {l0 : Option Value} {l1 : Option Value} {l2 : Option Value} {x : Value} {r : List Value} : aw g 117 40 [l0, l1, l2, some (x)] r σ Q = (vRf x = true ∧ aw g 117 41 [l0, l1, l2, some (x)] (x :: r) σ Q) := (aw_eq g 117 40 _ _ _ _).trans (by rw [tq117_40]; exact h_load rfl)
theorem tq117_41 : tT g 117 41 = s_getf 117 44 5 9 := rfl
theorem A117_41 {L : AL} {r : List Value} {a : Nat} : aw g 117 41 L (.ref a :: r) σ Q = (hty σ a = some 5 ∧ aw g 117 44 L (hv σ 5 a 9 :: r) σ Q) := (aw_eq g 117 41 _ _ _ _).trans (by rw [tq117_41]; exact rfl)
theorem tq117_44 : tT g 117 44 = s_load vRf 117 45 1 := rfl
theorem A117_44 {l0 : Option Value} {l2 : Option Value} {l3 : Option Value} {x : Value} {r : List Value} : aw g 117 44 [l0, some (x), l2, l3] r σ Q = (vRf x = true ∧ aw g 117 45 [l0, some (x), l2, l3] (x :: r) σ Q) := (aw_eq g 117 44 _ _ _ _).trans (by rw [tq117_44]; exact h_load rfl)
theorem tq117_45 : tT g 117 45 = s_getf 117 48 5 9 := rfl
theorem A117_45 {L : AL} {r : List Value} {a : Nat} : aw g 117 45 L (.ref a :: r) σ Q = (hty σ a = some 5 ∧ aw g 117 48 L (hv σ 5 a 9 :: r) σ Q) := (aw_eq g 117 45 _ _ _ _).trans (by rw [tq117_45]; exact rfl)
theorem tq117_48 : tT g 117 48 = s_icmp 117 51 53 (fun a b => a ≤ b) := rfl
theorem A117_48 {L : AL} {r : List Value} {a b : Int32} : aw g 117 48 L (.int b :: .int a :: r) σ Q = ((a ≤ b → aw g 117 53 L r σ Q) ∧ (¬ a ≤ b → aw g 117 51 L r σ Q)) := (aw_eq g 117 48 _ _ _ _).trans (by rw [tq117_48]; exact rfl)
theorem tq117_51 : tT g 117 51 = s_load vRf 117 52 3 := rfl
theorem A117_51 {l0 : Option Value} {l1 : Option Value} {l2 : Option Value} {x : Value} {r : List Value} : aw g 117 51 [l0, l1, l2, some (x)] r σ Q = (vRf x = true ∧ aw g 117 52 [l0, l1, l2, some (x)] (x :: r) σ Q) := (aw_eq g 117 51 _ _ _ _).trans (by rw [tq117_51]; exact h_load rfl)
theorem tq117_52 : tT g 117 52 = s_store vRf 117 53 1 := rfl
theorem A117_52 {l0 : Option Value} {l1 : Option Value} {l2 : Option Value} {l3 : Option Value} {x : Value} {r : List Value} : aw g 117 52 [l0, l1, l2, l3] (x :: r) σ Q = (vRf x = true ∧ oc l0 = true ∧ aw g 117 53 [l0, some (x), l2, l3] r σ Q) := (aw_eq g 117 52 _ _ _ _).trans (by rw [tq117_52]; exact (h_store (o := oc l0) rfl rfl rfl))
theorem tq117_53 : tT g 117 53 = s_goto 117 10 := rfl
theorem A117_53 {L : AL} {r : List Value} : aw g 117 53 L r σ Q = aw g 117 10 L r σ Q := (aw_eq g 117 53 _ _ _ _).trans (by rw [tq117_53]; exact rfl)
theorem tq117_56 : tT g 117 56 = s_load vRf 117 57 1 := rfl
theorem A117_56 {l0 : Option Value} {l2 : Option Value} {l3 : Option Value} {x : Value} {r : List Value} : aw g 117 56 [l0, some (x), l2, l3] r σ Q = (vRf x = true ∧ aw g 117 57 [l0, some (x), l2, l3] (x :: r) σ Q) := (aw_eq g 117 56 _ _ _ _).trans (by rw [tq117_56]; exact h_load rfl)
theorem tq117_57 : tT g 117 57 = s_ret pR := rfl
theorem A117_57 {L : AL} {v : Value} : aw g 117 57 L [v] σ Q = (pR v ∧ Q (.inl (some v)) σ) := (aw_eq g 117 57 _ _ _ _).trans (by rw [tq117_57]; exact rfl)
theorem tq118_0 : tT g 118 0 = s_load vRf 118 1 1 := rfl
theorem A118_0 {l0 : Option Value} {l2 : Option Value} {x : Value} {r : List Value} : aw g 118 0 [l0, some (x), l2] r σ Q = (vRf x = true ∧ aw g 118 1 [l0, some (x), l2] (x :: r) σ Q) := (aw_eq g 118 0 _ _ _ _).trans (by rw [tq118_0]; exact h_load rfl)
theorem tq118_1 : tT g 118 1 = s_getf 118 4 5 2 := rfl
theorem A118_1 {L : AL} {r : List Value} {a : Nat} : aw g 118 1 L (.ref a :: r) σ Q = (hty σ a = some 5 ∧ aw g 118 4 L (hv σ 5 a 2 :: r) σ Q) := (aw_eq g 118 1 _ _ _ _).trans (by rw [tq118_1]; exact rfl)
theorem tq118_4 : tT g 118 4 = s_callvk 118 7 203 6 [] 1 := rfl
theorem A118_4 {L : AL} {r : List Value} {a : Nat} : aw g 118 4 L (.ref a :: r) σ Q = (hty σ a = some 6 ∧ true = true ∧ csum r ≤ 8 ∧ aw g 203 0 [some (.ref a)] [] σ (kt (aw g) 118 7 L r Q)) := (aw_eq g 118 4 _ _ _ _).trans (by rw [tq118_4]; exact rfl)
theorem tq118_7 : tT g 118 7 = s_store vRf 118 8 2 := rfl
theorem A118_7 {l0 : Option Value} {l1 : Option Value} {l2 : Option Value} {x : Value} {r : List Value} : aw g 118 7 [l0, l1, l2] (x :: r) σ Q = (vRf x = true ∧ oc l1 = true ∧ aw g 118 8 [l0, l1, some (x)] r σ Q) := (aw_eq g 118 7 _ _ _ _).trans (by rw [tq118_7]; exact (h_store (o := oc l1) rfl rfl rfl))
theorem tq118_8 : tT g 118 8 = s_load vRf 118 9 2 := rfl
theorem A118_8 {l0 : Option Value} {l1 : Option Value} {x : Value} {r : List Value} : aw g 118 8 [l0, l1, some (x)] r σ Q = (vRf x = true ∧ aw g 118 9 [l0, l1, some (x)] (x :: r) σ Q) := (aw_eq g 118 8 _ _ _ _).trans (by rw [tq118_8]; exact h_load rfl)
theorem tq118_9 : tT g 118 9 = s_getf 118 12 8 0 := rfl
theorem A118_9 {L : AL} {r : List Value} {a : Nat} : aw g 118 9 L (.ref a :: r) σ Q = (hty σ a = some 8 ∧ aw g 118 12 L (hv σ 8 a 0 :: r) σ Q) := (aw_eq g 118 9 _ _ _ _).trans (by rw [tq118_9]; exact rfl)
theorem tq118_12 : tT g 118 12 = s_tsw 118 (tswf 1 124 [52, 52, 61, 69, 77, 104]) := rfl
theorem A118_12 {L : AL} {r : List Value} {a : Int32} : aw g 118 12 L (.int a :: r) σ Q = aw g 118 (tswf 1 124 [52, 52, 61, 69, 77, 104] a) L r σ Q := (aw_eq g 118 12 _ _ _ _).trans (by rw [tq118_12]; exact rfl)
theorem tq118_52 : tT g 118 52 = s_load vRf 118 53 0 := rfl
theorem A118_52 {l1 : Option Value} {l2 : Option Value} {x : Value} {r : List Value} : aw g 118 52 [some (x), l1, l2] r σ Q = (vRf x = true ∧ aw g 118 53 [some (x), l1, l2] (x :: r) σ Q) := (aw_eq g 118 52 _ _ _ _).trans (by rw [tq118_52]; exact h_load rfl)
theorem tq118_53 : tT g 118 53 = s_load vRf 118 54 1 := rfl
theorem A118_53 {l0 : Option Value} {l2 : Option Value} {x : Value} {r : List Value} : aw g 118 53 [l0, some (x), l2] r σ Q = (vRf x = true ∧ aw g 118 54 [l0, some (x), l2] (x :: r) σ Q) := (aw_eq g 118 53 _ _ _ _).trans (by rw [tq118_53]; exact h_load rfl)
theorem tq118_54 : tT g 118 54 = s_load vRf 118 55 2 := rfl
theorem A118_54 {l0 : Option Value} {l1 : Option Value} {x : Value} {r : List Value} : aw g 118 54 [l0, l1, some (x)] r σ Q = (vRf x = true ∧ aw g 118 55 [l0, l1, some (x)] (x :: r) σ Q) := (aw_eq g 118 54 _ _ _ _).trans (by rw [tq118_54]; exact h_load rfl)
theorem tq118_55 : tT g 118 55 = s_callvk 118 58 119 1 [1, 1] 4 := rfl
theorem A118_55 {L : AL} {r : List Value} {a : Nat} {w0 w1 : Value} : aw g 118 55 L (w1 :: w0 :: .ref a :: r) σ Q = (hty σ a = some 1 ∧ (vRf w0 && (vRf w1 && true)) = true ∧ csum r ≤ 8 ∧ aw g 119 0 [some (.ref a), some w0, some w1, none] [] σ (kt (aw g) 118 58 L r Q)) := (aw_eq g 118 55 _ _ _ _).trans (by rw [tq118_55]; exact rfl)
theorem tq118_58 : tT g 118 58 = s_goto 118 129 := rfl
theorem A118_58 {L : AL} {r : List Value} : aw g 118 58 L r σ Q = aw g 118 129 L r σ Q := (aw_eq g 118 58 _ _ _ _).trans (by rw [tq118_58]; exact rfl)
theorem tq118_61 : tT g 118 61 = s_load vRf 118 62 0 := rfl
theorem A118_61 {l1 : Option Value} {l2 : Option Value} {x : Value} {r : List Value} : aw g 118 61 [some (x), l1, l2] r σ Q = (vRf x = true ∧ aw g 118 62 [some (x), l1, l2] (x :: r) σ Q) := (aw_eq g 118 61 _ _ _ _).trans (by rw [tq118_61]; exact h_load rfl)
theorem tq118_62 : tT g 118 62 = s_load vRf 118 63 1 := rfl
theorem A118_62 {l0 : Option Value} {l2 : Option Value} {x : Value} {r : List Value} : aw g 118 62 [l0, some (x), l2] r σ Q = (vRf x = true ∧ aw g 118 63 [l0, some (x), l2] (x :: r) σ Q) := (aw_eq g 118 62 _ _ _ _).trans (by rw [tq118_62]; exact h_load rfl)
theorem tq118_63 : tT g 118 63 = s_callvk 118 66 123 1 [1] 2 := rfl
theorem A118_63 {L : AL} {r : List Value} {a : Nat} {w0 : Value} : aw g 118 63 L (w0 :: .ref a :: r) σ Q = (hty σ a = some 1 ∧ (vRf w0 && true) = true ∧ csum r ≤ 8 ∧ aw g 123 0 [some (.ref a), some w0] [] σ (kt (aw g) 118 66 L r Q)) := (aw_eq g 118 63 _ _ _ _).trans (by rw [tq118_63]; exact rfl)
theorem tq118_66 : tT g 118 66 = s_goto 118 129 := rfl
theorem A118_66 {L : AL} {r : List Value} : aw g 118 66 L r σ Q = aw g 118 129 L r σ Q := (aw_eq g 118 66 _ _ _ _).trans (by rw [tq118_66]; exact rfl)
theorem tq118_69 : tT g 118 69 = s_load vRf 118 70 0 := rfl
theorem A118_69 {l1 : Option Value} {l2 : Option Value} {x : Value} {r : List Value} : aw g 118 69 [some (x), l1, l2] r σ Q = (vRf x = true ∧ aw g 118 70 [some (x), l1, l2] (x :: r) σ Q) := (aw_eq g 118 69 _ _ _ _).trans (by rw [tq118_69]; exact h_load rfl)
theorem tq118_70 : tT g 118 70 = s_load vRf 118 71 1 := rfl
theorem A118_70 {l0 : Option Value} {l2 : Option Value} {x : Value} {r : List Value} : aw g 118 70 [l0, some (x), l2] r σ Q = (vRf x = true ∧ aw g 118 71 [l0, some (x), l2] (x :: r) σ Q) := (aw_eq g 118 70 _ _ _ _).trans (by rw [tq118_70]; exact h_load rfl)
theorem tq118_71 : tT g 118 71 = s_callvk 118 74 124 1 [1] 3 := rfl
theorem A118_71 {L : AL} {r : List Value} {a : Nat} {w0 : Value} : aw g 118 71 L (w0 :: .ref a :: r) σ Q = (hty σ a = some 1 ∧ (vRf w0 && true) = true ∧ csum r ≤ 8 ∧ aw g 124 0 [some (.ref a), some w0, none] [] σ (kt (aw g) 118 74 L r Q)) := (aw_eq g 118 71 _ _ _ _).trans (by rw [tq118_71]; exact rfl)
theorem tq118_74 : tT g 118 74 = s_goto 118 129 := rfl
theorem A118_74 {L : AL} {r : List Value} : aw g 118 74 L r σ Q = aw g 118 129 L r σ Q := (aw_eq g 118 74 _ _ _ _).trans (by rw [tq118_74]; exact rfl)
theorem tq118_77 : tT g 118 77 = s_load vRf 118 78 1 := rfl
theorem A118_77 {l0 : Option Value} {l2 : Option Value} {x : Value} {r : List Value} : aw g 118 77 [l0, some (x), l2] r σ Q = (vRf x = true ∧ aw g 118 78 [l0, some (x), l2] (x :: r) σ Q) := (aw_eq g 118 77 _ _ _ _).trans (by rw [tq118_77]; exact h_load rfl)
theorem tq118_78 : tT g 118 78 = s_load vRf 118 79 1 := rfl
theorem A118_78 {l0 : Option Value} {l2 : Option Value} {x : Value} {r : List Value} : aw g 118 78 [l0, some (x), l2] r σ Q = (vRf x = true ∧ aw g 118 79 [l0, some (x), l2] (x :: r) σ Q) := (aw_eq g 118 78 _ _ _ _).trans (by rw [tq118_78]; exact h_load rfl)
theorem tq118_79 : tT g 118 79 = s_getf 118 82 5 7 := rfl
theorem A118_79 {L : AL} {r : List Value} {a : Nat} : aw g 118 79 L (.ref a :: r) σ Q = (hty σ a = some 5 ∧ aw g 118 82 L (hv σ 5 a 7 :: r) σ Q) := (aw_eq g 118 79 _ _ _ _).trans (by rw [tq118_79]; exact rfl)
theorem tq118_82 : tT g 118 82 = s_const 118 85 (.int 1000) := rfl
theorem A118_82 {L : AL} {r : List Value} : aw g 118 82 L r σ Q = aw g 118 85 L (.int 1000 :: r) σ Q := (aw_eq g 118 82 _ _ _ _).trans (by rw [tq118_82]; exact rfl)
theorem tq118_85 : tT g 118 85 = s_div 118 86 (fun a b => a - a / b * b) := rfl
theorem A118_85 {L : AL} {r : List Value} {a b : Int32} : aw g 118 85 L (.int b :: .int a :: r) σ Q = (b ≠ 0 ∧ aw g 118 86 L (.int (a - a / b * b) :: r) σ Q) := (aw_eq g 118 85 _ _ _ _).trans (by rw [tq118_85]; exact rfl)
theorem tq118_86 : tT g 118 86 = s_callk 118 89 125 [1, 0] 2 := rfl
theorem A118_86 {L : AL} {r : List Value} {w0 w1 : Value} : aw g 118 86 L (w1 :: w0 :: r) σ Q = ((vRf w0 && (vI w1 && true)) = true ∧ csum r ≤ 8 ∧ aw g 125 0 [some w0, some w1] [] σ (kt (aw g) 118 89 L r Q)) := (aw_eq g 118 86 _ _ _ _).trans (by rw [tq118_86]; exact rfl)
theorem tq118_89 : tT g 118 89 = s_load vRf 118 90 1 := rfl
theorem A118_89 {l0 : Option Value} {l2 : Option Value} {x : Value} {r : List Value} : aw g 118 89 [l0, some (x), l2] r σ Q = (vRf x = true ∧ aw g 118 90 [l0, some (x), l2] (x :: r) σ Q) := (aw_eq g 118 89 _ _ _ _).trans (by rw [tq118_89]; exact h_load rfl)
theorem tq118_90 : tT g 118 90 = s_load vRf 118 91 1 := rfl
theorem A118_90 {l0 : Option Value} {l2 : Option Value} {x : Value} {r : List Value} : aw g 118 90 [l0, some (x), l2] r σ Q = (vRf x = true ∧ aw g 118 91 [l0, some (x), l2] (x :: r) σ Q) := (aw_eq g 118 90 _ _ _ _).trans (by rw [tq118_90]; exact h_load rfl)
theorem tq118_91 : tT g 118 91 = s_getf 118 94 5 7 := rfl
theorem A118_91 {L : AL} {r : List Value} {a : Nat} : aw g 118 91 L (.ref a :: r) σ Q = (hty σ a = some 5 ∧ aw g 118 94 L (hv σ 5 a 7 :: r) σ Q) := (aw_eq g 118 91 _ _ _ _).trans (by rw [tq118_91]; exact rfl)
theorem tq118_94 : tT g 118 94 = s_const 118 97 (.int 1000) := rfl
theorem A118_94 {L : AL} {r : List Value} : aw g 118 94 L r σ Q = aw g 118 97 L (.int 1000 :: r) σ Q := (aw_eq g 118 94 _ _ _ _).trans (by rw [tq118_94]; exact rfl)
theorem tq118_97 : tT g 118 97 = s_div 118 98 (fun a b => a - a / b * b) := rfl
theorem A118_97 {L : AL} {r : List Value} {a b : Int32} : aw g 118 97 L (.int b :: .int a :: r) σ Q = (b ≠ 0 ∧ aw g 118 98 L (.int (a - a / b * b) :: r) σ Q) := (aw_eq g 118 97 _ _ _ _).trans (by rw [tq118_97]; exact rfl)
theorem tq118_98 : tT g 118 98 = s_callk 118 101 120 [1, 0] 2 := rfl
theorem A118_98 {L : AL} {r : List Value} {w0 w1 : Value} : aw g 118 98 L (w1 :: w0 :: r) σ Q = ((vRf w0 && (vI w1 && true)) = true ∧ csum r ≤ 8 ∧ aw g 120 0 [some w0, some w1] [] σ (kt (aw g) 118 101 L r Q)) := (aw_eq g 118 98 _ _ _ _).trans (by rw [tq118_98]; exact rfl)
theorem tq118_101 : tT g 118 101 = s_goto 118 129 := rfl
theorem A118_101 {L : AL} {r : List Value} : aw g 118 101 L r σ Q = aw g 118 129 L r σ Q := (aw_eq g 118 101 _ _ _ _).trans (by rw [tq118_101]; exact rfl)
theorem tq118_104 : tT g 118 104 = s_load vRf 118 105 1 := rfl
theorem A118_104 {l0 : Option Value} {l2 : Option Value} {x : Value} {r : List Value} : aw g 118 104 [l0, some (x), l2] r σ Q = (vRf x = true ∧ aw g 118 105 [l0, some (x), l2] (x :: r) σ Q) := (aw_eq g 118 104 _ _ _ _).trans (by rw [tq118_104]; exact h_load rfl)
theorem tq118_105 : tT g 118 105 = s_const 118 106 (.int 0) := rfl
theorem A118_105 {L : AL} {r : List Value} : aw g 118 105 L r σ Q = aw g 118 106 L (.int 0 :: r) σ Q := (aw_eq g 118 105 _ _ _ _).trans (by rw [tq118_105]; exact rfl)
theorem tq118_106 : tT g 118 106 = s_load vRf 118 107 1 := rfl
theorem A118_106 {l0 : Option Value} {l2 : Option Value} {x : Value} {r : List Value} : aw g 118 106 [l0, some (x), l2] r σ Q = (vRf x = true ∧ aw g 118 107 [l0, some (x), l2] (x :: r) σ Q) := (aw_eq g 118 106 _ _ _ _).trans (by rw [tq118_106]; exact h_load rfl)
theorem tq118_107 : tT g 118 107 = s_getf 118 110 5 9 := rfl
theorem A118_107 {L : AL} {r : List Value} {a : Nat} : aw g 118 107 L (.ref a :: r) σ Q = (hty σ a = some 5 ∧ aw g 118 110 L (hv σ 5 a 9 :: r) σ Q) := (aw_eq g 118 107 _ _ _ _).trans (by rw [tq118_107]; exact rfl)
theorem tq118_110 : tT g 118 110 = s_callk 118 113 35 [0, 0] 2 := rfl
theorem A118_110 {L : AL} {r : List Value} {w0 w1 : Value} : aw g 118 110 L (w1 :: w0 :: r) σ Q = ((vI w0 && (vI w1 && true)) = true ∧ csum r ≤ 8 ∧ aw g 35 0 [some w0, some w1] [] σ (kt (aw g) 118 113 L r Q)) := (aw_eq g 118 110 _ _ _ _).trans (by rw [tq118_110]; exact rfl)
theorem tq118_113 : tT g 118 113 = s_putf g pI 118 116 5 9 := rfl
theorem A118_113 {L : AL} {r : List Value} {a : Nat} {v : Value} : aw g 118 113 L (v :: .ref a :: r) σ Q = (hty σ a = some 5 ∧ gB g ≤ a ∧ pI v ∧ aw g 118 116 L r (hput σ 5 a 9 v) Q) := (aw_eq g 118 113 _ _ _ _).trans (by rw [tq118_113]; exact rfl)
theorem tq118_116 : tT g 118 116 = s_load vRf 118 117 1 := rfl
theorem A118_116 {l0 : Option Value} {l2 : Option Value} {x : Value} {r : List Value} : aw g 118 116 [l0, some (x), l2] r σ Q = (vRf x = true ∧ aw g 118 117 [l0, some (x), l2] (x :: r) σ Q) := (aw_eq g 118 116 _ _ _ _).trans (by rw [tq118_116]; exact h_load rfl)
theorem tq118_117 : tT g 118 117 = s_const 118 118 (.int 0) := rfl
theorem A118_117 {L : AL} {r : List Value} : aw g 118 117 L r σ Q = aw g 118 118 L (.int 0 :: r) σ Q := (aw_eq g 118 117 _ _ _ _).trans (by rw [tq118_117]; exact rfl)
theorem tq118_118 : tT g 118 118 = s_callk 118 121 120 [1, 0] 2 := rfl
theorem A118_118 {L : AL} {r : List Value} {w0 w1 : Value} : aw g 118 118 L (w1 :: w0 :: r) σ Q = ((vRf w0 && (vI w1 && true)) = true ∧ csum r ≤ 8 ∧ aw g 120 0 [some w0, some w1] [] σ (kt (aw g) 118 121 L r Q)) := (aw_eq g 118 118 _ _ _ _).trans (by rw [tq118_118]; exact rfl)
theorem tq118_121 : tT g 118 121 = s_goto 118 129 := rfl
theorem A118_121 {L : AL} {r : List Value} : aw g 118 121 L r σ Q = aw g 118 129 L r σ Q := (aw_eq g 118 121 _ _ _ _).trans (by rw [tq118_121]; exact rfl)
theorem tq118_124 : tT g 118 124 = s_load vRf 118 125 1 := rfl
theorem A118_124 {l0 : Option Value} {l2 : Option Value} {x : Value} {r : List Value} : aw g 118 124 [l0, some (x), l2] r σ Q = (vRf x = true ∧ aw g 118 125 [l0, some (x), l2] (x :: r) σ Q) := (aw_eq g 118 124 _ _ _ _).trans (by rw [tq118_124]; exact h_load rfl)
theorem tq118_125 : tT g 118 125 = s_const 118 126 (.int 0) := rfl
theorem A118_125 {L : AL} {r : List Value} : aw g 118 125 L r σ Q = aw g 118 126 L (.int 0 :: r) σ Q := (aw_eq g 118 125 _ _ _ _).trans (by rw [tq118_125]; exact rfl)
theorem tq118_126 : tT g 118 126 = s_callk 118 129 120 [1, 0] 2 := rfl
theorem A118_126 {L : AL} {r : List Value} {w0 w1 : Value} : aw g 118 126 L (w1 :: w0 :: r) σ Q = ((vRf w0 && (vI w1 && true)) = true ∧ csum r ≤ 8 ∧ aw g 120 0 [some w0, some w1] [] σ (kt (aw g) 118 129 L r Q)) := (aw_eq g 118 126 _ _ _ _).trans (by rw [tq118_126]; exact rfl)
theorem tq118_129 : tT g 118 129 = s_vret := rfl
theorem A118_129 {L : AL} : aw g 118 129 L [] σ Q = Q (.inl none) σ := (aw_eq g 118 129 _ _ _ _).trans (by rw [tq118_129]; exact rfl)
theorem tq119_0 : tT g 119 0 = s_load vRf 119 1 0 := rfl
theorem A119_0 {l1 : Option Value} {l2 : Option Value} {l3 : Option Value} {x : Value} {r : List Value} : aw g 119 0 [some (x), l1, l2, l3] r σ Q = (vRf x = true ∧ aw g 119 1 [some (x), l1, l2, l3] (x :: r) σ Q) := (aw_eq g 119 0 _ _ _ _).trans (by rw [tq119_0]; exact h_load rfl)
theorem tq119_1 : tT g 119 1 = s_load vRf 119 2 1 := rfl
theorem A119_1 {l0 : Option Value} {l2 : Option Value} {l3 : Option Value} {x : Value} {r : List Value} : aw g 119 1 [l0, some (x), l2, l3] r σ Q = (vRf x = true ∧ aw g 119 2 [l0, some (x), l2, l3] (x :: r) σ Q) := (aw_eq g 119 1 _ _ _ _).trans (by rw [tq119_1]; exact h_load rfl)
theorem tq119_2 : tT g 119 2 = s_load vRf 119 3 2 := rfl
theorem A119_2 {l0 : Option Value} {l1 : Option Value} {l3 : Option Value} {x : Value} {r : List Value} : aw g 119 2 [l0, l1, some (x), l3] r σ Q = (vRf x = true ∧ aw g 119 3 [l0, l1, some (x), l3] (x :: r) σ Q) := (aw_eq g 119 2 _ _ _ _).trans (by rw [tq119_2]; exact h_load rfl)
theorem tq119_3 : tT g 119 3 = s_getf 119 6 8 1 := rfl
theorem A119_3 {L : AL} {r : List Value} {a : Nat} : aw g 119 3 L (.ref a :: r) σ Q = (hty σ a = some 8 ∧ aw g 119 6 L (hv σ 8 a 1 :: r) σ Q) := (aw_eq g 119 3 _ _ _ _).trans (by rw [tq119_3]; exact rfl)
theorem tq119_6 : tT g 119 6 = s_callvk 119 9 111 1 [1, 0] 5 := rfl
theorem A119_6 {L : AL} {r : List Value} {a : Nat} {w0 w1 : Value} : aw g 119 6 L (w1 :: w0 :: .ref a :: r) σ Q = (hty σ a = some 1 ∧ (vRf w0 && (vI w1 && true)) = true ∧ csum r ≤ 8 ∧ aw g 111 0 [some (.ref a), some w0, some w1, none, none] [] σ (kt (aw g) 119 9 L r Q)) := (aw_eq g 119 6 _ _ _ _).trans (by rw [tq119_6]; exact rfl)
theorem tq119_9 : tT g 119 9 = s_store vRf 119 10 3 := rfl
theorem A119_9 {l0 : Option Value} {l1 : Option Value} {l2 : Option Value} {l3 : Option Value} {x : Value} {r : List Value} : aw g 119 9 [l0, l1, l2, l3] (x :: r) σ Q = (vRf x = true ∧ oc l2 = true ∧ aw g 119 10 [l0, l1, l2, some (x)] r σ Q) := (aw_eq g 119 9 _ _ _ _).trans (by rw [tq119_9]; exact (h_store (o := oc l2) rfl rfl rfl))
theorem tq119_10 : tT g 119 10 = s_load vRf 119 11 3 := rfl
theorem A119_10 {l0 : Option Value} {l1 : Option Value} {l2 : Option Value} {x : Value} {r : List Value} : aw g 119 10 [l0, l1, l2, some (x)] r σ Q = (vRf x = true ∧ aw g 119 11 [l0, l1, l2, some (x)] (x :: r) σ Q) := (aw_eq g 119 10 _ _ _ _).trans (by rw [tq119_10]; exact h_load rfl)
theorem tq119_11 : tT g 119 11 = s_ifnull 119 14 55 := rfl
theorem A119_11 {L : AL} {r : List Value} {a : Value} : aw g 119 11 L (a :: r) σ Q = (vRf a = true ∧ (a = .null → aw g 119 55 L r σ Q) ∧ (a ≠ .null → aw g 119 14 L r σ Q)) := (aw_eq g 119 11 _ _ _ _).trans (by rw [tq119_11]; exact rfl)
theorem tq119_14 : tT g 119 14 = s_load vRf 119 15 3 := rfl
theorem A119_14 {l0 : Option Value} {l1 : Option Value} {l2 : Option Value} {x : Value} {r : List Value} : aw g 119 14 [l0, l1, l2, some (x)] r σ Q = (vRf x = true ∧ aw g 119 15 [l0, l1, l2, some (x)] (x :: r) σ Q) := (aw_eq g 119 14 _ _ _ _).trans (by rw [tq119_14]; exact h_load rfl)
theorem tq119_15 : tT g 119 15 = s_load vRf 119 16 0 := rfl
theorem A119_15 {l1 : Option Value} {l2 : Option Value} {l3 : Option Value} {x : Value} {r : List Value} : aw g 119 15 [some (x), l1, l2, l3] r σ Q = (vRf x = true ∧ aw g 119 16 [some (x), l1, l2, l3] (x :: r) σ Q) := (aw_eq g 119 15 _ _ _ _).trans (by rw [tq119_15]; exact h_load rfl)
theorem tq119_16 : tT g 119 16 = s_getf 119 19 1 2 := rfl
theorem A119_16 {L : AL} {r : List Value} {a : Nat} : aw g 119 16 L (.ref a :: r) σ Q = (hty σ a = some 1 ∧ aw g 119 19 L (hv σ 1 a 2 :: r) σ Q) := (aw_eq g 119 16 _ _ _ _).trans (by rw [tq119_16]; exact rfl)
theorem tq119_19 : tT g 119 19 = s_putf g pI 119 22 2 2 := rfl
theorem A119_19 {L : AL} {r : List Value} {a : Nat} {v : Value} : aw g 119 19 L (v :: .ref a :: r) σ Q = (hty σ a = some 2 ∧ gB g ≤ a ∧ pI v ∧ aw g 119 22 L r (hput σ 2 a 2 v) Q) := (aw_eq g 119 19 _ _ _ _).trans (by rw [tq119_19]; exact rfl)
theorem tq119_22 : tT g 119 22 = s_load vRf 119 23 2 := rfl
theorem A119_22 {l0 : Option Value} {l1 : Option Value} {l3 : Option Value} {x : Value} {r : List Value} : aw g 119 22 [l0, l1, some (x), l3] r σ Q = (vRf x = true ∧ aw g 119 23 [l0, l1, some (x), l3] (x :: r) σ Q) := (aw_eq g 119 22 _ _ _ _).trans (by rw [tq119_22]; exact h_load rfl)
theorem tq119_23 : tT g 119 23 = s_getf 119 26 8 0 := rfl
theorem A119_23 {L : AL} {r : List Value} {a : Nat} : aw g 119 23 L (.ref a :: r) σ Q = (hty σ a = some 8 ∧ aw g 119 26 L (hv σ 8 a 0 :: r) σ Q) := (aw_eq g 119 23 _ _ _ _).trans (by rw [tq119_23]; exact rfl)
theorem tq119_26 : tT g 119 26 = s_const 119 27 (.int 2) := rfl
theorem A119_26 {L : AL} {r : List Value} : aw g 119 26 L r σ Q = aw g 119 27 L (.int 2 :: r) σ Q := (aw_eq g 119 26 _ _ _ _).trans (by rw [tq119_26]; exact rfl)
theorem tq119_27 : tT g 119 27 = s_icmp 119 47 30 (fun a b => a = b) := rfl
theorem A119_27 {L : AL} {r : List Value} {a b : Int32} : aw g 119 27 L (.int b :: .int a :: r) σ Q = ((a = b → aw g 119 30 L r σ Q) ∧ (¬ a = b → aw g 119 47 L r σ Q)) := (aw_eq g 119 27 _ _ _ _).trans (by rw [tq119_27]; exact rfl)
theorem tq119_30 : tT g 119 30 = s_load vRf 119 31 1 := rfl
theorem A119_30 {l0 : Option Value} {l2 : Option Value} {l3 : Option Value} {x : Value} {r : List Value} : aw g 119 30 [l0, some (x), l2, l3] r σ Q = (vRf x = true ∧ aw g 119 31 [l0, some (x), l2, l3] (x :: r) σ Q) := (aw_eq g 119 30 _ _ _ _).trans (by rw [tq119_30]; exact h_load rfl)
theorem tq119_31 : tT g 119 31 = s_callvk 119 34 194 5 [] 1 := rfl
theorem A119_31 {L : AL} {r : List Value} {a : Nat} : aw g 119 31 L (.ref a :: r) σ Q = (hty σ a = some 5 ∧ true = true ∧ csum r ≤ 8 ∧ aw g 194 0 [some (.ref a)] [] σ (kt (aw g) 119 34 L r Q)) := (aw_eq g 119 31 _ _ _ _).trans (by rw [tq119_31]; exact rfl)
theorem tq119_34 : tT g 119 34 = s_if 119 37 47 (fun a => a = 0) := rfl
theorem A119_34 {L : AL} {r : List Value} {a : Int32} : aw g 119 34 L (.int a :: r) σ Q = ((a = 0 → aw g 119 47 L r σ Q) ∧ (¬ a = 0 → aw g 119 37 L r σ Q)) := (aw_eq g 119 34 _ _ _ _).trans (by rw [tq119_34]; exact rfl)
theorem tq119_37 : tT g 119 37 = s_load vRf 119 38 1 := rfl
theorem A119_37 {l0 : Option Value} {l2 : Option Value} {l3 : Option Value} {x : Value} {r : List Value} : aw g 119 37 [l0, some (x), l2, l3] r σ Q = (vRf x = true ∧ aw g 119 38 [l0, some (x), l2, l3] (x :: r) σ Q) := (aw_eq g 119 37 _ _ _ _).trans (by rw [tq119_37]; exact h_load rfl)
theorem tq119_38 : tT g 119 38 = s_getf 119 41 5 16 := rfl
theorem A119_38 {L : AL} {r : List Value} {a : Nat} : aw g 119 38 L (.ref a :: r) σ Q = (hty σ a = some 5 ∧ aw g 119 41 L (hv σ 5 a 16 :: r) σ Q) := (aw_eq g 119 38 _ _ _ _).trans (by rw [tq119_38]; exact rfl)
theorem tq119_41 : tT g 119 41 = s_load vRf 119 42 2 := rfl
theorem A119_41 {l0 : Option Value} {l1 : Option Value} {l3 : Option Value} {x : Value} {r : List Value} : aw g 119 41 [l0, l1, some (x), l3] r σ Q = (vRf x = true ∧ aw g 119 42 [l0, l1, some (x), l3] (x :: r) σ Q) := (aw_eq g 119 41 _ _ _ _).trans (by rw [tq119_41]; exact h_load rfl)
theorem tq119_42 : tT g 119 42 = s_getf 119 45 8 1 := rfl
theorem A119_42 {L : AL} {r : List Value} {a : Nat} : aw g 119 42 L (.ref a :: r) σ Q = (hty σ a = some 8 ∧ aw g 119 45 L (hv σ 8 a 1 :: r) σ Q) := (aw_eq g 119 42 _ _ _ _).trans (by rw [tq119_42]; exact rfl)
theorem tq119_45 : tT g 119 45 = s_const 119 46 (.int 1) := rfl
theorem A119_45 {L : AL} {r : List Value} : aw g 119 45 L r σ Q = aw g 119 46 L (.int 1 :: r) σ Q := (aw_eq g 119 45 _ _ _ _).trans (by rw [tq119_45]; exact rfl)
theorem tq119_46 : tT g 119 46 = s_ast g (fun _ v => vZ v) 119 47 21 := rfl
theorem A119_46 {L : AL} {r : List Value} {a : Nat} {i : Int32} {v : Value} : aw g 119 46 L (v :: .int i :: .ref a :: r) σ Q = (hty σ a = some 21 ∧ gB g ≤ a ∧ ¬ i < 0 ∧ i.toNatClampNeg < hln σ a ∧ vZ v ∧ aw g 119 47 L r (hput σ 21 a i.toNatClampNeg v) Q) := (aw_eq g 119 46 _ _ _ _).trans (by rw [tq119_46]; exact rfl)
theorem tq119_47 : tT g 119 47 = s_load vRf 119 48 1 := rfl
theorem A119_47 {l0 : Option Value} {l2 : Option Value} {l3 : Option Value} {x : Value} {r : List Value} : aw g 119 47 [l0, some (x), l2, l3] r σ Q = (vRf x = true ∧ aw g 119 48 [l0, some (x), l2, l3] (x :: r) σ Q) := (aw_eq g 119 47 _ _ _ _).trans (by rw [tq119_47]; exact h_load rfl)
theorem tq119_48 : tT g 119 48 = s_const 119 49 (.int 0) := rfl
theorem A119_48 {L : AL} {r : List Value} : aw g 119 48 L r σ Q = aw g 119 49 L (.int 0 :: r) σ Q := (aw_eq g 119 48 _ _ _ _).trans (by rw [tq119_48]; exact rfl)
theorem tq119_49 : tT g 119 49 = s_callk 119 52 120 [1, 0] 2 := rfl
theorem A119_49 {L : AL} {r : List Value} {w0 w1 : Value} : aw g 119 49 L (w1 :: w0 :: r) σ Q = ((vRf w0 && (vI w1 && true)) = true ∧ csum r ≤ 8 ∧ aw g 120 0 [some w0, some w1] [] σ (kt (aw g) 119 52 L r Q)) := (aw_eq g 119 49 _ _ _ _).trans (by rw [tq119_49]; exact rfl)
theorem tq119_52 : tT g 119 52 = s_goto 119 109 := rfl
theorem A119_52 {L : AL} {r : List Value} : aw g 119 52 L r σ Q = aw g 119 109 L r σ Q := (aw_eq g 119 52 _ _ _ _).trans (by rw [tq119_52]; exact rfl)
theorem tq119_55 : tT g 119 55 = s_load vRf 119 56 1 := rfl
theorem A119_55 {l0 : Option Value} {l2 : Option Value} {l3 : Option Value} {x : Value} {r : List Value} : aw g 119 55 [l0, some (x), l2, l3] r σ Q = (vRf x = true ∧ aw g 119 56 [l0, some (x), l2, l3] (x :: r) σ Q) := (aw_eq g 119 55 _ _ _ _).trans (by rw [tq119_55]; exact h_load rfl)
theorem tq119_56 : tT g 119 56 = s_getf 119 59 5 15 := rfl
theorem A119_56 {L : AL} {r : List Value} {a : Nat} : aw g 119 56 L (.ref a :: r) σ Q = (hty σ a = some 5 ∧ aw g 119 59 L (hv σ 5 a 15 :: r) σ Q) := (aw_eq g 119 56 _ _ _ _).trans (by rw [tq119_56]; exact rfl)
theorem tq119_59 : tT g 119 59 = s_load vRf 119 60 2 := rfl
theorem A119_59 {l0 : Option Value} {l1 : Option Value} {l3 : Option Value} {x : Value} {r : List Value} : aw g 119 59 [l0, l1, some (x), l3] r σ Q = (vRf x = true ∧ aw g 119 60 [l0, l1, some (x), l3] (x :: r) σ Q) := (aw_eq g 119 59 _ _ _ _).trans (by rw [tq119_59]; exact h_load rfl)
theorem tq119_60 : tT g 119 60 = s_getf 119 63 8 1 := rfl
theorem A119_60 {L : AL} {r : List Value} {a : Nat} : aw g 119 60 L (.ref a :: r) σ Q = (hty σ a = some 8 ∧ aw g 119 63 L (hv σ 8 a 1 :: r) σ Q) := (aw_eq g 119 60 _ _ _ _).trans (by rw [tq119_60]; exact rfl)
theorem tq119_63 : tT g 119 63 = s_ald 119 64 21 := rfl
theorem A119_63 {L : AL} {r : List Value} {a : Nat} {i : Int32} : aw g 119 63 L (.int i :: .ref a :: r) σ Q = (hty σ a = some 21 ∧ ¬ i < 0 ∧ i.toNatClampNeg < hln σ a ∧ aw g 119 64 L (hv σ 21 a i.toNatClampNeg :: r) σ Q) := (aw_eq g 119 63 _ _ _ _).trans (by rw [tq119_63]; exact rfl)
theorem tq119_64 : tT g 119 64 = s_if 119 67 90 (fun a => a = 0) := rfl
theorem A119_64 {L : AL} {r : List Value} {a : Int32} : aw g 119 64 L (.int a :: r) σ Q = ((a = 0 → aw g 119 90 L r σ Q) ∧ (¬ a = 0 → aw g 119 67 L r σ Q)) := (aw_eq g 119 64 _ _ _ _).trans (by rw [tq119_64]; exact rfl)
theorem tq119_67 : tT g 119 67 = s_load vRf 119 68 1 := rfl
theorem A119_67 {l0 : Option Value} {l2 : Option Value} {l3 : Option Value} {x : Value} {r : List Value} : aw g 119 67 [l0, some (x), l2, l3] r σ Q = (vRf x = true ∧ aw g 119 68 [l0, some (x), l2, l3] (x :: r) σ Q) := (aw_eq g 119 67 _ _ _ _).trans (by rw [tq119_67]; exact h_load rfl)
theorem tq119_68 : tT g 119 68 = s_getf 119 71 5 13 := rfl
theorem A119_68 {L : AL} {r : List Value} {a : Nat} : aw g 119 68 L (.ref a :: r) σ Q = (hty σ a = some 5 ∧ aw g 119 71 L (hv σ 5 a 13 :: r) σ Q) := (aw_eq g 119 68 _ _ _ _).trans (by rw [tq119_68]; exact rfl)
theorem tq119_71 : tT g 119 71 = s_const 119 72 (.int 3) := rfl
theorem A119_71 {L : AL} {r : List Value} : aw g 119 71 L r σ Q = aw g 119 72 L (.int 3 :: r) σ Q := (aw_eq g 119 71 _ _ _ _).trans (by rw [tq119_71]; exact rfl)
theorem tq119_72 : tT g 119 72 = s_dup2 119 73 := rfl
theorem A119_72 {L : AL} {r : List Value} {v w : Value} : aw g 119 72 L (v :: w :: r) σ Q = (v.category = 1 ∧ w.category = 1 ∧ aw g 119 73 L (v :: w :: v :: w :: r) σ Q) := (aw_eq g 119 72 _ _ _ _).trans (by rw [tq119_72]; exact rfl)
theorem tq119_73 : tT g 119 73 = s_ald 119 74 20 := rfl
theorem A119_73 {L : AL} {r : List Value} {a : Nat} {i : Int32} : aw g 119 73 L (.int i :: .ref a :: r) σ Q = (hty σ a = some 20 ∧ ¬ i < 0 ∧ i.toNatClampNeg < hln σ a ∧ aw g 119 74 L (hv σ 20 a i.toNatClampNeg :: r) σ Q) := (aw_eq g 119 73 _ _ _ _).trans (by rw [tq119_73]; exact rfl)
theorem tq119_74 : tT g 119 74 = s_const 119 75 (.int 1) := rfl
theorem A119_74 {L : AL} {r : List Value} : aw g 119 74 L r σ Q = aw g 119 75 L (.int 1 :: r) σ Q := (aw_eq g 119 74 _ _ _ _).trans (by rw [tq119_74]; exact rfl)
theorem tq119_75 : tT g 119 75 = s_bin 119 76 (fun a b => a + b) := rfl
theorem A119_75 {L : AL} {r : List Value} {a b : Int32} : aw g 119 75 L (.int b :: .int a :: r) σ Q = aw g 119 76 L (.int (a + b) :: r) σ Q := (aw_eq g 119 75 _ _ _ _).trans (by rw [tq119_75]; exact rfl)
theorem tq119_76 : tT g 119 76 = s_ast g (fun _ v => vI v = true) 119 77 20 := rfl
theorem A119_76 {L : AL} {r : List Value} {a : Nat} {i : Int32} {v : Value} : aw g 119 76 L (v :: .int i :: .ref a :: r) σ Q = (hty σ a = some 20 ∧ gB g ≤ a ∧ ¬ i < 0 ∧ i.toNatClampNeg < hln σ a ∧ vI v = true ∧ aw g 119 77 L r (hput σ 20 a i.toNatClampNeg v) Q) := (aw_eq g 119 76 _ _ _ _).trans (by rw [tq119_76]; exact rfl)
theorem tq119_77 : tT g 119 77 = s_load vRf 119 78 1 := rfl
theorem A119_77 {l0 : Option Value} {l2 : Option Value} {l3 : Option Value} {x : Value} {r : List Value} : aw g 119 77 [l0, some (x), l2, l3] r σ Q = (vRf x = true ∧ aw g 119 78 [l0, some (x), l2, l3] (x :: r) σ Q) := (aw_eq g 119 77 _ _ _ _).trans (by rw [tq119_77]; exact h_load rfl)
theorem tq119_78 : tT g 119 78 = s_getf 119 81 5 15 := rfl
theorem A119_78 {L : AL} {r : List Value} {a : Nat} : aw g 119 78 L (.ref a :: r) σ Q = (hty σ a = some 5 ∧ aw g 119 81 L (hv σ 5 a 15 :: r) σ Q) := (aw_eq g 119 78 _ _ _ _).trans (by rw [tq119_78]; exact rfl)
theorem tq119_81 : tT g 119 81 = s_load vRf 119 82 2 := rfl
theorem A119_81 {l0 : Option Value} {l1 : Option Value} {l3 : Option Value} {x : Value} {r : List Value} : aw g 119 81 [l0, l1, some (x), l3] r σ Q = (vRf x = true ∧ aw g 119 82 [l0, l1, some (x), l3] (x :: r) σ Q) := (aw_eq g 119 81 _ _ _ _).trans (by rw [tq119_81]; exact h_load rfl)
theorem tq119_82 : tT g 119 82 = s_getf 119 85 8 1 := rfl
theorem A119_82 {L : AL} {r : List Value} {a : Nat} : aw g 119 82 L (.ref a :: r) σ Q = (hty σ a = some 8 ∧ aw g 119 85 L (hv σ 8 a 1 :: r) σ Q) := (aw_eq g 119 82 _ _ _ _).trans (by rw [tq119_82]; exact rfl)
theorem tq119_85 : tT g 119 85 = s_const 119 86 (.int 0) := rfl
theorem A119_85 {L : AL} {r : List Value} : aw g 119 85 L r σ Q = aw g 119 86 L (.int 0 :: r) σ Q := (aw_eq g 119 85 _ _ _ _).trans (by rw [tq119_85]; exact rfl)
theorem tq119_86 : tT g 119 86 = s_ast g (fun _ v => vZ v) 119 87 21 := rfl
theorem A119_86 {L : AL} {r : List Value} {a : Nat} {i : Int32} {v : Value} : aw g 119 86 L (v :: .int i :: .ref a :: r) σ Q = (hty σ a = some 21 ∧ gB g ≤ a ∧ ¬ i < 0 ∧ i.toNatClampNeg < hln σ a ∧ vZ v ∧ aw g 119 87 L r (hput σ 21 a i.toNatClampNeg v) Q) := (aw_eq g 119 86 _ _ _ _).trans (by rw [tq119_86]; exact rfl)
theorem tq119_87 : tT g 119 87 = s_goto 119 109 := rfl
theorem A119_87 {L : AL} {r : List Value} : aw g 119 87 L r σ Q = aw g 119 109 L r σ Q := (aw_eq g 119 87 _ _ _ _).trans (by rw [tq119_87]; exact rfl)
theorem tq119_90 : tT g 119 90 = s_load vRf 119 91 1 := rfl
theorem A119_90 {l0 : Option Value} {l2 : Option Value} {l3 : Option Value} {x : Value} {r : List Value} : aw g 119 90 [l0, some (x), l2, l3] r σ Q = (vRf x = true ∧ aw g 119 91 [l0, some (x), l2, l3] (x :: r) σ Q) := (aw_eq g 119 90 _ _ _ _).trans (by rw [tq119_90]; exact h_load rfl)
theorem tq119_91 : tT g 119 91 = s_getf 119 94 5 13 := rfl
theorem A119_91 {L : AL} {r : List Value} {a : Nat} : aw g 119 91 L (.ref a :: r) σ Q = (hty σ a = some 5 ∧ aw g 119 94 L (hv σ 5 a 13 :: r) σ Q) := (aw_eq g 119 91 _ _ _ _).trans (by rw [tq119_91]; exact rfl)
theorem tq119_94 : tT g 119 94 = s_const 119 95 (.int 0) := rfl
theorem A119_94 {L : AL} {r : List Value} : aw g 119 94 L r σ Q = aw g 119 95 L (.int 0 :: r) σ Q := (aw_eq g 119 94 _ _ _ _).trans (by rw [tq119_94]; exact rfl)
theorem tq119_95 : tT g 119 95 = s_dup2 119 96 := rfl
theorem A119_95 {L : AL} {r : List Value} {v w : Value} : aw g 119 95 L (v :: w :: r) σ Q = (v.category = 1 ∧ w.category = 1 ∧ aw g 119 96 L (v :: w :: v :: w :: r) σ Q) := (aw_eq g 119 95 _ _ _ _).trans (by rw [tq119_95]; exact rfl)
theorem tq119_96 : tT g 119 96 = s_ald 119 97 20 := rfl
theorem A119_96 {L : AL} {r : List Value} {a : Nat} {i : Int32} : aw g 119 96 L (.int i :: .ref a :: r) σ Q = (hty σ a = some 20 ∧ ¬ i < 0 ∧ i.toNatClampNeg < hln σ a ∧ aw g 119 97 L (hv σ 20 a i.toNatClampNeg :: r) σ Q) := (aw_eq g 119 96 _ _ _ _).trans (by rw [tq119_96]; exact rfl)
theorem tq119_97 : tT g 119 97 = s_const 119 98 (.int 1) := rfl
theorem A119_97 {L : AL} {r : List Value} : aw g 119 97 L r σ Q = aw g 119 98 L (.int 1 :: r) σ Q := (aw_eq g 119 97 _ _ _ _).trans (by rw [tq119_97]; exact rfl)
theorem tq119_98 : tT g 119 98 = s_bin 119 99 (fun a b => a + b) := rfl
theorem A119_98 {L : AL} {r : List Value} {a b : Int32} : aw g 119 98 L (.int b :: .int a :: r) σ Q = aw g 119 99 L (.int (a + b) :: r) σ Q := (aw_eq g 119 98 _ _ _ _).trans (by rw [tq119_98]; exact rfl)
theorem tq119_99 : tT g 119 99 = s_ast g (fun _ v => vI v = true) 119 100 20 := rfl
theorem A119_99 {L : AL} {r : List Value} {a : Nat} {i : Int32} {v : Value} : aw g 119 99 L (v :: .int i :: .ref a :: r) σ Q = (hty σ a = some 20 ∧ gB g ≤ a ∧ ¬ i < 0 ∧ i.toNatClampNeg < hln σ a ∧ vI v = true ∧ aw g 119 100 L r (hput σ 20 a i.toNatClampNeg v) Q) := (aw_eq g 119 99 _ _ _ _).trans (by rw [tq119_99]; exact rfl)
theorem tq119_100 : tT g 119 100 = s_load vRf 119 101 0 := rfl
theorem A119_100 {l1 : Option Value} {l2 : Option Value} {l3 : Option Value} {x : Value} {r : List Value} : aw g 119 100 [some (x), l1, l2, l3] r σ Q = (vRf x = true ∧ aw g 119 101 [some (x), l1, l2, l3] (x :: r) σ Q) := (aw_eq g 119 100 _ _ _ _).trans (by rw [tq119_100]; exact h_load rfl)
theorem tq119_101 : tT g 119 101 = s_load vRf 119 102 1 := rfl
theorem A119_101 {l0 : Option Value} {l2 : Option Value} {l3 : Option Value} {x : Value} {r : List Value} : aw g 119 101 [l0, some (x), l2, l3] r σ Q = (vRf x = true ∧ aw g 119 102 [l0, some (x), l2, l3] (x :: r) σ Q) := (aw_eq g 119 101 _ _ _ _).trans (by rw [tq119_101]; exact h_load rfl)
theorem tq119_102 : tT g 119 102 = s_load vRf 119 103 2 := rfl
theorem A119_102 {l0 : Option Value} {l1 : Option Value} {l3 : Option Value} {x : Value} {r : List Value} : aw g 119 102 [l0, l1, some (x), l3] r σ Q = (vRf x = true ∧ aw g 119 103 [l0, l1, some (x), l3] (x :: r) σ Q) := (aw_eq g 119 102 _ _ _ _).trans (by rw [tq119_102]; exact h_load rfl)
theorem tq119_103 : tT g 119 103 = s_getf 119 106 8 1 := rfl
theorem A119_103 {L : AL} {r : List Value} {a : Nat} : aw g 119 103 L (.ref a :: r) σ Q = (hty σ a = some 8 ∧ aw g 119 106 L (hv σ 8 a 1 :: r) σ Q) := (aw_eq g 119 103 _ _ _ _).trans (by rw [tq119_103]; exact rfl)
theorem tq119_106 : tT g 119 106 = s_callvk 119 109 121 1 [1, 0] 3 := rfl
theorem A119_106 {L : AL} {r : List Value} {a : Nat} {w0 w1 : Value} : aw g 119 106 L (w1 :: w0 :: .ref a :: r) σ Q = (hty σ a = some 1 ∧ (vRf w0 && (vI w1 && true)) = true ∧ csum r ≤ 8 ∧ aw g 121 0 [some (.ref a), some w0, some w1] [] σ (kt (aw g) 119 109 L r Q)) := (aw_eq g 119 106 _ _ _ _).trans (by rw [tq119_106]; exact rfl)
theorem tq119_109 : tT g 119 109 = s_vret := rfl
theorem A119_109 {L : AL} : aw g 119 109 L [] σ Q = Q (.inl none) σ := (aw_eq g 119 109 _ _ _ _).trans (by rw [tq119_109]; exact rfl)
theorem tq120_0 : tT g 120 0 = s_load vRf 120 1 0 := rfl
theorem A120_0 {l1 : Option Value} {x : Value} {r : List Value} : aw g 120 0 [some (x), l1] r σ Q = (vRf x = true ∧ aw g 120 1 [some (x), l1] (x :: r) σ Q) := (aw_eq g 120 0 _ _ _ _).trans (by rw [tq120_0]; exact h_load rfl)
theorem tq120_1 : tT g 120 1 = s_getf 120 4 5 2 := rfl
theorem A120_1 {L : AL} {r : List Value} {a : Nat} : aw g 120 1 L (.ref a :: r) σ Q = (hty σ a = some 5 ∧ aw g 120 4 L (hv σ 5 a 2 :: r) σ Q) := (aw_eq g 120 1 _ _ _ _).trans (by rw [tq120_1]; exact rfl)
theorem tq120_4 : tT g 120 4 = s_load vI 120 5 1 := rfl
theorem A120_4 {l0 : Option Value} {x : Int32} {r : List Value} : aw g 120 4 [l0, some (.int x)] r σ Q = aw g 120 5 [l0, some (.int x)] (.int x :: r) σ Q := (aw_eq g 120 4 _ _ _ _).trans (by rw [tq120_4]; exact (h_load rfl).trans (propext ⟨fun z => z.2, fun z => ⟨rfl, z⟩⟩))
theorem tq120_5 : tT g 120 5 = s_callvk 120 8 204 6 [0] 3 := rfl
theorem A120_5 {L : AL} {r : List Value} {a : Nat} {w0 : Value} : aw g 120 5 L (w0 :: .ref a :: r) σ Q = (hty σ a = some 6 ∧ (vI w0 && true) = true ∧ csum r ≤ 8 ∧ aw g 204 0 [some (.ref a), some w0, none] [] σ (kt (aw g) 120 8 L r Q)) := (aw_eq g 120 5 _ _ _ _).trans (by rw [tq120_5]; exact rfl)
theorem tq120_8 : tT g 120 8 = s_load vRf 120 9 0 := rfl
theorem A120_8 {l1 : Option Value} {x : Value} {r : List Value} : aw g 120 8 [some (x), l1] r σ Q = (vRf x = true ∧ aw g 120 9 [some (x), l1] (x :: r) σ Q) := (aw_eq g 120 8 _ _ _ _).trans (by rw [tq120_8]; exact h_load rfl)
theorem tq120_9 : tT g 120 9 = s_dup 120 10 := rfl
theorem A120_9 {L : AL} {r : List Value} {v : Value} : aw g 120 9 L (v :: r) σ Q = (v.category = 1 ∧ aw g 120 10 L (v :: v :: r) σ Q) := (aw_eq g 120 9 _ _ _ _).trans (by rw [tq120_9]; exact rfl)
theorem tq120_10 : tT g 120 10 = s_getf 120 13 5 10 := rfl
theorem A120_10 {L : AL} {r : List Value} {a : Nat} : aw g 120 10 L (.ref a :: r) σ Q = (hty σ a = some 5 ∧ aw g 120 13 L (hv σ 5 a 10 :: r) σ Q) := (aw_eq g 120 10 _ _ _ _).trans (by rw [tq120_10]; exact rfl)
theorem tq120_13 : tT g 120 13 = s_const 120 14 (.int 1) := rfl
theorem A120_13 {L : AL} {r : List Value} : aw g 120 13 L r σ Q = aw g 120 14 L (.int 1 :: r) σ Q := (aw_eq g 120 13 _ _ _ _).trans (by rw [tq120_13]; exact rfl)
theorem tq120_14 : tT g 120 14 = s_bin 120 15 (fun a b => a + b) := rfl
theorem A120_14 {L : AL} {r : List Value} {a b : Int32} : aw g 120 14 L (.int b :: .int a :: r) σ Q = aw g 120 15 L (.int (a + b) :: r) σ Q := (aw_eq g 120 14 _ _ _ _).trans (by rw [tq120_14]; exact rfl)
theorem tq120_15 : tT g 120 15 = s_putf g pI 120 18 5 10 := rfl
theorem A120_15 {L : AL} {r : List Value} {a : Nat} {v : Value} : aw g 120 15 L (v :: .ref a :: r) σ Q = (hty σ a = some 5 ∧ gB g ≤ a ∧ pI v ∧ aw g 120 18 L r (hput σ 5 a 10 v) Q) := (aw_eq g 120 15 _ _ _ _).trans (by rw [tq120_15]; exact rfl)
theorem tq120_18 : tT g 120 18 = s_load vRf 120 19 0 := rfl
theorem A120_18 {l1 : Option Value} {x : Value} {r : List Value} : aw g 120 18 [some (x), l1] r σ Q = (vRf x = true ∧ aw g 120 19 [some (x), l1] (x :: r) σ Q) := (aw_eq g 120 18 _ _ _ _).trans (by rw [tq120_18]; exact h_load rfl)
theorem tq120_19 : tT g 120 19 = s_getf 120 22 5 21 := rfl
theorem A120_19 {L : AL} {r : List Value} {a : Nat} : aw g 120 19 L (.ref a :: r) σ Q = (hty σ a = some 5 ∧ aw g 120 22 L (hv σ 5 a 21 :: r) σ Q) := (aw_eq g 120 19 _ _ _ _).trans (by rw [tq120_19]; exact rfl)
theorem tq120_22 : tT g 120 22 = s_ifnull 120 25 38 := rfl
theorem A120_22 {L : AL} {r : List Value} {a : Value} : aw g 120 22 L (a :: r) σ Q = (vRf a = true ∧ (a = .null → aw g 120 38 L r σ Q) ∧ (a ≠ .null → aw g 120 25 L r σ Q)) := (aw_eq g 120 22 _ _ _ _).trans (by rw [tq120_22]; exact rfl)
theorem tq120_25 : tT g 120 25 = s_load vRf 120 26 0 := rfl
theorem A120_25 {l1 : Option Value} {x : Value} {r : List Value} : aw g 120 25 [some (x), l1] r σ Q = (vRf x = true ∧ aw g 120 26 [some (x), l1] (x :: r) σ Q) := (aw_eq g 120 25 _ _ _ _).trans (by rw [tq120_25]; exact h_load rfl)
theorem tq120_26 : tT g 120 26 = s_getf 120 29 5 21 := rfl
theorem A120_26 {L : AL} {r : List Value} {a : Nat} : aw g 120 26 L (.ref a :: r) σ Q = (hty σ a = some 5 ∧ aw g 120 29 L (hv σ 5 a 21 :: r) σ Q) := (aw_eq g 120 26 _ _ _ _).trans (by rw [tq120_26]; exact rfl)
theorem tq120_29 : tT g 120 29 = s_dup 120 30 := rfl
theorem A120_29 {L : AL} {r : List Value} {v : Value} : aw g 120 29 L (v :: r) σ Q = (v.category = 1 ∧ aw g 120 30 L (v :: v :: r) σ Q) := (aw_eq g 120 29 _ _ _ _).trans (by rw [tq120_29]; exact rfl)
theorem tq120_30 : tT g 120 30 = s_getf 120 33 9 3 := rfl
theorem A120_30 {L : AL} {r : List Value} {a : Nat} : aw g 120 30 L (.ref a :: r) σ Q = (hty σ a = some 9 ∧ aw g 120 33 L (hv σ 9 a 3 :: r) σ Q) := (aw_eq g 120 30 _ _ _ _).trans (by rw [tq120_30]; exact rfl)
theorem tq120_33 : tT g 120 33 = s_const 120 34 (.int 1) := rfl
theorem A120_33 {L : AL} {r : List Value} : aw g 120 33 L r σ Q = aw g 120 34 L (.int 1 :: r) σ Q := (aw_eq g 120 33 _ _ _ _).trans (by rw [tq120_33]; exact rfl)
theorem tq120_34 : tT g 120 34 = s_bin 120 35 (fun a b => a + b) := rfl
theorem A120_34 {L : AL} {r : List Value} {a b : Int32} : aw g 120 34 L (.int b :: .int a :: r) σ Q = aw g 120 35 L (.int (a + b) :: r) σ Q := (aw_eq g 120 34 _ _ _ _).trans (by rw [tq120_34]; exact rfl)
theorem tq120_35 : tT g 120 35 = s_putf g pI 120 38 9 3 := rfl
theorem A120_35 {L : AL} {r : List Value} {a : Nat} {v : Value} : aw g 120 35 L (v :: .ref a :: r) σ Q = (hty σ a = some 9 ∧ gB g ≤ a ∧ pI v ∧ aw g 120 38 L r (hput σ 9 a 3 v) Q) := (aw_eq g 120 35 _ _ _ _).trans (by rw [tq120_35]; exact rfl)
theorem tq120_38 : tT g 120 38 = s_vret := rfl
theorem A120_38 {L : AL} : aw g 120 38 L [] σ Q = Q (.inl none) σ := (aw_eq g 120 38 _ _ _ _).trans (by rw [tq120_38]; exact rfl)
theorem tq121_0 : tT g 121 0 = s_load vRf 121 1 0 := rfl
theorem A121_0 {l1 : Option Value} {l2 : Option Value} {x : Value} {r : List Value} : aw g 121 0 [some (x), l1, l2] r σ Q = (vRf x = true ∧ aw g 121 1 [some (x), l1, l2] (x :: r) σ Q) := (aw_eq g 121 0 _ _ _ _).trans (by rw [tq121_0]; exact h_load rfl)
theorem tq121_1 : tT g 121 1 = s_callvk 121 4 122 1 [] 4 := rfl
theorem A121_1 {L : AL} {r : List Value} {a : Nat} : aw g 121 1 L (.ref a :: r) σ Q = (hty σ a = some 1 ∧ true = true ∧ csum r ≤ 8 ∧ aw g 122 0 [some (.ref a), none, none, none] [] σ (kt (aw g) 121 4 L r Q)) := (aw_eq g 121 1 _ _ _ _).trans (by rw [tq121_1]; exact rfl)
theorem tq121_4 : tT g 121 4 = s_load vRf 121 5 1 := rfl
theorem A121_4 {l0 : Option Value} {l2 : Option Value} {x : Value} {r : List Value} : aw g 121 4 [l0, some (x), l2] r σ Q = (vRf x = true ∧ aw g 121 5 [l0, some (x), l2] (x :: r) σ Q) := (aw_eq g 121 4 _ _ _ _).trans (by rw [tq121_4]; exact h_load rfl)
theorem tq121_5 : tT g 121 5 = s_load vI 121 6 2 := rfl
theorem A121_5 {l0 : Option Value} {l1 : Option Value} {x : Int32} {r : List Value} : aw g 121 5 [l0, l1, some (.int x)] r σ Q = aw g 121 6 [l0, l1, some (.int x)] (.int x :: r) σ Q := (aw_eq g 121 5 _ _ _ _).trans (by rw [tq121_5]; exact (h_load rfl).trans (propext ⟨fun z => z.2, fun z => ⟨rfl, z⟩⟩))
theorem tq121_6 : tT g 121 6 = s_load vRf 121 7 0 := rfl
theorem A121_6 {l1 : Option Value} {l2 : Option Value} {x : Value} {r : List Value} : aw g 121 6 [some (x), l1, l2] r σ Q = (vRf x = true ∧ aw g 121 7 [some (x), l1, l2] (x :: r) σ Q) := (aw_eq g 121 6 _ _ _ _).trans (by rw [tq121_6]; exact h_load rfl)
theorem tq121_7 : tT g 121 7 = s_getf 121 10 1 2 := rfl
theorem A121_7 {L : AL} {r : List Value} {a : Nat} : aw g 121 7 L (.ref a :: r) σ Q = (hty σ a = some 1 ∧ aw g 121 10 L (hv σ 1 a 2 :: r) σ Q) := (aw_eq g 121 7 _ _ _ _).trans (by rw [tq121_7]; exact rfl)
theorem tq121_10 : tT g 121 10 = s_callvk 121 13 135 2 [1, 0, 0] 4 := rfl
theorem A121_10 {L : AL} {r : List Value} {a : Nat} {w0 w1 w2 : Value} : aw g 121 10 L (w2 :: w1 :: w0 :: .ref a :: r) σ Q = (hty σ a = some 2 ∧ (vRf w0 && (vI w1 && (vI w2 && true))) = true ∧ csum r ≤ 8 ∧ aw g 135 0 [some (.ref a), some w0, some w1, some w2] [] σ (kt (aw g) 121 13 L r Q)) := (aw_eq g 121 10 _ _ _ _).trans (by rw [tq121_10]; exact rfl)
theorem tq121_13 : tT g 121 13 = s_load vRf 121 14 1 := rfl
theorem A121_13 {l0 : Option Value} {l2 : Option Value} {x : Value} {r : List Value} : aw g 121 13 [l0, some (x), l2] r σ Q = (vRf x = true ∧ aw g 121 14 [l0, some (x), l2] (x :: r) σ Q) := (aw_eq g 121 13 _ _ _ _).trans (by rw [tq121_13]; exact h_load rfl)
theorem tq121_14 : tT g 121 14 = s_getf 121 17 5 14 := rfl
theorem A121_14 {L : AL} {r : List Value} {a : Nat} : aw g 121 14 L (.ref a :: r) σ Q = (hty σ a = some 5 ∧ aw g 121 17 L (hv σ 5 a 14 :: r) σ Q) := (aw_eq g 121 14 _ _ _ _).trans (by rw [tq121_14]; exact rfl)
theorem tq121_17 : tT g 121 17 = s_load vI 121 18 2 := rfl
theorem A121_17 {l0 : Option Value} {l1 : Option Value} {x : Int32} {r : List Value} : aw g 121 17 [l0, l1, some (.int x)] r σ Q = aw g 121 18 [l0, l1, some (.int x)] (.int x :: r) σ Q := (aw_eq g 121 17 _ _ _ _).trans (by rw [tq121_17]; exact (h_load rfl).trans (propext ⟨fun z => z.2, fun z => ⟨rfl, z⟩⟩))
theorem tq121_18 : tT g 121 18 = s_ald 121 19 21 := rfl
theorem A121_18 {L : AL} {r : List Value} {a : Nat} {i : Int32} : aw g 121 18 L (.int i :: .ref a :: r) σ Q = (hty σ a = some 21 ∧ ¬ i < 0 ∧ i.toNatClampNeg < hln σ a ∧ aw g 121 19 L (hv σ 21 a i.toNatClampNeg :: r) σ Q) := (aw_eq g 121 18 _ _ _ _).trans (by rw [tq121_18]; exact rfl)
theorem tq121_19 : tT g 121 19 = s_if 121 23 22 (fun a => a = 0) := rfl
theorem A121_19 {L : AL} {r : List Value} {a : Int32} : aw g 121 19 L (.int a :: r) σ Q = ((a = 0 → aw g 121 22 L r σ Q) ∧ (¬ a = 0 → aw g 121 23 L r σ Q)) := (aw_eq g 121 19 _ _ _ _).trans (by rw [tq121_19]; exact rfl)
theorem tq121_22 : tT g 121 22 = s_vret := rfl
theorem A121_22 {L : AL} : aw g 121 22 L [] σ Q = Q (.inl none) σ := (aw_eq g 121 22 _ _ _ _).trans (by rw [tq121_22]; exact rfl)
theorem tq121_23 : tT g 121 23 = s_load vRf 121 24 1 := rfl
theorem A121_23 {l0 : Option Value} {l2 : Option Value} {x : Value} {r : List Value} : aw g 121 23 [l0, some (x), l2] r σ Q = (vRf x = true ∧ aw g 121 24 [l0, some (x), l2] (x :: r) σ Q) := (aw_eq g 121 23 _ _ _ _).trans (by rw [tq121_23]; exact h_load rfl)
theorem tq121_24 : tT g 121 24 = s_getf 121 27 5 14 := rfl
theorem A121_24 {L : AL} {r : List Value} {a : Nat} : aw g 121 24 L (.ref a :: r) σ Q = (hty σ a = some 5 ∧ aw g 121 27 L (hv σ 5 a 14 :: r) σ Q) := (aw_eq g 121 24 _ _ _ _).trans (by rw [tq121_24]; exact rfl)
theorem tq121_27 : tT g 121 27 = s_load vI 121 28 2 := rfl
theorem A121_27 {l0 : Option Value} {l1 : Option Value} {x : Int32} {r : List Value} : aw g 121 27 [l0, l1, some (.int x)] r σ Q = aw g 121 28 [l0, l1, some (.int x)] (.int x :: r) σ Q := (aw_eq g 121 27 _ _ _ _).trans (by rw [tq121_27]; exact (h_load rfl).trans (propext ⟨fun z => z.2, fun z => ⟨rfl, z⟩⟩))
theorem tq121_28 : tT g 121 28 = s_const 121 29 (.int 0) := rfl
theorem A121_28 {L : AL} {r : List Value} : aw g 121 28 L r σ Q = aw g 121 29 L (.int 0 :: r) σ Q := (aw_eq g 121 28 _ _ _ _).trans (by rw [tq121_28]; exact rfl)
theorem tq121_29 : tT g 121 29 = s_ast g (fun _ v => vZ v) 121 30 21 := rfl
theorem A121_29 {L : AL} {r : List Value} {a : Nat} {i : Int32} {v : Value} : aw g 121 29 L (v :: .int i :: .ref a :: r) σ Q = (hty σ a = some 21 ∧ gB g ≤ a ∧ ¬ i < 0 ∧ i.toNatClampNeg < hln σ a ∧ vZ v ∧ aw g 121 30 L r (hput σ 21 a i.toNatClampNeg v) Q) := (aw_eq g 121 29 _ _ _ _).trans (by rw [tq121_29]; exact rfl)
theorem tq121_30 : tT g 121 30 = s_load vRf 121 31 1 := rfl
theorem A121_30 {l0 : Option Value} {l2 : Option Value} {x : Value} {r : List Value} : aw g 121 30 [l0, some (x), l2] r σ Q = (vRf x = true ∧ aw g 121 31 [l0, some (x), l2] (x :: r) σ Q) := (aw_eq g 121 30 _ _ _ _).trans (by rw [tq121_30]; exact h_load rfl)
theorem tq121_31 : tT g 121 31 = s_const 121 32 (.int 2) := rfl
theorem A121_31 {L : AL} {r : List Value} : aw g 121 31 L r σ Q = aw g 121 32 L (.int 2 :: r) σ Q := (aw_eq g 121 31 _ _ _ _).trans (by rw [tq121_31]; exact rfl)
theorem tq121_32 : tT g 121 32 = s_putf g pI 121 35 5 3 := rfl
theorem A121_32 {L : AL} {r : List Value} {a : Nat} {v : Value} : aw g 121 32 L (v :: .ref a :: r) σ Q = (hty σ a = some 5 ∧ gB g ≤ a ∧ pI v ∧ aw g 121 35 L r (hput σ 5 a 3 v) Q) := (aw_eq g 121 32 _ _ _ _).trans (by rw [tq121_32]; exact rfl)
theorem tq121_35 : tT g 121 35 = s_load vRf 121 36 1 := rfl
theorem A121_35 {l0 : Option Value} {l2 : Option Value} {x : Value} {r : List Value} : aw g 121 35 [l0, some (x), l2] r σ Q = (vRf x = true ∧ aw g 121 36 [l0, some (x), l2] (x :: r) σ Q) := (aw_eq g 121 35 _ _ _ _).trans (by rw [tq121_35]; exact h_load rfl)
theorem tq121_36 : tT g 121 36 = s_load vRf 121 37 0 := rfl
theorem A121_36 {l1 : Option Value} {l2 : Option Value} {x : Value} {r : List Value} : aw g 121 36 [some (x), l1, l2] r σ Q = (vRf x = true ∧ aw g 121 37 [some (x), l1, l2] (x :: r) σ Q) := (aw_eq g 121 36 _ _ _ _).trans (by rw [tq121_36]; exact h_load rfl)
theorem tq121_37 : tT g 121 37 = s_getf 121 40 1 2 := rfl
theorem A121_37 {L : AL} {r : List Value} {a : Nat} : aw g 121 37 L (.ref a :: r) σ Q = (hty σ a = some 1 ∧ aw g 121 40 L (hv σ 1 a 2 :: r) σ Q) := (aw_eq g 121 37 _ _ _ _).trans (by rw [tq121_37]; exact rfl)
theorem tq121_40 : tT g 121 40 = s_const 121 41 (.int 2) := rfl
theorem A121_40 {L : AL} {r : List Value} : aw g 121 40 L r σ Q = aw g 121 41 L (.int 2 :: r) σ Q := (aw_eq g 121 40 _ _ _ _).trans (by rw [tq121_40]; exact rfl)
theorem tq121_41 : tT g 121 41 = s_bin 121 42 (fun a b => a + b) := rfl
theorem A121_41 {L : AL} {r : List Value} {a b : Int32} : aw g 121 41 L (.int b :: .int a :: r) σ Q = aw g 121 42 L (.int (a + b) :: r) σ Q := (aw_eq g 121 41 _ _ _ _).trans (by rw [tq121_41]; exact rfl)
theorem tq121_42 : tT g 121 42 = s_putf g pI 121 45 5 6 := rfl
theorem A121_42 {L : AL} {r : List Value} {a : Nat} {v : Value} : aw g 121 42 L (v :: .ref a :: r) σ Q = (hty σ a = some 5 ∧ gB g ≤ a ∧ pI v ∧ aw g 121 45 L r (hput σ 5 a 6 v) Q) := (aw_eq g 121 42 _ _ _ _).trans (by rw [tq121_42]; exact rfl)
theorem tq121_45 : tT g 121 45 = s_vret := rfl
theorem A121_45 {L : AL} : aw g 121 45 L [] σ Q = Q (.inl none) σ := (aw_eq g 121 45 _ _ _ _).trans (by rw [tq121_45]; exact rfl)
theorem tq122_0 : tT g 122 0 = s_const 122 1 .null := rfl
theorem A122_0 {L : AL} {r : List Value} : aw g 122 0 L r σ Q = aw g 122 1 L (.null :: r) σ Q := (aw_eq g 122 0 _ _ _ _).trans (by rw [tq122_0]; exact rfl)
theorem tq122_1 : tT g 122 1 = s_store vRf 122 2 1 := rfl
theorem A122_1 {l0 : Option Value} {l1 : Option Value} {l2 : Option Value} {l3 : Option Value} {x : Value} {r : List Value} : aw g 122 1 [l0, l1, l2, l3] (x :: r) σ Q = (vRf x = true ∧ oc l0 = true ∧ aw g 122 2 [l0, some (x), l2, l3] r σ Q) := (aw_eq g 122 1 _ _ _ _).trans (by rw [tq122_1]; exact (h_store (o := oc l0) rfl rfl rfl))
theorem tq122_2 : tT g 122 2 = s_load vRf 122 3 0 := rfl
theorem A122_2 {l1 : Option Value} {l2 : Option Value} {l3 : Option Value} {x : Value} {r : List Value} : aw g 122 2 [some (x), l1, l2, l3] r σ Q = (vRf x = true ∧ aw g 122 3 [some (x), l1, l2, l3] (x :: r) σ Q) := (aw_eq g 122 2 _ _ _ _).trans (by rw [tq122_2]; exact h_load rfl)
theorem tq122_3 : tT g 122 3 = s_getf 122 6 1 1 := rfl
theorem A122_3 {L : AL} {r : List Value} {a : Nat} : aw g 122 3 L (.ref a :: r) σ Q = (hty σ a = some 1 ∧ aw g 122 6 L (hv σ 1 a 1 :: r) σ Q) := (aw_eq g 122 3 _ _ _ _).trans (by rw [tq122_3]; exact rfl)
theorem tq122_6 : tT g 122 6 = s_callvk 122 9 22 10 [] 1 := rfl
theorem A122_6 {L : AL} {r : List Value} {a : Nat} : aw g 122 6 L (.ref a :: r) σ Q = (hty σ a = some 10 ∧ true = true ∧ csum r ≤ 8 ∧ aw g 22 0 [some (.ref a)] [] σ (kt (aw g) 122 9 L r Q)) := (aw_eq g 122 6 _ _ _ _).trans (by rw [tq122_6]; exact rfl)
theorem tq122_9 : tT g 122 9 = s_store vRf 122 10 2 := rfl
theorem A122_9 {l0 : Option Value} {l1 : Option Value} {l2 : Option Value} {l3 : Option Value} {x : Value} {r : List Value} : aw g 122 9 [l0, l1, l2, l3] (x :: r) σ Q = (vRf x = true ∧ oc l1 = true ∧ aw g 122 10 [l0, l1, some (x), l3] r σ Q) := (aw_eq g 122 9 _ _ _ _).trans (by rw [tq122_9]; exact (h_store (o := oc l1) rfl rfl rfl))
theorem tq122_10 : tT g 122 10 = s_load vRf 122 11 2 := rfl
theorem A122_10 {l0 : Option Value} {l1 : Option Value} {l3 : Option Value} {x : Value} {r : List Value} : aw g 122 10 [l0, l1, some (x), l3] r σ Q = (vRf x = true ∧ aw g 122 11 [l0, l1, some (x), l3] (x :: r) σ Q) := (aw_eq g 122 10 _ _ _ _).trans (by rw [tq122_10]; exact h_load rfl)
theorem tq122_11 : tT g 122 11 = s_callvk 122 16 3 11 [] 1 := rfl
theorem A122_11 {L : AL} {r : List Value} {a : Nat} : aw g 122 11 L (.ref a :: r) σ Q = (hty σ a = some 11 ∧ true = true ∧ csum r ≤ 8 ∧ aw g 3 0 [some (.ref a)] [] σ (kt (aw g) 122 16 L r Q)) := (aw_eq g 122 11 _ _ _ _).trans (by rw [tq122_11]; exact rfl)
theorem tq122_16 : tT g 122 16 = s_if 122 19 58 (fun a => a = 0) := rfl
theorem A122_16 {L : AL} {r : List Value} {a : Int32} : aw g 122 16 L (.int a :: r) σ Q = ((a = 0 → aw g 122 58 L r σ Q) ∧ (¬ a = 0 → aw g 122 19 L r σ Q)) := (aw_eq g 122 16 _ _ _ _).trans (by rw [tq122_16]; exact rfl)
theorem tq122_19 : tT g 122 19 = s_load vRf 122 20 2 := rfl
theorem A122_19 {l0 : Option Value} {l1 : Option Value} {l3 : Option Value} {x : Value} {r : List Value} : aw g 122 19 [l0, l1, some (x), l3] r σ Q = (vRf x = true ∧ aw g 122 20 [l0, l1, some (x), l3] (x :: r) σ Q) := (aw_eq g 122 19 _ _ _ _).trans (by rw [tq122_19]; exact h_load rfl)
theorem tq122_20 : tT g 122 20 = s_callvk 122 25 4 11 [] 3 := rfl
theorem A122_20 {L : AL} {r : List Value} {a : Nat} : aw g 122 20 L (.ref a :: r) σ Q = (hty σ a = some 11 ∧ true = true ∧ csum r ≤ 8 ∧ aw g 4 0 [some (.ref a), none, none] [] σ (kt (aw g) 122 25 L r Q)) := (aw_eq g 122 20 _ _ _ _).trans (by rw [tq122_20]; exact rfl)
theorem tq122_25 : tT g 122 25 = s_cast 122 28 [2] := rfl
theorem A122_25 {L : AL} {r : List Value} : aw g 122 25 L (.null :: r) σ Q = aw g 122 28 L (.null :: r) σ Q := (aw_eq g 122 25 _ _ _ _).trans (by rw [tq122_25]; exact rfl)
theorem A122_25r {L : AL} {r : List Value} {a : Nat} : aw g 122 25 L (.ref a :: r) σ Q = (hty σ a = some 2 ∧ aw g 122 28 L (.ref a :: r) σ Q) := (aw_eq g 122 25 _ _ _ _).trans (by rw [tq122_25]; exact propext ⟨fun z => (by obtain ⟨⟨u, hu, hu2⟩, z2⟩ := z; rw [List.mem_singleton] at hu; subst hu; exact ⟨hu2, z2⟩), fun z => ⟨⟨_, List.mem_cons_self, z.1⟩, z.2⟩⟩)
theorem tq122_28 : tT g 122 28 = s_store vRf 122 29 3 := rfl
theorem A122_28 {l0 : Option Value} {l1 : Option Value} {l2 : Option Value} {l3 : Option Value} {x : Value} {r : List Value} : aw g 122 28 [l0, l1, l2, l3] (x :: r) σ Q = (vRf x = true ∧ oc l2 = true ∧ aw g 122 29 [l0, l1, l2, some (x)] r σ Q) := (aw_eq g 122 28 _ _ _ _).trans (by rw [tq122_28]; exact (h_store (o := oc l2) rfl rfl rfl))
theorem tq122_29 : tT g 122 29 = s_load vRf 122 30 3 := rfl
theorem A122_29 {l0 : Option Value} {l1 : Option Value} {l2 : Option Value} {x : Value} {r : List Value} : aw g 122 29 [l0, l1, l2, some (x)] r σ Q = (vRf x = true ∧ aw g 122 30 [l0, l1, l2, some (x)] (x :: r) σ Q) := (aw_eq g 122 29 _ _ _ _).trans (by rw [tq122_29]; exact h_load rfl)
theorem tq122_30 : tT g 122 30 = s_getf 122 33 2 0 := rfl
theorem A122_30 {L : AL} {r : List Value} {a : Nat} : aw g 122 30 L (.ref a :: r) σ Q = (hty σ a = some 2 ∧ aw g 122 33 L (hv σ 2 a 0 :: r) σ Q) := (aw_eq g 122 30 _ _ _ _).trans (by rw [tq122_30]; exact rfl)
theorem tq122_33 : tT g 122 33 = s_ifnn 122 36 38 := rfl
theorem A122_33 {L : AL} {r : List Value} {a : Value} : aw g 122 33 L (a :: r) σ Q = (vRf a = true ∧ (a = .null → aw g 122 36 L r σ Q) ∧ (a ≠ .null → aw g 122 38 L r σ Q)) := (aw_eq g 122 33 _ _ _ _).trans (by rw [tq122_33]; exact rfl)
theorem tq122_36 : tT g 122 36 = s_load vRf 122 37 3 := rfl
theorem A122_36 {l0 : Option Value} {l1 : Option Value} {l2 : Option Value} {x : Value} {r : List Value} : aw g 122 36 [l0, l1, l2, some (x)] r σ Q = (vRf x = true ∧ aw g 122 37 [l0, l1, l2, some (x)] (x :: r) σ Q) := (aw_eq g 122 36 _ _ _ _).trans (by rw [tq122_36]; exact h_load rfl)
theorem tq122_37 : tT g 122 37 = s_ret pR := rfl
theorem A122_37 {L : AL} {v : Value} : aw g 122 37 L [v] σ Q = (pR v ∧ Q (.inl (some v)) σ) := (aw_eq g 122 37 _ _ _ _).trans (by rw [tq122_37]; exact rfl)
theorem tq122_38 : tT g 122 38 = s_load vRf 122 39 1 := rfl
theorem A122_38 {l0 : Option Value} {l2 : Option Value} {l3 : Option Value} {x : Value} {r : List Value} : aw g 122 38 [l0, some (x), l2, l3] r σ Q = (vRf x = true ∧ aw g 122 39 [l0, some (x), l2, l3] (x :: r) σ Q) := (aw_eq g 122 38 _ _ _ _).trans (by rw [tq122_38]; exact h_load rfl)
theorem tq122_39 : tT g 122 39 = s_ifnull 122 42 53 := rfl
theorem A122_39 {L : AL} {r : List Value} {a : Value} : aw g 122 39 L (a :: r) σ Q = (vRf a = true ∧ (a = .null → aw g 122 53 L r σ Q) ∧ (a ≠ .null → aw g 122 42 L r σ Q)) := (aw_eq g 122 39 _ _ _ _).trans (by rw [tq122_39]; exact rfl)
theorem tq122_42 : tT g 122 42 = s_load vRf 122 43 3 := rfl
theorem A122_42 {l0 : Option Value} {l1 : Option Value} {l2 : Option Value} {x : Value} {r : List Value} : aw g 122 42 [l0, l1, l2, some (x)] r σ Q = (vRf x = true ∧ aw g 122 43 [l0, l1, l2, some (x)] (x :: r) σ Q) := (aw_eq g 122 42 _ _ _ _).trans (by rw [tq122_42]; exact h_load rfl)
theorem tq122_43 : tT g 122 43 = s_getf 122 46 2 2 := rfl
theorem A122_43 {L : AL} {r : List Value} {a : Nat} : aw g 122 43 L (.ref a :: r) σ Q = (hty σ a = some 2 ∧ aw g 122 46 L (hv σ 2 a 2 :: r) σ Q) := (aw_eq g 122 43 _ _ _ _).trans (by rw [tq122_43]; exact rfl)
theorem tq122_46 : tT g 122 46 = s_load vRf 122 47 1 := rfl
theorem A122_46 {l0 : Option Value} {l2 : Option Value} {l3 : Option Value} {x : Value} {r : List Value} : aw g 122 46 [l0, some (x), l2, l3] r σ Q = (vRf x = true ∧ aw g 122 47 [l0, some (x), l2, l3] (x :: r) σ Q) := (aw_eq g 122 46 _ _ _ _).trans (by rw [tq122_46]; exact h_load rfl)
theorem tq122_47 : tT g 122 47 = s_getf 122 50 2 2 := rfl
theorem A122_47 {L : AL} {r : List Value} {a : Nat} : aw g 122 47 L (.ref a :: r) σ Q = (hty σ a = some 2 ∧ aw g 122 50 L (hv σ 2 a 2 :: r) σ Q) := (aw_eq g 122 47 _ _ _ _).trans (by rw [tq122_47]; exact rfl)
theorem tq122_50 : tT g 122 50 = s_icmp 122 53 55 (fun a b => b ≤ a) := rfl
theorem A122_50 {L : AL} {r : List Value} {a b : Int32} : aw g 122 50 L (.int b :: .int a :: r) σ Q = ((b ≤ a → aw g 122 55 L r σ Q) ∧ (¬ b ≤ a → aw g 122 53 L r σ Q)) := (aw_eq g 122 50 _ _ _ _).trans (by rw [tq122_50]; exact rfl)
theorem tq122_53 : tT g 122 53 = s_load vRf 122 54 3 := rfl
theorem A122_53 {l0 : Option Value} {l1 : Option Value} {l2 : Option Value} {x : Value} {r : List Value} : aw g 122 53 [l0, l1, l2, some (x)] r σ Q = (vRf x = true ∧ aw g 122 54 [l0, l1, l2, some (x)] (x :: r) σ Q) := (aw_eq g 122 53 _ _ _ _).trans (by rw [tq122_53]; exact h_load rfl)
theorem tq122_54 : tT g 122 54 = s_store vRf 122 55 1 := rfl
theorem A122_54 {l0 : Option Value} {l1 : Option Value} {l2 : Option Value} {l3 : Option Value} {x : Value} {r : List Value} : aw g 122 54 [l0, l1, l2, l3] (x :: r) σ Q = (vRf x = true ∧ oc l0 = true ∧ aw g 122 55 [l0, some (x), l2, l3] r σ Q) := (aw_eq g 122 54 _ _ _ _).trans (by rw [tq122_54]; exact (h_store (o := oc l0) rfl rfl rfl))
theorem tq122_55 : tT g 122 55 = s_goto 122 10 := rfl
theorem A122_55 {L : AL} {r : List Value} : aw g 122 55 L r σ Q = aw g 122 10 L r σ Q := (aw_eq g 122 55 _ _ _ _).trans (by rw [tq122_55]; exact rfl)
theorem tq122_58 : tT g 122 58 = s_load vRf 122 59 0 := rfl
theorem A122_58 {l1 : Option Value} {l2 : Option Value} {l3 : Option Value} {x : Value} {r : List Value} : aw g 122 58 [some (x), l1, l2, l3] r σ Q = (vRf x = true ∧ aw g 122 59 [some (x), l1, l2, l3] (x :: r) σ Q) := (aw_eq g 122 58 _ _ _ _).trans (by rw [tq122_58]; exact h_load rfl)
theorem tq122_59 : tT g 122 59 = s_load vRf 122 60 1 := rfl
theorem A122_59 {l0 : Option Value} {l2 : Option Value} {l3 : Option Value} {x : Value} {r : List Value} : aw g 122 59 [l0, some (x), l2, l3] r σ Q = (vRf x = true ∧ aw g 122 60 [l0, some (x), l2, l3] (x :: r) σ Q) := (aw_eq g 122 59 _ _ _ _).trans (by rw [tq122_59]; exact h_load rfl)
theorem tq122_60 : tT g 122 60 = s_callvk 122 63 110 1 [1] 2 := rfl
theorem A122_60 {L : AL} {r : List Value} {a : Nat} {w0 : Value} : aw g 122 60 L (w0 :: .ref a :: r) σ Q = (hty σ a = some 1 ∧ (vRf w0 && true) = true ∧ csum r ≤ 8 ∧ aw g 110 0 [some (.ref a), some w0] [] σ (kt (aw g) 122 63 L r Q)) := (aw_eq g 122 60 _ _ _ _).trans (by rw [tq122_60]; exact rfl)
theorem tq122_63 : tT g 122 63 = s_load vRf 122 64 1 := rfl
theorem A122_63 {l0 : Option Value} {l2 : Option Value} {l3 : Option Value} {x : Value} {r : List Value} : aw g 122 63 [l0, some (x), l2, l3] r σ Q = (vRf x = true ∧ aw g 122 64 [l0, some (x), l2, l3] (x :: r) σ Q) := (aw_eq g 122 63 _ _ _ _).trans (by rw [tq122_63]; exact h_load rfl)
theorem tq122_64 : tT g 122 64 = s_ret pR := rfl
theorem A122_64 {L : AL} {v : Value} : aw g 122 64 L [v] σ Q = (pR v ∧ Q (.inl (some v)) σ) := (aw_eq g 122 64 _ _ _ _).trans (by rw [tq122_64]; exact rfl)
theorem tq123_0 : tT g 123 0 = s_load vRf 123 1 1 := rfl
theorem A123_0 {l0 : Option Value} {x : Value} {r : List Value} : aw g 123 0 [l0, some (x)] r σ Q = (vRf x = true ∧ aw g 123 1 [l0, some (x)] (x :: r) σ Q) := (aw_eq g 123 0 _ _ _ _).trans (by rw [tq123_0]; exact h_load rfl)
theorem tq123_1 : tT g 123 1 = s_getf 123 4 5 12 := rfl
theorem A123_1 {L : AL} {r : List Value} {a : Nat} : aw g 123 1 L (.ref a :: r) σ Q = (hty σ a = some 5 ∧ aw g 123 4 L (hv σ 5 a 12 :: r) σ Q) := (aw_eq g 123 1 _ _ _ _).trans (by rw [tq123_1]; exact rfl)
theorem tq123_4 : tT g 123 4 = s_const 123 5 (.int 4) := rfl
theorem A123_4 {L : AL} {r : List Value} : aw g 123 4 L r σ Q = aw g 123 5 L (.int 4 :: r) σ Q := (aw_eq g 123 4 _ _ _ _).trans (by rw [tq123_4]; exact rfl)
theorem tq123_5 : tT g 123 5 = s_icmp 123 31 8 (fun a b => a = b) := rfl
theorem A123_5 {L : AL} {r : List Value} {a b : Int32} : aw g 123 5 L (.int b :: .int a :: r) σ Q = ((a = b → aw g 123 8 L r σ Q) ∧ (¬ a = b → aw g 123 31 L r σ Q)) := (aw_eq g 123 5 _ _ _ _).trans (by rw [tq123_5]; exact rfl)
theorem tq123_8 : tT g 123 8 = s_load vRf 123 9 1 := rfl
theorem A123_8 {l0 : Option Value} {x : Value} {r : List Value} : aw g 123 8 [l0, some (x)] r σ Q = (vRf x = true ∧ aw g 123 9 [l0, some (x)] (x :: r) σ Q) := (aw_eq g 123 8 _ _ _ _).trans (by rw [tq123_8]; exact h_load rfl)
theorem tq123_9 : tT g 123 9 = s_getf 123 12 5 13 := rfl
theorem A123_9 {L : AL} {r : List Value} {a : Nat} : aw g 123 9 L (.ref a :: r) σ Q = (hty σ a = some 5 ∧ aw g 123 12 L (hv σ 5 a 13 :: r) σ Q) := (aw_eq g 123 9 _ _ _ _).trans (by rw [tq123_9]; exact rfl)
theorem tq123_12 : tT g 123 12 = s_const 123 13 (.int 4) := rfl
theorem A123_12 {L : AL} {r : List Value} : aw g 123 12 L r σ Q = aw g 123 13 L (.int 4 :: r) σ Q := (aw_eq g 123 12 _ _ _ _).trans (by rw [tq123_12]; exact rfl)
theorem tq123_13 : tT g 123 13 = s_dup2 123 14 := rfl
theorem A123_13 {L : AL} {r : List Value} {v w : Value} : aw g 123 13 L (v :: w :: r) σ Q = (v.category = 1 ∧ w.category = 1 ∧ aw g 123 14 L (v :: w :: v :: w :: r) σ Q) := (aw_eq g 123 13 _ _ _ _).trans (by rw [tq123_13]; exact rfl)
theorem tq123_14 : tT g 123 14 = s_ald 123 15 20 := rfl
theorem A123_14 {L : AL} {r : List Value} {a : Nat} {i : Int32} : aw g 123 14 L (.int i :: .ref a :: r) σ Q = (hty σ a = some 20 ∧ ¬ i < 0 ∧ i.toNatClampNeg < hln σ a ∧ aw g 123 15 L (hv σ 20 a i.toNatClampNeg :: r) σ Q) := (aw_eq g 123 14 _ _ _ _).trans (by rw [tq123_14]; exact rfl)
theorem tq123_15 : tT g 123 15 = s_const 123 16 (.int 1) := rfl
theorem A123_15 {L : AL} {r : List Value} : aw g 123 15 L r σ Q = aw g 123 16 L (.int 1 :: r) σ Q := (aw_eq g 123 15 _ _ _ _).trans (by rw [tq123_15]; exact rfl)
theorem tq123_16 : tT g 123 16 = s_bin 123 17 (fun a b => a + b) := rfl
theorem A123_16 {L : AL} {r : List Value} {a b : Int32} : aw g 123 16 L (.int b :: .int a :: r) σ Q = aw g 123 17 L (.int (a + b) :: r) σ Q := (aw_eq g 123 16 _ _ _ _).trans (by rw [tq123_16]; exact rfl)
theorem tq123_17 : tT g 123 17 = s_ast g (fun _ v => vI v = true) 123 18 20 := rfl
theorem A123_17 {L : AL} {r : List Value} {a : Nat} {i : Int32} {v : Value} : aw g 123 17 L (v :: .int i :: .ref a :: r) σ Q = (hty σ a = some 20 ∧ gB g ≤ a ∧ ¬ i < 0 ∧ i.toNatClampNeg < hln σ a ∧ vI v = true ∧ aw g 123 18 L r (hput σ 20 a i.toNatClampNeg v) Q) := (aw_eq g 123 17 _ _ _ _).trans (by rw [tq123_17]; exact rfl)
theorem tq123_18 : tT g 123 18 = s_load vRf 123 19 1 := rfl
theorem A123_18 {l0 : Option Value} {x : Value} {r : List Value} : aw g 123 18 [l0, some (x)] r σ Q = (vRf x = true ∧ aw g 123 19 [l0, some (x)] (x :: r) σ Q) := (aw_eq g 123 18 _ _ _ _).trans (by rw [tq123_18]; exact h_load rfl)
theorem tq123_19 : tT g 123 19 = s_const 123 20 (.int 0) := rfl
theorem A123_19 {L : AL} {r : List Value} : aw g 123 19 L r σ Q = aw g 123 20 L (.int 0 :: r) σ Q := (aw_eq g 123 19 _ _ _ _).trans (by rw [tq123_19]; exact rfl)
theorem tq123_20 : tT g 123 20 = s_load vRf 123 21 1 := rfl
theorem A123_20 {l0 : Option Value} {x : Value} {r : List Value} : aw g 123 20 [l0, some (x)] r σ Q = (vRf x = true ∧ aw g 123 21 [l0, some (x)] (x :: r) σ Q) := (aw_eq g 123 20 _ _ _ _).trans (by rw [tq123_20]; exact h_load rfl)
theorem tq123_21 : tT g 123 21 = s_getf 123 24 5 9 := rfl
theorem A123_21 {L : AL} {r : List Value} {a : Nat} : aw g 123 21 L (.ref a :: r) σ Q = (hty σ a = some 5 ∧ aw g 123 24 L (hv σ 5 a 9 :: r) σ Q) := (aw_eq g 123 21 _ _ _ _).trans (by rw [tq123_21]; exact rfl)
theorem tq123_24 : tT g 123 24 = s_callk 123 27 35 [0, 0] 2 := rfl
theorem A123_24 {L : AL} {r : List Value} {w0 w1 : Value} : aw g 123 24 L (w1 :: w0 :: r) σ Q = ((vI w0 && (vI w1 && true)) = true ∧ csum r ≤ 8 ∧ aw g 35 0 [some w0, some w1] [] σ (kt (aw g) 123 27 L r Q)) := (aw_eq g 123 24 _ _ _ _).trans (by rw [tq123_24]; exact rfl)
theorem tq123_27 : tT g 123 27 = s_putf g pI 123 30 5 9 := rfl
theorem A123_27 {L : AL} {r : List Value} {a : Nat} {v : Value} : aw g 123 27 L (v :: .ref a :: r) σ Q = (hty σ a = some 5 ∧ gB g ≤ a ∧ pI v ∧ aw g 123 30 L r (hput σ 5 a 9 v) Q) := (aw_eq g 123 27 _ _ _ _).trans (by rw [tq123_27]; exact rfl)
theorem tq123_30 : tT g 123 30 = s_vret := rfl
theorem A123_30 {L : AL} : aw g 123 30 L [] σ Q = Q (.inl none) σ := (aw_eq g 123 30 _ _ _ _).trans (by rw [tq123_30]; exact rfl)
theorem tq123_31 : tT g 123 31 = s_load vRf 123 32 1 := rfl
theorem A123_31 {l0 : Option Value} {x : Value} {r : List Value} : aw g 123 31 [l0, some (x)] r σ Q = (vRf x = true ∧ aw g 123 32 [l0, some (x)] (x :: r) σ Q) := (aw_eq g 123 31 _ _ _ _).trans (by rw [tq123_31]; exact h_load rfl)
theorem tq123_32 : tT g 123 32 = s_getf 123 35 5 12 := rfl
theorem A123_32 {L : AL} {r : List Value} {a : Nat} : aw g 123 32 L (.ref a :: r) σ Q = (hty σ a = some 5 ∧ aw g 123 35 L (hv σ 5 a 12 :: r) σ Q) := (aw_eq g 123 32 _ _ _ _).trans (by rw [tq123_32]; exact rfl)
theorem tq123_35 : tT g 123 35 = s_if 123 56 38 (fun a => a = 0) := rfl
theorem A123_35 {L : AL} {r : List Value} {a : Int32} : aw g 123 35 L (.int a :: r) σ Q = ((a = 0 → aw g 123 38 L r σ Q) ∧ (¬ a = 0 → aw g 123 56 L r σ Q)) := (aw_eq g 123 35 _ _ _ _).trans (by rw [tq123_35]; exact rfl)
theorem tq123_38 : tT g 123 38 = s_load vRf 123 39 0 := rfl
theorem A123_38 {l1 : Option Value} {x : Value} {r : List Value} : aw g 123 38 [some (x), l1] r σ Q = (vRf x = true ∧ aw g 123 39 [some (x), l1] (x :: r) σ Q) := (aw_eq g 123 38 _ _ _ _).trans (by rw [tq123_38]; exact h_load rfl)
theorem tq123_39 : tT g 123 39 = s_getf 123 42 1 4 := rfl
theorem A123_39 {L : AL} {r : List Value} {a : Nat} : aw g 123 39 L (.ref a :: r) σ Q = (hty σ a = some 1 ∧ aw g 123 42 L (hv σ 1 a 4 :: r) σ Q) := (aw_eq g 123 39 _ _ _ _).trans (by rw [tq123_39]; exact rfl)
theorem tq123_42 : tT g 123 42 = s_load vRf 123 43 1 := rfl
theorem A123_42 {l0 : Option Value} {x : Value} {r : List Value} : aw g 123 42 [l0, some (x)] r σ Q = (vRf x = true ∧ aw g 123 43 [l0, some (x)] (x :: r) σ Q) := (aw_eq g 123 42 _ _ _ _).trans (by rw [tq123_42]; exact h_load rfl)
theorem tq123_43 : tT g 123 43 = s_acmp 123 46 56 := rfl
theorem A123_43 {L : AL} {r : List Value} {a b : Value} : aw g 123 43 L (b :: a :: r) σ Q = (vRf a = true ∧ vRf b = true ∧ (a = b → aw g 123 56 L r σ Q) ∧ (a ≠ b → aw g 123 46 L r σ Q)) := (aw_eq g 123 43 _ _ _ _).trans (by rw [tq123_43]; exact rfl)
theorem tq123_46 : tT g 123 46 = s_load vRf 123 47 1 := rfl
theorem A123_46 {l0 : Option Value} {x : Value} {r : List Value} : aw g 123 46 [l0, some (x)] r σ Q = (vRf x = true ∧ aw g 123 47 [l0, some (x)] (x :: r) σ Q) := (aw_eq g 123 46 _ _ _ _).trans (by rw [tq123_46]; exact h_load rfl)
theorem tq123_47 : tT g 123 47 = s_getf 123 50 5 13 := rfl
theorem A123_47 {L : AL} {r : List Value} {a : Nat} : aw g 123 47 L (.ref a :: r) σ Q = (hty σ a = some 5 ∧ aw g 123 50 L (hv σ 5 a 13 :: r) σ Q) := (aw_eq g 123 47 _ _ _ _).trans (by rw [tq123_47]; exact rfl)
theorem tq123_50 : tT g 123 50 = s_const 123 51 (.int 1) := rfl
theorem A123_50 {L : AL} {r : List Value} : aw g 123 50 L r σ Q = aw g 123 51 L (.int 1 :: r) σ Q := (aw_eq g 123 50 _ _ _ _).trans (by rw [tq123_50]; exact rfl)
theorem tq123_51 : tT g 123 51 = s_dup2 123 52 := rfl
theorem A123_51 {L : AL} {r : List Value} {v w : Value} : aw g 123 51 L (v :: w :: r) σ Q = (v.category = 1 ∧ w.category = 1 ∧ aw g 123 52 L (v :: w :: v :: w :: r) σ Q) := (aw_eq g 123 51 _ _ _ _).trans (by rw [tq123_51]; exact rfl)
theorem tq123_52 : tT g 123 52 = s_ald 123 53 20 := rfl
theorem A123_52 {L : AL} {r : List Value} {a : Nat} {i : Int32} : aw g 123 52 L (.int i :: .ref a :: r) σ Q = (hty σ a = some 20 ∧ ¬ i < 0 ∧ i.toNatClampNeg < hln σ a ∧ aw g 123 53 L (hv σ 20 a i.toNatClampNeg :: r) σ Q) := (aw_eq g 123 52 _ _ _ _).trans (by rw [tq123_52]; exact rfl)
theorem tq123_53 : tT g 123 53 = s_const 123 54 (.int 1) := rfl
theorem A123_53 {L : AL} {r : List Value} : aw g 123 53 L r σ Q = aw g 123 54 L (.int 1 :: r) σ Q := (aw_eq g 123 53 _ _ _ _).trans (by rw [tq123_53]; exact rfl)
theorem tq123_54 : tT g 123 54 = s_bin 123 55 (fun a b => a + b) := rfl
theorem A123_54 {L : AL} {r : List Value} {a b : Int32} : aw g 123 54 L (.int b :: .int a :: r) σ Q = aw g 123 55 L (.int (a + b) :: r) σ Q := (aw_eq g 123 54 _ _ _ _).trans (by rw [tq123_54]; exact rfl)
theorem tq123_55 : tT g 123 55 = s_ast g (fun _ v => vI v = true) 123 56 20 := rfl
theorem A123_55 {L : AL} {r : List Value} {a : Nat} {i : Int32} {v : Value} : aw g 123 55 L (v :: .int i :: .ref a :: r) σ Q = (hty σ a = some 20 ∧ gB g ≤ a ∧ ¬ i < 0 ∧ i.toNatClampNeg < hln σ a ∧ vI v = true ∧ aw g 123 56 L r (hput σ 20 a i.toNatClampNeg v) Q) := (aw_eq g 123 55 _ _ _ _).trans (by rw [tq123_55]; exact rfl)
theorem tq123_56 : tT g 123 56 = s_load vRf 123 57 1 := rfl
theorem A123_56 {l0 : Option Value} {x : Value} {r : List Value} : aw g 123 56 [l0, some (x)] r σ Q = (vRf x = true ∧ aw g 123 57 [l0, some (x)] (x :: r) σ Q) := (aw_eq g 123 56 _ _ _ _).trans (by rw [tq123_56]; exact h_load rfl)
theorem tq123_57 : tT g 123 57 = s_dup 123 58 := rfl
theorem A123_57 {L : AL} {r : List Value} {v : Value} : aw g 123 57 L (v :: r) σ Q = (v.category = 1 ∧ aw g 123 58 L (v :: v :: r) σ Q) := (aw_eq g 123 57 _ _ _ _).trans (by rw [tq123_57]; exact rfl)
theorem tq123_58 : tT g 123 58 = s_getf 123 61 5 12 := rfl
theorem A123_58 {L : AL} {r : List Value} {a : Nat} : aw g 123 58 L (.ref a :: r) σ Q = (hty σ a = some 5 ∧ aw g 123 61 L (hv σ 5 a 12 :: r) σ Q) := (aw_eq g 123 58 _ _ _ _).trans (by rw [tq123_58]; exact rfl)
theorem tq123_61 : tT g 123 61 = s_const 123 62 (.int 1) := rfl
theorem A123_61 {L : AL} {r : List Value} : aw g 123 61 L r σ Q = aw g 123 62 L (.int 1 :: r) σ Q := (aw_eq g 123 61 _ _ _ _).trans (by rw [tq123_61]; exact rfl)
theorem tq123_62 : tT g 123 62 = s_bin 123 63 (fun a b => a + b) := rfl
theorem A123_62 {L : AL} {r : List Value} {a b : Int32} : aw g 123 62 L (.int b :: .int a :: r) σ Q = aw g 123 63 L (.int (a + b) :: r) σ Q := (aw_eq g 123 62 _ _ _ _).trans (by rw [tq123_62]; exact rfl)
theorem tq123_63 : tT g 123 63 = s_putf g pI 123 66 5 12 := rfl
theorem A123_63 {L : AL} {r : List Value} {a : Nat} {v : Value} : aw g 123 63 L (v :: .ref a :: r) σ Q = (hty σ a = some 5 ∧ gB g ≤ a ∧ pI v ∧ aw g 123 66 L r (hput σ 5 a 12 v) Q) := (aw_eq g 123 63 _ _ _ _).trans (by rw [tq123_63]; exact rfl)
theorem tq123_66 : tT g 123 66 = s_load vRf 123 67 1 := rfl
theorem A123_66 {l0 : Option Value} {x : Value} {r : List Value} : aw g 123 66 [l0, some (x)] r σ Q = (vRf x = true ∧ aw g 123 67 [l0, some (x)] (x :: r) σ Q) := (aw_eq g 123 66 _ _ _ _).trans (by rw [tq123_66]; exact h_load rfl)
theorem tq123_67 : tT g 123 67 = s_const 123 68 (.int 0) := rfl
theorem A123_67 {L : AL} {r : List Value} : aw g 123 67 L r σ Q = aw g 123 68 L (.int 0 :: r) σ Q := (aw_eq g 123 67 _ _ _ _).trans (by rw [tq123_67]; exact rfl)
theorem tq123_68 : tT g 123 68 = s_callk 123 71 120 [1, 0] 2 := rfl
theorem A123_68 {L : AL} {r : List Value} {w0 w1 : Value} : aw g 123 68 L (w1 :: w0 :: r) σ Q = ((vRf w0 && (vI w1 && true)) = true ∧ csum r ≤ 8 ∧ aw g 120 0 [some w0, some w1] [] σ (kt (aw g) 123 71 L r Q)) := (aw_eq g 123 68 _ _ _ _).trans (by rw [tq123_68]; exact rfl)
theorem tq123_71 : tT g 123 71 = s_vret := rfl
theorem A123_71 {L : AL} : aw g 123 71 L [] σ Q = Q (.inl none) σ := (aw_eq g 123 71 _ _ _ _).trans (by rw [tq123_71]; exact rfl)
theorem tq124_0 : tT g 124 0 = s_load vRf 124 1 1 := rfl
theorem A124_0 {l0 : Option Value} {l2 : Option Value} {x : Value} {r : List Value} : aw g 124 0 [l0, some (x), l2] r σ Q = (vRf x = true ∧ aw g 124 1 [l0, some (x), l2] (x :: r) σ Q) := (aw_eq g 124 0 _ _ _ _).trans (by rw [tq124_0]; exact h_load rfl)
theorem tq124_1 : tT g 124 1 = s_getf 124 4 5 8 := rfl
theorem A124_1 {L : AL} {r : List Value} {a : Nat} : aw g 124 1 L (.ref a :: r) σ Q = (hty σ a = some 5 ∧ aw g 124 4 L (hv σ 5 a 8 :: r) σ Q) := (aw_eq g 124 1 _ _ _ _).trans (by rw [tq124_1]; exact rfl)
theorem tq124_4 : tT g 124 4 = s_if 124 23 7 (fun a => a = 0) := rfl
theorem A124_4 {L : AL} {r : List Value} {a : Int32} : aw g 124 4 L (.int a :: r) σ Q = ((a = 0 → aw g 124 7 L r σ Q) ∧ (¬ a = 0 → aw g 124 23 L r σ Q)) := (aw_eq g 124 4 _ _ _ _).trans (by rw [tq124_4]; exact rfl)
theorem tq124_7 : tT g 124 7 = s_load vRf 124 8 1 := rfl
theorem A124_7 {l0 : Option Value} {l2 : Option Value} {x : Value} {r : List Value} : aw g 124 7 [l0, some (x), l2] r σ Q = (vRf x = true ∧ aw g 124 8 [l0, some (x), l2] (x :: r) σ Q) := (aw_eq g 124 7 _ _ _ _).trans (by rw [tq124_7]; exact h_load rfl)
theorem tq124_8 : tT g 124 8 = s_getf 124 11 5 13 := rfl
theorem A124_8 {L : AL} {r : List Value} {a : Nat} : aw g 124 8 L (.ref a :: r) σ Q = (hty σ a = some 5 ∧ aw g 124 11 L (hv σ 5 a 13 :: r) σ Q) := (aw_eq g 124 8 _ _ _ _).trans (by rw [tq124_8]; exact rfl)
theorem tq124_11 : tT g 124 11 = s_const 124 12 (.int 2) := rfl
theorem A124_11 {L : AL} {r : List Value} : aw g 124 11 L r σ Q = aw g 124 12 L (.int 2 :: r) σ Q := (aw_eq g 124 11 _ _ _ _).trans (by rw [tq124_11]; exact rfl)
theorem tq124_12 : tT g 124 12 = s_dup2 124 13 := rfl
theorem A124_12 {L : AL} {r : List Value} {v w : Value} : aw g 124 12 L (v :: w :: r) σ Q = (v.category = 1 ∧ w.category = 1 ∧ aw g 124 13 L (v :: w :: v :: w :: r) σ Q) := (aw_eq g 124 12 _ _ _ _).trans (by rw [tq124_12]; exact rfl)
theorem tq124_13 : tT g 124 13 = s_ald 124 14 20 := rfl
theorem A124_13 {L : AL} {r : List Value} {a : Nat} {i : Int32} : aw g 124 13 L (.int i :: .ref a :: r) σ Q = (hty σ a = some 20 ∧ ¬ i < 0 ∧ i.toNatClampNeg < hln σ a ∧ aw g 124 14 L (hv σ 20 a i.toNatClampNeg :: r) σ Q) := (aw_eq g 124 13 _ _ _ _).trans (by rw [tq124_13]; exact rfl)
theorem tq124_14 : tT g 124 14 = s_const 124 15 (.int 1) := rfl
theorem A124_14 {L : AL} {r : List Value} : aw g 124 14 L r σ Q = aw g 124 15 L (.int 1 :: r) σ Q := (aw_eq g 124 14 _ _ _ _).trans (by rw [tq124_14]; exact rfl)
theorem tq124_15 : tT g 124 15 = s_bin 124 16 (fun a b => a + b) := rfl
theorem A124_15 {L : AL} {r : List Value} {a b : Int32} : aw g 124 15 L (.int b :: .int a :: r) σ Q = aw g 124 16 L (.int (a + b) :: r) σ Q := (aw_eq g 124 15 _ _ _ _).trans (by rw [tq124_15]; exact rfl)
theorem tq124_16 : tT g 124 16 = s_ast g (fun _ v => vI v = true) 124 17 20 := rfl
theorem A124_16 {L : AL} {r : List Value} {a : Nat} {i : Int32} {v : Value} : aw g 124 16 L (v :: .int i :: .ref a :: r) σ Q = (hty σ a = some 20 ∧ gB g ≤ a ∧ ¬ i < 0 ∧ i.toNatClampNeg < hln σ a ∧ vI v = true ∧ aw g 124 17 L r (hput σ 20 a i.toNatClampNeg v) Q) := (aw_eq g 124 16 _ _ _ _).trans (by rw [tq124_16]; exact rfl)
theorem tq124_17 : tT g 124 17 = s_load vRf 124 18 1 := rfl
theorem A124_17 {l0 : Option Value} {l2 : Option Value} {x : Value} {r : List Value} : aw g 124 17 [l0, some (x), l2] r σ Q = (vRf x = true ∧ aw g 124 18 [l0, some (x), l2] (x :: r) σ Q) := (aw_eq g 124 17 _ _ _ _).trans (by rw [tq124_17]; exact h_load rfl)
theorem tq124_18 : tT g 124 18 = s_const 124 19 (.int 1) := rfl
theorem A124_18 {L : AL} {r : List Value} : aw g 124 18 L r σ Q = aw g 124 19 L (.int 1 :: r) σ Q := (aw_eq g 124 18 _ _ _ _).trans (by rw [tq124_18]; exact rfl)
theorem tq124_19 : tT g 124 19 = s_putf g pI 124 22 5 3 := rfl
theorem A124_19 {L : AL} {r : List Value} {a : Nat} {v : Value} : aw g 124 19 L (v :: .ref a :: r) σ Q = (hty σ a = some 5 ∧ gB g ≤ a ∧ pI v ∧ aw g 124 22 L r (hput σ 5 a 3 v) Q) := (aw_eq g 124 19 _ _ _ _).trans (by rw [tq124_19]; exact rfl)
theorem tq124_22 : tT g 124 22 = s_vret := rfl
theorem A124_22 {L : AL} : aw g 124 22 L [] σ Q = Q (.inl none) σ := (aw_eq g 124 22 _ _ _ _).trans (by rw [tq124_22]; exact rfl)
theorem tq124_23 : tT g 124 23 = s_load vRf 124 24 1 := rfl
theorem A124_23 {l0 : Option Value} {l2 : Option Value} {x : Value} {r : List Value} : aw g 124 23 [l0, some (x), l2] r σ Q = (vRf x = true ∧ aw g 124 24 [l0, some (x), l2] (x :: r) σ Q) := (aw_eq g 124 23 _ _ _ _).trans (by rw [tq124_23]; exact h_load rfl)
theorem tq124_24 : tT g 124 24 = s_getf 124 27 5 8 := rfl
theorem A124_24 {L : AL} {r : List Value} {a : Nat} : aw g 124 24 L (.ref a :: r) σ Q = (hty σ a = some 5 ∧ aw g 124 27 L (hv σ 5 a 8 :: r) σ Q) := (aw_eq g 124 24 _ _ _ _).trans (by rw [tq124_24]; exact rfl)
theorem tq124_27 : tT g 124 27 = s_store vI 124 28 2 := rfl
theorem A124_27 {l0 : Option Value} {l1 : Option Value} {l2 : Option Value} {x : Int32} {r : List Value} : aw g 124 27 [l0, l1, l2] (.int x :: r) σ Q = (oc l1 = true ∧ aw g 124 28 [l0, l1, some (.int x)] r σ Q) := (aw_eq g 124 27 _ _ _ _).trans (by rw [tq124_27]; exact (h_store (o := oc l1) rfl rfl rfl).trans (propext ⟨fun z => z.2, fun z => ⟨rfl, z⟩⟩))
theorem tq124_28 : tT g 124 28 = s_load vRf 124 29 1 := rfl
theorem A124_28 {l0 : Option Value} {l2 : Option Value} {x : Value} {r : List Value} : aw g 124 28 [l0, some (x), l2] r σ Q = (vRf x = true ∧ aw g 124 29 [l0, some (x), l2] (x :: r) σ Q) := (aw_eq g 124 28 _ _ _ _).trans (by rw [tq124_28]; exact h_load rfl)
theorem tq124_29 : tT g 124 29 = s_const 124 30 (.int 0) := rfl
theorem A124_29 {L : AL} {r : List Value} : aw g 124 29 L r σ Q = aw g 124 30 L (.int 0 :: r) σ Q := (aw_eq g 124 29 _ _ _ _).trans (by rw [tq124_29]; exact rfl)
theorem tq124_30 : tT g 124 30 = s_putf g pI 124 33 5 8 := rfl
theorem A124_30 {L : AL} {r : List Value} {a : Nat} {v : Value} : aw g 124 30 L (v :: .ref a :: r) σ Q = (hty σ a = some 5 ∧ gB g ≤ a ∧ pI v ∧ aw g 124 33 L r (hput σ 5 a 8 v) Q) := (aw_eq g 124 30 _ _ _ _).trans (by rw [tq124_30]; exact rfl)
theorem tq124_33 : tT g 124 33 = s_load vRf 124 34 1 := rfl
theorem A124_33 {l0 : Option Value} {l2 : Option Value} {x : Value} {r : List Value} : aw g 124 33 [l0, some (x), l2] r σ Q = (vRf x = true ∧ aw g 124 34 [l0, some (x), l2] (x :: r) σ Q) := (aw_eq g 124 33 _ _ _ _).trans (by rw [tq124_33]; exact h_load rfl)
theorem tq124_34 : tT g 124 34 = s_load vI 124 35 2 := rfl
theorem A124_34 {l0 : Option Value} {l1 : Option Value} {x : Int32} {r : List Value} : aw g 124 34 [l0, l1, some (.int x)] r σ Q = aw g 124 35 [l0, l1, some (.int x)] (.int x :: r) σ Q := (aw_eq g 124 34 _ _ _ _).trans (by rw [tq124_34]; exact (h_load rfl).trans (propext ⟨fun z => z.2, fun z => ⟨rfl, z⟩⟩))
theorem tq124_35 : tT g 124 35 = s_callk 124 38 125 [1, 0] 2 := rfl
theorem A124_35 {L : AL} {r : List Value} {w0 w1 : Value} : aw g 124 35 L (w1 :: w0 :: r) σ Q = ((vRf w0 && (vI w1 && true)) = true ∧ csum r ≤ 8 ∧ aw g 125 0 [some w0, some w1] [] σ (kt (aw g) 124 38 L r Q)) := (aw_eq g 124 35 _ _ _ _).trans (by rw [tq124_35]; exact rfl)
theorem tq124_38 : tT g 124 38 = s_load vRf 124 39 1 := rfl
theorem A124_38 {l0 : Option Value} {l2 : Option Value} {x : Value} {r : List Value} : aw g 124 38 [l0, some (x), l2] r σ Q = (vRf x = true ∧ aw g 124 39 [l0, some (x), l2] (x :: r) σ Q) := (aw_eq g 124 38 _ _ _ _).trans (by rw [tq124_38]; exact h_load rfl)
theorem tq124_39 : tT g 124 39 = s_load vI 124 40 2 := rfl
theorem A124_39 {l0 : Option Value} {l1 : Option Value} {x : Int32} {r : List Value} : aw g 124 39 [l0, l1, some (.int x)] r σ Q = aw g 124 40 [l0, l1, some (.int x)] (.int x :: r) σ Q := (aw_eq g 124 39 _ _ _ _).trans (by rw [tq124_39]; exact (h_load rfl).trans (propext ⟨fun z => z.2, fun z => ⟨rfl, z⟩⟩))
theorem tq124_40 : tT g 124 40 = s_callk 124 43 120 [1, 0] 2 := rfl
theorem A124_40 {L : AL} {r : List Value} {w0 w1 : Value} : aw g 124 40 L (w1 :: w0 :: r) σ Q = ((vRf w0 && (vI w1 && true)) = true ∧ csum r ≤ 8 ∧ aw g 120 0 [some w0, some w1] [] σ (kt (aw g) 124 43 L r Q)) := (aw_eq g 124 40 _ _ _ _).trans (by rw [tq124_40]; exact rfl)
theorem tq124_43 : tT g 124 43 = s_vret := rfl
theorem A124_43 {L : AL} : aw g 124 43 L [] σ Q = Q (.inl none) σ := (aw_eq g 124 43 _ _ _ _).trans (by rw [tq124_43]; exact rfl)
theorem tq125_0 : tT g 125 0 = s_load vRf 125 1 0 := rfl
theorem A125_0 {l1 : Option Value} {x : Value} {r : List Value} : aw g 125 0 [some (x), l1] r σ Q = (vRf x = true ∧ aw g 125 1 [some (x), l1] (x :: r) σ Q) := (aw_eq g 125 0 _ _ _ _).trans (by rw [tq125_0]; exact h_load rfl)
theorem tq125_1 : tT g 125 1 = s_getf 125 4 5 21 := rfl
theorem A125_1 {L : AL} {r : List Value} {a : Nat} : aw g 125 1 L (.ref a :: r) σ Q = (hty σ a = some 5 ∧ aw g 125 4 L (hv σ 5 a 21 :: r) σ Q) := (aw_eq g 125 1 _ _ _ _).trans (by rw [tq125_1]; exact rfl)
theorem tq125_4 : tT g 125 4 = s_ifnull 125 7 15 := rfl
theorem A125_4 {L : AL} {r : List Value} {a : Value} : aw g 125 4 L (a :: r) σ Q = (vRf a = true ∧ (a = .null → aw g 125 15 L r σ Q) ∧ (a ≠ .null → aw g 125 7 L r σ Q)) := (aw_eq g 125 4 _ _ _ _).trans (by rw [tq125_4]; exact rfl)
theorem tq125_7 : tT g 125 7 = s_load vRf 125 8 0 := rfl
theorem A125_7 {l1 : Option Value} {x : Value} {r : List Value} : aw g 125 7 [some (x), l1] r σ Q = (vRf x = true ∧ aw g 125 8 [some (x), l1] (x :: r) σ Q) := (aw_eq g 125 7 _ _ _ _).trans (by rw [tq125_7]; exact h_load rfl)
theorem tq125_8 : tT g 125 8 = s_getf 125 11 5 21 := rfl
theorem A125_8 {L : AL} {r : List Value} {a : Nat} : aw g 125 8 L (.ref a :: r) σ Q = (hty σ a = some 5 ∧ aw g 125 11 L (hv σ 5 a 21 :: r) σ Q) := (aw_eq g 125 8 _ _ _ _).trans (by rw [tq125_8]; exact rfl)
theorem tq125_11 : tT g 125 11 = s_load vI 125 12 1 := rfl
theorem A125_11 {l0 : Option Value} {x : Int32} {r : List Value} : aw g 125 11 [l0, some (.int x)] r σ Q = aw g 125 12 [l0, some (.int x)] (.int x :: r) σ Q := (aw_eq g 125 11 _ _ _ _).trans (by rw [tq125_11]; exact (h_load rfl).trans (propext ⟨fun z => z.2, fun z => ⟨rfl, z⟩⟩))
theorem tq125_12 : tT g 125 12 = s_callvk 125 15 107 9 [0] 2 := rfl
theorem A125_12 {L : AL} {r : List Value} {a : Nat} {w0 : Value} : aw g 125 12 L (w0 :: .ref a :: r) σ Q = (hty σ a = some 9 ∧ (vI w0 && true) = true ∧ csum r ≤ 8 ∧ aw g 107 0 [some (.ref a), some w0] [] σ (kt (aw g) 125 15 L r Q)) := (aw_eq g 125 12 _ _ _ _).trans (by rw [tq125_12]; exact rfl)
theorem tq125_15 : tT g 125 15 = s_vret := rfl
theorem A125_15 {L : AL} : aw g 125 15 L [] σ Q = Q (.inl none) σ := (aw_eq g 125 15 _ _ _ _).trans (by rw [tq125_15]; exact rfl)
theorem tq126_0 : tT g 126 0 = s_load vRf 126 1 0 := rfl
theorem A126_0 {l1 : Option Value} {l2 : Option Value} {x : Value} {r : List Value} : aw g 126 0 [some (x), l1, l2] r σ Q = (vRf x = true ∧ aw g 126 1 [some (x), l1, l2] (x :: r) σ Q) := (aw_eq g 126 0 _ _ _ _).trans (by rw [tq126_0]; exact h_load rfl)
theorem tq126_1 : tT g 126 1 = s_getf 126 4 1 4 := rfl
theorem A126_1 {L : AL} {r : List Value} {a : Nat} : aw g 126 1 L (.ref a :: r) σ Q = (hty σ a = some 1 ∧ aw g 126 4 L (hv σ 1 a 4 :: r) σ Q) := (aw_eq g 126 1 _ _ _ _).trans (by rw [tq126_1]; exact rfl)
theorem tq126_4 : tT g 126 4 = s_ifnull 126 7 66 := rfl
theorem A126_4 {L : AL} {r : List Value} {a : Value} : aw g 126 4 L (a :: r) σ Q = (vRf a = true ∧ (a = .null → aw g 126 66 L r σ Q) ∧ (a ≠ .null → aw g 126 7 L r σ Q)) := (aw_eq g 126 4 _ _ _ _).trans (by rw [tq126_4]; exact rfl)
theorem tq126_7 : tT g 126 7 = s_load vRf 126 8 0 := rfl
theorem A126_7 {l1 : Option Value} {l2 : Option Value} {x : Value} {r : List Value} : aw g 126 7 [some (x), l1, l2] r σ Q = (vRf x = true ∧ aw g 126 8 [some (x), l1, l2] (x :: r) σ Q) := (aw_eq g 126 7 _ _ _ _).trans (by rw [tq126_7]; exact h_load rfl)
theorem tq126_8 : tT g 126 8 = s_getf 126 11 1 2 := rfl
theorem A126_8 {L : AL} {r : List Value} {a : Nat} : aw g 126 8 L (.ref a :: r) σ Q = (hty σ a = some 1 ∧ aw g 126 11 L (hv σ 1 a 2 :: r) σ Q) := (aw_eq g 126 8 _ _ _ _).trans (by rw [tq126_8]; exact rfl)
theorem tq126_11 : tT g 126 11 = s_load vRf 126 12 0 := rfl
theorem A126_11 {l1 : Option Value} {l2 : Option Value} {x : Value} {r : List Value} : aw g 126 11 [some (x), l1, l2] r σ Q = (vRf x = true ∧ aw g 126 12 [some (x), l1, l2] (x :: r) σ Q) := (aw_eq g 126 11 _ _ _ _).trans (by rw [tq126_11]; exact h_load rfl)
theorem tq126_12 : tT g 126 12 = s_getf 126 15 1 5 := rfl
theorem A126_12 {L : AL} {r : List Value} {a : Nat} : aw g 126 12 L (.ref a :: r) σ Q = (hty σ a = some 1 ∧ aw g 126 15 L (hv σ 1 a 5 :: r) σ Q) := (aw_eq g 126 12 _ _ _ _).trans (by rw [tq126_12]; exact rfl)
theorem tq126_15 : tT g 126 15 = s_bin 126 16 (fun a b => a - b) := rfl
theorem A126_15 {L : AL} {r : List Value} {a b : Int32} : aw g 126 15 L (.int b :: .int a :: r) σ Q = aw g 126 16 L (.int (a - b) :: r) σ Q := (aw_eq g 126 15 _ _ _ _).trans (by rw [tq126_15]; exact rfl)
theorem tq126_16 : tT g 126 16 = s_const 126 17 (.int 3) := rfl
theorem A126_16 {L : AL} {r : List Value} : aw g 126 16 L r σ Q = aw g 126 17 L (.int 3 :: r) σ Q := (aw_eq g 126 16 _ _ _ _).trans (by rw [tq126_16]; exact rfl)
theorem tq126_17 : tT g 126 17 = s_icmp 126 20 66 (fun a b => a < b) := rfl
theorem A126_17 {L : AL} {r : List Value} {a b : Int32} : aw g 126 17 L (.int b :: .int a :: r) σ Q = ((a < b → aw g 126 66 L r σ Q) ∧ (¬ a < b → aw g 126 20 L r σ Q)) := (aw_eq g 126 17 _ _ _ _).trans (by rw [tq126_17]; exact rfl)
theorem tq126_20 : tT g 126 20 = s_load vRf 126 21 0 := rfl
theorem A126_20 {l1 : Option Value} {l2 : Option Value} {x : Value} {r : List Value} : aw g 126 20 [some (x), l1, l2] r σ Q = (vRf x = true ∧ aw g 126 21 [some (x), l1, l2] (x :: r) σ Q) := (aw_eq g 126 20 _ _ _ _).trans (by rw [tq126_20]; exact h_load rfl)
theorem tq126_21 : tT g 126 21 = s_getf 126 24 1 4 := rfl
theorem A126_21 {L : AL} {r : List Value} {a : Nat} : aw g 126 21 L (.ref a :: r) σ Q = (hty σ a = some 1 ∧ aw g 126 24 L (hv σ 1 a 4 :: r) σ Q) := (aw_eq g 126 21 _ _ _ _).trans (by rw [tq126_21]; exact rfl)
theorem tq126_24 : tT g 126 24 = s_dup 126 25 := rfl
theorem A126_24 {L : AL} {r : List Value} {v : Value} : aw g 126 24 L (v :: r) σ Q = (v.category = 1 ∧ aw g 126 25 L (v :: v :: r) σ Q) := (aw_eq g 126 24 _ _ _ _).trans (by rw [tq126_24]; exact rfl)
theorem tq126_25 : tT g 126 25 = s_getf 126 28 5 8 := rfl
theorem A126_25 {L : AL} {r : List Value} {a : Nat} : aw g 126 25 L (.ref a :: r) σ Q = (hty σ a = some 5 ∧ aw g 126 28 L (hv σ 5 a 8 :: r) σ Q) := (aw_eq g 126 25 _ _ _ _).trans (by rw [tq126_25]; exact rfl)
theorem tq126_28 : tT g 126 28 = s_const 126 29 (.int 1) := rfl
theorem A126_28 {L : AL} {r : List Value} : aw g 126 28 L r σ Q = aw g 126 29 L (.int 1 :: r) σ Q := (aw_eq g 126 28 _ _ _ _).trans (by rw [tq126_28]; exact rfl)
theorem tq126_29 : tT g 126 29 = s_bin 126 30 (fun a b => a + b) := rfl
theorem A126_29 {L : AL} {r : List Value} {a b : Int32} : aw g 126 29 L (.int b :: .int a :: r) σ Q = aw g 126 30 L (.int (a + b) :: r) σ Q := (aw_eq g 126 29 _ _ _ _).trans (by rw [tq126_29]; exact rfl)
theorem tq126_30 : tT g 126 30 = s_putf g pI 126 33 5 8 := rfl
theorem A126_30 {L : AL} {r : List Value} {a : Nat} {v : Value} : aw g 126 30 L (v :: .ref a :: r) σ Q = (hty σ a = some 5 ∧ gB g ≤ a ∧ pI v ∧ aw g 126 33 L r (hput σ 5 a 8 v) Q) := (aw_eq g 126 30 _ _ _ _).trans (by rw [tq126_30]; exact rfl)
theorem tq126_33 : tT g 126 33 = s_load vRf 126 34 0 := rfl
theorem A126_33 {l1 : Option Value} {l2 : Option Value} {x : Value} {r : List Value} : aw g 126 33 [some (x), l1, l2] r σ Q = (vRf x = true ∧ aw g 126 34 [some (x), l1, l2] (x :: r) σ Q) := (aw_eq g 126 33 _ _ _ _).trans (by rw [tq126_33]; exact h_load rfl)
theorem tq126_34 : tT g 126 34 = s_getf 126 37 1 4 := rfl
theorem A126_34 {L : AL} {r : List Value} {a : Nat} : aw g 126 34 L (.ref a :: r) σ Q = (hty σ a = some 1 ∧ aw g 126 37 L (hv σ 1 a 4 :: r) σ Q) := (aw_eq g 126 34 _ _ _ _).trans (by rw [tq126_34]; exact rfl)
theorem tq126_37 : tT g 126 37 = s_getf 126 40 5 3 := rfl
theorem A126_37 {L : AL} {r : List Value} {a : Nat} : aw g 126 37 L (.ref a :: r) σ Q = (hty σ a = some 5 ∧ aw g 126 40 L (hv σ 5 a 3 :: r) σ Q) := (aw_eq g 126 37 _ _ _ _).trans (by rw [tq126_37]; exact rfl)
theorem tq126_40 : tT g 126 40 = s_const 126 41 (.int 1) := rfl
theorem A126_40 {L : AL} {r : List Value} : aw g 126 40 L r σ Q = aw g 126 41 L (.int 1 :: r) σ Q := (aw_eq g 126 40 _ _ _ _).trans (by rw [tq126_40]; exact rfl)
theorem tq126_41 : tT g 126 41 = s_icmp 126 52 44 (fun a b => a = b) := rfl
theorem A126_41 {L : AL} {r : List Value} {a b : Int32} : aw g 126 41 L (.int b :: .int a :: r) σ Q = ((a = b → aw g 126 44 L r σ Q) ∧ (¬ a = b → aw g 126 52 L r σ Q)) := (aw_eq g 126 41 _ _ _ _).trans (by rw [tq126_41]; exact rfl)
theorem tq126_44 : tT g 126 44 = s_load vRf 126 45 0 := rfl
theorem A126_44 {l1 : Option Value} {l2 : Option Value} {x : Value} {r : List Value} : aw g 126 44 [some (x), l1, l2] r σ Q = (vRf x = true ∧ aw g 126 45 [some (x), l1, l2] (x :: r) σ Q) := (aw_eq g 126 44 _ _ _ _).trans (by rw [tq126_44]; exact h_load rfl)
theorem tq126_45 : tT g 126 45 = s_getf 126 48 1 4 := rfl
theorem A126_45 {L : AL} {r : List Value} {a : Nat} : aw g 126 45 L (.ref a :: r) σ Q = (hty σ a = some 1 ∧ aw g 126 48 L (hv σ 1 a 4 :: r) σ Q) := (aw_eq g 126 45 _ _ _ _).trans (by rw [tq126_45]; exact rfl)
theorem tq126_48 : tT g 126 48 = s_const 126 49 (.int 0) := rfl
theorem A126_48 {L : AL} {r : List Value} : aw g 126 48 L r σ Q = aw g 126 49 L (.int 0 :: r) σ Q := (aw_eq g 126 48 _ _ _ _).trans (by rw [tq126_48]; exact rfl)
theorem tq126_49 : tT g 126 49 = s_putf g pI 126 52 5 3 := rfl
theorem A126_49 {L : AL} {r : List Value} {a : Nat} {v : Value} : aw g 126 49 L (v :: .ref a :: r) σ Q = (hty σ a = some 5 ∧ gB g ≤ a ∧ pI v ∧ aw g 126 52 L r (hput σ 5 a 3 v) Q) := (aw_eq g 126 49 _ _ _ _).trans (by rw [tq126_49]; exact rfl)
theorem tq126_52 : tT g 126 52 = s_load vRf 126 53 0 := rfl
theorem A126_52 {l1 : Option Value} {l2 : Option Value} {x : Value} {r : List Value} : aw g 126 52 [some (x), l1, l2] r σ Q = (vRf x = true ∧ aw g 126 53 [some (x), l1, l2] (x :: r) σ Q) := (aw_eq g 126 52 _ _ _ _).trans (by rw [tq126_52]; exact h_load rfl)
theorem tq126_53 : tT g 126 53 = s_dup 126 54 := rfl
theorem A126_53 {L : AL} {r : List Value} {v : Value} : aw g 126 53 L (v :: r) σ Q = (v.category = 1 ∧ aw g 126 54 L (v :: v :: r) σ Q) := (aw_eq g 126 53 _ _ _ _).trans (by rw [tq126_53]; exact rfl)
theorem tq126_54 : tT g 126 54 = s_getf 126 57 1 9 := rfl
theorem A126_54 {L : AL} {r : List Value} {a : Nat} : aw g 126 54 L (.ref a :: r) σ Q = (hty σ a = some 1 ∧ aw g 126 57 L (hv σ 1 a 9 :: r) σ Q) := (aw_eq g 126 54 _ _ _ _).trans (by rw [tq126_54]; exact rfl)
theorem tq126_57 : tT g 126 57 = s_const 126 58 (.int 1) := rfl
theorem A126_57 {L : AL} {r : List Value} : aw g 126 57 L r σ Q = aw g 126 58 L (.int 1 :: r) σ Q := (aw_eq g 126 57 _ _ _ _).trans (by rw [tq126_57]; exact rfl)
theorem tq126_58 : tT g 126 58 = s_bin 126 59 (fun a b => a + b) := rfl
theorem A126_58 {L : AL} {r : List Value} {a b : Int32} : aw g 126 58 L (.int b :: .int a :: r) σ Q = aw g 126 59 L (.int (a + b) :: r) σ Q := (aw_eq g 126 58 _ _ _ _).trans (by rw [tq126_58]; exact rfl)
theorem tq126_59 : tT g 126 59 = s_putf g pI 126 62 1 9 := rfl
theorem A126_59 {L : AL} {r : List Value} {a : Nat} {v : Value} : aw g 126 59 L (v :: .ref a :: r) σ Q = (hty σ a = some 1 ∧ gB g ≤ a ∧ pI v ∧ aw g 126 62 L r (hput σ 1 a 9 v) Q) := (aw_eq g 126 59 _ _ _ _).trans (by rw [tq126_59]; exact rfl)
theorem tq126_62 : tT g 126 62 = s_load vRf 126 63 0 := rfl
theorem A126_62 {l1 : Option Value} {l2 : Option Value} {x : Value} {r : List Value} : aw g 126 62 [some (x), l1, l2] r σ Q = (vRf x = true ∧ aw g 126 63 [some (x), l1, l2] (x :: r) σ Q) := (aw_eq g 126 62 _ _ _ _).trans (by rw [tq126_62]; exact h_load rfl)
theorem tq126_63 : tT g 126 63 = s_callvk 126 66 127 1 [] 1 := rfl
theorem A126_63 {L : AL} {r : List Value} {a : Nat} : aw g 126 63 L (.ref a :: r) σ Q = (hty σ a = some 1 ∧ true = true ∧ csum r ≤ 8 ∧ aw g 127 0 [some (.ref a)] [] σ (kt (aw g) 126 66 L r Q)) := (aw_eq g 126 63 _ _ _ _).trans (by rw [tq126_63]; exact rfl)
theorem tq126_66 : tT g 126 66 = s_const 126 67 (.int 1) := rfl
theorem A126_66 {L : AL} {r : List Value} : aw g 126 66 L r σ Q = aw g 126 67 L (.int 1 :: r) σ Q := (aw_eq g 126 66 _ _ _ _).trans (by rw [tq126_66]; exact rfl)
theorem tq126_67 : tT g 126 67 = s_store vI 126 68 1 := rfl
theorem A126_67 {l0 : Option Value} {l1 : Option Value} {l2 : Option Value} {x : Int32} {r : List Value} : aw g 126 67 [l0, l1, l2] (.int x :: r) σ Q = (oc l0 = true ∧ aw g 126 68 [l0, some (.int x), l2] r σ Q) := (aw_eq g 126 67 _ _ _ _).trans (by rw [tq126_67]; exact (h_store (o := oc l0) rfl rfl rfl).trans (propext ⟨fun z => z.2, fun z => ⟨rfl, z⟩⟩))
theorem tq126_68 : tT g 126 68 = s_load vI 126 69 1 := rfl
theorem A126_68 {l0 : Option Value} {l2 : Option Value} {x : Int32} {r : List Value} : aw g 126 68 [l0, some (.int x), l2] r σ Q = aw g 126 69 [l0, some (.int x), l2] (.int x :: r) σ Q := (aw_eq g 126 68 _ _ _ _).trans (by rw [tq126_68]; exact (h_load rfl).trans (propext ⟨fun z => z.2, fun z => ⟨rfl, z⟩⟩))
theorem tq126_69 : tT g 126 69 = s_load vRf 126 70 0 := rfl
theorem A126_69 {l1 : Option Value} {l2 : Option Value} {x : Value} {r : List Value} : aw g 126 69 [some (x), l1, l2] r σ Q = (vRf x = true ∧ aw g 126 70 [some (x), l1, l2] (x :: r) σ Q) := (aw_eq g 126 69 _ _ _ _).trans (by rw [tq126_69]; exact h_load rfl)
theorem tq126_70 : tT g 126 70 = s_getf 126 73 1 0 := rfl
theorem A126_70 {L : AL} {r : List Value} {a : Nat} : aw g 126 70 L (.ref a :: r) σ Q = (hty σ a = some 1 ∧ aw g 126 73 L (hv σ 1 a 0 :: r) σ Q) := (aw_eq g 126 70 _ _ _ _).trans (by rw [tq126_70]; exact rfl)
theorem tq126_73 : tT g 126 73 = s_callvk 126 76 15 10 [] 1 := rfl
theorem A126_73 {L : AL} {r : List Value} {a : Nat} : aw g 126 73 L (.ref a :: r) σ Q = (hty σ a = some 10 ∧ true = true ∧ csum r ≤ 8 ∧ aw g 15 0 [some (.ref a)] [] σ (kt (aw g) 126 76 L r Q)) := (aw_eq g 126 73 _ _ _ _).trans (by rw [tq126_73]; exact rfl)
theorem tq126_76 : tT g 126 76 = s_icmp 126 79 129 (fun a b => b < a) := rfl
theorem A126_76 {L : AL} {r : List Value} {a b : Int32} : aw g 126 76 L (.int b :: .int a :: r) σ Q = ((b < a → aw g 126 129 L r σ Q) ∧ (¬ b < a → aw g 126 79 L r σ Q)) := (aw_eq g 126 76 _ _ _ _).trans (by rw [tq126_76]; exact rfl)
theorem tq126_79 : tT g 126 79 = s_load vRf 126 80 0 := rfl
theorem A126_79 {l1 : Option Value} {l2 : Option Value} {x : Value} {r : List Value} : aw g 126 79 [some (x), l1, l2] r σ Q = (vRf x = true ∧ aw g 126 80 [some (x), l1, l2] (x :: r) σ Q) := (aw_eq g 126 79 _ _ _ _).trans (by rw [tq126_79]; exact h_load rfl)
theorem tq126_80 : tT g 126 80 = s_getf 126 83 1 4 := rfl
theorem A126_80 {L : AL} {r : List Value} {a : Nat} : aw g 126 80 L (.ref a :: r) σ Q = (hty σ a = some 1 ∧ aw g 126 83 L (hv σ 1 a 4 :: r) σ Q) := (aw_eq g 126 80 _ _ _ _).trans (by rw [tq126_80]; exact rfl)
theorem tq126_83 : tT g 126 83 = s_ifnn 126 86 129 := rfl
theorem A126_83 {L : AL} {r : List Value} {a : Value} : aw g 126 83 L (a :: r) σ Q = (vRf a = true ∧ (a = .null → aw g 126 86 L r σ Q) ∧ (a ≠ .null → aw g 126 129 L r σ Q)) := (aw_eq g 126 83 _ _ _ _).trans (by rw [tq126_83]; exact rfl)
theorem tq126_86 : tT g 126 86 = s_load vRf 126 87 0 := rfl
theorem A126_86 {l1 : Option Value} {l2 : Option Value} {x : Value} {r : List Value} : aw g 126 86 [some (x), l1, l2] r σ Q = (vRf x = true ∧ aw g 126 87 [some (x), l1, l2] (x :: r) σ Q) := (aw_eq g 126 86 _ _ _ _).trans (by rw [tq126_86]; exact h_load rfl)
theorem tq126_87 : tT g 126 87 = s_getf 126 90 1 0 := rfl
theorem A126_87 {L : AL} {r : List Value} {a : Nat} : aw g 126 87 L (.ref a :: r) σ Q = (hty σ a = some 1 ∧ aw g 126 90 L (hv σ 1 a 0 :: r) σ Q) := (aw_eq g 126 87 _ _ _ _).trans (by rw [tq126_87]; exact rfl)
theorem tq126_90 : tT g 126 90 = s_load vRf 126 91 0 := rfl
theorem A126_90 {l1 : Option Value} {l2 : Option Value} {x : Value} {r : List Value} : aw g 126 90 [some (x), l1, l2] r σ Q = (vRf x = true ∧ aw g 126 91 [some (x), l1, l2] (x :: r) σ Q) := (aw_eq g 126 90 _ _ _ _).trans (by rw [tq126_90]; exact h_load rfl)
theorem tq126_91 : tT g 126 91 = s_getf 126 94 1 6 := rfl
theorem A126_91 {L : AL} {r : List Value} {a : Nat} : aw g 126 91 L (.ref a :: r) σ Q = (hty σ a = some 1 ∧ aw g 126 94 L (hv σ 1 a 6 :: r) σ Q) := (aw_eq g 126 91 _ _ _ _).trans (by rw [tq126_91]; exact rfl)
theorem tq126_94 : tT g 126 94 = s_load vI 126 95 1 := rfl
theorem A126_94 {l0 : Option Value} {l2 : Option Value} {x : Int32} {r : List Value} : aw g 126 94 [l0, some (.int x), l2] r σ Q = aw g 126 95 [l0, some (.int x), l2] (.int x :: r) σ Q := (aw_eq g 126 94 _ _ _ _).trans (by rw [tq126_94]; exact (h_load rfl).trans (propext ⟨fun z => z.2, fun z => ⟨rfl, z⟩⟩))
theorem tq126_95 : tT g 126 95 = s_bin 126 96 (fun a b => a + b) := rfl
theorem A126_95 {L : AL} {r : List Value} {a b : Int32} : aw g 126 95 L (.int b :: .int a :: r) σ Q = aw g 126 96 L (.int (a + b) :: r) σ Q := (aw_eq g 126 95 _ _ _ _).trans (by rw [tq126_95]; exact rfl)
theorem tq126_96 : tT g 126 96 = s_load vRf 126 97 0 := rfl
theorem A126_96 {l1 : Option Value} {l2 : Option Value} {x : Value} {r : List Value} : aw g 126 96 [some (x), l1, l2] r σ Q = (vRf x = true ∧ aw g 126 97 [some (x), l1, l2] (x :: r) σ Q) := (aw_eq g 126 96 _ _ _ _).trans (by rw [tq126_96]; exact h_load rfl)
theorem tq126_97 : tT g 126 97 = s_getf 126 100 1 0 := rfl
theorem A126_97 {L : AL} {r : List Value} {a : Nat} : aw g 126 97 L (.ref a :: r) σ Q = (hty σ a = some 1 ∧ aw g 126 100 L (hv σ 1 a 0 :: r) σ Q) := (aw_eq g 126 97 _ _ _ _).trans (by rw [tq126_97]; exact rfl)
theorem tq126_100 : tT g 126 100 = s_callvk 126 103 15 10 [] 1 := rfl
theorem A126_100 {L : AL} {r : List Value} {a : Nat} : aw g 126 100 L (.ref a :: r) σ Q = (hty σ a = some 10 ∧ true = true ∧ csum r ≤ 8 ∧ aw g 15 0 [some (.ref a)] [] σ (kt (aw g) 126 103 L r Q)) := (aw_eq g 126 100 _ _ _ _).trans (by rw [tq126_100]; exact rfl)
theorem tq126_103 : tT g 126 103 = s_div 126 104 (fun a b => a - a / b * b) := rfl
theorem A126_103 {L : AL} {r : List Value} {a b : Int32} : aw g 126 103 L (.int b :: .int a :: r) σ Q = (b ≠ 0 ∧ aw g 126 104 L (.int (a - a / b * b) :: r) σ Q) := (aw_eq g 126 103 _ _ _ _).trans (by rw [tq126_103]; exact rfl)
theorem tq126_104 : tT g 126 104 = s_callvk 126 107 25 10 [0] 2 := rfl
theorem A126_104 {L : AL} {r : List Value} {a : Nat} {w0 : Value} : aw g 126 104 L (w0 :: .ref a :: r) σ Q = (hty σ a = some 10 ∧ (vI w0 && true) = true ∧ csum r ≤ 8 ∧ aw g 25 0 [some (.ref a), some w0] [] σ (kt (aw g) 126 107 L r Q)) := (aw_eq g 126 104 _ _ _ _).trans (by rw [tq126_104]; exact rfl)
theorem tq126_107 : tT g 126 107 = s_cast 126 110 [5] := rfl
theorem A126_107 {L : AL} {r : List Value} : aw g 126 107 L (.null :: r) σ Q = aw g 126 110 L (.null :: r) σ Q := (aw_eq g 126 107 _ _ _ _).trans (by rw [tq126_107]; exact rfl)
theorem A126_107r {L : AL} {r : List Value} {a : Nat} : aw g 126 107 L (.ref a :: r) σ Q = (hty σ a = some 5 ∧ aw g 126 110 L (.ref a :: r) σ Q) := (aw_eq g 126 107 _ _ _ _).trans (by rw [tq126_107]; exact propext ⟨fun z => (by obtain ⟨⟨u, hu, hu2⟩, z2⟩ := z; rw [List.mem_singleton] at hu; subst hu; exact ⟨hu2, z2⟩), fun z => ⟨⟨_, List.mem_cons_self, z.1⟩, z.2⟩⟩)
theorem tq126_110 : tT g 126 110 = s_store vRf 126 111 2 := rfl
theorem A126_110 {l0 : Option Value} {l1 : Option Value} {l2 : Option Value} {x : Value} {r : List Value} : aw g 126 110 [l0, l1, l2] (x :: r) σ Q = (vRf x = true ∧ oc l1 = true ∧ aw g 126 111 [l0, l1, some (x)] r σ Q) := (aw_eq g 126 110 _ _ _ _).trans (by rw [tq126_110]; exact (h_store (o := oc l1) rfl rfl rfl))
theorem tq126_111 : tT g 126 111 = s_load vRf 126 112 2 := rfl
theorem A126_111 {l0 : Option Value} {l1 : Option Value} {x : Value} {r : List Value} : aw g 126 111 [l0, l1, some (x)] r σ Q = (vRf x = true ∧ aw g 126 112 [l0, l1, some (x)] (x :: r) σ Q) := (aw_eq g 126 111 _ _ _ _).trans (by rw [tq126_111]; exact h_load rfl)
theorem tq126_112 : tT g 126 112 = s_getf 126 115 5 12 := rfl
theorem A126_112 {L : AL} {r : List Value} {a : Nat} : aw g 126 112 L (.ref a :: r) σ Q = (hty σ a = some 5 ∧ aw g 126 115 L (hv σ 5 a 12 :: r) σ Q) := (aw_eq g 126 112 _ _ _ _).trans (by rw [tq126_112]; exact rfl)
theorem tq126_115 : tT g 126 115 = s_if 126 118 123 (fun a => a ≤ 0) := rfl
theorem A126_115 {L : AL} {r : List Value} {a : Int32} : aw g 126 115 L (.int a :: r) σ Q = ((a ≤ 0 → aw g 126 123 L r σ Q) ∧ (¬ a ≤ 0 → aw g 126 118 L r σ Q)) := (aw_eq g 126 115 _ _ _ _).trans (by rw [tq126_115]; exact rfl)
theorem tq126_118 : tT g 126 118 = s_load vRf 126 119 0 := rfl
theorem A126_118 {l1 : Option Value} {l2 : Option Value} {x : Value} {r : List Value} : aw g 126 118 [some (x), l1, l2] r σ Q = (vRf x = true ∧ aw g 126 119 [some (x), l1, l2] (x :: r) σ Q) := (aw_eq g 126 118 _ _ _ _).trans (by rw [tq126_118]; exact h_load rfl)
theorem tq126_119 : tT g 126 119 = s_load vRf 126 120 2 := rfl
theorem A126_119 {l0 : Option Value} {l1 : Option Value} {x : Value} {r : List Value} : aw g 126 119 [l0, l1, some (x)] r σ Q = (vRf x = true ∧ aw g 126 120 [l0, l1, some (x)] (x :: r) σ Q) := (aw_eq g 126 119 _ _ _ _).trans (by rw [tq126_119]; exact h_load rfl)
theorem tq126_120 : tT g 126 120 = s_callvk 126 123 128 1 [1] 2 := rfl
theorem A126_120 {L : AL} {r : List Value} {a : Nat} {w0 : Value} : aw g 126 120 L (w0 :: .ref a :: r) σ Q = (hty σ a = some 1 ∧ (vRf w0 && true) = true ∧ csum r ≤ 8 ∧ aw g 128 0 [some (.ref a), some w0] [] σ (kt (aw g) 126 123 L r Q)) := (aw_eq g 126 120 _ _ _ _).trans (by rw [tq126_120]; exact rfl)
theorem tq126_123 : tT g 126 123 = s_iinc 126 126 1 1 := rfl
theorem A126_123 {l0 : Option Value} {l2 : Option Value} {x : Int32} {r : List Value} : aw g 126 123 [l0, some (.int x), l2] r σ Q = (oc l0 = true ∧ aw g 126 126 [l0, some (.int (x + 1)), l2] r σ Q) := (aw_eq g 126 123 _ _ _ _).trans (by rw [tq126_123]; exact (h_iinc (o := oc l0) rfl rfl rfl))
theorem tq126_126 : tT g 126 126 = s_goto 126 68 := rfl
theorem A126_126 {L : AL} {r : List Value} : aw g 126 126 L r σ Q = aw g 126 68 L r σ Q := (aw_eq g 126 126 _ _ _ _).trans (by rw [tq126_126]; exact rfl)
theorem tq126_129 : tT g 126 129 = s_vret := rfl
theorem A126_129 {L : AL} : aw g 126 129 L [] σ Q = Q (.inl none) σ := (aw_eq g 126 129 _ _ _ _).trans (by rw [tq126_129]; exact rfl)
theorem tq127_0 : tT g 127 0 = s_load vRf 127 1 0 := rfl
theorem A127_0  {x : Value} {r : List Value} : aw g 127 0 [some (x)] r σ Q = (vRf x = true ∧ aw g 127 1 [some (x)] (x :: r) σ Q) := (aw_eq g 127 0 _ _ _ _).trans (by rw [tq127_0]; exact h_load rfl)
theorem tq127_1 : tT g 127 1 = s_const 127 2 .null := rfl
theorem A127_1 {L : AL} {r : List Value} : aw g 127 1 L r σ Q = aw g 127 2 L (.null :: r) σ Q := (aw_eq g 127 1 _ _ _ _).trans (by rw [tq127_1]; exact rfl)
theorem tq127_2 : tT g 127 2 = s_putf g pR 127 5 1 4 := rfl
theorem A127_2 {L : AL} {r : List Value} {a : Nat} {v : Value} : aw g 127 2 L (v :: .ref a :: r) σ Q = (hty σ a = some 1 ∧ gB g ≤ a ∧ pR v ∧ aw g 127 5 L r (hput σ 1 a 4 v) Q) := (aw_eq g 127 2 _ _ _ _).trans (by rw [tq127_2]; exact rfl)
theorem tq127_5 : tT g 127 5 = s_load vRf 127 6 0 := rfl
theorem A127_5  {x : Value} {r : List Value} : aw g 127 5 [some (x)] r σ Q = (vRf x = true ∧ aw g 127 6 [some (x)] (x :: r) σ Q) := (aw_eq g 127 5 _ _ _ _).trans (by rw [tq127_5]; exact h_load rfl)
theorem tq127_6 : tT g 127 6 = s_const 127 7 (.int (-1)) := rfl
theorem A127_6 {L : AL} {r : List Value} : aw g 127 6 L r σ Q = aw g 127 7 L (.int (-1) :: r) σ Q := (aw_eq g 127 6 _ _ _ _).trans (by rw [tq127_6]; exact rfl)
theorem tq127_7 : tT g 127 7 = s_putf g pI 127 10 1 5 := rfl
theorem A127_7 {L : AL} {r : List Value} {a : Nat} {v : Value} : aw g 127 7 L (v :: .ref a :: r) σ Q = (hty σ a = some 1 ∧ gB g ≤ a ∧ pI v ∧ aw g 127 10 L r (hput σ 1 a 5 v) Q) := (aw_eq g 127 7 _ _ _ _).trans (by rw [tq127_7]; exact rfl)
theorem tq127_10 : tT g 127 10 = s_vret := rfl
theorem A127_10 {L : AL} : aw g 127 10 L [] σ Q = Q (.inl none) σ := (aw_eq g 127 10 _ _ _ _).trans (by rw [tq127_10]; exact rfl)
theorem tq128_0 : tT g 128 0 = s_load vRf 128 1 1 := rfl
theorem A128_0 {l0 : Option Value} {x : Value} {r : List Value} : aw g 128 0 [l0, some (x)] r σ Q = (vRf x = true ∧ aw g 128 1 [l0, some (x)] (x :: r) σ Q) := (aw_eq g 128 0 _ _ _ _).trans (by rw [tq128_0]; exact h_load rfl)
theorem tq128_1 : tT g 128 1 = s_dup 128 2 := rfl
theorem A128_1 {L : AL} {r : List Value} {v : Value} : aw g 128 1 L (v :: r) σ Q = (v.category = 1 ∧ aw g 128 2 L (v :: v :: r) σ Q) := (aw_eq g 128 1 _ _ _ _).trans (by rw [tq128_1]; exact rfl)
theorem tq128_2 : tT g 128 2 = s_getf 128 5 5 12 := rfl
theorem A128_2 {L : AL} {r : List Value} {a : Nat} : aw g 128 2 L (.ref a :: r) σ Q = (hty σ a = some 5 ∧ aw g 128 5 L (hv σ 5 a 12 :: r) σ Q) := (aw_eq g 128 2 _ _ _ _).trans (by rw [tq128_2]; exact rfl)
theorem tq128_5 : tT g 128 5 = s_const 128 6 (.int 1) := rfl
theorem A128_5 {L : AL} {r : List Value} : aw g 128 5 L r σ Q = aw g 128 6 L (.int 1 :: r) σ Q := (aw_eq g 128 5 _ _ _ _).trans (by rw [tq128_5]; exact rfl)
theorem tq128_6 : tT g 128 6 = s_bin 128 7 (fun a b => a - b) := rfl
theorem A128_6 {L : AL} {r : List Value} {a b : Int32} : aw g 128 6 L (.int b :: .int a :: r) σ Q = aw g 128 7 L (.int (a - b) :: r) σ Q := (aw_eq g 128 6 _ _ _ _).trans (by rw [tq128_6]; exact rfl)
theorem tq128_7 : tT g 128 7 = s_putf g pI 128 10 5 12 := rfl
theorem A128_7 {L : AL} {r : List Value} {a : Nat} {v : Value} : aw g 128 7 L (v :: .ref a :: r) σ Q = (hty σ a = some 5 ∧ gB g ≤ a ∧ pI v ∧ aw g 128 10 L r (hput σ 5 a 12 v) Q) := (aw_eq g 128 7 _ _ _ _).trans (by rw [tq128_7]; exact rfl)
theorem tq128_10 : tT g 128 10 = s_load vRf 128 11 0 := rfl
theorem A128_10 {l1 : Option Value} {x : Value} {r : List Value} : aw g 128 10 [some (x), l1] r σ Q = (vRf x = true ∧ aw g 128 11 [some (x), l1] (x :: r) σ Q) := (aw_eq g 128 10 _ _ _ _).trans (by rw [tq128_10]; exact h_load rfl)
theorem tq128_11 : tT g 128 11 = s_load vRf 128 12 1 := rfl
theorem A128_11 {l0 : Option Value} {x : Value} {r : List Value} : aw g 128 11 [l0, some (x)] r σ Q = (vRf x = true ∧ aw g 128 12 [l0, some (x)] (x :: r) σ Q) := (aw_eq g 128 11 _ _ _ _).trans (by rw [tq128_11]; exact h_load rfl)
theorem tq128_12 : tT g 128 12 = s_putf g pR 128 15 1 4 := rfl
theorem A128_12 {L : AL} {r : List Value} {a : Nat} {v : Value} : aw g 128 12 L (v :: .ref a :: r) σ Q = (hty σ a = some 1 ∧ gB g ≤ a ∧ pR v ∧ aw g 128 15 L r (hput σ 1 a 4 v) Q) := (aw_eq g 128 12 _ _ _ _).trans (by rw [tq128_12]; exact rfl)
theorem tq128_15 : tT g 128 15 = s_load vRf 128 16 0 := rfl
theorem A128_15 {l1 : Option Value} {x : Value} {r : List Value} : aw g 128 15 [some (x), l1] r σ Q = (vRf x = true ∧ aw g 128 16 [some (x), l1] (x :: r) σ Q) := (aw_eq g 128 15 _ _ _ _).trans (by rw [tq128_15]; exact h_load rfl)
theorem tq128_16 : tT g 128 16 = s_load vRf 128 17 0 := rfl
theorem A128_16 {l1 : Option Value} {x : Value} {r : List Value} : aw g 128 16 [some (x), l1] r σ Q = (vRf x = true ∧ aw g 128 17 [some (x), l1] (x :: r) σ Q) := (aw_eq g 128 16 _ _ _ _).trans (by rw [tq128_16]; exact h_load rfl)
theorem tq128_17 : tT g 128 17 = s_getf 128 20 1 2 := rfl
theorem A128_17 {L : AL} {r : List Value} {a : Nat} : aw g 128 17 L (.ref a :: r) σ Q = (hty σ a = some 1 ∧ aw g 128 20 L (hv σ 1 a 2 :: r) σ Q) := (aw_eq g 128 17 _ _ _ _).trans (by rw [tq128_17]; exact rfl)
theorem tq128_20 : tT g 128 20 = s_putf g pI 128 23 1 5 := rfl
theorem A128_20 {L : AL} {r : List Value} {a : Nat} {v : Value} : aw g 128 20 L (v :: .ref a :: r) σ Q = (hty σ a = some 1 ∧ gB g ≤ a ∧ pI v ∧ aw g 128 23 L r (hput σ 1 a 5 v) Q) := (aw_eq g 128 20 _ _ _ _).trans (by rw [tq128_20]; exact rfl)
theorem tq128_23 : tT g 128 23 = s_load vRf 128 24 0 := rfl
theorem A128_23 {l1 : Option Value} {x : Value} {r : List Value} : aw g 128 23 [some (x), l1] r σ Q = (vRf x = true ∧ aw g 128 24 [some (x), l1] (x :: r) σ Q) := (aw_eq g 128 23 _ _ _ _).trans (by rw [tq128_23]; exact h_load rfl)
theorem tq128_24 : tT g 128 24 = s_load vRf 128 25 1 := rfl
theorem A128_24 {l0 : Option Value} {x : Value} {r : List Value} : aw g 128 24 [l0, some (x)] r σ Q = (vRf x = true ∧ aw g 128 25 [l0, some (x)] (x :: r) σ Q) := (aw_eq g 128 24 _ _ _ _).trans (by rw [tq128_24]; exact h_load rfl)
theorem tq128_25 : tT g 128 25 = s_getf 128 28 5 0 := rfl
theorem A128_25 {L : AL} {r : List Value} {a : Nat} : aw g 128 25 L (.ref a :: r) σ Q = (hty σ a = some 5 ∧ aw g 128 28 L (hv σ 5 a 0 :: r) σ Q) := (aw_eq g 128 25 _ _ _ _).trans (by rw [tq128_25]; exact rfl)
theorem tq128_28 : tT g 128 28 = s_putf g pI 128 31 1 6 := rfl
theorem A128_28 {L : AL} {r : List Value} {a : Nat} {v : Value} : aw g 128 28 L (v :: .ref a :: r) σ Q = (hty σ a = some 1 ∧ gB g ≤ a ∧ pI v ∧ aw g 128 31 L r (hput σ 1 a 6 v) Q) := (aw_eq g 128 28 _ _ _ _).trans (by rw [tq128_28]; exact rfl)
theorem tq128_31 : tT g 128 31 = s_vret := rfl
theorem A128_31 {L : AL} : aw g 128 31 L [] σ Q = Q (.inl none) σ := (aw_eq g 128 31 _ _ _ _).trans (by rw [tq128_31]; exact rfl)
theorem tq129_0 : tT g 129 0 = s_load vRf 129 1 1 := rfl
theorem A129_0 {l0 : Option Value} {l2 : Option Value} {l3 : Option Value} {l4 : Option Value} {x : Value} {r : List Value} : aw g 129 0 [l0, some (x), l2, l3, l4] r σ Q = (vRf x = true ∧ aw g 129 1 [l0, some (x), l2, l3, l4] (x :: r) σ Q) := (aw_eq g 129 0 _ _ _ _).trans (by rw [tq129_0]; exact h_load rfl)
theorem tq129_1 : tT g 129 1 = s_getf 129 4 5 19 := rfl
theorem A129_1 {L : AL} {r : List Value} {a : Nat} : aw g 129 1 L (.ref a :: r) σ Q = (hty σ a = some 5 ∧ aw g 129 4 L (hv σ 5 a 19 :: r) σ Q) := (aw_eq g 129 1 _ _ _ _).trans (by rw [tq129_1]; exact rfl)
theorem tq129_4 : tT g 129 4 = s_if 129 7 13 (fun a => a = 0) := rfl
theorem A129_4 {L : AL} {r : List Value} {a : Int32} : aw g 129 4 L (.int a :: r) σ Q = ((a = 0 → aw g 129 13 L r σ Q) ∧ (¬ a = 0 → aw g 129 7 L r σ Q)) := (aw_eq g 129 4 _ _ _ _).trans (by rw [tq129_4]; exact rfl)
theorem tq129_7 : tT g 129 7 = s_load vRf 129 8 0 := rfl
theorem A129_7 {l1 : Option Value} {l2 : Option Value} {l3 : Option Value} {l4 : Option Value} {x : Value} {r : List Value} : aw g 129 7 [some (x), l1, l2, l3, l4] r σ Q = (vRf x = true ∧ aw g 129 8 [some (x), l1, l2, l3, l4] (x :: r) σ Q) := (aw_eq g 129 7 _ _ _ _).trans (by rw [tq129_7]; exact h_load rfl)
theorem tq129_8 : tT g 129 8 = s_load vRf 129 9 1 := rfl
theorem A129_8 {l0 : Option Value} {l2 : Option Value} {l3 : Option Value} {l4 : Option Value} {x : Value} {r : List Value} : aw g 129 8 [l0, some (x), l2, l3, l4] r σ Q = (vRf x = true ∧ aw g 129 9 [l0, some (x), l2, l3, l4] (x :: r) σ Q) := (aw_eq g 129 8 _ _ _ _).trans (by rw [tq129_8]; exact h_load rfl)
theorem tq129_9 : tT g 129 9 = s_callvk 129 12 130 1 [1] 4 := rfl
theorem A129_9 {L : AL} {r : List Value} {a : Nat} {w0 : Value} : aw g 129 9 L (w0 :: .ref a :: r) σ Q = (hty σ a = some 1 ∧ (vRf w0 && true) = true ∧ csum r ≤ 8 ∧ aw g 130 0 [some (.ref a), some w0, none, none] [] σ (kt (aw g) 129 12 L r Q)) := (aw_eq g 129 9 _ _ _ _).trans (by rw [tq129_9]; exact rfl)
theorem tq129_12 : tT g 129 12 = s_vret := rfl
theorem A129_12 {L : AL} : aw g 129 12 L [] σ Q = Q (.inl none) σ := (aw_eq g 129 12 _ _ _ _).trans (by rw [tq129_12]; exact rfl)
theorem tq129_13 : tT g 129 13 = s_load vRf 129 14 1 := rfl
theorem A129_13 {l0 : Option Value} {l2 : Option Value} {l3 : Option Value} {l4 : Option Value} {x : Value} {r : List Value} : aw g 129 13 [l0, some (x), l2, l3, l4] r σ Q = (vRf x = true ∧ aw g 129 14 [l0, some (x), l2, l3, l4] (x :: r) σ Q) := (aw_eq g 129 13 _ _ _ _).trans (by rw [tq129_13]; exact h_load rfl)
theorem tq129_14 : tT g 129 14 = s_callvk 129 17 193 5 [] 3 := rfl
theorem A129_14 {L : AL} {r : List Value} {a : Nat} : aw g 129 14 L (.ref a :: r) σ Q = (hty σ a = some 5 ∧ true = true ∧ csum r ≤ 8 ∧ aw g 193 0 [some (.ref a), none, none] [] σ (kt (aw g) 129 17 L r Q)) := (aw_eq g 129 14 _ _ _ _).trans (by rw [tq129_14]; exact rfl)
theorem tq129_17 : tT g 129 17 = s_load vRf 129 18 1 := rfl
theorem A129_17 {l0 : Option Value} {l2 : Option Value} {l3 : Option Value} {l4 : Option Value} {x : Value} {r : List Value} : aw g 129 17 [l0, some (x), l2, l3, l4] r σ Q = (vRf x = true ∧ aw g 129 18 [l0, some (x), l2, l3, l4] (x :: r) σ Q) := (aw_eq g 129 17 _ _ _ _).trans (by rw [tq129_17]; exact h_load rfl)
theorem tq129_18 : tT g 129 18 = s_getf 129 21 5 17 := rfl
theorem A129_18 {L : AL} {r : List Value} {a : Nat} : aw g 129 18 L (.ref a :: r) σ Q = (hty σ a = some 5 ∧ aw g 129 21 L (hv σ 5 a 17 :: r) σ Q) := (aw_eq g 129 18 _ _ _ _).trans (by rw [tq129_18]; exact rfl)
theorem tq129_21 : tT g 129 21 = s_icmp 129 24 28 (fun a b => b < a) := rfl
theorem A129_21 {L : AL} {r : List Value} {a b : Int32} : aw g 129 21 L (.int b :: .int a :: r) σ Q = ((b < a → aw g 129 28 L r σ Q) ∧ (¬ b < a → aw g 129 24 L r σ Q)) := (aw_eq g 129 21 _ _ _ _).trans (by rw [tq129_21]; exact rfl)
theorem tq129_24 : tT g 129 24 = s_const 129 25 (.int 1) := rfl
theorem A129_24 {L : AL} {r : List Value} : aw g 129 24 L r σ Q = aw g 129 25 L (.int 1 :: r) σ Q := (aw_eq g 129 24 _ _ _ _).trans (by rw [tq129_24]; exact rfl)
theorem tq129_25 : tT g 129 25 = s_goto 129 29 := rfl
theorem A129_25 {L : AL} {r : List Value} : aw g 129 25 L r σ Q = aw g 129 29 L r σ Q := (aw_eq g 129 25 _ _ _ _).trans (by rw [tq129_25]; exact rfl)
theorem tq129_28 : tT g 129 28 = s_const 129 29 (.int 0) := rfl
theorem A129_28 {L : AL} {r : List Value} : aw g 129 28 L r σ Q = aw g 129 29 L (.int 0 :: r) σ Q := (aw_eq g 129 28 _ _ _ _).trans (by rw [tq129_28]; exact rfl)
theorem tq129_29 : tT g 129 29 = s_store vI 129 30 2 := rfl
theorem A129_29 {l0 : Option Value} {l1 : Option Value} {l2 : Option Value} {l3 : Option Value} {l4 : Option Value} {x : Int32} {r : List Value} : aw g 129 29 [l0, l1, l2, l3, l4] (.int x :: r) σ Q = (oc l1 = true ∧ aw g 129 30 [l0, l1, some (.int x), l3, l4] r σ Q) := (aw_eq g 129 29 _ _ _ _).trans (by rw [tq129_29]; exact (h_store (o := oc l1) rfl rfl rfl).trans (propext ⟨fun z => z.2, fun z => ⟨rfl, z⟩⟩))
theorem tq129_30 : tT g 129 30 = s_load vI 129 31 2 := rfl
theorem A129_30 {l0 : Option Value} {l1 : Option Value} {l3 : Option Value} {l4 : Option Value} {x : Int32} {r : List Value} : aw g 129 30 [l0, l1, some (.int x), l3, l4] r σ Q = aw g 129 31 [l0, l1, some (.int x), l3, l4] (.int x :: r) σ Q := (aw_eq g 129 30 _ _ _ _).trans (by rw [tq129_30]; exact (h_load rfl).trans (propext ⟨fun z => z.2, fun z => ⟨rfl, z⟩⟩))
theorem tq129_31 : tT g 129 31 = s_if 129 48 34 (fun a => a = 0) := rfl
theorem A129_31 {L : AL} {r : List Value} {a : Int32} : aw g 129 31 L (.int a :: r) σ Q = ((a = 0 → aw g 129 34 L r σ Q) ∧ (¬ a = 0 → aw g 129 48 L r σ Q)) := (aw_eq g 129 31 _ _ _ _).trans (by rw [tq129_31]; exact rfl)
theorem tq129_34 : tT g 129 34 = s_load vRf 129 35 0 := rfl
theorem A129_34 {l1 : Option Value} {l2 : Option Value} {l3 : Option Value} {l4 : Option Value} {x : Value} {r : List Value} : aw g 129 34 [some (x), l1, l2, l3, l4] r σ Q = (vRf x = true ∧ aw g 129 35 [some (x), l1, l2, l3, l4] (x :: r) σ Q) := (aw_eq g 129 34 _ _ _ _).trans (by rw [tq129_34]; exact h_load rfl)
theorem tq129_35 : tT g 129 35 = s_getf 129 38 1 2 := rfl
theorem A129_35 {L : AL} {r : List Value} {a : Nat} : aw g 129 35 L (.ref a :: r) σ Q = (hty σ a = some 1 ∧ aw g 129 38 L (hv σ 1 a 2 :: r) σ Q) := (aw_eq g 129 35 _ _ _ _).trans (by rw [tq129_35]; exact rfl)
theorem tq129_38 : tT g 129 38 = s_load vRf 129 39 1 := rfl
theorem A129_38 {l0 : Option Value} {l2 : Option Value} {l3 : Option Value} {l4 : Option Value} {x : Value} {r : List Value} : aw g 129 38 [l0, some (x), l2, l3, l4] r σ Q = (vRf x = true ∧ aw g 129 39 [l0, some (x), l2, l3, l4] (x :: r) σ Q) := (aw_eq g 129 38 _ _ _ _).trans (by rw [tq129_38]; exact h_load rfl)
theorem tq129_39 : tT g 129 39 = s_getf 129 42 5 18 := rfl
theorem A129_39 {L : AL} {r : List Value} {a : Nat} : aw g 129 39 L (.ref a :: r) σ Q = (hty σ a = some 5 ∧ aw g 129 42 L (hv σ 5 a 18 :: r) σ Q) := (aw_eq g 129 39 _ _ _ _).trans (by rw [tq129_39]; exact rfl)
theorem tq129_42 : tT g 129 42 = s_bin 129 43 (fun a b => a - b) := rfl
theorem A129_42 {L : AL} {r : List Value} {a b : Int32} : aw g 129 42 L (.int b :: .int a :: r) σ Q = aw g 129 43 L (.int (a - b) :: r) σ Q := (aw_eq g 129 42 _ _ _ _).trans (by rw [tq129_42]; exact rfl)
theorem tq129_43 : tT g 129 43 = s_const 129 45 (.int 12) := rfl
theorem A129_43 {L : AL} {r : List Value} : aw g 129 43 L r σ Q = aw g 129 45 L (.int 12 :: r) σ Q := (aw_eq g 129 43 _ _ _ _).trans (by rw [tq129_43]; exact rfl)
theorem tq129_45 : tT g 129 45 = s_icmp 129 48 80 (fun a b => a < b) := rfl
theorem A129_45 {L : AL} {r : List Value} {a b : Int32} : aw g 129 45 L (.int b :: .int a :: r) σ Q = ((a < b → aw g 129 80 L r σ Q) ∧ (¬ a < b → aw g 129 48 L r σ Q)) := (aw_eq g 129 45 _ _ _ _).trans (by rw [tq129_45]; exact rfl)
theorem tq129_48 : tT g 129 48 = s_load vRf 129 49 1 := rfl
theorem A129_48 {l0 : Option Value} {l2 : Option Value} {l3 : Option Value} {l4 : Option Value} {x : Value} {r : List Value} : aw g 129 48 [l0, some (x), l2, l3, l4] r σ Q = (vRf x = true ∧ aw g 129 49 [l0, some (x), l2, l3, l4] (x :: r) σ Q) := (aw_eq g 129 48 _ _ _ _).trans (by rw [tq129_48]; exact h_load rfl)
theorem tq129_49 : tT g 129 49 = s_getf 129 52 5 3 := rfl
theorem A129_49 {L : AL} {r : List Value} {a : Nat} : aw g 129 49 L (.ref a :: r) σ Q = (hty σ a = some 5 ∧ aw g 129 52 L (hv σ 5 a 3 :: r) σ Q) := (aw_eq g 129 49 _ _ _ _).trans (by rw [tq129_49]; exact rfl)
theorem tq129_52 : tT g 129 52 = s_const 129 53 (.int 3) := rfl
theorem A129_52 {L : AL} {r : List Value} : aw g 129 52 L r σ Q = aw g 129 53 L (.int 3 :: r) σ Q := (aw_eq g 129 52 _ _ _ _).trans (by rw [tq129_52]; exact rfl)
theorem tq129_53 : tT g 129 53 = s_icmp 129 56 60 (fun a b => a = b) := rfl
theorem A129_53 {L : AL} {r : List Value} {a b : Int32} : aw g 129 53 L (.int b :: .int a :: r) σ Q = ((a = b → aw g 129 60 L r σ Q) ∧ (¬ a = b → aw g 129 56 L r σ Q)) := (aw_eq g 129 53 _ _ _ _).trans (by rw [tq129_53]; exact rfl)
theorem tq129_56 : tT g 129 56 = s_load vRf 129 57 1 := rfl
theorem A129_56 {l0 : Option Value} {l2 : Option Value} {l3 : Option Value} {l4 : Option Value} {x : Value} {r : List Value} : aw g 129 56 [l0, some (x), l2, l3, l4] r σ Q = (vRf x = true ∧ aw g 129 57 [l0, some (x), l2, l3, l4] (x :: r) σ Q) := (aw_eq g 129 56 _ _ _ _).trans (by rw [tq129_56]; exact h_load rfl)
theorem tq129_57 : tT g 129 57 = s_callvk 129 60 199 5 [] 1 := rfl
theorem A129_57 {L : AL} {r : List Value} {a : Nat} : aw g 129 57 L (.ref a :: r) σ Q = (hty σ a = some 5 ∧ true = true ∧ csum r ≤ 8 ∧ aw g 199 0 [some (.ref a)] [] σ (kt (aw g) 129 60 L r Q)) := (aw_eq g 129 57 _ _ _ _).trans (by rw [tq129_57]; exact rfl)
theorem tq129_60 : tT g 129 60 = s_load vRf 129 61 1 := rfl
theorem A129_60 {l0 : Option Value} {l2 : Option Value} {l3 : Option Value} {l4 : Option Value} {x : Value} {r : List Value} : aw g 129 60 [l0, some (x), l2, l3, l4] r σ Q = (vRf x = true ∧ aw g 129 61 [l0, some (x), l2, l3, l4] (x :: r) σ Q) := (aw_eq g 129 60 _ _ _ _).trans (by rw [tq129_60]; exact h_load rfl)
theorem tq129_61 : tT g 129 61 = s_const 129 62 (.int 1) := rfl
theorem A129_61 {L : AL} {r : List Value} : aw g 129 61 L r σ Q = aw g 129 62 L (.int 1 :: r) σ Q := (aw_eq g 129 61 _ _ _ _).trans (by rw [tq129_61]; exact rfl)
theorem tq129_62 : tT g 129 62 = s_putf g vZ 129 65 5 5 := rfl
theorem A129_62 {L : AL} {r : List Value} {a : Nat} {v : Value} : aw g 129 62 L (v :: .ref a :: r) σ Q = (hty σ a = some 5 ∧ gB g ≤ a ∧ vZ v ∧ aw g 129 65 L r (hput σ 5 a 5 v) Q) := (aw_eq g 129 62 _ _ _ _).trans (by rw [tq129_62]; exact rfl)
theorem tq129_65 : tT g 129 65 = s_load vRf 129 66 1 := rfl
theorem A129_65 {l0 : Option Value} {l2 : Option Value} {l3 : Option Value} {l4 : Option Value} {x : Value} {r : List Value} : aw g 129 65 [l0, some (x), l2, l3, l4] r σ Q = (vRf x = true ∧ aw g 129 66 [l0, some (x), l2, l3, l4] (x :: r) σ Q) := (aw_eq g 129 65 _ _ _ _).trans (by rw [tq129_65]; exact h_load rfl)
theorem tq129_66 : tT g 129 66 = s_dup 129 67 := rfl
theorem A129_66 {L : AL} {r : List Value} {v : Value} : aw g 129 66 L (v :: r) σ Q = (v.category = 1 ∧ aw g 129 67 L (v :: v :: r) σ Q) := (aw_eq g 129 66 _ _ _ _).trans (by rw [tq129_66]; exact rfl)
theorem tq129_67 : tT g 129 67 = s_getf 129 70 5 20 := rfl
theorem A129_67 {L : AL} {r : List Value} {a : Nat} : aw g 129 67 L (.ref a :: r) σ Q = (hty σ a = some 5 ∧ aw g 129 70 L (hv σ 5 a 20 :: r) σ Q) := (aw_eq g 129 67 _ _ _ _).trans (by rw [tq129_67]; exact rfl)
theorem tq129_70 : tT g 129 70 = s_const 129 71 (.int 1) := rfl
theorem A129_70 {L : AL} {r : List Value} : aw g 129 70 L r σ Q = aw g 129 71 L (.int 1 :: r) σ Q := (aw_eq g 129 70 _ _ _ _).trans (by rw [tq129_70]; exact rfl)
theorem tq129_71 : tT g 129 71 = s_bin 129 72 (fun a b => a + b) := rfl
theorem A129_71 {L : AL} {r : List Value} {a b : Int32} : aw g 129 71 L (.int b :: .int a :: r) σ Q = aw g 129 72 L (.int (a + b) :: r) σ Q := (aw_eq g 129 71 _ _ _ _).trans (by rw [tq129_71]; exact rfl)
theorem tq129_72 : tT g 129 72 = s_putf g pI 129 75 5 20 := rfl
theorem A129_72 {L : AL} {r : List Value} {a : Nat} {v : Value} : aw g 129 72 L (v :: .ref a :: r) σ Q = (hty σ a = some 5 ∧ gB g ≤ a ∧ pI v ∧ aw g 129 75 L r (hput σ 5 a 20 v) Q) := (aw_eq g 129 72 _ _ _ _).trans (by rw [tq129_72]; exact rfl)
theorem tq129_75 : tT g 129 75 = s_load vRf 129 76 1 := rfl
theorem A129_75 {l0 : Option Value} {l2 : Option Value} {l3 : Option Value} {l4 : Option Value} {x : Value} {r : List Value} : aw g 129 75 [l0, some (x), l2, l3, l4] r σ Q = (vRf x = true ∧ aw g 129 76 [l0, some (x), l2, l3, l4] (x :: r) σ Q) := (aw_eq g 129 75 _ _ _ _).trans (by rw [tq129_75]; exact h_load rfl)
theorem tq129_76 : tT g 129 76 = s_load vI 129 77 2 := rfl
theorem A129_76 {l0 : Option Value} {l1 : Option Value} {l3 : Option Value} {l4 : Option Value} {x : Int32} {r : List Value} : aw g 129 76 [l0, l1, some (.int x), l3, l4] r σ Q = aw g 129 77 [l0, l1, some (.int x), l3, l4] (.int x :: r) σ Q := (aw_eq g 129 76 _ _ _ _).trans (by rw [tq129_76]; exact (h_load rfl).trans (propext ⟨fun z => z.2, fun z => ⟨rfl, z⟩⟩))
theorem tq129_77 : tT g 129 77 = s_putf g vZ 129 80 5 19 := rfl
theorem A129_77 {L : AL} {r : List Value} {a : Nat} {v : Value} : aw g 129 77 L (v :: .ref a :: r) σ Q = (hty σ a = some 5 ∧ gB g ≤ a ∧ vZ v ∧ aw g 129 80 L r (hput σ 5 a 19 v) Q) := (aw_eq g 129 77 _ _ _ _).trans (by rw [tq129_77]; exact rfl)
theorem tq129_80 : tT g 129 80 = s_load vRf 129 81 1 := rfl
theorem A129_80 {l0 : Option Value} {l2 : Option Value} {l3 : Option Value} {l4 : Option Value} {x : Value} {r : List Value} : aw g 129 80 [l0, some (x), l2, l3, l4] r σ Q = (vRf x = true ∧ aw g 129 81 [l0, some (x), l2, l3, l4] (x :: r) σ Q) := (aw_eq g 129 80 _ _ _ _).trans (by rw [tq129_80]; exact h_load rfl)
theorem tq129_81 : tT g 129 81 = s_getf 129 84 5 17 := rfl
theorem A129_81 {L : AL} {r : List Value} {a : Nat} : aw g 129 81 L (.ref a :: r) σ Q = (hty σ a = some 5 ∧ aw g 129 84 L (hv σ 5 a 17 :: r) σ Q) := (aw_eq g 129 81 _ _ _ _).trans (by rw [tq129_81]; exact rfl)
theorem tq129_84 : tT g 129 84 = s_store vI 129 85 3 := rfl
theorem A129_84 {l0 : Option Value} {l1 : Option Value} {l2 : Option Value} {l3 : Option Value} {l4 : Option Value} {x : Int32} {r : List Value} : aw g 129 84 [l0, l1, l2, l3, l4] (.int x :: r) σ Q = (oc l2 = true ∧ aw g 129 85 [l0, l1, l2, some (.int x), l4] r σ Q) := (aw_eq g 129 84 _ _ _ _).trans (by rw [tq129_84]; exact (h_store (o := oc l2) rfl rfl rfl).trans (propext ⟨fun z => z.2, fun z => ⟨rfl, z⟩⟩))
theorem tq129_85 : tT g 129 85 = s_const 129 86 (.int 0) := rfl
theorem A129_85 {L : AL} {r : List Value} : aw g 129 85 L r σ Q = aw g 129 86 L (.int 0 :: r) σ Q := (aw_eq g 129 85 _ _ _ _).trans (by rw [tq129_85]; exact rfl)
theorem tq129_86 : tT g 129 86 = s_store vI 129 88 4 := rfl
theorem A129_86 {l0 : Option Value} {l1 : Option Value} {l2 : Option Value} {l3 : Option Value} {l4 : Option Value} {x : Int32} {r : List Value} : aw g 129 86 [l0, l1, l2, l3, l4] (.int x :: r) σ Q = (oc l3 = true ∧ aw g 129 88 [l0, l1, l2, l3, some (.int x)] r σ Q) := (aw_eq g 129 86 _ _ _ _).trans (by rw [tq129_86]; exact (h_store (o := oc l3) rfl rfl rfl).trans (propext ⟨fun z => z.2, fun z => ⟨rfl, z⟩⟩))
theorem tq129_88 : tT g 129 88 = s_load vI 129 90 4 := rfl
theorem A129_88 {l0 : Option Value} {l1 : Option Value} {l2 : Option Value} {l3 : Option Value} {x : Int32} {r : List Value} : aw g 129 88 [l0, l1, l2, l3, some (.int x)] r σ Q = aw g 129 90 [l0, l1, l2, l3, some (.int x)] (.int x :: r) σ Q := (aw_eq g 129 88 _ _ _ _).trans (by rw [tq129_88]; exact (h_load rfl).trans (propext ⟨fun z => z.2, fun z => ⟨rfl, z⟩⟩))
theorem tq129_90 : tT g 129 90 = s_const 129 92 (.int 6) := rfl
theorem A129_90 {L : AL} {r : List Value} : aw g 129 90 L r σ Q = aw g 129 92 L (.int 6 :: r) σ Q := (aw_eq g 129 90 _ _ _ _).trans (by rw [tq129_90]; exact rfl)
theorem tq129_92 : tT g 129 92 = s_icmp 129 95 129 (fun a b => b ≤ a) := rfl
theorem A129_92 {L : AL} {r : List Value} {a b : Int32} : aw g 129 92 L (.int b :: .int a :: r) σ Q = ((b ≤ a → aw g 129 129 L r σ Q) ∧ (¬ b ≤ a → aw g 129 95 L r σ Q)) := (aw_eq g 129 92 _ _ _ _).trans (by rw [tq129_92]; exact rfl)
theorem tq129_95 : tT g 129 95 = s_load vI 129 96 3 := rfl
theorem A129_95 {l0 : Option Value} {l1 : Option Value} {l2 : Option Value} {l4 : Option Value} {x : Int32} {r : List Value} : aw g 129 95 [l0, l1, l2, some (.int x), l4] r σ Q = aw g 129 96 [l0, l1, l2, some (.int x), l4] (.int x :: r) σ Q := (aw_eq g 129 95 _ _ _ _).trans (by rw [tq129_95]; exact (h_load rfl).trans (propext ⟨fun z => z.2, fun z => ⟨rfl, z⟩⟩))
theorem tq129_96 : tT g 129 96 = s_if 129 99 129 (fun a => a ≤ 0) := rfl
theorem A129_96 {L : AL} {r : List Value} {a : Int32} : aw g 129 96 L (.int a :: r) σ Q = ((a ≤ 0 → aw g 129 129 L r σ Q) ∧ (¬ a ≤ 0 → aw g 129 99 L r σ Q)) := (aw_eq g 129 96 _ _ _ _).trans (by rw [tq129_96]; exact rfl)
theorem tq129_99 : tT g 129 99 = s_load vRf 129 100 1 := rfl
theorem A129_99 {l0 : Option Value} {l2 : Option Value} {l3 : Option Value} {l4 : Option Value} {x : Value} {r : List Value} : aw g 129 99 [l0, some (x), l2, l3, l4] r σ Q = (vRf x = true ∧ aw g 129 100 [l0, some (x), l2, l3, l4] (x :: r) σ Q) := (aw_eq g 129 99 _ _ _ _).trans (by rw [tq129_99]; exact h_load rfl)
theorem tq129_100 : tT g 129 100 = s_getf 129 103 5 16 := rfl
theorem A129_100 {L : AL} {r : List Value} {a : Nat} : aw g 129 100 L (.ref a :: r) σ Q = (hty σ a = some 5 ∧ aw g 129 103 L (hv σ 5 a 16 :: r) σ Q) := (aw_eq g 129 100 _ _ _ _).trans (by rw [tq129_100]; exact rfl)
theorem tq129_103 : tT g 129 103 = s_load vI 129 105 4 := rfl
theorem A129_103 {l0 : Option Value} {l1 : Option Value} {l2 : Option Value} {l3 : Option Value} {x : Int32} {r : List Value} : aw g 129 103 [l0, l1, l2, l3, some (.int x)] r σ Q = aw g 129 105 [l0, l1, l2, l3, some (.int x)] (.int x :: r) σ Q := (aw_eq g 129 103 _ _ _ _).trans (by rw [tq129_103]; exact (h_load rfl).trans (propext ⟨fun z => z.2, fun z => ⟨rfl, z⟩⟩))
theorem tq129_105 : tT g 129 105 = s_ald 129 106 21 := rfl
theorem A129_105 {L : AL} {r : List Value} {a : Nat} {i : Int32} : aw g 129 105 L (.int i :: .ref a :: r) σ Q = (hty σ a = some 21 ∧ ¬ i < 0 ∧ i.toNatClampNeg < hln σ a ∧ aw g 129 106 L (hv σ 21 a i.toNatClampNeg :: r) σ Q) := (aw_eq g 129 105 _ _ _ _).trans (by rw [tq129_105]; exact rfl)
theorem tq129_106 : tT g 129 106 = s_if 129 112 109 (fun a => a = 0) := rfl
theorem A129_106 {L : AL} {r : List Value} {a : Int32} : aw g 129 106 L (.int a :: r) σ Q = ((a = 0 → aw g 129 109 L r σ Q) ∧ (¬ a = 0 → aw g 129 112 L r σ Q)) := (aw_eq g 129 106 _ _ _ _).trans (by rw [tq129_106]; exact rfl)
theorem tq129_109 : tT g 129 109 = s_goto 129 123 := rfl
theorem A129_109 {L : AL} {r : List Value} : aw g 129 109 L r σ Q = aw g 129 123 L r σ Q := (aw_eq g 129 109 _ _ _ _).trans (by rw [tq129_109]; exact rfl)
theorem tq129_112 : tT g 129 112 = s_load vRf 129 113 1 := rfl
theorem A129_112 {l0 : Option Value} {l2 : Option Value} {l3 : Option Value} {l4 : Option Value} {x : Value} {r : List Value} : aw g 129 112 [l0, some (x), l2, l3, l4] r σ Q = (vRf x = true ∧ aw g 129 113 [l0, some (x), l2, l3, l4] (x :: r) σ Q) := (aw_eq g 129 112 _ _ _ _).trans (by rw [tq129_112]; exact h_load rfl)
theorem tq129_113 : tT g 129 113 = s_getf 129 116 5 16 := rfl
theorem A129_113 {L : AL} {r : List Value} {a : Nat} : aw g 129 113 L (.ref a :: r) σ Q = (hty σ a = some 5 ∧ aw g 129 116 L (hv σ 5 a 16 :: r) σ Q) := (aw_eq g 129 113 _ _ _ _).trans (by rw [tq129_113]; exact rfl)
theorem tq129_116 : tT g 129 116 = s_load vI 129 118 4 := rfl
theorem A129_116 {l0 : Option Value} {l1 : Option Value} {l2 : Option Value} {l3 : Option Value} {x : Int32} {r : List Value} : aw g 129 116 [l0, l1, l2, l3, some (.int x)] r σ Q = aw g 129 118 [l0, l1, l2, l3, some (.int x)] (.int x :: r) σ Q := (aw_eq g 129 116 _ _ _ _).trans (by rw [tq129_116]; exact (h_load rfl).trans (propext ⟨fun z => z.2, fun z => ⟨rfl, z⟩⟩))
theorem tq129_118 : tT g 129 118 = s_const 129 119 (.int 0) := rfl
theorem A129_118 {L : AL} {r : List Value} : aw g 129 118 L r σ Q = aw g 129 119 L (.int 0 :: r) σ Q := (aw_eq g 129 118 _ _ _ _).trans (by rw [tq129_118]; exact rfl)
theorem tq129_119 : tT g 129 119 = s_ast g (fun _ v => vZ v) 129 120 21 := rfl
theorem A129_119 {L : AL} {r : List Value} {a : Nat} {i : Int32} {v : Value} : aw g 129 119 L (v :: .int i :: .ref a :: r) σ Q = (hty σ a = some 21 ∧ gB g ≤ a ∧ ¬ i < 0 ∧ i.toNatClampNeg < hln σ a ∧ vZ v ∧ aw g 129 120 L r (hput σ 21 a i.toNatClampNeg v) Q) := (aw_eq g 129 119 _ _ _ _).trans (by rw [tq129_119]; exact rfl)
theorem tq129_120 : tT g 129 120 = s_iinc 129 123 3 (-1) := rfl
theorem A129_120 {l0 : Option Value} {l1 : Option Value} {l2 : Option Value} {l4 : Option Value} {x : Int32} {r : List Value} : aw g 129 120 [l0, l1, l2, some (.int x), l4] r σ Q = (oc l2 = true ∧ aw g 129 123 [l0, l1, l2, some (.int (x + (-1))), l4] r σ Q) := (aw_eq g 129 120 _ _ _ _).trans (by rw [tq129_120]; exact (h_iinc (o := oc l2) rfl rfl rfl))
theorem tq129_123 : tT g 129 123 = s_iinc 129 126 4 1 := rfl
theorem A129_123 {l0 : Option Value} {l1 : Option Value} {l2 : Option Value} {l3 : Option Value} {x : Int32} {r : List Value} : aw g 129 123 [l0, l1, l2, l3, some (.int x)] r σ Q = (oc l3 = true ∧ aw g 129 126 [l0, l1, l2, l3, some (.int (x + 1))] r σ Q) := (aw_eq g 129 123 _ _ _ _).trans (by rw [tq129_123]; exact (h_iinc (o := oc l3) rfl rfl rfl))
theorem tq129_126 : tT g 129 126 = s_goto 129 88 := rfl
theorem A129_126 {L : AL} {r : List Value} : aw g 129 126 L r σ Q = aw g 129 88 L r σ Q := (aw_eq g 129 126 _ _ _ _).trans (by rw [tq129_126]; exact rfl)
theorem tq129_129 : tT g 129 129 = s_vret := rfl
theorem A129_129 {L : AL} : aw g 129 129 L [] σ Q = Q (.inl none) σ := (aw_eq g 129 129 _ _ _ _).trans (by rw [tq129_129]; exact rfl)
theorem tq130_0 : tT g 130 0 = s_load vRf 130 1 1 := rfl
theorem A130_0 {l0 : Option Value} {l2 : Option Value} {l3 : Option Value} {x : Value} {r : List Value} : aw g 130 0 [l0, some (x), l2, l3] r σ Q = (vRf x = true ∧ aw g 130 1 [l0, some (x), l2, l3] (x :: r) σ Q) := (aw_eq g 130 0 _ _ _ _).trans (by rw [tq130_0]; exact h_load rfl)
theorem tq130_1 : tT g 130 1 = s_const 130 2 (.int 4) := rfl
theorem A130_1 {L : AL} {r : List Value} : aw g 130 1 L r σ Q = aw g 130 2 L (.int 4 :: r) σ Q := (aw_eq g 130 1 _ _ _ _).trans (by rw [tq130_1]; exact rfl)
theorem tq130_2 : tT g 130 2 = s_putf g pI 130 5 5 3 := rfl
theorem A130_2 {L : AL} {r : List Value} {a : Nat} {v : Value} : aw g 130 2 L (v :: .ref a :: r) σ Q = (hty σ a = some 5 ∧ gB g ≤ a ∧ pI v ∧ aw g 130 5 L r (hput σ 5 a 3 v) Q) := (aw_eq g 130 2 _ _ _ _).trans (by rw [tq130_2]; exact rfl)
theorem tq130_5 : tT g 130 5 = s_load vRf 130 6 1 := rfl
theorem A130_5 {l0 : Option Value} {l2 : Option Value} {l3 : Option Value} {x : Value} {r : List Value} : aw g 130 5 [l0, some (x), l2, l3] r σ Q = (vRf x = true ∧ aw g 130 6 [l0, some (x), l2, l3] (x :: r) σ Q) := (aw_eq g 130 5 _ _ _ _).trans (by rw [tq130_5]; exact h_load rfl)
theorem tq130_6 : tT g 130 6 = s_const 130 7 .null := rfl
theorem A130_6 {L : AL} {r : List Value} : aw g 130 6 L r σ Q = aw g 130 7 L (.null :: r) σ Q := (aw_eq g 130 6 _ _ _ _).trans (by rw [tq130_6]; exact rfl)
theorem tq130_7 : tT g 130 7 = s_putf g pR 130 10 5 16 := rfl
theorem A130_7 {L : AL} {r : List Value} {a : Nat} {v : Value} : aw g 130 7 L (v :: .ref a :: r) σ Q = (hty σ a = some 5 ∧ gB g ≤ a ∧ pR v ∧ aw g 130 10 L r (hput σ 5 a 16 v) Q) := (aw_eq g 130 7 _ _ _ _).trans (by rw [tq130_7]; exact rfl)
theorem tq130_10 : tT g 130 10 = s_load vRf 130 11 1 := rfl
theorem A130_10 {l0 : Option Value} {l2 : Option Value} {l3 : Option Value} {x : Value} {r : List Value} : aw g 130 10 [l0, some (x), l2, l3] r σ Q = (vRf x = true ∧ aw g 130 11 [l0, some (x), l2, l3] (x :: r) σ Q) := (aw_eq g 130 10 _ _ _ _).trans (by rw [tq130_10]; exact h_load rfl)
theorem tq130_11 : tT g 130 11 = s_const 130 12 (.int 0) := rfl
theorem A130_11 {L : AL} {r : List Value} : aw g 130 11 L r σ Q = aw g 130 12 L (.int 0 :: r) σ Q := (aw_eq g 130 11 _ _ _ _).trans (by rw [tq130_11]; exact rfl)
theorem tq130_12 : tT g 130 12 = s_putf g pI 130 15 5 12 := rfl
theorem A130_12 {L : AL} {r : List Value} {a : Nat} {v : Value} : aw g 130 12 L (v :: .ref a :: r) σ Q = (hty σ a = some 5 ∧ gB g ≤ a ∧ pI v ∧ aw g 130 15 L r (hput σ 5 a 12 v) Q) := (aw_eq g 130 12 _ _ _ _).trans (by rw [tq130_12]; exact rfl)
theorem tq130_15 : tT g 130 15 = s_load vRf 130 16 1 := rfl
theorem A130_15 {l0 : Option Value} {l2 : Option Value} {l3 : Option Value} {x : Value} {r : List Value} : aw g 130 15 [l0, some (x), l2, l3] r σ Q = (vRf x = true ∧ aw g 130 16 [l0, some (x), l2, l3] (x :: r) σ Q) := (aw_eq g 130 15 _ _ _ _).trans (by rw [tq130_15]; exact h_load rfl)
theorem tq130_16 : tT g 130 16 = s_const 130 17 (.int (-1)) := rfl
theorem A130_16 {L : AL} {r : List Value} : aw g 130 16 L r σ Q = aw g 130 17 L (.int (-1) :: r) σ Q := (aw_eq g 130 16 _ _ _ _).trans (by rw [tq130_16]; exact rfl)
theorem tq130_17 : tT g 130 17 = s_putf g pI 130 20 5 6 := rfl
theorem A130_17 {L : AL} {r : List Value} {a : Nat} {v : Value} : aw g 130 17 L (v :: .ref a :: r) σ Q = (hty σ a = some 5 ∧ gB g ≤ a ∧ pI v ∧ aw g 130 20 L r (hput σ 5 a 6 v) Q) := (aw_eq g 130 17 _ _ _ _).trans (by rw [tq130_17]; exact rfl)
theorem tq130_20 : tT g 130 20 = s_load vRf 130 21 0 := rfl
theorem A130_20 {l1 : Option Value} {l2 : Option Value} {l3 : Option Value} {x : Value} {r : List Value} : aw g 130 20 [some (x), l1, l2, l3] r σ Q = (vRf x = true ∧ aw g 130 21 [some (x), l1, l2, l3] (x :: r) σ Q) := (aw_eq g 130 20 _ _ _ _).trans (by rw [tq130_20]; exact h_load rfl)
theorem tq130_21 : tT g 130 21 = s_getf 130 24 1 1 := rfl
theorem A130_21 {L : AL} {r : List Value} {a : Nat} : aw g 130 21 L (.ref a :: r) σ Q = (hty σ a = some 1 ∧ aw g 130 24 L (hv σ 1 a 1 :: r) σ Q) := (aw_eq g 130 21 _ _ _ _).trans (by rw [tq130_21]; exact rfl)
theorem tq130_24 : tT g 130 24 = s_callvk 130 27 22 10 [] 1 := rfl
theorem A130_24 {L : AL} {r : List Value} {a : Nat} : aw g 130 24 L (.ref a :: r) σ Q = (hty σ a = some 10 ∧ true = true ∧ csum r ≤ 8 ∧ aw g 22 0 [some (.ref a)] [] σ (kt (aw g) 130 27 L r Q)) := (aw_eq g 130 24 _ _ _ _).trans (by rw [tq130_24]; exact rfl)
theorem tq130_27 : tT g 130 27 = s_store vRf 130 28 2 := rfl
theorem A130_27 {l0 : Option Value} {l1 : Option Value} {l2 : Option Value} {l3 : Option Value} {x : Value} {r : List Value} : aw g 130 27 [l0, l1, l2, l3] (x :: r) σ Q = (vRf x = true ∧ oc l1 = true ∧ aw g 130 28 [l0, l1, some (x), l3] r σ Q) := (aw_eq g 130 27 _ _ _ _).trans (by rw [tq130_27]; exact (h_store (o := oc l1) rfl rfl rfl))
theorem tq130_28 : tT g 130 28 = s_load vRf 130 29 2 := rfl
theorem A130_28 {l0 : Option Value} {l1 : Option Value} {l3 : Option Value} {x : Value} {r : List Value} : aw g 130 28 [l0, l1, some (x), l3] r σ Q = (vRf x = true ∧ aw g 130 29 [l0, l1, some (x), l3] (x :: r) σ Q) := (aw_eq g 130 28 _ _ _ _).trans (by rw [tq130_28]; exact h_load rfl)
theorem tq130_29 : tT g 130 29 = s_callvk 130 34 3 11 [] 1 := rfl
theorem A130_29 {L : AL} {r : List Value} {a : Nat} : aw g 130 29 L (.ref a :: r) σ Q = (hty σ a = some 11 ∧ true = true ∧ csum r ≤ 8 ∧ aw g 3 0 [some (.ref a)] [] σ (kt (aw g) 130 34 L r Q)) := (aw_eq g 130 29 _ _ _ _).trans (by rw [tq130_29]; exact rfl)
theorem tq130_34 : tT g 130 34 = s_if 130 37 62 (fun a => a = 0) := rfl
theorem A130_34 {L : AL} {r : List Value} {a : Int32} : aw g 130 34 L (.int a :: r) σ Q = ((a = 0 → aw g 130 62 L r σ Q) ∧ (¬ a = 0 → aw g 130 37 L r σ Q)) := (aw_eq g 130 34 _ _ _ _).trans (by rw [tq130_34]; exact rfl)
theorem tq130_37 : tT g 130 37 = s_load vRf 130 38 2 := rfl
theorem A130_37 {l0 : Option Value} {l1 : Option Value} {l3 : Option Value} {x : Value} {r : List Value} : aw g 130 37 [l0, l1, some (x), l3] r σ Q = (vRf x = true ∧ aw g 130 38 [l0, l1, some (x), l3] (x :: r) σ Q) := (aw_eq g 130 37 _ _ _ _).trans (by rw [tq130_37]; exact h_load rfl)
theorem tq130_38 : tT g 130 38 = s_callvk 130 43 4 11 [] 3 := rfl
theorem A130_38 {L : AL} {r : List Value} {a : Nat} : aw g 130 38 L (.ref a :: r) σ Q = (hty σ a = some 11 ∧ true = true ∧ csum r ≤ 8 ∧ aw g 4 0 [some (.ref a), none, none] [] σ (kt (aw g) 130 43 L r Q)) := (aw_eq g 130 38 _ _ _ _).trans (by rw [tq130_38]; exact rfl)
theorem tq130_43 : tT g 130 43 = s_cast 130 46 [2] := rfl
theorem A130_43 {L : AL} {r : List Value} : aw g 130 43 L (.null :: r) σ Q = aw g 130 46 L (.null :: r) σ Q := (aw_eq g 130 43 _ _ _ _).trans (by rw [tq130_43]; exact rfl)
theorem A130_43r {L : AL} {r : List Value} {a : Nat} : aw g 130 43 L (.ref a :: r) σ Q = (hty σ a = some 2 ∧ aw g 130 46 L (.ref a :: r) σ Q) := (aw_eq g 130 43 _ _ _ _).trans (by rw [tq130_43]; exact propext ⟨fun z => (by obtain ⟨⟨u, hu, hu2⟩, z2⟩ := z; rw [List.mem_singleton] at hu; subst hu; exact ⟨hu2, z2⟩), fun z => ⟨⟨_, List.mem_cons_self, z.1⟩, z.2⟩⟩)
theorem tq130_46 : tT g 130 46 = s_store vRf 130 47 3 := rfl
theorem A130_46 {l0 : Option Value} {l1 : Option Value} {l2 : Option Value} {l3 : Option Value} {x : Value} {r : List Value} : aw g 130 46 [l0, l1, l2, l3] (x :: r) σ Q = (vRf x = true ∧ oc l2 = true ∧ aw g 130 47 [l0, l1, l2, some (x)] r σ Q) := (aw_eq g 130 46 _ _ _ _).trans (by rw [tq130_46]; exact (h_store (o := oc l2) rfl rfl rfl))
theorem tq130_47 : tT g 130 47 = s_load vRf 130 48 3 := rfl
theorem A130_47 {l0 : Option Value} {l1 : Option Value} {l2 : Option Value} {x : Value} {r : List Value} : aw g 130 47 [l0, l1, l2, some (x)] r σ Q = (vRf x = true ∧ aw g 130 48 [l0, l1, l2, some (x)] (x :: r) σ Q) := (aw_eq g 130 47 _ _ _ _).trans (by rw [tq130_47]; exact h_load rfl)
theorem tq130_48 : tT g 130 48 = s_getf 130 51 2 0 := rfl
theorem A130_48 {L : AL} {r : List Value} {a : Nat} : aw g 130 48 L (.ref a :: r) σ Q = (hty σ a = some 2 ∧ aw g 130 51 L (hv σ 2 a 0 :: r) σ Q) := (aw_eq g 130 48 _ _ _ _).trans (by rw [tq130_48]; exact rfl)
theorem tq130_51 : tT g 130 51 = s_load vRf 130 52 1 := rfl
theorem A130_51 {l0 : Option Value} {l2 : Option Value} {l3 : Option Value} {x : Value} {r : List Value} : aw g 130 51 [l0, some (x), l2, l3] r σ Q = (vRf x = true ∧ aw g 130 52 [l0, some (x), l2, l3] (x :: r) σ Q) := (aw_eq g 130 51 _ _ _ _).trans (by rw [tq130_51]; exact h_load rfl)
theorem tq130_52 : tT g 130 52 = s_acmpn 130 55 59 := rfl
theorem A130_52 {L : AL} {r : List Value} {a b : Value} : aw g 130 52 L (b :: a :: r) σ Q = (vRf a = true ∧ vRf b = true ∧ (a = b → aw g 130 55 L r σ Q) ∧ (a ≠ b → aw g 130 59 L r σ Q)) := (aw_eq g 130 52 _ _ _ _).trans (by rw [tq130_52]; exact rfl)
theorem tq130_55 : tT g 130 55 = s_load vRf 130 56 3 := rfl
theorem A130_55 {l0 : Option Value} {l1 : Option Value} {l2 : Option Value} {x : Value} {r : List Value} : aw g 130 55 [l0, l1, l2, some (x)] r σ Q = (vRf x = true ∧ aw g 130 56 [l0, l1, l2, some (x)] (x :: r) σ Q) := (aw_eq g 130 55 _ _ _ _).trans (by rw [tq130_55]; exact h_load rfl)
theorem tq130_56 : tT g 130 56 = s_callvk 130 59 134 2 [] 1 := rfl
theorem A130_56 {L : AL} {r : List Value} {a : Nat} : aw g 130 56 L (.ref a :: r) σ Q = (hty σ a = some 2 ∧ true = true ∧ csum r ≤ 8 ∧ aw g 134 0 [some (.ref a)] [] σ (kt (aw g) 130 59 L r Q)) := (aw_eq g 130 56 _ _ _ _).trans (by rw [tq130_56]; exact rfl)
theorem tq130_59 : tT g 130 59 = s_goto 130 28 := rfl
theorem A130_59 {L : AL} {r : List Value} : aw g 130 59 L r σ Q = aw g 130 28 L r σ Q := (aw_eq g 130 59 _ _ _ _).trans (by rw [tq130_59]; exact rfl)
theorem tq130_62 : tT g 130 62 = s_const 130 63 (.int 0) := rfl
theorem A130_62 {L : AL} {r : List Value} : aw g 130 62 L r σ Q = aw g 130 63 L (.int 0 :: r) σ Q := (aw_eq g 130 62 _ _ _ _).trans (by rw [tq130_62]; exact rfl)
theorem tq130_63 : tT g 130 63 = s_store vI 130 64 2 := rfl
theorem A130_63 {l0 : Option Value} {l1 : Option Value} {l2 : Option Value} {l3 : Option Value} {x : Int32} {r : List Value} : aw g 130 63 [l0, l1, l2, l3] (.int x :: r) σ Q = (oc l1 = true ∧ aw g 130 64 [l0, l1, some (.int x), l3] r σ Q) := (aw_eq g 130 63 _ _ _ _).trans (by rw [tq130_63]; exact (h_store (o := oc l1) rfl rfl rfl).trans (propext ⟨fun z => z.2, fun z => ⟨rfl, z⟩⟩))
theorem tq130_64 : tT g 130 64 = s_load vI 130 65 2 := rfl
theorem A130_64 {l0 : Option Value} {l1 : Option Value} {l3 : Option Value} {x : Int32} {r : List Value} : aw g 130 64 [l0, l1, some (.int x), l3] r σ Q = aw g 130 65 [l0, l1, some (.int x), l3] (.int x :: r) σ Q := (aw_eq g 130 64 _ _ _ _).trans (by rw [tq130_64]; exact (h_load rfl).trans (propext ⟨fun z => z.2, fun z => ⟨rfl, z⟩⟩))
theorem tq130_65 : tT g 130 65 = s_const 130 67 (.int 6) := rfl
theorem A130_65 {L : AL} {r : List Value} : aw g 130 65 L r σ Q = aw g 130 67 L (.int 6 :: r) σ Q := (aw_eq g 130 65 _ _ _ _).trans (by rw [tq130_65]; exact rfl)
theorem tq130_67 : tT g 130 67 = s_icmp 130 70 83 (fun a b => b ≤ a) := rfl
theorem A130_67 {L : AL} {r : List Value} {a b : Int32} : aw g 130 67 L (.int b :: .int a :: r) σ Q = ((b ≤ a → aw g 130 83 L r σ Q) ∧ (¬ b ≤ a → aw g 130 70 L r σ Q)) := (aw_eq g 130 67 _ _ _ _).trans (by rw [tq130_67]; exact rfl)
theorem tq130_70 : tT g 130 70 = s_load vRf 130 71 1 := rfl
theorem A130_70 {l0 : Option Value} {l2 : Option Value} {l3 : Option Value} {x : Value} {r : List Value} : aw g 130 70 [l0, some (x), l2, l3] r σ Q = (vRf x = true ∧ aw g 130 71 [l0, some (x), l2, l3] (x :: r) σ Q) := (aw_eq g 130 70 _ _ _ _).trans (by rw [tq130_70]; exact h_load rfl)
theorem tq130_71 : tT g 130 71 = s_getf 130 74 5 14 := rfl
theorem A130_71 {L : AL} {r : List Value} {a : Nat} : aw g 130 71 L (.ref a :: r) σ Q = (hty σ a = some 5 ∧ aw g 130 74 L (hv σ 5 a 14 :: r) σ Q) := (aw_eq g 130 71 _ _ _ _).trans (by rw [tq130_71]; exact rfl)
theorem tq130_74 : tT g 130 74 = s_load vI 130 75 2 := rfl
theorem A130_74 {l0 : Option Value} {l1 : Option Value} {l3 : Option Value} {x : Int32} {r : List Value} : aw g 130 74 [l0, l1, some (.int x), l3] r σ Q = aw g 130 75 [l0, l1, some (.int x), l3] (.int x :: r) σ Q := (aw_eq g 130 74 _ _ _ _).trans (by rw [tq130_74]; exact (h_load rfl).trans (propext ⟨fun z => z.2, fun z => ⟨rfl, z⟩⟩))
theorem tq130_75 : tT g 130 75 = s_const 130 76 (.int 0) := rfl
theorem A130_75 {L : AL} {r : List Value} : aw g 130 75 L r σ Q = aw g 130 76 L (.int 0 :: r) σ Q := (aw_eq g 130 75 _ _ _ _).trans (by rw [tq130_75]; exact rfl)
theorem tq130_76 : tT g 130 76 = s_ast g (fun _ v => vZ v) 130 77 21 := rfl
theorem A130_76 {L : AL} {r : List Value} {a : Nat} {i : Int32} {v : Value} : aw g 130 76 L (v :: .int i :: .ref a :: r) σ Q = (hty σ a = some 21 ∧ gB g ≤ a ∧ ¬ i < 0 ∧ i.toNatClampNeg < hln σ a ∧ vZ v ∧ aw g 130 77 L r (hput σ 21 a i.toNatClampNeg v) Q) := (aw_eq g 130 76 _ _ _ _).trans (by rw [tq130_76]; exact rfl)
theorem tq130_77 : tT g 130 77 = s_iinc 130 80 2 1 := rfl
theorem A130_77 {l0 : Option Value} {l1 : Option Value} {l3 : Option Value} {x : Int32} {r : List Value} : aw g 130 77 [l0, l1, some (.int x), l3] r σ Q = (oc l1 = true ∧ aw g 130 80 [l0, l1, some (.int (x + 1)), l3] r σ Q) := (aw_eq g 130 77 _ _ _ _).trans (by rw [tq130_77]; exact (h_iinc (o := oc l1) rfl rfl rfl))
theorem tq130_80 : tT g 130 80 = s_goto 130 64 := rfl
theorem A130_80 {L : AL} {r : List Value} : aw g 130 80 L r σ Q = aw g 130 64 L r σ Q := (aw_eq g 130 80 _ _ _ _).trans (by rw [tq130_80]; exact rfl)
theorem tq130_83 : tT g 130 83 = s_load vRf 130 84 0 := rfl
theorem A130_83 {l1 : Option Value} {l2 : Option Value} {l3 : Option Value} {x : Value} {r : List Value} : aw g 130 83 [some (x), l1, l2, l3] r σ Q = (vRf x = true ∧ aw g 130 84 [some (x), l1, l2, l3] (x :: r) σ Q) := (aw_eq g 130 83 _ _ _ _).trans (by rw [tq130_83]; exact h_load rfl)
theorem tq130_84 : tT g 130 84 = s_getf 130 87 1 4 := rfl
theorem A130_84 {L : AL} {r : List Value} {a : Nat} : aw g 130 84 L (.ref a :: r) σ Q = (hty σ a = some 1 ∧ aw g 130 87 L (hv σ 1 a 4 :: r) σ Q) := (aw_eq g 130 84 _ _ _ _).trans (by rw [tq130_84]; exact rfl)
theorem tq130_87 : tT g 130 87 = s_load vRf 130 88 1 := rfl
theorem A130_87 {l0 : Option Value} {l2 : Option Value} {l3 : Option Value} {x : Value} {r : List Value} : aw g 130 87 [l0, some (x), l2, l3] r σ Q = (vRf x = true ∧ aw g 130 88 [l0, some (x), l2, l3] (x :: r) σ Q) := (aw_eq g 130 87 _ _ _ _).trans (by rw [tq130_87]; exact h_load rfl)
theorem tq130_88 : tT g 130 88 = s_acmpn 130 91 95 := rfl
theorem A130_88 {L : AL} {r : List Value} {a b : Value} : aw g 130 88 L (b :: a :: r) σ Q = (vRf a = true ∧ vRf b = true ∧ (a = b → aw g 130 91 L r σ Q) ∧ (a ≠ b → aw g 130 95 L r σ Q)) := (aw_eq g 130 88 _ _ _ _).trans (by rw [tq130_88]; exact rfl)
theorem tq130_91 : tT g 130 91 = s_load vRf 130 92 0 := rfl
theorem A130_91 {l1 : Option Value} {l2 : Option Value} {l3 : Option Value} {x : Value} {r : List Value} : aw g 130 91 [some (x), l1, l2, l3] r σ Q = (vRf x = true ∧ aw g 130 92 [some (x), l1, l2, l3] (x :: r) σ Q) := (aw_eq g 130 91 _ _ _ _).trans (by rw [tq130_91]; exact h_load rfl)
theorem tq130_92 : tT g 130 92 = s_callvk 130 95 127 1 [] 1 := rfl
theorem A130_92 {L : AL} {r : List Value} {a : Nat} : aw g 130 92 L (.ref a :: r) σ Q = (hty σ a = some 1 ∧ true = true ∧ csum r ≤ 8 ∧ aw g 127 0 [some (.ref a)] [] σ (kt (aw g) 130 95 L r Q)) := (aw_eq g 130 92 _ _ _ _).trans (by rw [tq130_92]; exact rfl)
theorem tq130_95 : tT g 130 95 = s_vret := rfl
theorem A130_95 {L : AL} : aw g 130 95 L [] σ Q = Q (.inl none) σ := (aw_eq g 130 95 _ _ _ _).trans (by rw [tq130_95]; exact rfl)
theorem tq131_0 : tT g 131 0 = s_load vRf 131 1 1 := rfl
theorem A131_0 {l0 : Option Value} {l2 : Option Value} {l3 : Option Value} {x : Value} {r : List Value} : aw g 131 0 [l0, some (x), l2, l3] r σ Q = (vRf x = true ∧ aw g 131 1 [l0, some (x), l2, l3] (x :: r) σ Q) := (aw_eq g 131 0 _ _ _ _).trans (by rw [tq131_0]; exact h_load rfl)
theorem tq131_1 : tT g 131 1 = s_const 131 3 (.int 6) := rfl
theorem A131_1 {L : AL} {r : List Value} : aw g 131 1 L r σ Q = aw g 131 3 L (.int 6 :: r) σ Q := (aw_eq g 131 1 _ _ _ _).trans (by rw [tq131_1]; exact rfl)
theorem tq131_3 : tT g 131 3 = s_newa g 131 5 21 (.int 0) := rfl
theorem A131_3 {L : AL} {r : List Value} {x : Int32} : aw g 131 3 L (.int x :: r) σ Q = (¬ x < 0 ∧ x.toNatClampNeg ≤ 65536 ∧ hsz σ + 1 ≤ gC g ∧ hsl σ + x.toNatClampNeg ≤ gS g ∧ aw g 131 5 L (.ref (hsz σ) :: r) (hnew σ 21 x.toNatClampNeg (fun _ => .int 0) x.toNatClampNeg) Q) := (aw_eq g 131 3 _ _ _ _).trans (by rw [tq131_3]; exact rfl)
theorem tq131_5 : tT g 131 5 = s_putf g pR 131 8 5 16 := rfl
theorem A131_5 {L : AL} {r : List Value} {a : Nat} {v : Value} : aw g 131 5 L (v :: .ref a :: r) σ Q = (hty σ a = some 5 ∧ gB g ≤ a ∧ pR v ∧ aw g 131 8 L r (hput σ 5 a 16 v) Q) := (aw_eq g 131 5 _ _ _ _).trans (by rw [tq131_5]; exact rfl)
theorem tq131_8 : tT g 131 8 = s_const 131 9 (.int 0) := rfl
theorem A131_8 {L : AL} {r : List Value} : aw g 131 8 L r σ Q = aw g 131 9 L (.int 0 :: r) σ Q := (aw_eq g 131 8 _ _ _ _).trans (by rw [tq131_8]; exact rfl)
theorem tq131_9 : tT g 131 9 = s_store vI 131 10 3 := rfl
theorem A131_9 {l0 : Option Value} {l1 : Option Value} {l2 : Option Value} {l3 : Option Value} {x : Int32} {r : List Value} : aw g 131 9 [l0, l1, l2, l3] (.int x :: r) σ Q = (oc l2 = true ∧ aw g 131 10 [l0, l1, l2, some (.int x)] r σ Q) := (aw_eq g 131 9 _ _ _ _).trans (by rw [tq131_9]; exact (h_store (o := oc l2) rfl rfl rfl).trans (propext ⟨fun z => z.2, fun z => ⟨rfl, z⟩⟩))
theorem tq131_10 : tT g 131 10 = s_load vI 131 11 3 := rfl
theorem A131_10 {l0 : Option Value} {l1 : Option Value} {l2 : Option Value} {x : Int32} {r : List Value} : aw g 131 10 [l0, l1, l2, some (.int x)] r σ Q = aw g 131 11 [l0, l1, l2, some (.int x)] (.int x :: r) σ Q := (aw_eq g 131 10 _ _ _ _).trans (by rw [tq131_10]; exact (h_load rfl).trans (propext ⟨fun z => z.2, fun z => ⟨rfl, z⟩⟩))
theorem tq131_11 : tT g 131 11 = s_const 131 13 (.int 6) := rfl
theorem A131_11 {L : AL} {r : List Value} : aw g 131 11 L r σ Q = aw g 131 13 L (.int 6 :: r) σ Q := (aw_eq g 131 11 _ _ _ _).trans (by rw [tq131_11]; exact rfl)
theorem tq131_13 : tT g 131 13 = s_icmp 131 16 51 (fun a b => b ≤ a) := rfl
theorem A131_13 {L : AL} {r : List Value} {a b : Int32} : aw g 131 13 L (.int b :: .int a :: r) σ Q = ((b ≤ a → aw g 131 51 L r σ Q) ∧ (¬ b ≤ a → aw g 131 16 L r σ Q)) := (aw_eq g 131 13 _ _ _ _).trans (by rw [tq131_13]; exact rfl)
theorem tq131_16 : tT g 131 16 = s_load vRf 131 17 1 := rfl
theorem A131_16 {l0 : Option Value} {l2 : Option Value} {l3 : Option Value} {x : Value} {r : List Value} : aw g 131 16 [l0, some (x), l2, l3] r σ Q = (vRf x = true ∧ aw g 131 17 [l0, some (x), l2, l3] (x :: r) σ Q) := (aw_eq g 131 16 _ _ _ _).trans (by rw [tq131_16]; exact h_load rfl)
theorem tq131_17 : tT g 131 17 = s_getf 131 20 5 16 := rfl
theorem A131_17 {L : AL} {r : List Value} {a : Nat} : aw g 131 17 L (.ref a :: r) σ Q = (hty σ a = some 5 ∧ aw g 131 20 L (hv σ 5 a 16 :: r) σ Q) := (aw_eq g 131 17 _ _ _ _).trans (by rw [tq131_17]; exact rfl)
theorem tq131_20 : tT g 131 20 = s_load vI 131 21 3 := rfl
theorem A131_20 {l0 : Option Value} {l1 : Option Value} {l2 : Option Value} {x : Int32} {r : List Value} : aw g 131 20 [l0, l1, l2, some (.int x)] r σ Q = aw g 131 21 [l0, l1, l2, some (.int x)] (.int x :: r) σ Q := (aw_eq g 131 20 _ _ _ _).trans (by rw [tq131_20]; exact (h_load rfl).trans (propext ⟨fun z => z.2, fun z => ⟨rfl, z⟩⟩))
theorem tq131_21 : tT g 131 21 = s_load vRf 131 22 1 := rfl
theorem A131_21 {l0 : Option Value} {l2 : Option Value} {l3 : Option Value} {x : Value} {r : List Value} : aw g 131 21 [l0, some (x), l2, l3] r σ Q = (vRf x = true ∧ aw g 131 22 [l0, some (x), l2, l3] (x :: r) σ Q) := (aw_eq g 131 21 _ _ _ _).trans (by rw [tq131_21]; exact h_load rfl)
theorem tq131_22 : tT g 131 22 = s_getf 131 25 5 14 := rfl
theorem A131_22 {L : AL} {r : List Value} {a : Nat} : aw g 131 22 L (.ref a :: r) σ Q = (hty σ a = some 5 ∧ aw g 131 25 L (hv σ 5 a 14 :: r) σ Q) := (aw_eq g 131 22 _ _ _ _).trans (by rw [tq131_22]; exact rfl)
theorem tq131_25 : tT g 131 25 = s_load vI 131 26 3 := rfl
theorem A131_25 {l0 : Option Value} {l1 : Option Value} {l2 : Option Value} {x : Int32} {r : List Value} : aw g 131 25 [l0, l1, l2, some (.int x)] r σ Q = aw g 131 26 [l0, l1, l2, some (.int x)] (.int x :: r) σ Q := (aw_eq g 131 25 _ _ _ _).trans (by rw [tq131_25]; exact (h_load rfl).trans (propext ⟨fun z => z.2, fun z => ⟨rfl, z⟩⟩))
theorem tq131_26 : tT g 131 26 = s_ald 131 27 21 := rfl
theorem A131_26 {L : AL} {r : List Value} {a : Nat} {i : Int32} : aw g 131 26 L (.int i :: .ref a :: r) σ Q = (hty σ a = some 21 ∧ ¬ i < 0 ∧ i.toNatClampNeg < hln σ a ∧ aw g 131 27 L (hv σ 21 a i.toNatClampNeg :: r) σ Q) := (aw_eq g 131 26 _ _ _ _).trans (by rw [tq131_26]; exact rfl)
theorem tq131_27 : tT g 131 27 = s_if 131 39 30 (fun a => a = 0) := rfl
theorem A131_27 {L : AL} {r : List Value} {a : Int32} : aw g 131 27 L (.int a :: r) σ Q = ((a = 0 → aw g 131 30 L r σ Q) ∧ (¬ a = 0 → aw g 131 39 L r σ Q)) := (aw_eq g 131 27 _ _ _ _).trans (by rw [tq131_27]; exact rfl)
theorem tq131_30 : tT g 131 30 = s_load vRf 131 31 0 := rfl
theorem A131_30 {l1 : Option Value} {l2 : Option Value} {l3 : Option Value} {x : Value} {r : List Value} : aw g 131 30 [some (x), l1, l2, l3] r σ Q = (vRf x = true ∧ aw g 131 31 [some (x), l1, l2, l3] (x :: r) σ Q) := (aw_eq g 131 30 _ _ _ _).trans (by rw [tq131_30]; exact h_load rfl)
theorem tq131_31 : tT g 131 31 = s_load vRf 131 32 1 := rfl
theorem A131_31 {l0 : Option Value} {l2 : Option Value} {l3 : Option Value} {x : Value} {r : List Value} : aw g 131 31 [l0, some (x), l2, l3] r σ Q = (vRf x = true ∧ aw g 131 32 [l0, some (x), l2, l3] (x :: r) σ Q) := (aw_eq g 131 31 _ _ _ _).trans (by rw [tq131_31]; exact h_load rfl)
theorem tq131_32 : tT g 131 32 = s_load vI 131 33 3 := rfl
theorem A131_32 {l0 : Option Value} {l1 : Option Value} {l2 : Option Value} {x : Int32} {r : List Value} : aw g 131 32 [l0, l1, l2, some (.int x)] r σ Q = aw g 131 33 [l0, l1, l2, some (.int x)] (.int x :: r) σ Q := (aw_eq g 131 32 _ _ _ _).trans (by rw [tq131_32]; exact (h_load rfl).trans (propext ⟨fun z => z.2, fun z => ⟨rfl, z⟩⟩))
theorem tq131_33 : tT g 131 33 = s_callvk 131 36 111 1 [1, 0] 5 := rfl
theorem A131_33 {L : AL} {r : List Value} {a : Nat} {w0 w1 : Value} : aw g 131 33 L (w1 :: w0 :: .ref a :: r) σ Q = (hty σ a = some 1 ∧ (vRf w0 && (vI w1 && true)) = true ∧ csum r ≤ 8 ∧ aw g 111 0 [some (.ref a), some w0, some w1, none, none] [] σ (kt (aw g) 131 36 L r Q)) := (aw_eq g 131 33 _ _ _ _).trans (by rw [tq131_33]; exact rfl)
theorem tq131_36 : tT g 131 36 = s_ifnull 131 39 43 := rfl
theorem A131_36 {L : AL} {r : List Value} {a : Value} : aw g 131 36 L (a :: r) σ Q = (vRf a = true ∧ (a = .null → aw g 131 43 L r σ Q) ∧ (a ≠ .null → aw g 131 39 L r σ Q)) := (aw_eq g 131 36 _ _ _ _).trans (by rw [tq131_36]; exact rfl)
theorem tq131_39 : tT g 131 39 = s_const 131 40 (.int 1) := rfl
theorem A131_39 {L : AL} {r : List Value} : aw g 131 39 L r σ Q = aw g 131 40 L (.int 1 :: r) σ Q := (aw_eq g 131 39 _ _ _ _).trans (by rw [tq131_39]; exact rfl)
theorem tq131_40 : tT g 131 40 = s_goto 131 44 := rfl
theorem A131_40 {L : AL} {r : List Value} : aw g 131 40 L r σ Q = aw g 131 44 L r σ Q := (aw_eq g 131 40 _ _ _ _).trans (by rw [tq131_40]; exact rfl)
theorem tq131_43 : tT g 131 43 = s_const 131 44 (.int 0) := rfl
theorem A131_43 {L : AL} {r : List Value} : aw g 131 43 L r σ Q = aw g 131 44 L (.int 0 :: r) σ Q := (aw_eq g 131 43 _ _ _ _).trans (by rw [tq131_43]; exact rfl)
theorem tq131_44 : tT g 131 44 = s_ast g (fun _ v => vZ v) 131 45 21 := rfl
theorem A131_44 {L : AL} {r : List Value} {a : Nat} {i : Int32} {v : Value} : aw g 131 44 L (v :: .int i :: .ref a :: r) σ Q = (hty σ a = some 21 ∧ gB g ≤ a ∧ ¬ i < 0 ∧ i.toNatClampNeg < hln σ a ∧ vZ v ∧ aw g 131 45 L r (hput σ 21 a i.toNatClampNeg v) Q) := (aw_eq g 131 44 _ _ _ _).trans (by rw [tq131_44]; exact rfl)
theorem tq131_45 : tT g 131 45 = s_iinc 131 48 3 1 := rfl
theorem A131_45 {l0 : Option Value} {l1 : Option Value} {l2 : Option Value} {x : Int32} {r : List Value} : aw g 131 45 [l0, l1, l2, some (.int x)] r σ Q = (oc l2 = true ∧ aw g 131 48 [l0, l1, l2, some (.int (x + 1))] r σ Q) := (aw_eq g 131 45 _ _ _ _).trans (by rw [tq131_45]; exact (h_iinc (o := oc l2) rfl rfl rfl))
theorem tq131_48 : tT g 131 48 = s_goto 131 10 := rfl
theorem A131_48 {L : AL} {r : List Value} : aw g 131 48 L r σ Q = aw g 131 10 L r σ Q := (aw_eq g 131 48 _ _ _ _).trans (by rw [tq131_48]; exact rfl)
theorem tq131_51 : tT g 131 51 = s_load vRf 131 52 1 := rfl
theorem A131_51 {l0 : Option Value} {l2 : Option Value} {l3 : Option Value} {x : Value} {r : List Value} : aw g 131 51 [l0, some (x), l2, l3] r σ Q = (vRf x = true ∧ aw g 131 52 [l0, some (x), l2, l3] (x :: r) σ Q) := (aw_eq g 131 51 _ _ _ _).trans (by rw [tq131_51]; exact h_load rfl)
theorem tq131_52 : tT g 131 52 = s_load vI 131 53 2 := rfl
theorem A131_52 {l0 : Option Value} {l1 : Option Value} {l3 : Option Value} {x : Int32} {r : List Value} : aw g 131 52 [l0, l1, some (.int x), l3] r σ Q = aw g 131 53 [l0, l1, some (.int x), l3] (.int x :: r) σ Q := (aw_eq g 131 52 _ _ _ _).trans (by rw [tq131_52]; exact (h_load rfl).trans (propext ⟨fun z => z.2, fun z => ⟨rfl, z⟩⟩))
theorem tq131_53 : tT g 131 53 = s_putf g pI 131 56 5 17 := rfl
theorem A131_53 {L : AL} {r : List Value} {a : Nat} {v : Value} : aw g 131 53 L (v :: .ref a :: r) σ Q = (hty σ a = some 5 ∧ gB g ≤ a ∧ pI v ∧ aw g 131 56 L r (hput σ 5 a 17 v) Q) := (aw_eq g 131 53 _ _ _ _).trans (by rw [tq131_53]; exact rfl)
theorem tq131_56 : tT g 131 56 = s_load vRf 131 57 1 := rfl
theorem A131_56 {l0 : Option Value} {l2 : Option Value} {l3 : Option Value} {x : Value} {r : List Value} : aw g 131 56 [l0, some (x), l2, l3] r σ Q = (vRf x = true ∧ aw g 131 57 [l0, some (x), l2, l3] (x :: r) σ Q) := (aw_eq g 131 56 _ _ _ _).trans (by rw [tq131_56]; exact h_load rfl)
theorem tq131_57 : tT g 131 57 = s_load vRf 131 58 0 := rfl
theorem A131_57 {l1 : Option Value} {l2 : Option Value} {l3 : Option Value} {x : Value} {r : List Value} : aw g 131 57 [some (x), l1, l2, l3] r σ Q = (vRf x = true ∧ aw g 131 58 [some (x), l1, l2, l3] (x :: r) σ Q) := (aw_eq g 131 57 _ _ _ _).trans (by rw [tq131_57]; exact h_load rfl)
theorem tq131_58 : tT g 131 58 = s_getf 131 61 1 2 := rfl
theorem A131_58 {L : AL} {r : List Value} {a : Nat} : aw g 131 58 L (.ref a :: r) σ Q = (hty σ a = some 1 ∧ aw g 131 61 L (hv σ 1 a 2 :: r) σ Q) := (aw_eq g 131 58 _ _ _ _).trans (by rw [tq131_58]; exact rfl)
theorem tq131_61 : tT g 131 61 = s_putf g pI 131 64 5 18 := rfl
theorem A131_61 {L : AL} {r : List Value} {a : Nat} {v : Value} : aw g 131 61 L (v :: .ref a :: r) σ Q = (hty σ a = some 5 ∧ gB g ≤ a ∧ pI v ∧ aw g 131 64 L r (hput σ 5 a 18 v) Q) := (aw_eq g 131 61 _ _ _ _).trans (by rw [tq131_61]; exact rfl)
theorem tq131_64 : tT g 131 64 = s_load vRf 131 65 1 := rfl
theorem A131_64 {l0 : Option Value} {l2 : Option Value} {l3 : Option Value} {x : Value} {r : List Value} : aw g 131 64 [l0, some (x), l2, l3] r σ Q = (vRf x = true ∧ aw g 131 65 [l0, some (x), l2, l3] (x :: r) σ Q) := (aw_eq g 131 64 _ _ _ _).trans (by rw [tq131_64]; exact h_load rfl)
theorem tq131_65 : tT g 131 65 = s_callvk 131 68 193 5 [] 3 := rfl
theorem A131_65 {L : AL} {r : List Value} {a : Nat} : aw g 131 65 L (.ref a :: r) σ Q = (hty σ a = some 5 ∧ true = true ∧ csum r ≤ 8 ∧ aw g 193 0 [some (.ref a), none, none] [] σ (kt (aw g) 131 68 L r Q)) := (aw_eq g 131 65 _ _ _ _).trans (by rw [tq131_65]; exact rfl)
theorem tq131_68 : tT g 131 68 = s_ret pI := rfl
theorem A131_68 {L : AL} {v : Value} : aw g 131 68 L [v] σ Q = (pI v ∧ Q (.inl (some v)) σ) := (aw_eq g 131 68 _ _ _ _).trans (by rw [tq131_68]; exact rfl)
theorem tq132_0 : tT g 132 0 = s_const 132 1 (.int 0) := rfl
theorem A132_0 {L : AL} {r : List Value} : aw g 132 0 L r σ Q = aw g 132 1 L (.int 0 :: r) σ Q := (aw_eq g 132 0 _ _ _ _).trans (by rw [tq132_0]; exact rfl)
theorem tq132_1 : tT g 132 1 = s_store vI 132 2 3 := rfl
theorem A132_1 {l0 : Option Value} {l1 : Option Value} {l2 : Option Value} {l3 : Option Value} {l4 : Option Value} {l5 : Option Value} {l6 : Option Value} {l7 : Option Value} {x : Int32} {r : List Value} : aw g 132 1 [l0, l1, l2, l3, l4, l5, l6, l7] (.int x :: r) σ Q = (oc l2 = true ∧ aw g 132 2 [l0, l1, l2, some (.int x), l4, l5, l6, l7] r σ Q) := (aw_eq g 132 1 _ _ _ _).trans (by rw [tq132_1]; exact (h_store (o := oc l2) rfl rfl rfl).trans (propext ⟨fun z => z.2, fun z => ⟨rfl, z⟩⟩))
theorem tq132_2 : tT g 132 2 = s_const 132 3 (.int 0) := rfl
theorem A132_2 {L : AL} {r : List Value} : aw g 132 2 L r σ Q = aw g 132 3 L (.int 0 :: r) σ Q := (aw_eq g 132 2 _ _ _ _).trans (by rw [tq132_2]; exact rfl)
theorem tq132_3 : tT g 132 3 = s_store vI 132 5 4 := rfl
theorem A132_3 {l0 : Option Value} {l1 : Option Value} {l2 : Option Value} {l3 : Option Value} {l4 : Option Value} {l5 : Option Value} {l6 : Option Value} {l7 : Option Value} {x : Int32} {r : List Value} : aw g 132 3 [l0, l1, l2, l3, l4, l5, l6, l7] (.int x :: r) σ Q = (oc l3 = true ∧ aw g 132 5 [l0, l1, l2, l3, some (.int x), l5, l6, l7] r σ Q) := (aw_eq g 132 3 _ _ _ _).trans (by rw [tq132_3]; exact (h_store (o := oc l3) rfl rfl rfl).trans (propext ⟨fun z => z.2, fun z => ⟨rfl, z⟩⟩))
theorem tq132_5 : tT g 132 5 = s_load vI 132 7 4 := rfl
theorem A132_5 {l0 : Option Value} {l1 : Option Value} {l2 : Option Value} {l3 : Option Value} {l5 : Option Value} {l6 : Option Value} {l7 : Option Value} {x : Int32} {r : List Value} : aw g 132 5 [l0, l1, l2, l3, some (.int x), l5, l6, l7] r σ Q = aw g 132 7 [l0, l1, l2, l3, some (.int x), l5, l6, l7] (.int x :: r) σ Q := (aw_eq g 132 5 _ _ _ _).trans (by rw [tq132_5]; exact (h_load rfl).trans (propext ⟨fun z => z.2, fun z => ⟨rfl, z⟩⟩))
theorem tq132_7 : tT g 132 7 = s_load vI 132 8 2 := rfl
theorem A132_7 {l0 : Option Value} {l1 : Option Value} {l3 : Option Value} {l4 : Option Value} {l5 : Option Value} {l6 : Option Value} {l7 : Option Value} {x : Int32} {r : List Value} : aw g 132 7 [l0, l1, some (.int x), l3, l4, l5, l6, l7] r σ Q = aw g 132 8 [l0, l1, some (.int x), l3, l4, l5, l6, l7] (.int x :: r) σ Q := (aw_eq g 132 7 _ _ _ _).trans (by rw [tq132_7]; exact (h_load rfl).trans (propext ⟨fun z => z.2, fun z => ⟨rfl, z⟩⟩))
theorem tq132_8 : tT g 132 8 = s_icmp 132 11 88 (fun a b => b ≤ a) := rfl
theorem A132_8 {L : AL} {r : List Value} {a b : Int32} : aw g 132 8 L (.int b :: .int a :: r) σ Q = ((b ≤ a → aw g 132 88 L r σ Q) ∧ (¬ b ≤ a → aw g 132 11 L r σ Q)) := (aw_eq g 132 8 _ _ _ _).trans (by rw [tq132_8]; exact rfl)
theorem tq132_11 : tT g 132 11 = s_const 132 12 .null := rfl
theorem A132_11 {L : AL} {r : List Value} : aw g 132 11 L r σ Q = aw g 132 12 L (.null :: r) σ Q := (aw_eq g 132 11 _ _ _ _).trans (by rw [tq132_11]; exact rfl)
theorem tq132_12 : tT g 132 12 = s_store vRf 132 14 5 := rfl
theorem A132_12 {l0 : Option Value} {l1 : Option Value} {l2 : Option Value} {l3 : Option Value} {l4 : Option Value} {l5 : Option Value} {l6 : Option Value} {l7 : Option Value} {x : Value} {r : List Value} : aw g 132 12 [l0, l1, l2, l3, l4, l5, l6, l7] (x :: r) σ Q = (vRf x = true ∧ oc l4 = true ∧ aw g 132 14 [l0, l1, l2, l3, l4, some (x), l6, l7] r σ Q) := (aw_eq g 132 12 _ _ _ _).trans (by rw [tq132_12]; exact (h_store (o := oc l4) rfl rfl rfl))
theorem tq132_14 : tT g 132 14 = s_const 132 15 (.int 0) := rfl
theorem A132_14 {L : AL} {r : List Value} : aw g 132 14 L r σ Q = aw g 132 15 L (.int 0 :: r) σ Q := (aw_eq g 132 14 _ _ _ _).trans (by rw [tq132_14]; exact rfl)
theorem tq132_15 : tT g 132 15 = s_store vI 132 17 6 := rfl
theorem A132_15 {l0 : Option Value} {l1 : Option Value} {l2 : Option Value} {l3 : Option Value} {l4 : Option Value} {l5 : Option Value} {l6 : Option Value} {l7 : Option Value} {x : Int32} {r : List Value} : aw g 132 15 [l0, l1, l2, l3, l4, l5, l6, l7] (.int x :: r) σ Q = (oc l5 = true ∧ aw g 132 17 [l0, l1, l2, l3, l4, l5, some (.int x), l7] r σ Q) := (aw_eq g 132 15 _ _ _ _).trans (by rw [tq132_15]; exact (h_store (o := oc l5) rfl rfl rfl).trans (propext ⟨fun z => z.2, fun z => ⟨rfl, z⟩⟩))
theorem tq132_17 : tT g 132 17 = s_load vI 132 19 6 := rfl
theorem A132_17 {l0 : Option Value} {l1 : Option Value} {l2 : Option Value} {l3 : Option Value} {l4 : Option Value} {l5 : Option Value} {l7 : Option Value} {x : Int32} {r : List Value} : aw g 132 17 [l0, l1, l2, l3, l4, l5, some (.int x), l7] r σ Q = aw g 132 19 [l0, l1, l2, l3, l4, l5, some (.int x), l7] (.int x :: r) σ Q := (aw_eq g 132 17 _ _ _ _).trans (by rw [tq132_17]; exact (h_load rfl).trans (propext ⟨fun z => z.2, fun z => ⟨rfl, z⟩⟩))
theorem tq132_19 : tT g 132 19 = s_const 132 21 (.int 6) := rfl
theorem A132_19 {L : AL} {r : List Value} : aw g 132 19 L r σ Q = aw g 132 21 L (.int 6 :: r) σ Q := (aw_eq g 132 19 _ _ _ _).trans (by rw [tq132_19]; exact rfl)
theorem tq132_21 : tT g 132 21 = s_icmp 132 24 66 (fun a b => b ≤ a) := rfl
theorem A132_21 {L : AL} {r : List Value} {a b : Int32} : aw g 132 21 L (.int b :: .int a :: r) σ Q = ((b ≤ a → aw g 132 66 L r σ Q) ∧ (¬ b ≤ a → aw g 132 24 L r σ Q)) := (aw_eq g 132 21 _ _ _ _).trans (by rw [tq132_21]; exact rfl)
theorem tq132_24 : tT g 132 24 = s_load vRf 132 25 0 := rfl
theorem A132_24 {l1 : Option Value} {l2 : Option Value} {l3 : Option Value} {l4 : Option Value} {l5 : Option Value} {l6 : Option Value} {l7 : Option Value} {x : Value} {r : List Value} : aw g 132 24 [some (x), l1, l2, l3, l4, l5, l6, l7] r σ Q = (vRf x = true ∧ aw g 132 25 [some (x), l1, l2, l3, l4, l5, l6, l7] (x :: r) σ Q) := (aw_eq g 132 24 _ _ _ _).trans (by rw [tq132_24]; exact h_load rfl)
theorem tq132_25 : tT g 132 25 = s_load vRf 132 26 1 := rfl
theorem A132_25 {l0 : Option Value} {l2 : Option Value} {l3 : Option Value} {l4 : Option Value} {l5 : Option Value} {l6 : Option Value} {l7 : Option Value} {x : Value} {r : List Value} : aw g 132 25 [l0, some (x), l2, l3, l4, l5, l6, l7] r σ Q = (vRf x = true ∧ aw g 132 26 [l0, some (x), l2, l3, l4, l5, l6, l7] (x :: r) σ Q) := (aw_eq g 132 25 _ _ _ _).trans (by rw [tq132_25]; exact h_load rfl)
theorem tq132_26 : tT g 132 26 = s_load vI 132 28 6 := rfl
theorem A132_26 {l0 : Option Value} {l1 : Option Value} {l2 : Option Value} {l3 : Option Value} {l4 : Option Value} {l5 : Option Value} {l7 : Option Value} {x : Int32} {r : List Value} : aw g 132 26 [l0, l1, l2, l3, l4, l5, some (.int x), l7] r σ Q = aw g 132 28 [l0, l1, l2, l3, l4, l5, some (.int x), l7] (.int x :: r) σ Q := (aw_eq g 132 26 _ _ _ _).trans (by rw [tq132_26]; exact (h_load rfl).trans (propext ⟨fun z => z.2, fun z => ⟨rfl, z⟩⟩))
theorem tq132_28 : tT g 132 28 = s_callvk 132 31 111 1 [1, 0] 5 := rfl
theorem A132_28 {L : AL} {r : List Value} {a : Nat} {w0 w1 : Value} : aw g 132 28 L (w1 :: w0 :: .ref a :: r) σ Q = (hty σ a = some 1 ∧ (vRf w0 && (vI w1 && true)) = true ∧ csum r ≤ 8 ∧ aw g 111 0 [some (.ref a), some w0, some w1, none, none] [] σ (kt (aw g) 132 31 L r Q)) := (aw_eq g 132 28 _ _ _ _).trans (by rw [tq132_28]; exact rfl)
theorem tq132_31 : tT g 132 31 = s_store vRf 132 33 7 := rfl
theorem A132_31 {l0 : Option Value} {l1 : Option Value} {l2 : Option Value} {l3 : Option Value} {l4 : Option Value} {l5 : Option Value} {l6 : Option Value} {l7 : Option Value} {x : Value} {r : List Value} : aw g 132 31 [l0, l1, l2, l3, l4, l5, l6, l7] (x :: r) σ Q = (vRf x = true ∧ oc l6 = true ∧ aw g 132 33 [l0, l1, l2, l3, l4, l5, l6, some (x)] r σ Q) := (aw_eq g 132 31 _ _ _ _).trans (by rw [tq132_31]; exact (h_store (o := oc l6) rfl rfl rfl))
theorem tq132_33 : tT g 132 33 = s_load vRf 132 35 7 := rfl
theorem A132_33 {l0 : Option Value} {l1 : Option Value} {l2 : Option Value} {l3 : Option Value} {l4 : Option Value} {l5 : Option Value} {l6 : Option Value} {x : Value} {r : List Value} : aw g 132 33 [l0, l1, l2, l3, l4, l5, l6, some (x)] r σ Q = (vRf x = true ∧ aw g 132 35 [l0, l1, l2, l3, l4, l5, l6, some (x)] (x :: r) σ Q) := (aw_eq g 132 33 _ _ _ _).trans (by rw [tq132_33]; exact h_load rfl)
theorem tq132_35 : tT g 132 35 = s_ifnull 132 38 60 := rfl
theorem A132_35 {L : AL} {r : List Value} {a : Value} : aw g 132 35 L (a :: r) σ Q = (vRf a = true ∧ (a = .null → aw g 132 60 L r σ Q) ∧ (a ≠ .null → aw g 132 38 L r σ Q)) := (aw_eq g 132 35 _ _ _ _).trans (by rw [tq132_35]; exact rfl)
theorem tq132_38 : tT g 132 38 = s_load vRf 132 40 5 := rfl
theorem A132_38 {l0 : Option Value} {l1 : Option Value} {l2 : Option Value} {l3 : Option Value} {l4 : Option Value} {l6 : Option Value} {l7 : Option Value} {x : Value} {r : List Value} : aw g 132 38 [l0, l1, l2, l3, l4, some (x), l6, l7] r σ Q = (vRf x = true ∧ aw g 132 40 [l0, l1, l2, l3, l4, some (x), l6, l7] (x :: r) σ Q) := (aw_eq g 132 38 _ _ _ _).trans (by rw [tq132_38]; exact h_load rfl)
theorem tq132_40 : tT g 132 40 = s_ifnull 132 43 56 := rfl
theorem A132_40 {L : AL} {r : List Value} {a : Value} : aw g 132 40 L (a :: r) σ Q = (vRf a = true ∧ (a = .null → aw g 132 56 L r σ Q) ∧ (a ≠ .null → aw g 132 43 L r σ Q)) := (aw_eq g 132 40 _ _ _ _).trans (by rw [tq132_40]; exact rfl)
theorem tq132_43 : tT g 132 43 = s_load vRf 132 45 7 := rfl
theorem A132_43 {l0 : Option Value} {l1 : Option Value} {l2 : Option Value} {l3 : Option Value} {l4 : Option Value} {l5 : Option Value} {l6 : Option Value} {x : Value} {r : List Value} : aw g 132 43 [l0, l1, l2, l3, l4, l5, l6, some (x)] r σ Q = (vRf x = true ∧ aw g 132 45 [l0, l1, l2, l3, l4, l5, l6, some (x)] (x :: r) σ Q) := (aw_eq g 132 43 _ _ _ _).trans (by rw [tq132_43]; exact h_load rfl)
theorem tq132_45 : tT g 132 45 = s_getf 132 48 2 2 := rfl
theorem A132_45 {L : AL} {r : List Value} {a : Nat} : aw g 132 45 L (.ref a :: r) σ Q = (hty σ a = some 2 ∧ aw g 132 48 L (hv σ 2 a 2 :: r) σ Q) := (aw_eq g 132 45 _ _ _ _).trans (by rw [tq132_45]; exact rfl)
theorem tq132_48 : tT g 132 48 = s_load vRf 132 50 5 := rfl
theorem A132_48 {l0 : Option Value} {l1 : Option Value} {l2 : Option Value} {l3 : Option Value} {l4 : Option Value} {l6 : Option Value} {l7 : Option Value} {x : Value} {r : List Value} : aw g 132 48 [l0, l1, l2, l3, l4, some (x), l6, l7] r σ Q = (vRf x = true ∧ aw g 132 50 [l0, l1, l2, l3, l4, some (x), l6, l7] (x :: r) σ Q) := (aw_eq g 132 48 _ _ _ _).trans (by rw [tq132_48]; exact h_load rfl)
theorem tq132_50 : tT g 132 50 = s_getf 132 53 2 2 := rfl
theorem A132_50 {L : AL} {r : List Value} {a : Nat} : aw g 132 50 L (.ref a :: r) σ Q = (hty σ a = some 2 ∧ aw g 132 53 L (hv σ 2 a 2 :: r) σ Q) := (aw_eq g 132 50 _ _ _ _).trans (by rw [tq132_50]; exact rfl)
theorem tq132_53 : tT g 132 53 = s_icmp 132 56 60 (fun a b => b ≤ a) := rfl
theorem A132_53 {L : AL} {r : List Value} {a b : Int32} : aw g 132 53 L (.int b :: .int a :: r) σ Q = ((b ≤ a → aw g 132 60 L r σ Q) ∧ (¬ b ≤ a → aw g 132 56 L r σ Q)) := (aw_eq g 132 53 _ _ _ _).trans (by rw [tq132_53]; exact rfl)
theorem tq132_56 : tT g 132 56 = s_load vRf 132 58 7 := rfl
theorem A132_56 {l0 : Option Value} {l1 : Option Value} {l2 : Option Value} {l3 : Option Value} {l4 : Option Value} {l5 : Option Value} {l6 : Option Value} {x : Value} {r : List Value} : aw g 132 56 [l0, l1, l2, l3, l4, l5, l6, some (x)] r σ Q = (vRf x = true ∧ aw g 132 58 [l0, l1, l2, l3, l4, l5, l6, some (x)] (x :: r) σ Q) := (aw_eq g 132 56 _ _ _ _).trans (by rw [tq132_56]; exact h_load rfl)
theorem tq132_58 : tT g 132 58 = s_store vRf 132 60 5 := rfl
theorem A132_58 {l0 : Option Value} {l1 : Option Value} {l2 : Option Value} {l3 : Option Value} {l4 : Option Value} {l5 : Option Value} {l6 : Option Value} {l7 : Option Value} {x : Value} {r : List Value} : aw g 132 58 [l0, l1, l2, l3, l4, l5, l6, l7] (x :: r) σ Q = (vRf x = true ∧ oc l4 = true ∧ aw g 132 60 [l0, l1, l2, l3, l4, some (x), l6, l7] r σ Q) := (aw_eq g 132 58 _ _ _ _).trans (by rw [tq132_58]; exact (h_store (o := oc l4) rfl rfl rfl))
theorem tq132_60 : tT g 132 60 = s_iinc 132 63 6 1 := rfl
theorem A132_60 {l0 : Option Value} {l1 : Option Value} {l2 : Option Value} {l3 : Option Value} {l4 : Option Value} {l5 : Option Value} {l7 : Option Value} {x : Int32} {r : List Value} : aw g 132 60 [l0, l1, l2, l3, l4, l5, some (.int x), l7] r σ Q = (oc l5 = true ∧ aw g 132 63 [l0, l1, l2, l3, l4, l5, some (.int (x + 1)), l7] r σ Q) := (aw_eq g 132 60 _ _ _ _).trans (by rw [tq132_60]; exact (h_iinc (o := oc l5) rfl rfl rfl))
theorem tq132_63 : tT g 132 63 = s_goto 132 17 := rfl
theorem A132_63 {L : AL} {r : List Value} : aw g 132 63 L r σ Q = aw g 132 17 L r σ Q := (aw_eq g 132 63 _ _ _ _).trans (by rw [tq132_63]; exact rfl)
theorem tq132_66 : tT g 132 66 = s_load vRf 132 68 5 := rfl
theorem A132_66 {l0 : Option Value} {l1 : Option Value} {l2 : Option Value} {l3 : Option Value} {l4 : Option Value} {l6 : Option Value} {l7 : Option Value} {x : Value} {r : List Value} : aw g 132 66 [l0, l1, l2, l3, l4, some (x), l6, l7] r σ Q = (vRf x = true ∧ aw g 132 68 [l0, l1, l2, l3, l4, some (x), l6, l7] (x :: r) σ Q) := (aw_eq g 132 66 _ _ _ _).trans (by rw [tq132_66]; exact h_load rfl)
theorem tq132_68 : tT g 132 68 = s_ifnn 132 71 73 := rfl
theorem A132_68 {L : AL} {r : List Value} {a : Value} : aw g 132 68 L (a :: r) σ Q = (vRf a = true ∧ (a = .null → aw g 132 71 L r σ Q) ∧ (a ≠ .null → aw g 132 73 L r σ Q)) := (aw_eq g 132 68 _ _ _ _).trans (by rw [tq132_68]; exact rfl)
theorem tq132_71 : tT g 132 71 = s_load vI 132 72 3 := rfl
theorem A132_71 {l0 : Option Value} {l1 : Option Value} {l2 : Option Value} {l4 : Option Value} {l5 : Option Value} {l6 : Option Value} {l7 : Option Value} {x : Int32} {r : List Value} : aw g 132 71 [l0, l1, l2, some (.int x), l4, l5, l6, l7] r σ Q = aw g 132 72 [l0, l1, l2, some (.int x), l4, l5, l6, l7] (.int x :: r) σ Q := (aw_eq g 132 71 _ _ _ _).trans (by rw [tq132_71]; exact (h_load rfl).trans (propext ⟨fun z => z.2, fun z => ⟨rfl, z⟩⟩))
theorem tq132_72 : tT g 132 72 = s_ret pI := rfl
theorem A132_72 {L : AL} {v : Value} : aw g 132 72 L [v] σ Q = (pI v ∧ Q (.inl (some v)) σ) := (aw_eq g 132 72 _ _ _ _).trans (by rw [tq132_72]; exact rfl)
theorem tq132_73 : tT g 132 73 = s_load vRf 132 74 1 := rfl
theorem A132_73 {l0 : Option Value} {l2 : Option Value} {l3 : Option Value} {l4 : Option Value} {l5 : Option Value} {l6 : Option Value} {l7 : Option Value} {x : Value} {r : List Value} : aw g 132 73 [l0, some (x), l2, l3, l4, l5, l6, l7] r σ Q = (vRf x = true ∧ aw g 132 74 [l0, some (x), l2, l3, l4, l5, l6, l7] (x :: r) σ Q) := (aw_eq g 132 73 _ _ _ _).trans (by rw [tq132_73]; exact h_load rfl)
theorem tq132_74 : tT g 132 74 = s_load vRf 132 76 5 := rfl
theorem A132_74 {l0 : Option Value} {l1 : Option Value} {l2 : Option Value} {l3 : Option Value} {l4 : Option Value} {l6 : Option Value} {l7 : Option Value} {x : Value} {r : List Value} : aw g 132 74 [l0, l1, l2, l3, l4, some (x), l6, l7] r σ Q = (vRf x = true ∧ aw g 132 76 [l0, l1, l2, l3, l4, some (x), l6, l7] (x :: r) σ Q) := (aw_eq g 132 74 _ _ _ _).trans (by rw [tq132_74]; exact h_load rfl)
theorem tq132_76 : tT g 132 76 = s_callk 132 79 133 [1, 1] 3 := rfl
theorem A132_76 {L : AL} {r : List Value} {w0 w1 : Value} : aw g 132 76 L (w1 :: w0 :: r) σ Q = ((vRf w0 && (vRf w1 && true)) = true ∧ csum r ≤ 8 ∧ aw g 133 0 [some w0, some w1, none] [] σ (kt (aw g) 132 79 L r Q)) := (aw_eq g 132 76 _ _ _ _).trans (by rw [tq132_76]; exact rfl)
theorem tq132_79 : tT g 132 79 = s_iinc 132 82 3 1 := rfl
theorem A132_79 {l0 : Option Value} {l1 : Option Value} {l2 : Option Value} {l4 : Option Value} {l5 : Option Value} {l6 : Option Value} {l7 : Option Value} {x : Int32} {r : List Value} : aw g 132 79 [l0, l1, l2, some (.int x), l4, l5, l6, l7] r σ Q = (oc l2 = true ∧ aw g 132 82 [l0, l1, l2, some (.int (x + 1)), l4, l5, l6, l7] r σ Q) := (aw_eq g 132 79 _ _ _ _).trans (by rw [tq132_79]; exact (h_iinc (o := oc l2) rfl rfl rfl))
theorem tq132_82 : tT g 132 82 = s_iinc 132 85 4 1 := rfl
theorem A132_82 {l0 : Option Value} {l1 : Option Value} {l2 : Option Value} {l3 : Option Value} {l5 : Option Value} {l6 : Option Value} {l7 : Option Value} {x : Int32} {r : List Value} : aw g 132 82 [l0, l1, l2, l3, some (.int x), l5, l6, l7] r σ Q = (oc l3 = true ∧ aw g 132 85 [l0, l1, l2, l3, some (.int (x + 1)), l5, l6, l7] r σ Q) := (aw_eq g 132 82 _ _ _ _).trans (by rw [tq132_82]; exact (h_iinc (o := oc l3) rfl rfl rfl))
theorem tq132_85 : tT g 132 85 = s_goto 132 5 := rfl
theorem A132_85 {L : AL} {r : List Value} : aw g 132 85 L r σ Q = aw g 132 5 L r σ Q := (aw_eq g 132 85 _ _ _ _).trans (by rw [tq132_85]; exact rfl)
theorem tq132_88 : tT g 132 88 = s_load vI 132 89 3 := rfl
theorem A132_88 {l0 : Option Value} {l1 : Option Value} {l2 : Option Value} {l4 : Option Value} {l5 : Option Value} {l6 : Option Value} {l7 : Option Value} {x : Int32} {r : List Value} : aw g 132 88 [l0, l1, l2, some (.int x), l4, l5, l6, l7] r σ Q = aw g 132 89 [l0, l1, l2, some (.int x), l4, l5, l6, l7] (.int x :: r) σ Q := (aw_eq g 132 88 _ _ _ _).trans (by rw [tq132_88]; exact (h_load rfl).trans (propext ⟨fun z => z.2, fun z => ⟨rfl, z⟩⟩))
theorem tq132_89 : tT g 132 89 = s_ret pI := rfl
theorem A132_89 {L : AL} {v : Value} : aw g 132 89 L [v] σ Q = (pI v ∧ Q (.inl (some v)) σ) := (aw_eq g 132 89 _ _ _ _).trans (by rw [tq132_89]; exact rfl)
theorem tq133_0 : tT g 133 0 = s_load vRf 133 1 1 := rfl
theorem A133_0 {l0 : Option Value} {l2 : Option Value} {x : Value} {r : List Value} : aw g 133 0 [l0, some (x), l2] r σ Q = (vRf x = true ∧ aw g 133 1 [l0, some (x), l2] (x :: r) σ Q) := (aw_eq g 133 0 _ _ _ _).trans (by rw [tq133_0]; exact h_load rfl)
theorem tq133_1 : tT g 133 1 = s_getf 133 4 2 1 := rfl
theorem A133_1 {L : AL} {r : List Value} {a : Nat} : aw g 133 1 L (.ref a :: r) σ Q = (hty σ a = some 2 ∧ aw g 133 4 L (hv σ 2 a 1 :: r) σ Q) := (aw_eq g 133 1 _ _ _ _).trans (by rw [tq133_1]; exact rfl)
theorem tq133_4 : tT g 133 4 = s_store vI 133 5 2 := rfl
theorem A133_4 {l0 : Option Value} {l1 : Option Value} {l2 : Option Value} {x : Int32} {r : List Value} : aw g 133 4 [l0, l1, l2] (.int x :: r) σ Q = (oc l1 = true ∧ aw g 133 5 [l0, l1, some (.int x)] r σ Q) := (aw_eq g 133 4 _ _ _ _).trans (by rw [tq133_4]; exact (h_store (o := oc l1) rfl rfl rfl).trans (propext ⟨fun z => z.2, fun z => ⟨rfl, z⟩⟩))
theorem tq133_5 : tT g 133 5 = s_load vRf 133 6 1 := rfl
theorem A133_5 {l0 : Option Value} {l2 : Option Value} {x : Value} {r : List Value} : aw g 133 5 [l0, some (x), l2] r σ Q = (vRf x = true ∧ aw g 133 6 [l0, some (x), l2] (x :: r) σ Q) := (aw_eq g 133 5 _ _ _ _).trans (by rw [tq133_5]; exact h_load rfl)
theorem tq133_6 : tT g 133 6 = s_callvk 133 9 134 2 [] 1 := rfl
theorem A133_6 {L : AL} {r : List Value} {a : Nat} : aw g 133 6 L (.ref a :: r) σ Q = (hty σ a = some 2 ∧ true = true ∧ csum r ≤ 8 ∧ aw g 134 0 [some (.ref a)] [] σ (kt (aw g) 133 9 L r Q)) := (aw_eq g 133 6 _ _ _ _).trans (by rw [tq133_6]; exact rfl)
theorem tq133_9 : tT g 133 9 = s_load vRf 133 10 0 := rfl
theorem A133_9 {l1 : Option Value} {l2 : Option Value} {x : Value} {r : List Value} : aw g 133 9 [some (x), l1, l2] r σ Q = (vRf x = true ∧ aw g 133 10 [some (x), l1, l2] (x :: r) σ Q) := (aw_eq g 133 9 _ _ _ _).trans (by rw [tq133_9]; exact h_load rfl)
theorem tq133_10 : tT g 133 10 = s_getf 133 13 5 15 := rfl
theorem A133_10 {L : AL} {r : List Value} {a : Nat} : aw g 133 10 L (.ref a :: r) σ Q = (hty σ a = some 5 ∧ aw g 133 13 L (hv σ 5 a 15 :: r) σ Q) := (aw_eq g 133 10 _ _ _ _).trans (by rw [tq133_10]; exact rfl)
theorem tq133_13 : tT g 133 13 = s_load vI 133 14 2 := rfl
theorem A133_13 {l0 : Option Value} {l1 : Option Value} {x : Int32} {r : List Value} : aw g 133 13 [l0, l1, some (.int x)] r σ Q = aw g 133 14 [l0, l1, some (.int x)] (.int x :: r) σ Q := (aw_eq g 133 13 _ _ _ _).trans (by rw [tq133_13]; exact (h_load rfl).trans (propext ⟨fun z => z.2, fun z => ⟨rfl, z⟩⟩))
theorem tq133_14 : tT g 133 14 = s_const 133 15 (.int 1) := rfl
theorem A133_14 {L : AL} {r : List Value} : aw g 133 14 L r σ Q = aw g 133 15 L (.int 1 :: r) σ Q := (aw_eq g 133 14 _ _ _ _).trans (by rw [tq133_14]; exact rfl)
theorem tq133_15 : tT g 133 15 = s_ast g (fun _ v => vZ v) 133 16 21 := rfl
theorem A133_15 {L : AL} {r : List Value} {a : Nat} {i : Int32} {v : Value} : aw g 133 15 L (v :: .int i :: .ref a :: r) σ Q = (hty σ a = some 21 ∧ gB g ≤ a ∧ ¬ i < 0 ∧ i.toNatClampNeg < hln σ a ∧ vZ v ∧ aw g 133 16 L r (hput σ 21 a i.toNatClampNeg v) Q) := (aw_eq g 133 15 _ _ _ _).trans (by rw [tq133_15]; exact rfl)
theorem tq133_16 : tT g 133 16 = s_load vRf 133 17 0 := rfl
theorem A133_16 {l1 : Option Value} {l2 : Option Value} {x : Value} {r : List Value} : aw g 133 16 [some (x), l1, l2] r σ Q = (vRf x = true ∧ aw g 133 17 [some (x), l1, l2] (x :: r) σ Q) := (aw_eq g 133 16 _ _ _ _).trans (by rw [tq133_16]; exact h_load rfl)
theorem tq133_17 : tT g 133 17 = s_getf 133 20 5 2 := rfl
theorem A133_17 {L : AL} {r : List Value} {a : Nat} : aw g 133 17 L (.ref a :: r) σ Q = (hty σ a = some 5 ∧ aw g 133 20 L (hv σ 5 a 2 :: r) σ Q) := (aw_eq g 133 17 _ _ _ _).trans (by rw [tq133_17]; exact rfl)
theorem tq133_20 : tT g 133 20 = s_getf 133 23 6 1 := rfl
theorem A133_20 {L : AL} {r : List Value} {a : Nat} : aw g 133 20 L (.ref a :: r) σ Q = (hty σ a = some 6 ∧ aw g 133 23 L (hv σ 6 a 1 :: r) σ Q) := (aw_eq g 133 20 _ _ _ _).trans (by rw [tq133_20]; exact rfl)
theorem tq133_23 : tT g 133 23 = s_load vI 133 24 2 := rfl
theorem A133_23 {l0 : Option Value} {l1 : Option Value} {x : Int32} {r : List Value} : aw g 133 23 [l0, l1, some (.int x)] r σ Q = aw g 133 24 [l0, l1, some (.int x)] (.int x :: r) σ Q := (aw_eq g 133 23 _ _ _ _).trans (by rw [tq133_23]; exact (h_load rfl).trans (propext ⟨fun z => z.2, fun z => ⟨rfl, z⟩⟩))
theorem tq133_24 : tT g 133 24 = s_const 133 25 (.int 0) := rfl
theorem A133_24 {L : AL} {r : List Value} : aw g 133 24 L r σ Q = aw g 133 25 L (.int 0 :: r) σ Q := (aw_eq g 133 24 _ _ _ _).trans (by rw [tq133_24]; exact rfl)
theorem tq133_25 : tT g 133 25 = s_ast g (fun _ v => vI v = true) 133 26 20 := rfl
theorem A133_25 {L : AL} {r : List Value} {a : Nat} {i : Int32} {v : Value} : aw g 133 25 L (v :: .int i :: .ref a :: r) σ Q = (hty σ a = some 20 ∧ gB g ≤ a ∧ ¬ i < 0 ∧ i.toNatClampNeg < hln σ a ∧ vI v = true ∧ aw g 133 26 L r (hput σ 20 a i.toNatClampNeg v) Q) := (aw_eq g 133 25 _ _ _ _).trans (by rw [tq133_25]; exact rfl)
theorem tq133_26 : tT g 133 26 = s_load vRf 133 27 0 := rfl
theorem A133_26 {l1 : Option Value} {l2 : Option Value} {x : Value} {r : List Value} : aw g 133 26 [some (x), l1, l2] r σ Q = (vRf x = true ∧ aw g 133 27 [some (x), l1, l2] (x :: r) σ Q) := (aw_eq g 133 26 _ _ _ _).trans (by rw [tq133_26]; exact h_load rfl)
theorem tq133_27 : tT g 133 27 = s_callvk 133 30 194 5 [] 1 := rfl
theorem A133_27 {L : AL} {r : List Value} {a : Nat} : aw g 133 27 L (.ref a :: r) σ Q = (hty σ a = some 5 ∧ true = true ∧ csum r ≤ 8 ∧ aw g 194 0 [some (.ref a)] [] σ (kt (aw g) 133 30 L r Q)) := (aw_eq g 133 27 _ _ _ _).trans (by rw [tq133_27]; exact rfl)
theorem tq133_30 : tT g 133 30 = s_if 133 33 40 (fun a => a = 0) := rfl
theorem A133_30 {L : AL} {r : List Value} {a : Int32} : aw g 133 30 L (.int a :: r) σ Q = ((a = 0 → aw g 133 40 L r σ Q) ∧ (¬ a = 0 → aw g 133 33 L r σ Q)) := (aw_eq g 133 30 _ _ _ _).trans (by rw [tq133_30]; exact rfl)
theorem tq133_33 : tT g 133 33 = s_load vRf 133 34 0 := rfl
theorem A133_33 {l1 : Option Value} {l2 : Option Value} {x : Value} {r : List Value} : aw g 133 33 [some (x), l1, l2] r σ Q = (vRf x = true ∧ aw g 133 34 [some (x), l1, l2] (x :: r) σ Q) := (aw_eq g 133 33 _ _ _ _).trans (by rw [tq133_33]; exact h_load rfl)
theorem tq133_34 : tT g 133 34 = s_getf 133 37 5 16 := rfl
theorem A133_34 {L : AL} {r : List Value} {a : Nat} : aw g 133 34 L (.ref a :: r) σ Q = (hty σ a = some 5 ∧ aw g 133 37 L (hv σ 5 a 16 :: r) σ Q) := (aw_eq g 133 34 _ _ _ _).trans (by rw [tq133_34]; exact rfl)
theorem tq133_37 : tT g 133 37 = s_load vI 133 38 2 := rfl
theorem A133_37 {l0 : Option Value} {l1 : Option Value} {x : Int32} {r : List Value} : aw g 133 37 [l0, l1, some (.int x)] r σ Q = aw g 133 38 [l0, l1, some (.int x)] (.int x :: r) σ Q := (aw_eq g 133 37 _ _ _ _).trans (by rw [tq133_37]; exact (h_load rfl).trans (propext ⟨fun z => z.2, fun z => ⟨rfl, z⟩⟩))
theorem tq133_38 : tT g 133 38 = s_const 133 39 (.int 0) := rfl
theorem A133_38 {L : AL} {r : List Value} : aw g 133 38 L r σ Q = aw g 133 39 L (.int 0 :: r) σ Q := (aw_eq g 133 38 _ _ _ _).trans (by rw [tq133_38]; exact rfl)
theorem tq133_39 : tT g 133 39 = s_ast g (fun _ v => vZ v) 133 40 21 := rfl
theorem A133_39 {L : AL} {r : List Value} {a : Nat} {i : Int32} {v : Value} : aw g 133 39 L (v :: .int i :: .ref a :: r) σ Q = (hty σ a = some 21 ∧ gB g ≤ a ∧ ¬ i < 0 ∧ i.toNatClampNeg < hln σ a ∧ vZ v ∧ aw g 133 40 L r (hput σ 21 a i.toNatClampNeg v) Q) := (aw_eq g 133 39 _ _ _ _).trans (by rw [tq133_39]; exact rfl)
theorem tq133_40 : tT g 133 40 = s_load vRf 133 41 0 := rfl
theorem A133_40 {l1 : Option Value} {l2 : Option Value} {x : Value} {r : List Value} : aw g 133 40 [some (x), l1, l2] r σ Q = (vRf x = true ∧ aw g 133 41 [some (x), l1, l2] (x :: r) σ Q) := (aw_eq g 133 40 _ _ _ _).trans (by rw [tq133_40]; exact h_load rfl)
theorem tq133_41 : tT g 133 41 = s_getf 133 44 5 21 := rfl
theorem A133_41 {L : AL} {r : List Value} {a : Nat} : aw g 133 41 L (.ref a :: r) σ Q = (hty σ a = some 5 ∧ aw g 133 44 L (hv σ 5 a 21 :: r) σ Q) := (aw_eq g 133 41 _ _ _ _).trans (by rw [tq133_41]; exact rfl)
theorem tq133_44 : tT g 133 44 = s_ifnull 133 47 75 := rfl
theorem A133_44 {L : AL} {r : List Value} {a : Value} : aw g 133 44 L (a :: r) σ Q = (vRf a = true ∧ (a = .null → aw g 133 75 L r σ Q) ∧ (a ≠ .null → aw g 133 47 L r σ Q)) := (aw_eq g 133 44 _ _ _ _).trans (by rw [tq133_44]; exact rfl)
theorem tq133_47 : tT g 133 47 = s_load vRf 133 48 0 := rfl
theorem A133_47 {l1 : Option Value} {l2 : Option Value} {x : Value} {r : List Value} : aw g 133 47 [some (x), l1, l2] r σ Q = (vRf x = true ∧ aw g 133 48 [some (x), l1, l2] (x :: r) σ Q) := (aw_eq g 133 47 _ _ _ _).trans (by rw [tq133_47]; exact h_load rfl)
theorem tq133_48 : tT g 133 48 = s_getf 133 51 5 21 := rfl
theorem A133_48 {L : AL} {r : List Value} {a : Nat} : aw g 133 48 L (.ref a :: r) σ Q = (hty σ a = some 5 ∧ aw g 133 51 L (hv σ 5 a 21 :: r) σ Q) := (aw_eq g 133 48 _ _ _ _).trans (by rw [tq133_48]; exact rfl)
theorem tq133_51 : tT g 133 51 = s_getf 133 54 9 2 := rfl
theorem A133_51 {L : AL} {r : List Value} {a : Nat} : aw g 133 51 L (.ref a :: r) σ Q = (hty σ a = some 9 ∧ aw g 133 54 L (hv σ 9 a 2 :: r) σ Q) := (aw_eq g 133 51 _ _ _ _).trans (by rw [tq133_51]; exact rfl)
theorem tq133_54 : tT g 133 54 = s_const 133 55 (.int 2) := rfl
theorem A133_54 {L : AL} {r : List Value} : aw g 133 54 L r σ Q = aw g 133 55 L (.int 2 :: r) σ Q := (aw_eq g 133 54 _ _ _ _).trans (by rw [tq133_54]; exact rfl)
theorem tq133_55 : tT g 133 55 = s_newa g 133 57 20 (.int 0) := rfl
theorem A133_55 {L : AL} {r : List Value} {x : Int32} : aw g 133 55 L (.int x :: r) σ Q = (¬ x < 0 ∧ x.toNatClampNeg ≤ 65536 ∧ hsz σ + 1 ≤ gC g ∧ hsl σ + x.toNatClampNeg ≤ gS g ∧ aw g 133 57 L (.ref (hsz σ) :: r) (hnew σ 20 x.toNatClampNeg (fun _ => .int 0) x.toNatClampNeg) Q) := (aw_eq g 133 55 _ _ _ _).trans (by rw [tq133_55]; exact rfl)
theorem tq133_57 : tT g 133 57 = s_dup 133 58 := rfl
theorem A133_57 {L : AL} {r : List Value} {v : Value} : aw g 133 57 L (v :: r) σ Q = (v.category = 1 ∧ aw g 133 58 L (v :: v :: r) σ Q) := (aw_eq g 133 57 _ _ _ _).trans (by rw [tq133_57]; exact rfl)
theorem tq133_58 : tT g 133 58 = s_const 133 59 (.int 0) := rfl
theorem A133_58 {L : AL} {r : List Value} : aw g 133 58 L r σ Q = aw g 133 59 L (.int 0 :: r) σ Q := (aw_eq g 133 58 _ _ _ _).trans (by rw [tq133_58]; exact rfl)
theorem tq133_59 : tT g 133 59 = s_load vRf 133 60 0 := rfl
theorem A133_59 {l1 : Option Value} {l2 : Option Value} {x : Value} {r : List Value} : aw g 133 59 [some (x), l1, l2] r σ Q = (vRf x = true ∧ aw g 133 60 [some (x), l1, l2] (x :: r) σ Q) := (aw_eq g 133 59 _ _ _ _).trans (by rw [tq133_59]; exact h_load rfl)
theorem tq133_60 : tT g 133 60 = s_getf 133 63 5 21 := rfl
theorem A133_60 {L : AL} {r : List Value} {a : Nat} : aw g 133 60 L (.ref a :: r) σ Q = (hty σ a = some 5 ∧ aw g 133 63 L (hv σ 5 a 21 :: r) σ Q) := (aw_eq g 133 60 _ _ _ _).trans (by rw [tq133_60]; exact rfl)
theorem tq133_63 : tT g 133 63 = s_getf 133 66 9 3 := rfl
theorem A133_63 {L : AL} {r : List Value} {a : Nat} : aw g 133 63 L (.ref a :: r) σ Q = (hty σ a = some 9 ∧ aw g 133 66 L (hv σ 9 a 3 :: r) σ Q) := (aw_eq g 133 63 _ _ _ _).trans (by rw [tq133_63]; exact rfl)
theorem tq133_66 : tT g 133 66 = s_ast g (fun _ v => vI v = true) 133 67 20 := rfl
theorem A133_66 {L : AL} {r : List Value} {a : Nat} {i : Int32} {v : Value} : aw g 133 66 L (v :: .int i :: .ref a :: r) σ Q = (hty σ a = some 20 ∧ gB g ≤ a ∧ ¬ i < 0 ∧ i.toNatClampNeg < hln σ a ∧ vI v = true ∧ aw g 133 67 L r (hput σ 20 a i.toNatClampNeg v) Q) := (aw_eq g 133 66 _ _ _ _).trans (by rw [tq133_66]; exact rfl)
theorem tq133_67 : tT g 133 67 = s_dup 133 68 := rfl
theorem A133_67 {L : AL} {r : List Value} {v : Value} : aw g 133 67 L (v :: r) σ Q = (v.category = 1 ∧ aw g 133 68 L (v :: v :: r) σ Q) := (aw_eq g 133 67 _ _ _ _).trans (by rw [tq133_67]; exact rfl)
theorem tq133_68 : tT g 133 68 = s_const 133 69 (.int 1) := rfl
theorem A133_68 {L : AL} {r : List Value} : aw g 133 68 L r σ Q = aw g 133 69 L (.int 1 :: r) σ Q := (aw_eq g 133 68 _ _ _ _).trans (by rw [tq133_68]; exact rfl)
theorem tq133_69 : tT g 133 69 = s_load vI 133 70 2 := rfl
theorem A133_69 {l0 : Option Value} {l1 : Option Value} {x : Int32} {r : List Value} : aw g 133 69 [l0, l1, some (.int x)] r σ Q = aw g 133 70 [l0, l1, some (.int x)] (.int x :: r) σ Q := (aw_eq g 133 69 _ _ _ _).trans (by rw [tq133_69]; exact (h_load rfl).trans (propext ⟨fun z => z.2, fun z => ⟨rfl, z⟩⟩))
theorem tq133_70 : tT g 133 70 = s_ast g (fun _ v => vI v = true) 133 71 20 := rfl
theorem A133_70 {L : AL} {r : List Value} {a : Nat} {i : Int32} {v : Value} : aw g 133 70 L (v :: .int i :: .ref a :: r) σ Q = (hty σ a = some 20 ∧ gB g ≤ a ∧ ¬ i < 0 ∧ i.toNatClampNeg < hln σ a ∧ vI v = true ∧ aw g 133 71 L r (hput σ 20 a i.toNatClampNeg v) Q) := (aw_eq g 133 70 _ _ _ _).trans (by rw [tq133_70]; exact rfl)
theorem tq133_71 : tT g 133 71 = s_callvk 133 74 18 10 [1] 2 := rfl
theorem A133_71 {L : AL} {r : List Value} {a : Nat} {w0 : Value} : aw g 133 71 L (w0 :: .ref a :: r) σ Q = (hty σ a = some 10 ∧ (vRf w0 && true) = true ∧ csum r ≤ 8 ∧ aw g 18 0 [some (.ref a), some w0] [] σ (kt (aw g) 133 74 L r Q)) := (aw_eq g 133 71 _ _ _ _).trans (by rw [tq133_71]; exact rfl)
theorem tq133_74 : tT g 133 74 = s_pop 133 75 := rfl
theorem A133_74 {L : AL} {r : List Value} {v : Value} : aw g 133 74 L (v :: r) σ Q = (v.category = 1 ∧ aw g 133 75 L r σ Q) := (aw_eq g 133 74 _ _ _ _).trans (by rw [tq133_74]; exact rfl)
theorem tq133_75 : tT g 133 75 = s_vret := rfl
theorem A133_75 {L : AL} : aw g 133 75 L [] σ Q = Q (.inl none) σ := (aw_eq g 133 75 _ _ _ _).trans (by rw [tq133_75]; exact rfl)
end STEPS
