/-! one step of an abstract run, as an equation: printed by gen.py -/
section STEPS
variable {g : GC} {σ : AH} {Q : AQ}
theorem tq58_0 : tT g 58 0 = s_load vRf 58 1 0 := rfl
theorem A58_0  {x : Value} {r : List Value} : aw g 58 0 [some (x)] r σ Q = (vRf x = true ∧ aw g 58 1 [some (x)] (x :: r) σ Q) := (aw_eq g 58 0 _ _ _ _).trans (by rw [tq58_0]; exact h_load rfl)
theorem tq58_1 : tT g 58 1 = s_oinit 58 4 := rfl
theorem A58_1 {L : AL} {r : List Value} {a : Nat} : aw g 58 1 L (.ref a :: r) σ Q = (csum r ≤ 8 ∧ aw g 58 4 L r σ Q) := (aw_eq g 58 1 _ _ _ _).trans (by rw [tq58_1]; exact rfl)
theorem tq58_4 : tT g 58 4 = s_load vRf 58 5 0 := rfl
theorem A58_4  {x : Value} {r : List Value} : aw g 58 4 [some (x)] r σ Q = (vRf x = true ∧ aw g 58 5 [some (x)] (x :: r) σ Q) := (aw_eq g 58 4 _ _ _ _).trans (by rw [tq58_4]; exact h_load rfl)
theorem tq58_5 : tT g 58 5 = s_new g 58 8 1 10 (fun k => defaultValue (tyX2 k)) := rfl
theorem A58_5 {L : AL} {r : List Value} : aw g 58 5 L r σ Q = (hsz σ + 1 ≤ gC g ∧ hsl σ + 10 ≤ gS g ∧ aw g 58 8 L (.ref (hsz σ) :: r) (hnew σ 1 0 (fun k => defaultValue (tyX2 k)) 10) Q) := (aw_eq g 58 5 _ _ _ _).trans (by rw [tq58_5]; exact rfl)
theorem tq58_8 : tT g 58 8 = s_dup 58 9 := rfl
theorem A58_8 {L : AL} {r : List Value} {v : Value} : aw g 58 8 L (v :: r) σ Q = (v.category = 1 ∧ aw g 58 9 L (v :: v :: r) σ Q) := (aw_eq g 58 8 _ _ _ _).trans (by rw [tq58_8]; exact rfl)
theorem tq58_9 : tT g 58 9 = s_callik 58 12 108 [] 1 := rfl
theorem A58_9 {L : AL} {r : List Value} {a : Nat} : aw g 58 9 L (.ref a :: r) σ Q = (true = true ∧ csum r ≤ 8 ∧ aw g 108 0 [some (.ref a)] [] σ (kt (aw g) 58 12 L r Q)) := (aw_eq g 58 9 _ _ _ _).trans (by rw [tq58_9]; exact rfl)
theorem tq58_12 : tT g 58 12 = s_putf g pR 58 15 0 0 := rfl
theorem A58_12 {L : AL} {r : List Value} {a : Nat} {v : Value} : aw g 58 12 L (v :: .ref a :: r) σ Q = (hty σ a = some 0 ∧ gB g ≤ a ∧ pR v ∧ aw g 58 15 L r (hput σ 0 a 0 v) Q) := (aw_eq g 58 12 _ _ _ _).trans (by rw [tq58_12]; exact rfl)
theorem tq58_15 : tT g 58 15 = s_load vRf 58 16 0 := rfl
theorem A58_15  {x : Value} {r : List Value} : aw g 58 15 [some (x)] r σ Q = (vRf x = true ∧ aw g 58 16 [some (x)] (x :: r) σ Q) := (aw_eq g 58 15 _ _ _ _).trans (by rw [tq58_15]; exact h_load rfl)
theorem tq58_16 : tT g 58 16 = s_getf 58 19 0 0 := rfl
theorem A58_16 {L : AL} {r : List Value} {a : Nat} : aw g 58 16 L (.ref a :: r) σ Q = (hty σ a = some 0 ∧ aw g 58 19 L (hv σ 0 a 0 :: r) σ Q) := (aw_eq g 58 16 _ _ _ _).trans (by rw [tq58_16]; exact rfl)
theorem tq58_19 : tT g 58 19 = s_const 58 20 (.int 4) := rfl
theorem A58_19 {L : AL} {r : List Value} : aw g 58 19 L r σ Q = aw g 58 20 L (.int 4 :: r) σ Q := (aw_eq g 58 19 _ _ _ _).trans (by rw [tq58_19]; exact rfl)
theorem tq58_20 : tT g 58 20 = s_callvk 58 23 109 1 [0] 4 := rfl
theorem A58_20 {L : AL} {r : List Value} {a : Nat} {w0 : Value} : aw g 58 20 L (w0 :: .ref a :: r) σ Q = (hty σ a = some 1 ∧ (vI w0 && true) = true ∧ csum r ≤ 8 ∧ aw g 109 0 [some (.ref a), some w0, none, none] [] σ (kt (aw g) 58 23 L r Q)) := (aw_eq g 58 20 _ _ _ _).trans (by rw [tq58_20]; exact rfl)
theorem tq58_23 : tT g 58 23 = s_pop 58 24 := rfl
theorem A58_23 {L : AL} {r : List Value} {v : Value} : aw g 58 23 L (v :: r) σ Q = (v.category = 1 ∧ aw g 58 24 L r σ Q) := (aw_eq g 58 23 _ _ _ _).trans (by rw [tq58_23]; exact rfl)
theorem tq58_24 : tT g 58 24 = s_vret := rfl
theorem A58_24 {L : AL} : aw g 58 24 L [] σ Q = Q (.inl none) σ := (aw_eq g 58 24 _ _ _ _).trans (by rw [tq58_24]; exact rfl)
theorem tq59_0 : tT g 59 0 = s_const 59 3 (.long 9609) := rfl
theorem A59_0 {L : AL} {r : List Value} : aw g 59 0 L r σ Q = aw g 59 3 L (.long 9609 :: r) σ Q := (aw_eq g 59 0 _ _ _ _).trans (by rw [tq59_0]; exact rfl)
theorem tq59_3 : tT g 59 3 = s_store2 vL 59 4 1 := rfl
theorem A59_3 {l0 : Option Value} {l1 : Option Value} {l2 : Option Value} {l3 : Option Value} {l4 : Option Value} {l5 : Option Value} {x : Int64} {r : List Value} : aw g 59 3 [l0, l1, l2, l3, l4, l5] (.long x :: r) σ Q = (oc l0 = true ∧ aw g 59 4 [l0, some (.long x), none, l3, l4, l5] r σ Q) := (aw_eq g 59 3 _ _ _ _).trans (by rw [tq59_3]; exact (h_store2 (o := oc l0) rfl rfl rfl).trans (propext ⟨fun z => z.2, fun z => ⟨rfl, z⟩⟩))
theorem tq59_4 : tT g 59 4 = s_const 59 5 (.int 0) := rfl
theorem A59_4 {L : AL} {r : List Value} : aw g 59 4 L r σ Q = aw g 59 5 L (.int 0 :: r) σ Q := (aw_eq g 59 4 _ _ _ _).trans (by rw [tq59_4]; exact rfl)
theorem tq59_5 : tT g 59 5 = s_store vI 59 6 3 := rfl
theorem A59_5 {l0 : Option Value} {l1 : Option Value} {l2 : Option Value} {l3 : Option Value} {l4 : Option Value} {l5 : Option Value} {x : Int32} {r : List Value} : aw g 59 5 [l0, l1, l2, l3, l4, l5] (.int x :: r) σ Q = (oc l2 = true ∧ aw g 59 6 [l0, l1, l2, some (.int x), l4, l5] r σ Q) := (aw_eq g 59 5 _ _ _ _).trans (by rw [tq59_5]; exact (h_store (o := oc l2) rfl rfl rfl).trans (propext ⟨fun z => z.2, fun z => ⟨rfl, z⟩⟩))
theorem tq59_6 : tT g 59 6 = s_load vI 59 7 3 := rfl
theorem A59_6 {l0 : Option Value} {l1 : Option Value} {l2 : Option Value} {l4 : Option Value} {l5 : Option Value} {x : Int32} {r : List Value} : aw g 59 6 [l0, l1, l2, some (.int x), l4, l5] r σ Q = aw g 59 7 [l0, l1, l2, some (.int x), l4, l5] (.int x :: r) σ Q := (aw_eq g 59 6 _ _ _ _).trans (by rw [tq59_6]; exact (h_load rfl).trans (propext ⟨fun z => z.2, fun z => ⟨rfl, z⟩⟩))
theorem tq59_7 : tT g 59 7 = s_const 59 9 (.int 11) := rfl
theorem A59_7 {L : AL} {r : List Value} : aw g 59 7 L r σ Q = aw g 59 9 L (.int 11 :: r) σ Q := (aw_eq g 59 7 _ _ _ _).trans (by rw [tq59_7]; exact rfl)
theorem tq59_9 : tT g 59 9 = s_icmp 59 12 29 (fun a b => b ≤ a) := rfl
theorem A59_9 {L : AL} {r : List Value} {a b : Int32} : aw g 59 9 L (.int b :: .int a :: r) σ Q = ((b ≤ a → aw g 59 29 L r σ Q) ∧ (¬ b ≤ a → aw g 59 12 L r σ Q)) := (aw_eq g 59 9 _ _ _ _).trans (by rw [tq59_9]; exact rfl)
theorem tq59_12 : tT g 59 12 = s_load vL 59 13 1 := rfl
theorem A59_12 {l0 : Option Value} {l2 : Option Value} {l3 : Option Value} {l4 : Option Value} {l5 : Option Value} {x : Int64} {r : List Value} : aw g 59 12 [l0, some (.long x), l2, l3, l4, l5] r σ Q = aw g 59 13 [l0, some (.long x), l2, l3, l4, l5] (.long x :: r) σ Q := (aw_eq g 59 12 _ _ _ _).trans (by rw [tq59_12]; exact (h_load rfl).trans (propext ⟨fun z => z.2, fun z => ⟨rfl, z⟩⟩))
theorem tq59_13 : tT g 59 13 = s_load vRf 59 14 0 := rfl
theorem A59_13 {l1 : Option Value} {l2 : Option Value} {l3 : Option Value} {l4 : Option Value} {l5 : Option Value} {x : Value} {r : List Value} : aw g 59 13 [some (x), l1, l2, l3, l4, l5] r σ Q = (vRf x = true ∧ aw g 59 14 [some (x), l1, l2, l3, l4, l5] (x :: r) σ Q) := (aw_eq g 59 13 _ _ _ _).trans (by rw [tq59_13]; exact h_load rfl)
theorem tq59_14 : tT g 59 14 = s_load vI 59 15 3 := rfl
theorem A59_14 {l0 : Option Value} {l1 : Option Value} {l2 : Option Value} {l4 : Option Value} {l5 : Option Value} {x : Int32} {r : List Value} : aw g 59 14 [l0, l1, l2, some (.int x), l4, l5] r σ Q = aw g 59 15 [l0, l1, l2, some (.int x), l4, l5] (.int x :: r) σ Q := (aw_eq g 59 14 _ _ _ _).trans (by rw [tq59_14]; exact (h_load rfl).trans (propext ⟨fun z => z.2, fun z => ⟨rfl, z⟩⟩))
theorem tq59_15 : tT g 59 15 = s_callvk 59 18 60 0 [0] 10 := rfl
theorem A59_15 {L : AL} {r : List Value} {a : Nat} {w0 : Value} : aw g 59 15 L (w0 :: .ref a :: r) σ Q = (hty σ a = some 0 ∧ (vI w0 && true) = true ∧ csum r ≤ 8 ∧ aw g 60 0 [some (.ref a), some w0, none, none, none, none, none, none, none, none] [] σ (kt (aw g) 59 18 L r Q)) := (aw_eq g 59 15 _ _ _ _).trans (by rw [tq59_15]; exact rfl)
theorem tq59_18 : tT g 59 18 = s_i2 59 19 (fun a => .long a.toInt64) := rfl
theorem A59_18 {L : AL} {r : List Value} {a : Int32} : aw g 59 18 L (.int a :: r) σ Q = aw g 59 19 L (.long a.toInt64 :: r) σ Q := (aw_eq g 59 18 _ _ _ _).trans (by rw [tq59_18]; exact rfl)
theorem tq59_19 : tT g 59 19 = s_callk 59 22 63 [2, 2] 4 := rfl
theorem A59_19 {L : AL} {r : List Value} {w0 w1 : Value} : aw g 59 19 L (w1 :: w0 :: r) σ Q = ((vL w0 && (vL w1 && true)) = true ∧ csum r ≤ 8 ∧ aw g 63 0 [some w0, none, some w1, none] [] σ (kt (aw g) 59 22 L r Q)) := (aw_eq g 59 19 _ _ _ _).trans (by rw [tq59_19]; exact rfl)
theorem tq59_22 : tT g 59 22 = s_store2 vL 59 23 1 := rfl
theorem A59_22 {l0 : Option Value} {l1 : Option Value} {l2 : Option Value} {l3 : Option Value} {l4 : Option Value} {l5 : Option Value} {x : Int64} {r : List Value} : aw g 59 22 [l0, l1, l2, l3, l4, l5] (.long x :: r) σ Q = (oc l0 = true ∧ aw g 59 23 [l0, some (.long x), none, l3, l4, l5] r σ Q) := (aw_eq g 59 22 _ _ _ _).trans (by rw [tq59_22]; exact (h_store2 (o := oc l0) rfl rfl rfl).trans (propext ⟨fun z => z.2, fun z => ⟨rfl, z⟩⟩))
theorem tq59_23 : tT g 59 23 = s_iinc 59 26 3 1 := rfl
theorem A59_23 {l0 : Option Value} {l1 : Option Value} {l2 : Option Value} {l4 : Option Value} {l5 : Option Value} {x : Int32} {r : List Value} : aw g 59 23 [l0, l1, l2, some (.int x), l4, l5] r σ Q = (oc l2 = true ∧ aw g 59 26 [l0, l1, l2, some (.int (x + 1)), l4, l5] r σ Q) := (aw_eq g 59 23 _ _ _ _).trans (by rw [tq59_23]; exact (h_iinc (o := oc l2) rfl rfl rfl))
theorem tq59_26 : tT g 59 26 = s_goto 59 6 := rfl
theorem A59_26 {L : AL} {r : List Value} : aw g 59 26 L r σ Q = aw g 59 6 L r σ Q := (aw_eq g 59 26 _ _ _ _).trans (by rw [tq59_26]; exact rfl)
theorem tq59_29 : tT g 59 29 = s_load vRf 59 30 0 := rfl
theorem A59_29 {l1 : Option Value} {l2 : Option Value} {l3 : Option Value} {l4 : Option Value} {l5 : Option Value} {x : Value} {r : List Value} : aw g 59 29 [some (x), l1, l2, l3, l4, l5] r σ Q = (vRf x = true ∧ aw g 59 30 [some (x), l1, l2, l3, l4, l5] (x :: r) σ Q) := (aw_eq g 59 29 _ _ _ _).trans (by rw [tq59_29]; exact h_load rfl)
theorem tq59_30 : tT g 59 30 = s_getf 59 33 0 0 := rfl
theorem A59_30 {L : AL} {r : List Value} {a : Nat} : aw g 59 30 L (.ref a :: r) σ Q = (hty σ a = some 0 ∧ aw g 59 33 L (hv σ 0 a 0 :: r) σ Q) := (aw_eq g 59 30 _ _ _ _).trans (by rw [tq59_30]; exact rfl)
theorem tq59_33 : tT g 59 33 = s_getf 59 36 1 0 := rfl
theorem A59_33 {L : AL} {r : List Value} {a : Nat} : aw g 59 33 L (.ref a :: r) σ Q = (hty σ a = some 1 ∧ aw g 59 36 L (hv σ 1 a 0 :: r) σ Q) := (aw_eq g 59 33 _ _ _ _).trans (by rw [tq59_33]; exact rfl)
theorem tq59_36 : tT g 59 36 = s_callvk 59 39 22 10 [] 1 := rfl
theorem A59_36 {L : AL} {r : List Value} {a : Nat} : aw g 59 36 L (.ref a :: r) σ Q = (hty σ a = some 10 ∧ true = true ∧ csum r ≤ 8 ∧ aw g 22 0 [some (.ref a)] [] σ (kt (aw g) 59 39 L r Q)) := (aw_eq g 59 36 _ _ _ _).trans (by rw [tq59_36]; exact rfl)
theorem tq59_39 : tT g 59 39 = s_store vRf 59 40 3 := rfl
theorem A59_39 {l0 : Option Value} {l1 : Option Value} {l2 : Option Value} {l3 : Option Value} {l4 : Option Value} {l5 : Option Value} {x : Value} {r : List Value} : aw g 59 39 [l0, l1, l2, l3, l4, l5] (x :: r) σ Q = (vRf x = true ∧ oc l2 = true ∧ aw g 59 40 [l0, l1, l2, some (x), l4, l5] r σ Q) := (aw_eq g 59 39 _ _ _ _).trans (by rw [tq59_39]; exact (h_store (o := oc l2) rfl rfl rfl))
theorem tq59_40 : tT g 59 40 = s_load vRf 59 41 3 := rfl
theorem A59_40 {l0 : Option Value} {l1 : Option Value} {l2 : Option Value} {l4 : Option Value} {l5 : Option Value} {x : Value} {r : List Value} : aw g 59 40 [l0, l1, l2, some (x), l4, l5] r σ Q = (vRf x = true ∧ aw g 59 41 [l0, l1, l2, some (x), l4, l5] (x :: r) σ Q) := (aw_eq g 59 40 _ _ _ _).trans (by rw [tq59_40]; exact h_load rfl)
theorem tq59_41 : tT g 59 41 = s_callvk 59 46 3 11 [] 1 := rfl
theorem A59_41 {L : AL} {r : List Value} {a : Nat} : aw g 59 41 L (.ref a :: r) σ Q = (hty σ a = some 11 ∧ true = true ∧ csum r ≤ 8 ∧ aw g 3 0 [some (.ref a)] [] σ (kt (aw g) 59 46 L r Q)) := (aw_eq g 59 41 _ _ _ _).trans (by rw [tq59_41]; exact rfl)
theorem tq59_46 : tT g 59 46 = s_if 59 49 71 (fun a => a = 0) := rfl
theorem A59_46 {L : AL} {r : List Value} {a : Int32} : aw g 59 46 L (.int a :: r) σ Q = ((a = 0 → aw g 59 71 L r σ Q) ∧ (¬ a = 0 → aw g 59 49 L r σ Q)) := (aw_eq g 59 46 _ _ _ _).trans (by rw [tq59_46]; exact rfl)
theorem tq59_49 : tT g 59 49 = s_load vRf 59 50 3 := rfl
theorem A59_49 {l0 : Option Value} {l1 : Option Value} {l2 : Option Value} {l4 : Option Value} {l5 : Option Value} {x : Value} {r : List Value} : aw g 59 49 [l0, l1, l2, some (x), l4, l5] r σ Q = (vRf x = true ∧ aw g 59 50 [l0, l1, l2, some (x), l4, l5] (x :: r) σ Q) := (aw_eq g 59 49 _ _ _ _).trans (by rw [tq59_49]; exact h_load rfl)
theorem tq59_50 : tT g 59 50 = s_callvk 59 55 4 11 [] 3 := rfl
theorem A59_50 {L : AL} {r : List Value} {a : Nat} : aw g 59 50 L (.ref a :: r) σ Q = (hty σ a = some 11 ∧ true = true ∧ csum r ≤ 8 ∧ aw g 4 0 [some (.ref a), none, none] [] σ (kt (aw g) 59 55 L r Q)) := (aw_eq g 59 50 _ _ _ _).trans (by rw [tq59_50]; exact rfl)
theorem tq59_55 : tT g 59 55 = s_cast 59 58 [5] := rfl
theorem A59_55 {L : AL} {r : List Value} : aw g 59 55 L (.null :: r) σ Q = aw g 59 58 L (.null :: r) σ Q := (aw_eq g 59 55 _ _ _ _).trans (by rw [tq59_55]; exact rfl)
theorem A59_55r {L : AL} {r : List Value} {a : Nat} : aw g 59 55 L (.ref a :: r) σ Q = (hty σ a = some 5 ∧ aw g 59 58 L (.ref a :: r) σ Q) := (aw_eq g 59 55 _ _ _ _).trans (by rw [tq59_55]; exact propext ⟨fun z => (by obtain ⟨⟨u, hu, hu2⟩, z2⟩ := z; rw [List.mem_singleton] at hu; subst hu; exact ⟨hu2, z2⟩), fun z => ⟨⟨_, List.mem_cons_self, z.1⟩, z.2⟩⟩)
theorem tq59_58 : tT g 59 58 = s_store vRf 59 60 4 := rfl
theorem A59_58 {l0 : Option Value} {l1 : Option Value} {l2 : Option Value} {l3 : Option Value} {l4 : Option Value} {l5 : Option Value} {x : Value} {r : List Value} : aw g 59 58 [l0, l1, l2, l3, l4, l5] (x :: r) σ Q = (vRf x = true ∧ oc l3 = true ∧ aw g 59 60 [l0, l1, l2, l3, some (x), l5] r σ Q) := (aw_eq g 59 58 _ _ _ _).trans (by rw [tq59_58]; exact (h_store (o := oc l3) rfl rfl rfl))
theorem tq59_60 : tT g 59 60 = s_load vRf 59 61 0 := rfl
theorem A59_60 {l1 : Option Value} {l2 : Option Value} {l3 : Option Value} {l4 : Option Value} {l5 : Option Value} {x : Value} {r : List Value} : aw g 59 60 [some (x), l1, l2, l3, l4, l5] r σ Q = (vRf x = true ∧ aw g 59 61 [some (x), l1, l2, l3, l4, l5] (x :: r) σ Q) := (aw_eq g 59 60 _ _ _ _).trans (by rw [tq59_60]; exact h_load rfl)
theorem tq59_61 : tT g 59 61 = s_load vL 59 62 1 := rfl
theorem A59_61 {l0 : Option Value} {l2 : Option Value} {l3 : Option Value} {l4 : Option Value} {l5 : Option Value} {x : Int64} {r : List Value} : aw g 59 61 [l0, some (.long x), l2, l3, l4, l5] r σ Q = aw g 59 62 [l0, some (.long x), l2, l3, l4, l5] (.long x :: r) σ Q := (aw_eq g 59 61 _ _ _ _).trans (by rw [tq59_61]; exact (h_load rfl).trans (propext ⟨fun z => z.2, fun z => ⟨rfl, z⟩⟩))
theorem tq59_62 : tT g 59 62 = s_load vRf 59 64 4 := rfl
theorem A59_62 {l0 : Option Value} {l1 : Option Value} {l2 : Option Value} {l3 : Option Value} {l5 : Option Value} {x : Value} {r : List Value} : aw g 59 62 [l0, l1, l2, l3, some (x), l5] r σ Q = (vRf x = true ∧ aw g 59 64 [l0, l1, l2, l3, some (x), l5] (x :: r) σ Q) := (aw_eq g 59 62 _ _ _ _).trans (by rw [tq59_62]; exact h_load rfl)
theorem tq59_64 : tT g 59 64 = s_callvk 59 67 64 0 [2, 1] 11 := rfl
theorem A59_64 {L : AL} {r : List Value} {a : Nat} {w0 w1 : Value} : aw g 59 64 L (w1 :: w0 :: .ref a :: r) σ Q = (hty σ a = some 0 ∧ (vL w0 && (vRf w1 && true)) = true ∧ csum r ≤ 8 ∧ aw g 64 0 [some (.ref a), some w0, none, some w1, none, none, none, none, none, none, none] [] σ (kt (aw g) 59 67 L r Q)) := (aw_eq g 59 64 _ _ _ _).trans (by rw [tq59_64]; exact rfl)
theorem tq59_67 : tT g 59 67 = s_store2 vL 59 68 1 := rfl
theorem A59_67 {l0 : Option Value} {l1 : Option Value} {l2 : Option Value} {l3 : Option Value} {l4 : Option Value} {l5 : Option Value} {x : Int64} {r : List Value} : aw g 59 67 [l0, l1, l2, l3, l4, l5] (.long x :: r) σ Q = (oc l0 = true ∧ aw g 59 68 [l0, some (.long x), none, l3, l4, l5] r σ Q) := (aw_eq g 59 67 _ _ _ _).trans (by rw [tq59_67]; exact (h_store2 (o := oc l0) rfl rfl rfl).trans (propext ⟨fun z => z.2, fun z => ⟨rfl, z⟩⟩))
theorem tq59_68 : tT g 59 68 = s_goto 59 40 := rfl
theorem A59_68 {L : AL} {r : List Value} : aw g 59 68 L r σ Q = aw g 59 40 L r σ Q := (aw_eq g 59 68 _ _ _ _).trans (by rw [tq59_68]; exact rfl)
theorem tq59_71 : tT g 59 71 = s_load vRf 59 72 0 := rfl
theorem A59_71 {l1 : Option Value} {l2 : Option Value} {l3 : Option Value} {l4 : Option Value} {l5 : Option Value} {x : Value} {r : List Value} : aw g 59 71 [some (x), l1, l2, l3, l4, l5] r σ Q = (vRf x = true ∧ aw g 59 72 [some (x), l1, l2, l3, l4, l5] (x :: r) σ Q) := (aw_eq g 59 71 _ _ _ _).trans (by rw [tq59_71]; exact h_load rfl)
theorem tq59_72 : tT g 59 72 = s_getf 59 75 0 0 := rfl
theorem A59_72 {L : AL} {r : List Value} {a : Nat} : aw g 59 72 L (.ref a :: r) σ Q = (hty σ a = some 0 ∧ aw g 59 75 L (hv σ 0 a 0 :: r) σ Q) := (aw_eq g 59 72 _ _ _ _).trans (by rw [tq59_72]; exact rfl)
theorem tq59_75 : tT g 59 75 = s_getf 59 78 1 1 := rfl
theorem A59_75 {L : AL} {r : List Value} {a : Nat} : aw g 59 75 L (.ref a :: r) σ Q = (hty σ a = some 1 ∧ aw g 59 78 L (hv σ 1 a 1 :: r) σ Q) := (aw_eq g 59 75 _ _ _ _).trans (by rw [tq59_75]; exact rfl)
theorem tq59_78 : tT g 59 78 = s_callvk 59 81 22 10 [] 1 := rfl
theorem A59_78 {L : AL} {r : List Value} {a : Nat} : aw g 59 78 L (.ref a :: r) σ Q = (hty σ a = some 10 ∧ true = true ∧ csum r ≤ 8 ∧ aw g 22 0 [some (.ref a)] [] σ (kt (aw g) 59 81 L r Q)) := (aw_eq g 59 78 _ _ _ _).trans (by rw [tq59_78]; exact rfl)
theorem tq59_81 : tT g 59 81 = s_store vRf 59 82 3 := rfl
theorem A59_81 {l0 : Option Value} {l1 : Option Value} {l2 : Option Value} {l3 : Option Value} {l4 : Option Value} {l5 : Option Value} {x : Value} {r : List Value} : aw g 59 81 [l0, l1, l2, l3, l4, l5] (x :: r) σ Q = (vRf x = true ∧ oc l2 = true ∧ aw g 59 82 [l0, l1, l2, some (x), l4, l5] r σ Q) := (aw_eq g 59 81 _ _ _ _).trans (by rw [tq59_81]; exact (h_store (o := oc l2) rfl rfl rfl))
theorem tq59_82 : tT g 59 82 = s_load vRf 59 83 3 := rfl
theorem A59_82 {l0 : Option Value} {l1 : Option Value} {l2 : Option Value} {l4 : Option Value} {l5 : Option Value} {x : Value} {r : List Value} : aw g 59 82 [l0, l1, l2, some (x), l4, l5] r σ Q = (vRf x = true ∧ aw g 59 83 [l0, l1, l2, some (x), l4, l5] (x :: r) σ Q) := (aw_eq g 59 82 _ _ _ _).trans (by rw [tq59_82]; exact h_load rfl)
theorem tq59_83 : tT g 59 83 = s_callvk 59 88 3 11 [] 1 := rfl
theorem A59_83 {L : AL} {r : List Value} {a : Nat} : aw g 59 83 L (.ref a :: r) σ Q = (hty σ a = some 11 ∧ true = true ∧ csum r ≤ 8 ∧ aw g 3 0 [some (.ref a)] [] σ (kt (aw g) 59 88 L r Q)) := (aw_eq g 59 83 _ _ _ _).trans (by rw [tq59_83]; exact rfl)
theorem tq59_88 : tT g 59 88 = s_if 59 91 133 (fun a => a = 0) := rfl
theorem A59_88 {L : AL} {r : List Value} {a : Int32} : aw g 59 88 L (.int a :: r) σ Q = ((a = 0 → aw g 59 133 L r σ Q) ∧ (¬ a = 0 → aw g 59 91 L r σ Q)) := (aw_eq g 59 88 _ _ _ _).trans (by rw [tq59_88]; exact rfl)
theorem tq59_91 : tT g 59 91 = s_load vRf 59 92 3 := rfl
theorem A59_91 {l0 : Option Value} {l1 : Option Value} {l2 : Option Value} {l4 : Option Value} {l5 : Option Value} {x : Value} {r : List Value} : aw g 59 91 [l0, l1, l2, some (x), l4, l5] r σ Q = (vRf x = true ∧ aw g 59 92 [l0, l1, l2, some (x), l4, l5] (x :: r) σ Q) := (aw_eq g 59 91 _ _ _ _).trans (by rw [tq59_91]; exact h_load rfl)
theorem tq59_92 : tT g 59 92 = s_callvk 59 97 4 11 [] 3 := rfl
theorem A59_92 {L : AL} {r : List Value} {a : Nat} : aw g 59 92 L (.ref a :: r) σ Q = (hty σ a = some 11 ∧ true = true ∧ csum r ≤ 8 ∧ aw g 4 0 [some (.ref a), none, none] [] σ (kt (aw g) 59 97 L r Q)) := (aw_eq g 59 92 _ _ _ _).trans (by rw [tq59_92]; exact rfl)
theorem tq59_97 : tT g 59 97 = s_cast 59 100 [2] := rfl
theorem A59_97 {L : AL} {r : List Value} : aw g 59 97 L (.null :: r) σ Q = aw g 59 100 L (.null :: r) σ Q := (aw_eq g 59 97 _ _ _ _).trans (by rw [tq59_97]; exact rfl)
theorem A59_97r {L : AL} {r : List Value} {a : Nat} : aw g 59 97 L (.ref a :: r) σ Q = (hty σ a = some 2 ∧ aw g 59 100 L (.ref a :: r) σ Q) := (aw_eq g 59 97 _ _ _ _).trans (by rw [tq59_97]; exact propext ⟨fun z => (by obtain ⟨⟨u, hu, hu2⟩, z2⟩ := z; rw [List.mem_singleton] at hu; subst hu; exact ⟨hu2, z2⟩), fun z => ⟨⟨_, List.mem_cons_self, z.1⟩, z.2⟩⟩)
theorem tq59_100 : tT g 59 100 = s_store vRf 59 102 4 := rfl
theorem A59_100 {l0 : Option Value} {l1 : Option Value} {l2 : Option Value} {l3 : Option Value} {l4 : Option Value} {l5 : Option Value} {x : Value} {r : List Value} : aw g 59 100 [l0, l1, l2, l3, l4, l5] (x :: r) σ Q = (vRf x = true ∧ oc l3 = true ∧ aw g 59 102 [l0, l1, l2, l3, some (x), l5] r σ Q) := (aw_eq g 59 100 _ _ _ _).trans (by rw [tq59_100]; exact (h_store (o := oc l3) rfl rfl rfl))
theorem tq59_102 : tT g 59 102 = s_const 59 103 (.int 0) := rfl
theorem A59_102 {L : AL} {r : List Value} : aw g 59 102 L r σ Q = aw g 59 103 L (.int 0 :: r) σ Q := (aw_eq g 59 102 _ _ _ _).trans (by rw [tq59_102]; exact rfl)
theorem tq59_103 : tT g 59 103 = s_store vI 59 105 5 := rfl
theorem A59_103 {l0 : Option Value} {l1 : Option Value} {l2 : Option Value} {l3 : Option Value} {l4 : Option Value} {l5 : Option Value} {x : Int32} {r : List Value} : aw g 59 103 [l0, l1, l2, l3, l4, l5] (.int x :: r) σ Q = (oc l4 = true ∧ aw g 59 105 [l0, l1, l2, l3, l4, some (.int x)] r σ Q) := (aw_eq g 59 103 _ _ _ _).trans (by rw [tq59_103]; exact (h_store (o := oc l4) rfl rfl rfl).trans (propext ⟨fun z => z.2, fun z => ⟨rfl, z⟩⟩))
theorem tq59_105 : tT g 59 105 = s_load vI 59 107 5 := rfl
theorem A59_105 {l0 : Option Value} {l1 : Option Value} {l2 : Option Value} {l3 : Option Value} {l4 : Option Value} {x : Int32} {r : List Value} : aw g 59 105 [l0, l1, l2, l3, l4, some (.int x)] r σ Q = aw g 59 107 [l0, l1, l2, l3, l4, some (.int x)] (.int x :: r) σ Q := (aw_eq g 59 105 _ _ _ _).trans (by rw [tq59_105]; exact (h_load rfl).trans (propext ⟨fun z => z.2, fun z => ⟨rfl, z⟩⟩))
theorem tq59_107 : tT g 59 107 = s_const 59 108 (.int 3) := rfl
theorem A59_107 {L : AL} {r : List Value} : aw g 59 107 L r σ Q = aw g 59 108 L (.int 3 :: r) σ Q := (aw_eq g 59 107 _ _ _ _).trans (by rw [tq59_107]; exact rfl)
theorem tq59_108 : tT g 59 108 = s_icmp 59 111 130 (fun a b => b ≤ a) := rfl
theorem A59_108 {L : AL} {r : List Value} {a b : Int32} : aw g 59 108 L (.int b :: .int a :: r) σ Q = ((b ≤ a → aw g 59 130 L r σ Q) ∧ (¬ b ≤ a → aw g 59 111 L r σ Q)) := (aw_eq g 59 108 _ _ _ _).trans (by rw [tq59_108]; exact rfl)
theorem tq59_111 : tT g 59 111 = s_load vL 59 112 1 := rfl
theorem A59_111 {l0 : Option Value} {l2 : Option Value} {l3 : Option Value} {l4 : Option Value} {l5 : Option Value} {x : Int64} {r : List Value} : aw g 59 111 [l0, some (.long x), l2, l3, l4, l5] r σ Q = aw g 59 112 [l0, some (.long x), l2, l3, l4, l5] (.long x :: r) σ Q := (aw_eq g 59 111 _ _ _ _).trans (by rw [tq59_111]; exact (h_load rfl).trans (propext ⟨fun z => z.2, fun z => ⟨rfl, z⟩⟩))
theorem tq59_112 : tT g 59 112 = s_load vRf 59 114 4 := rfl
theorem A59_112 {l0 : Option Value} {l1 : Option Value} {l2 : Option Value} {l3 : Option Value} {l5 : Option Value} {x : Value} {r : List Value} : aw g 59 112 [l0, l1, l2, l3, some (x), l5] r σ Q = (vRf x = true ∧ aw g 59 114 [l0, l1, l2, l3, some (x), l5] (x :: r) σ Q) := (aw_eq g 59 112 _ _ _ _).trans (by rw [tq59_112]; exact h_load rfl)
theorem tq59_114 : tT g 59 114 = s_load vI 59 116 5 := rfl
theorem A59_114 {l0 : Option Value} {l1 : Option Value} {l2 : Option Value} {l3 : Option Value} {l4 : Option Value} {x : Int32} {r : List Value} : aw g 59 114 [l0, l1, l2, l3, l4, some (.int x)] r σ Q = aw g 59 116 [l0, l1, l2, l3, l4, some (.int x)] (.int x :: r) σ Q := (aw_eq g 59 114 _ _ _ _).trans (by rw [tq59_114]; exact (h_load rfl).trans (propext ⟨fun z => z.2, fun z => ⟨rfl, z⟩⟩))
theorem tq59_116 : tT g 59 116 = s_callk 59 119 74 [1, 0] 2 := rfl
theorem A59_116 {L : AL} {r : List Value} {w0 w1 : Value} : aw g 59 116 L (w1 :: w0 :: r) σ Q = ((vRf w0 && (vI w1 && true)) = true ∧ csum r ≤ 8 ∧ aw g 74 0 [some w0, some w1] [] σ (kt (aw g) 59 119 L r Q)) := (aw_eq g 59 116 _ _ _ _).trans (by rw [tq59_116]; exact rfl)
theorem tq59_119 : tT g 59 119 = s_i2 59 120 (fun a => .long a.toInt64) := rfl
theorem A59_119 {L : AL} {r : List Value} {a : Int32} : aw g 59 119 L (.int a :: r) σ Q = aw g 59 120 L (.long a.toInt64 :: r) σ Q := (aw_eq g 59 119 _ _ _ _).trans (by rw [tq59_119]; exact rfl)
theorem tq59_120 : tT g 59 120 = s_callk 59 123 63 [2, 2] 4 := rfl
theorem A59_120 {L : AL} {r : List Value} {w0 w1 : Value} : aw g 59 120 L (w1 :: w0 :: r) σ Q = ((vL w0 && (vL w1 && true)) = true ∧ csum r ≤ 8 ∧ aw g 63 0 [some w0, none, some w1, none] [] σ (kt (aw g) 59 123 L r Q)) := (aw_eq g 59 120 _ _ _ _).trans (by rw [tq59_120]; exact rfl)
theorem tq59_123 : tT g 59 123 = s_store2 vL 59 124 1 := rfl
theorem A59_123 {l0 : Option Value} {l1 : Option Value} {l2 : Option Value} {l3 : Option Value} {l4 : Option Value} {l5 : Option Value} {x : Int64} {r : List Value} : aw g 59 123 [l0, l1, l2, l3, l4, l5] (.long x :: r) σ Q = (oc l0 = true ∧ aw g 59 124 [l0, some (.long x), none, l3, l4, l5] r σ Q) := (aw_eq g 59 123 _ _ _ _).trans (by rw [tq59_123]; exact (h_store2 (o := oc l0) rfl rfl rfl).trans (propext ⟨fun z => z.2, fun z => ⟨rfl, z⟩⟩))
theorem tq59_124 : tT g 59 124 = s_iinc 59 127 5 1 := rfl
theorem A59_124 {l0 : Option Value} {l1 : Option Value} {l2 : Option Value} {l3 : Option Value} {l4 : Option Value} {x : Int32} {r : List Value} : aw g 59 124 [l0, l1, l2, l3, l4, some (.int x)] r σ Q = (oc l4 = true ∧ aw g 59 127 [l0, l1, l2, l3, l4, some (.int (x + 1))] r σ Q) := (aw_eq g 59 124 _ _ _ _).trans (by rw [tq59_124]; exact (h_iinc (o := oc l4) rfl rfl rfl))
theorem tq59_127 : tT g 59 127 = s_goto 59 105 := rfl
theorem A59_127 {L : AL} {r : List Value} : aw g 59 127 L r σ Q = aw g 59 105 L r σ Q := (aw_eq g 59 127 _ _ _ _).trans (by rw [tq59_127]; exact rfl)
theorem tq59_130 : tT g 59 130 = s_goto 59 82 := rfl
theorem A59_130 {L : AL} {r : List Value} : aw g 59 130 L r σ Q = aw g 59 82 L r σ Q := (aw_eq g 59 130 _ _ _ _).trans (by rw [tq59_130]; exact rfl)
theorem tq59_133 : tT g 59 133 = s_load vL 59 134 1 := rfl
theorem A59_133 {l0 : Option Value} {l2 : Option Value} {l3 : Option Value} {l4 : Option Value} {l5 : Option Value} {x : Int64} {r : List Value} : aw g 59 133 [l0, some (.long x), l2, l3, l4, l5] r σ Q = aw g 59 134 [l0, some (.long x), l2, l3, l4, l5] (.long x :: r) σ Q := (aw_eq g 59 133 _ _ _ _).trans (by rw [tq59_133]; exact (h_load rfl).trans (propext ⟨fun z => z.2, fun z => ⟨rfl, z⟩⟩))
theorem tq59_134 : tT g 59 134 = s_ret pJ := rfl
theorem A59_134 {L : AL} {v : Value} : aw g 59 134 L [v] σ Q = (pJ v ∧ Q (.inl (some v)) σ) := (aw_eq g 59 134 _ _ _ _).trans (by rw [tq59_134]; exact rfl)
theorem tq60_0 : tT g 60 0 = s_const 60 1 (.int 0) := rfl
theorem A60_0 {L : AL} {r : List Value} : aw g 60 0 L r σ Q = aw g 60 1 L (.int 0 :: r) σ Q := (aw_eq g 60 0 _ _ _ _).trans (by rw [tq60_0]; exact rfl)
theorem tq60_1 : tT g 60 1 = s_store vI 60 2 2 := rfl
theorem A60_1 {l0 : Option Value} {l1 : Option Value} {l2 : Option Value} {l3 : Option Value} {l4 : Option Value} {l5 : Option Value} {l6 : Option Value} {l7 : Option Value} {l8 : Option Value} {l9 : Option Value} {x : Int32} {r : List Value} : aw g 60 1 [l0, l1, l2, l3, l4, l5, l6, l7, l8, l9] (.int x :: r) σ Q = (oc l1 = true ∧ aw g 60 2 [l0, l1, some (.int x), l3, l4, l5, l6, l7, l8, l9] r σ Q) := (aw_eq g 60 1 _ _ _ _).trans (by rw [tq60_1]; exact (h_store (o := oc l1) rfl rfl rfl).trans (propext ⟨fun z => z.2, fun z => ⟨rfl, z⟩⟩))
theorem tq60_2 : tT g 60 2 = s_const 60 3 (.int 0) := rfl
theorem A60_2 {L : AL} {r : List Value} : aw g 60 2 L r σ Q = aw g 60 3 L (.int 0 :: r) σ Q := (aw_eq g 60 2 _ _ _ _).trans (by rw [tq60_2]; exact rfl)
theorem tq60_3 : tT g 60 3 = s_store vI 60 4 3 := rfl
theorem A60_3 {l0 : Option Value} {l1 : Option Value} {l2 : Option Value} {l3 : Option Value} {l4 : Option Value} {l5 : Option Value} {l6 : Option Value} {l7 : Option Value} {l8 : Option Value} {l9 : Option Value} {x : Int32} {r : List Value} : aw g 60 3 [l0, l1, l2, l3, l4, l5, l6, l7, l8, l9] (.int x :: r) σ Q = (oc l2 = true ∧ aw g 60 4 [l0, l1, l2, some (.int x), l4, l5, l6, l7, l8, l9] r σ Q) := (aw_eq g 60 3 _ _ _ _).trans (by rw [tq60_3]; exact (h_store (o := oc l2) rfl rfl rfl).trans (propext ⟨fun z => z.2, fun z => ⟨rfl, z⟩⟩))
theorem tq60_4 : tT g 60 4 = s_load vRf 60 5 0 := rfl
theorem A60_4 {l1 : Option Value} {l2 : Option Value} {l3 : Option Value} {l4 : Option Value} {l5 : Option Value} {l6 : Option Value} {l7 : Option Value} {l8 : Option Value} {l9 : Option Value} {x : Value} {r : List Value} : aw g 60 4 [some (x), l1, l2, l3, l4, l5, l6, l7, l8, l9] r σ Q = (vRf x = true ∧ aw g 60 5 [some (x), l1, l2, l3, l4, l5, l6, l7, l8, l9] (x :: r) σ Q) := (aw_eq g 60 4 _ _ _ _).trans (by rw [tq60_4]; exact h_load rfl)
theorem tq60_5 : tT g 60 5 = s_getf 60 8 0 0 := rfl
theorem A60_5 {L : AL} {r : List Value} {a : Nat} : aw g 60 5 L (.ref a :: r) σ Q = (hty σ a = some 0 ∧ aw g 60 8 L (hv σ 0 a 0 :: r) σ Q) := (aw_eq g 60 5 _ _ _ _).trans (by rw [tq60_5]; exact rfl)
theorem tq60_8 : tT g 60 8 = s_getf 60 11 1 1 := rfl
theorem A60_8 {L : AL} {r : List Value} {a : Nat} : aw g 60 8 L (.ref a :: r) σ Q = (hty σ a = some 1 ∧ aw g 60 11 L (hv σ 1 a 1 :: r) σ Q) := (aw_eq g 60 8 _ _ _ _).trans (by rw [tq60_8]; exact rfl)
theorem tq60_11 : tT g 60 11 = s_callvk 60 14 22 10 [] 1 := rfl
theorem A60_11 {L : AL} {r : List Value} {a : Nat} : aw g 60 11 L (.ref a :: r) σ Q = (hty σ a = some 10 ∧ true = true ∧ csum r ≤ 8 ∧ aw g 22 0 [some (.ref a)] [] σ (kt (aw g) 60 14 L r Q)) := (aw_eq g 60 11 _ _ _ _).trans (by rw [tq60_11]; exact rfl)
theorem tq60_14 : tT g 60 14 = s_store vRf 60 16 4 := rfl
theorem A60_14 {l0 : Option Value} {l1 : Option Value} {l2 : Option Value} {l3 : Option Value} {l4 : Option Value} {l5 : Option Value} {l6 : Option Value} {l7 : Option Value} {l8 : Option Value} {l9 : Option Value} {x : Value} {r : List Value} : aw g 60 14 [l0, l1, l2, l3, l4, l5, l6, l7, l8, l9] (x :: r) σ Q = (vRf x = true ∧ oc l3 = true ∧ aw g 60 16 [l0, l1, l2, l3, some (x), l5, l6, l7, l8, l9] r σ Q) := (aw_eq g 60 14 _ _ _ _).trans (by rw [tq60_14]; exact (h_store (o := oc l3) rfl rfl rfl))
theorem tq60_16 : tT g 60 16 = s_load vRf 60 18 4 := rfl
theorem A60_16 {l0 : Option Value} {l1 : Option Value} {l2 : Option Value} {l3 : Option Value} {l5 : Option Value} {l6 : Option Value} {l7 : Option Value} {l8 : Option Value} {l9 : Option Value} {x : Value} {r : List Value} : aw g 60 16 [l0, l1, l2, l3, some (x), l5, l6, l7, l8, l9] r σ Q = (vRf x = true ∧ aw g 60 18 [l0, l1, l2, l3, some (x), l5, l6, l7, l8, l9] (x :: r) σ Q) := (aw_eq g 60 16 _ _ _ _).trans (by rw [tq60_16]; exact h_load rfl)
theorem tq60_18 : tT g 60 18 = s_callvk 60 23 3 11 [] 1 := rfl
theorem A60_18 {L : AL} {r : List Value} {a : Nat} : aw g 60 18 L (.ref a :: r) σ Q = (hty σ a = some 11 ∧ true = true ∧ csum r ≤ 8 ∧ aw g 3 0 [some (.ref a)] [] σ (kt (aw g) 60 23 L r Q)) := (aw_eq g 60 18 _ _ _ _).trans (by rw [tq60_18]; exact rfl)
theorem tq60_23 : tT g 60 23 = s_if 60 26 60 (fun a => a = 0) := rfl
theorem A60_23 {L : AL} {r : List Value} {a : Int32} : aw g 60 23 L (.int a :: r) σ Q = ((a = 0 → aw g 60 60 L r σ Q) ∧ (¬ a = 0 → aw g 60 26 L r σ Q)) := (aw_eq g 60 23 _ _ _ _).trans (by rw [tq60_23]; exact rfl)
theorem tq60_26 : tT g 60 26 = s_load vRf 60 28 4 := rfl
theorem A60_26 {l0 : Option Value} {l1 : Option Value} {l2 : Option Value} {l3 : Option Value} {l5 : Option Value} {l6 : Option Value} {l7 : Option Value} {l8 : Option Value} {l9 : Option Value} {x : Value} {r : List Value} : aw g 60 26 [l0, l1, l2, l3, some (x), l5, l6, l7, l8, l9] r σ Q = (vRf x = true ∧ aw g 60 28 [l0, l1, l2, l3, some (x), l5, l6, l7, l8, l9] (x :: r) σ Q) := (aw_eq g 60 26 _ _ _ _).trans (by rw [tq60_26]; exact h_load rfl)
theorem tq60_28 : tT g 60 28 = s_callvk 60 33 4 11 [] 3 := rfl
theorem A60_28 {L : AL} {r : List Value} {a : Nat} : aw g 60 28 L (.ref a :: r) σ Q = (hty σ a = some 11 ∧ true = true ∧ csum r ≤ 8 ∧ aw g 4 0 [some (.ref a), none, none] [] σ (kt (aw g) 60 33 L r Q)) := (aw_eq g 60 28 _ _ _ _).trans (by rw [tq60_28]; exact rfl)
theorem tq60_33 : tT g 60 33 = s_cast 60 36 [2] := rfl
theorem A60_33 {L : AL} {r : List Value} : aw g 60 33 L (.null :: r) σ Q = aw g 60 36 L (.null :: r) σ Q := (aw_eq g 60 33 _ _ _ _).trans (by rw [tq60_33]; exact rfl)
theorem A60_33r {L : AL} {r : List Value} {a : Nat} : aw g 60 33 L (.ref a :: r) σ Q = (hty σ a = some 2 ∧ aw g 60 36 L (.ref a :: r) σ Q) := (aw_eq g 60 33 _ _ _ _).trans (by rw [tq60_33]; exact propext ⟨fun z => (by obtain ⟨⟨u, hu, hu2⟩, z2⟩ := z; rw [List.mem_singleton] at hu; subst hu; exact ⟨hu2, z2⟩), fun z => ⟨⟨_, List.mem_cons_self, z.1⟩, z.2⟩⟩)
theorem tq60_36 : tT g 60 36 = s_store vRf 60 38 5 := rfl
theorem A60_36 {l0 : Option Value} {l1 : Option Value} {l2 : Option Value} {l3 : Option Value} {l4 : Option Value} {l5 : Option Value} {l6 : Option Value} {l7 : Option Value} {l8 : Option Value} {l9 : Option Value} {x : Value} {r : List Value} : aw g 60 36 [l0, l1, l2, l3, l4, l5, l6, l7, l8, l9] (x :: r) σ Q = (vRf x = true ∧ oc l4 = true ∧ aw g 60 38 [l0, l1, l2, l3, l4, some (x), l6, l7, l8, l9] r σ Q) := (aw_eq g 60 36 _ _ _ _).trans (by rw [tq60_36]; exact (h_store (o := oc l4) rfl rfl rfl))
theorem tq60_38 : tT g 60 38 = s_load vI 60 39 2 := rfl
theorem A60_38 {l0 : Option Value} {l1 : Option Value} {l3 : Option Value} {l4 : Option Value} {l5 : Option Value} {l6 : Option Value} {l7 : Option Value} {l8 : Option Value} {l9 : Option Value} {x : Int32} {r : List Value} : aw g 60 38 [l0, l1, some (.int x), l3, l4, l5, l6, l7, l8, l9] r σ Q = aw g 60 39 [l0, l1, some (.int x), l3, l4, l5, l6, l7, l8, l9] (.int x :: r) σ Q := (aw_eq g 60 38 _ _ _ _).trans (by rw [tq60_38]; exact (h_load rfl).trans (propext ⟨fun z => z.2, fun z => ⟨rfl, z⟩⟩))
theorem tq60_39 : tT g 60 39 = s_load vRf 60 41 5 := rfl
theorem A60_39 {l0 : Option Value} {l1 : Option Value} {l2 : Option Value} {l3 : Option Value} {l4 : Option Value} {l6 : Option Value} {l7 : Option Value} {l8 : Option Value} {l9 : Option Value} {x : Value} {r : List Value} : aw g 60 39 [l0, l1, l2, l3, l4, some (x), l6, l7, l8, l9] r σ Q = (vRf x = true ∧ aw g 60 41 [l0, l1, l2, l3, l4, some (x), l6, l7, l8, l9] (x :: r) σ Q) := (aw_eq g 60 39 _ _ _ _).trans (by rw [tq60_39]; exact h_load rfl)
theorem tq60_41 : tT g 60 41 = s_getf 60 44 2 0 := rfl
theorem A60_41 {L : AL} {r : List Value} {a : Nat} : aw g 60 41 L (.ref a :: r) σ Q = (hty σ a = some 2 ∧ aw g 60 44 L (hv σ 2 a 0 :: r) σ Q) := (aw_eq g 60 41 _ _ _ _).trans (by rw [tq60_41]; exact rfl)
theorem tq60_44 : tT g 60 44 = s_ifnn 60 47 51 := rfl
theorem A60_44 {L : AL} {r : List Value} {a : Value} : aw g 60 44 L (a :: r) σ Q = (vRf a = true ∧ (a = .null → aw g 60 47 L r σ Q) ∧ (a ≠ .null → aw g 60 51 L r σ Q)) := (aw_eq g 60 44 _ _ _ _).trans (by rw [tq60_44]; exact rfl)
theorem tq60_47 : tT g 60 47 = s_const 60 48 (.int 1) := rfl
theorem A60_47 {L : AL} {r : List Value} : aw g 60 47 L r σ Q = aw g 60 48 L (.int 1 :: r) σ Q := (aw_eq g 60 47 _ _ _ _).trans (by rw [tq60_47]; exact rfl)
theorem tq60_48 : tT g 60 48 = s_goto 60 52 := rfl
theorem A60_48 {L : AL} {r : List Value} : aw g 60 48 L r σ Q = aw g 60 52 L r σ Q := (aw_eq g 60 48 _ _ _ _).trans (by rw [tq60_48]; exact rfl)
theorem tq60_51 : tT g 60 51 = s_const 60 52 (.int 0) := rfl
theorem A60_51 {L : AL} {r : List Value} : aw g 60 51 L r σ Q = aw g 60 52 L (.int 0 :: r) σ Q := (aw_eq g 60 51 _ _ _ _).trans (by rw [tq60_51]; exact rfl)
theorem tq60_52 : tT g 60 52 = s_callk 60 55 61 [0] 1 := rfl
theorem A60_52 {L : AL} {r : List Value} {w0 : Value} : aw g 60 52 L (w0 :: r) σ Q = ((vI w0 && true) = true ∧ csum r ≤ 8 ∧ aw g 61 0 [some w0] [] σ (kt (aw g) 60 55 L r Q)) := (aw_eq g 60 52 _ _ _ _).trans (by rw [tq60_52]; exact rfl)
theorem tq60_55 : tT g 60 55 = s_bin 60 56 (fun a b => a + b) := rfl
theorem A60_55 {L : AL} {r : List Value} {a b : Int32} : aw g 60 55 L (.int b :: .int a :: r) σ Q = aw g 60 56 L (.int (a + b) :: r) σ Q := (aw_eq g 60 55 _ _ _ _).trans (by rw [tq60_55]; exact rfl)
theorem tq60_56 : tT g 60 56 = s_store vI 60 57 2 := rfl
theorem A60_56 {l0 : Option Value} {l1 : Option Value} {l2 : Option Value} {l3 : Option Value} {l4 : Option Value} {l5 : Option Value} {l6 : Option Value} {l7 : Option Value} {l8 : Option Value} {l9 : Option Value} {x : Int32} {r : List Value} : aw g 60 56 [l0, l1, l2, l3, l4, l5, l6, l7, l8, l9] (.int x :: r) σ Q = (oc l1 = true ∧ aw g 60 57 [l0, l1, some (.int x), l3, l4, l5, l6, l7, l8, l9] r σ Q) := (aw_eq g 60 56 _ _ _ _).trans (by rw [tq60_56]; exact (h_store (o := oc l1) rfl rfl rfl).trans (propext ⟨fun z => z.2, fun z => ⟨rfl, z⟩⟩))
theorem tq60_57 : tT g 60 57 = s_goto 60 16 := rfl
theorem A60_57 {L : AL} {r : List Value} : aw g 60 57 L r σ Q = aw g 60 16 L r σ Q := (aw_eq g 60 57 _ _ _ _).trans (by rw [tq60_57]; exact rfl)
theorem tq60_60 : tT g 60 60 = s_load vRf 60 61 0 := rfl
theorem A60_60 {l1 : Option Value} {l2 : Option Value} {l3 : Option Value} {l4 : Option Value} {l5 : Option Value} {l6 : Option Value} {l7 : Option Value} {l8 : Option Value} {l9 : Option Value} {x : Value} {r : List Value} : aw g 60 60 [some (x), l1, l2, l3, l4, l5, l6, l7, l8, l9] r σ Q = (vRf x = true ∧ aw g 60 61 [some (x), l1, l2, l3, l4, l5, l6, l7, l8, l9] (x :: r) σ Q) := (aw_eq g 60 60 _ _ _ _).trans (by rw [tq60_60]; exact h_load rfl)
theorem tq60_61 : tT g 60 61 = s_getf 60 64 0 0 := rfl
theorem A60_61 {L : AL} {r : List Value} {a : Nat} : aw g 60 61 L (.ref a :: r) σ Q = (hty σ a = some 0 ∧ aw g 60 64 L (hv σ 0 a 0 :: r) σ Q) := (aw_eq g 60 61 _ _ _ _).trans (by rw [tq60_61]; exact rfl)
theorem tq60_64 : tT g 60 64 = s_getf 60 67 1 0 := rfl
theorem A60_64 {L : AL} {r : List Value} {a : Nat} : aw g 60 64 L (.ref a :: r) σ Q = (hty σ a = some 1 ∧ aw g 60 67 L (hv σ 1 a 0 :: r) σ Q) := (aw_eq g 60 64 _ _ _ _).trans (by rw [tq60_64]; exact rfl)
theorem tq60_67 : tT g 60 67 = s_callvk 60 70 22 10 [] 1 := rfl
theorem A60_67 {L : AL} {r : List Value} {a : Nat} : aw g 60 67 L (.ref a :: r) σ Q = (hty σ a = some 10 ∧ true = true ∧ csum r ≤ 8 ∧ aw g 22 0 [some (.ref a)] [] σ (kt (aw g) 60 70 L r Q)) := (aw_eq g 60 67 _ _ _ _).trans (by rw [tq60_67]; exact rfl)
theorem tq60_70 : tT g 60 70 = s_store vRf 60 72 4 := rfl
theorem A60_70 {l0 : Option Value} {l1 : Option Value} {l2 : Option Value} {l3 : Option Value} {l4 : Option Value} {l5 : Option Value} {l6 : Option Value} {l7 : Option Value} {l8 : Option Value} {l9 : Option Value} {x : Value} {r : List Value} : aw g 60 70 [l0, l1, l2, l3, l4, l5, l6, l7, l8, l9] (x :: r) σ Q = (vRf x = true ∧ oc l3 = true ∧ aw g 60 72 [l0, l1, l2, l3, some (x), l5, l6, l7, l8, l9] r σ Q) := (aw_eq g 60 70 _ _ _ _).trans (by rw [tq60_70]; exact (h_store (o := oc l3) rfl rfl rfl))
theorem tq60_72 : tT g 60 72 = s_load vRf 60 74 4 := rfl
theorem A60_72 {l0 : Option Value} {l1 : Option Value} {l2 : Option Value} {l3 : Option Value} {l5 : Option Value} {l6 : Option Value} {l7 : Option Value} {l8 : Option Value} {l9 : Option Value} {x : Value} {r : List Value} : aw g 60 72 [l0, l1, l2, l3, some (x), l5, l6, l7, l8, l9] r σ Q = (vRf x = true ∧ aw g 60 74 [l0, l1, l2, l3, some (x), l5, l6, l7, l8, l9] (x :: r) σ Q) := (aw_eq g 60 72 _ _ _ _).trans (by rw [tq60_72]; exact h_load rfl)
theorem tq60_74 : tT g 60 74 = s_callvk 60 79 3 11 [] 1 := rfl
theorem A60_74 {L : AL} {r : List Value} {a : Nat} : aw g 60 74 L (.ref a :: r) σ Q = (hty σ a = some 11 ∧ true = true ∧ csum r ≤ 8 ∧ aw g 3 0 [some (.ref a)] [] σ (kt (aw g) 60 79 L r Q)) := (aw_eq g 60 74 _ _ _ _).trans (by rw [tq60_74]; exact rfl)
theorem tq60_79 : tT g 60 79 = s_if 60 82 137 (fun a => a = 0) := rfl
theorem A60_79 {L : AL} {r : List Value} {a : Int32} : aw g 60 79 L (.int a :: r) σ Q = ((a = 0 → aw g 60 137 L r σ Q) ∧ (¬ a = 0 → aw g 60 82 L r σ Q)) := (aw_eq g 60 79 _ _ _ _).trans (by rw [tq60_79]; exact rfl)
theorem tq60_82 : tT g 60 82 = s_load vRf 60 84 4 := rfl
theorem A60_82 {l0 : Option Value} {l1 : Option Value} {l2 : Option Value} {l3 : Option Value} {l5 : Option Value} {l6 : Option Value} {l7 : Option Value} {l8 : Option Value} {l9 : Option Value} {x : Value} {r : List Value} : aw g 60 82 [l0, l1, l2, l3, some (x), l5, l6, l7, l8, l9] r σ Q = (vRf x = true ∧ aw g 60 84 [l0, l1, l2, l3, some (x), l5, l6, l7, l8, l9] (x :: r) σ Q) := (aw_eq g 60 82 _ _ _ _).trans (by rw [tq60_82]; exact h_load rfl)
theorem tq60_84 : tT g 60 84 = s_callvk 60 89 4 11 [] 3 := rfl
theorem A60_84 {L : AL} {r : List Value} {a : Nat} : aw g 60 84 L (.ref a :: r) σ Q = (hty σ a = some 11 ∧ true = true ∧ csum r ≤ 8 ∧ aw g 4 0 [some (.ref a), none, none] [] σ (kt (aw g) 60 89 L r Q)) := (aw_eq g 60 84 _ _ _ _).trans (by rw [tq60_84]; exact rfl)
theorem tq60_89 : tT g 60 89 = s_cast 60 92 [5] := rfl
theorem A60_89 {L : AL} {r : List Value} : aw g 60 89 L (.null :: r) σ Q = aw g 60 92 L (.null :: r) σ Q := (aw_eq g 60 89 _ _ _ _).trans (by rw [tq60_89]; exact rfl)
theorem A60_89r {L : AL} {r : List Value} {a : Nat} : aw g 60 89 L (.ref a :: r) σ Q = (hty σ a = some 5 ∧ aw g 60 92 L (.ref a :: r) σ Q) := (aw_eq g 60 89 _ _ _ _).trans (by rw [tq60_89]; exact propext ⟨fun z => (by obtain ⟨⟨u, hu, hu2⟩, z2⟩ := z; rw [List.mem_singleton] at hu; subst hu; exact ⟨hu2, z2⟩), fun z => ⟨⟨_, List.mem_cons_self, z.1⟩, z.2⟩⟩)
theorem tq60_92 : tT g 60 92 = s_store vRf 60 94 5 := rfl
theorem A60_92 {l0 : Option Value} {l1 : Option Value} {l2 : Option Value} {l3 : Option Value} {l4 : Option Value} {l5 : Option Value} {l6 : Option Value} {l7 : Option Value} {l8 : Option Value} {l9 : Option Value} {x : Value} {r : List Value} : aw g 60 92 [l0, l1, l2, l3, l4, l5, l6, l7, l8, l9] (x :: r) σ Q = (vRf x = true ∧ oc l4 = true ∧ aw g 60 94 [l0, l1, l2, l3, l4, some (x), l6, l7, l8, l9] r σ Q) := (aw_eq g 60 92 _ _ _ _).trans (by rw [tq60_92]; exact (h_store (o := oc l4) rfl rfl rfl))
theorem tq60_94 : tT g 60 94 = s_load vRf 60 96 5 := rfl
theorem A60_94 {l0 : Option Value} {l1 : Option Value} {l2 : Option Value} {l3 : Option Value} {l4 : Option Value} {l6 : Option Value} {l7 : Option Value} {l8 : Option Value} {l9 : Option Value} {x : Value} {r : List Value} : aw g 60 94 [l0, l1, l2, l3, l4, some (x), l6, l7, l8, l9] r σ Q = (vRf x = true ∧ aw g 60 96 [l0, l1, l2, l3, l4, some (x), l6, l7, l8, l9] (x :: r) σ Q) := (aw_eq g 60 94 _ _ _ _).trans (by rw [tq60_94]; exact h_load rfl)
theorem tq60_96 : tT g 60 96 = s_getf 60 99 5 13 := rfl
theorem A60_96 {L : AL} {r : List Value} {a : Nat} : aw g 60 96 L (.ref a :: r) σ Q = (hty σ a = some 5 ∧ aw g 60 99 L (hv σ 5 a 13 :: r) σ Q) := (aw_eq g 60 96 _ _ _ _).trans (by rw [tq60_96]; exact rfl)
theorem tq60_99 : tT g 60 99 = s_store vRf 60 101 6 := rfl
theorem A60_99 {l0 : Option Value} {l1 : Option Value} {l2 : Option Value} {l3 : Option Value} {l4 : Option Value} {l5 : Option Value} {l6 : Option Value} {l7 : Option Value} {l8 : Option Value} {l9 : Option Value} {x : Value} {r : List Value} : aw g 60 99 [l0, l1, l2, l3, l4, l5, l6, l7, l8, l9] (x :: r) σ Q = (vRf x = true ∧ oc l5 = true ∧ aw g 60 101 [l0, l1, l2, l3, l4, l5, some (x), l7, l8, l9] r σ Q) := (aw_eq g 60 99 _ _ _ _).trans (by rw [tq60_99]; exact (h_store (o := oc l5) rfl rfl rfl))
theorem tq60_101 : tT g 60 101 = s_load vRf 60 103 6 := rfl
theorem A60_101 {l0 : Option Value} {l1 : Option Value} {l2 : Option Value} {l3 : Option Value} {l4 : Option Value} {l5 : Option Value} {l7 : Option Value} {l8 : Option Value} {l9 : Option Value} {x : Value} {r : List Value} : aw g 60 101 [l0, l1, l2, l3, l4, l5, some (x), l7, l8, l9] r σ Q = (vRf x = true ∧ aw g 60 103 [l0, l1, l2, l3, l4, l5, some (x), l7, l8, l9] (x :: r) σ Q) := (aw_eq g 60 101 _ _ _ _).trans (by rw [tq60_101]; exact h_load rfl)
theorem tq60_103 : tT g 60 103 = s_alen 60 104 20 := rfl
theorem A60_103 {L : AL} {r : List Value} {a : Nat} : aw g 60 103 L (.ref a :: r) σ Q = (hty σ a = some 20 ∧ aw g 60 104 L (.int (Int32.ofNat (hln σ a)) :: r) σ Q) := (aw_eq g 60 103 _ _ _ _).trans (by rw [tq60_103]; exact rfl)
theorem tq60_104 : tT g 60 104 = s_store vI 60 106 7 := rfl
theorem A60_104 {l0 : Option Value} {l1 : Option Value} {l2 : Option Value} {l3 : Option Value} {l4 : Option Value} {l5 : Option Value} {l6 : Option Value} {l7 : Option Value} {l8 : Option Value} {l9 : Option Value} {x : Int32} {r : List Value} : aw g 60 104 [l0, l1, l2, l3, l4, l5, l6, l7, l8, l9] (.int x :: r) σ Q = (oc l6 = true ∧ aw g 60 106 [l0, l1, l2, l3, l4, l5, l6, some (.int x), l8, l9] r σ Q) := (aw_eq g 60 104 _ _ _ _).trans (by rw [tq60_104]; exact (h_store (o := oc l6) rfl rfl rfl).trans (propext ⟨fun z => z.2, fun z => ⟨rfl, z⟩⟩))
theorem tq60_106 : tT g 60 106 = s_const 60 107 (.int 0) := rfl
theorem A60_106 {L : AL} {r : List Value} : aw g 60 106 L r σ Q = aw g 60 107 L (.int 0 :: r) σ Q := (aw_eq g 60 106 _ _ _ _).trans (by rw [tq60_106]; exact rfl)
theorem tq60_107 : tT g 60 107 = s_store vI 60 109 8 := rfl
theorem A60_107 {l0 : Option Value} {l1 : Option Value} {l2 : Option Value} {l3 : Option Value} {l4 : Option Value} {l5 : Option Value} {l6 : Option Value} {l7 : Option Value} {l8 : Option Value} {l9 : Option Value} {x : Int32} {r : List Value} : aw g 60 107 [l0, l1, l2, l3, l4, l5, l6, l7, l8, l9] (.int x :: r) σ Q = (oc l7 = true ∧ aw g 60 109 [l0, l1, l2, l3, l4, l5, l6, l7, some (.int x), l9] r σ Q) := (aw_eq g 60 107 _ _ _ _).trans (by rw [tq60_107]; exact (h_store (o := oc l7) rfl rfl rfl).trans (propext ⟨fun z => z.2, fun z => ⟨rfl, z⟩⟩))
theorem tq60_109 : tT g 60 109 = s_load vI 60 111 8 := rfl
theorem A60_109 {l0 : Option Value} {l1 : Option Value} {l2 : Option Value} {l3 : Option Value} {l4 : Option Value} {l5 : Option Value} {l6 : Option Value} {l7 : Option Value} {l9 : Option Value} {x : Int32} {r : List Value} : aw g 60 109 [l0, l1, l2, l3, l4, l5, l6, l7, some (.int x), l9] r σ Q = aw g 60 111 [l0, l1, l2, l3, l4, l5, l6, l7, some (.int x), l9] (.int x :: r) σ Q := (aw_eq g 60 109 _ _ _ _).trans (by rw [tq60_109]; exact (h_load rfl).trans (propext ⟨fun z => z.2, fun z => ⟨rfl, z⟩⟩))
theorem tq60_111 : tT g 60 111 = s_load vI 60 113 7 := rfl
theorem A60_111 {l0 : Option Value} {l1 : Option Value} {l2 : Option Value} {l3 : Option Value} {l4 : Option Value} {l5 : Option Value} {l6 : Option Value} {l8 : Option Value} {l9 : Option Value} {x : Int32} {r : List Value} : aw g 60 111 [l0, l1, l2, l3, l4, l5, l6, some (.int x), l8, l9] r σ Q = aw g 60 113 [l0, l1, l2, l3, l4, l5, l6, some (.int x), l8, l9] (.int x :: r) σ Q := (aw_eq g 60 111 _ _ _ _).trans (by rw [tq60_111]; exact (h_load rfl).trans (propext ⟨fun z => z.2, fun z => ⟨rfl, z⟩⟩))
theorem tq60_113 : tT g 60 113 = s_icmp 60 116 134 (fun a b => b ≤ a) := rfl
theorem A60_113 {L : AL} {r : List Value} {a b : Int32} : aw g 60 113 L (.int b :: .int a :: r) σ Q = ((b ≤ a → aw g 60 134 L r σ Q) ∧ (¬ b ≤ a → aw g 60 116 L r σ Q)) := (aw_eq g 60 113 _ _ _ _).trans (by rw [tq60_113]; exact rfl)
theorem tq60_116 : tT g 60 116 = s_load vRf 60 118 6 := rfl
theorem A60_116 {l0 : Option Value} {l1 : Option Value} {l2 : Option Value} {l3 : Option Value} {l4 : Option Value} {l5 : Option Value} {l7 : Option Value} {l8 : Option Value} {l9 : Option Value} {x : Value} {r : List Value} : aw g 60 116 [l0, l1, l2, l3, l4, l5, some (x), l7, l8, l9] r σ Q = (vRf x = true ∧ aw g 60 118 [l0, l1, l2, l3, l4, l5, some (x), l7, l8, l9] (x :: r) σ Q) := (aw_eq g 60 116 _ _ _ _).trans (by rw [tq60_116]; exact h_load rfl)
theorem tq60_118 : tT g 60 118 = s_load vI 60 120 8 := rfl
theorem A60_118 {l0 : Option Value} {l1 : Option Value} {l2 : Option Value} {l3 : Option Value} {l4 : Option Value} {l5 : Option Value} {l6 : Option Value} {l7 : Option Value} {l9 : Option Value} {x : Int32} {r : List Value} : aw g 60 118 [l0, l1, l2, l3, l4, l5, l6, l7, some (.int x), l9] r σ Q = aw g 60 120 [l0, l1, l2, l3, l4, l5, l6, l7, some (.int x), l9] (.int x :: r) σ Q := (aw_eq g 60 118 _ _ _ _).trans (by rw [tq60_118]; exact (h_load rfl).trans (propext ⟨fun z => z.2, fun z => ⟨rfl, z⟩⟩))
theorem tq60_120 : tT g 60 120 = s_ald 60 121 20 := rfl
theorem A60_120 {L : AL} {r : List Value} {a : Nat} {i : Int32} : aw g 60 120 L (.int i :: .ref a :: r) σ Q = (hty σ a = some 20 ∧ ¬ i < 0 ∧ i.toNatClampNeg < hln σ a ∧ aw g 60 121 L (hv σ 20 a i.toNatClampNeg :: r) σ Q) := (aw_eq g 60 120 _ _ _ _).trans (by rw [tq60_120]; exact rfl)
theorem tq60_121 : tT g 60 121 = s_store vI 60 123 9 := rfl
theorem A60_121 {l0 : Option Value} {l1 : Option Value} {l2 : Option Value} {l3 : Option Value} {l4 : Option Value} {l5 : Option Value} {l6 : Option Value} {l7 : Option Value} {l8 : Option Value} {l9 : Option Value} {x : Int32} {r : List Value} : aw g 60 121 [l0, l1, l2, l3, l4, l5, l6, l7, l8, l9] (.int x :: r) σ Q = (oc l8 = true ∧ aw g 60 123 [l0, l1, l2, l3, l4, l5, l6, l7, l8, some (.int x)] r σ Q) := (aw_eq g 60 121 _ _ _ _).trans (by rw [tq60_121]; exact (h_store (o := oc l8) rfl rfl rfl).trans (propext ⟨fun z => z.2, fun z => ⟨rfl, z⟩⟩))
theorem tq60_123 : tT g 60 123 = s_load vI 60 124 3 := rfl
theorem A60_123 {l0 : Option Value} {l1 : Option Value} {l2 : Option Value} {l4 : Option Value} {l5 : Option Value} {l6 : Option Value} {l7 : Option Value} {l8 : Option Value} {l9 : Option Value} {x : Int32} {r : List Value} : aw g 60 123 [l0, l1, l2, some (.int x), l4, l5, l6, l7, l8, l9] r σ Q = aw g 60 124 [l0, l1, l2, some (.int x), l4, l5, l6, l7, l8, l9] (.int x :: r) σ Q := (aw_eq g 60 123 _ _ _ _).trans (by rw [tq60_123]; exact (h_load rfl).trans (propext ⟨fun z => z.2, fun z => ⟨rfl, z⟩⟩))
theorem tq60_124 : tT g 60 124 = s_load vI 60 126 9 := rfl
theorem A60_124 {l0 : Option Value} {l1 : Option Value} {l2 : Option Value} {l3 : Option Value} {l4 : Option Value} {l5 : Option Value} {l6 : Option Value} {l7 : Option Value} {l8 : Option Value} {x : Int32} {r : List Value} : aw g 60 124 [l0, l1, l2, l3, l4, l5, l6, l7, l8, some (.int x)] r σ Q = aw g 60 126 [l0, l1, l2, l3, l4, l5, l6, l7, l8, some (.int x)] (.int x :: r) σ Q := (aw_eq g 60 124 _ _ _ _).trans (by rw [tq60_124]; exact (h_load rfl).trans (propext ⟨fun z => z.2, fun z => ⟨rfl, z⟩⟩))
theorem tq60_126 : tT g 60 126 = s_bin 60 127 (fun a b => a + b) := rfl
theorem A60_126 {L : AL} {r : List Value} {a b : Int32} : aw g 60 126 L (.int b :: .int a :: r) σ Q = aw g 60 127 L (.int (a + b) :: r) σ Q := (aw_eq g 60 126 _ _ _ _).trans (by rw [tq60_126]; exact rfl)
theorem tq60_127 : tT g 60 127 = s_store vI 60 128 3 := rfl
theorem A60_127 {l0 : Option Value} {l1 : Option Value} {l2 : Option Value} {l3 : Option Value} {l4 : Option Value} {l5 : Option Value} {l6 : Option Value} {l7 : Option Value} {l8 : Option Value} {l9 : Option Value} {x : Int32} {r : List Value} : aw g 60 127 [l0, l1, l2, l3, l4, l5, l6, l7, l8, l9] (.int x :: r) σ Q = (oc l2 = true ∧ aw g 60 128 [l0, l1, l2, some (.int x), l4, l5, l6, l7, l8, l9] r σ Q) := (aw_eq g 60 127 _ _ _ _).trans (by rw [tq60_127]; exact (h_store (o := oc l2) rfl rfl rfl).trans (propext ⟨fun z => z.2, fun z => ⟨rfl, z⟩⟩))
theorem tq60_128 : tT g 60 128 = s_iinc 60 131 8 1 := rfl
theorem A60_128 {l0 : Option Value} {l1 : Option Value} {l2 : Option Value} {l3 : Option Value} {l4 : Option Value} {l5 : Option Value} {l6 : Option Value} {l7 : Option Value} {l9 : Option Value} {x : Int32} {r : List Value} : aw g 60 128 [l0, l1, l2, l3, l4, l5, l6, l7, some (.int x), l9] r σ Q = (oc l7 = true ∧ aw g 60 131 [l0, l1, l2, l3, l4, l5, l6, l7, some (.int (x + 1)), l9] r σ Q) := (aw_eq g 60 128 _ _ _ _).trans (by rw [tq60_128]; exact (h_iinc (o := oc l7) rfl rfl rfl))
theorem tq60_131 : tT g 60 131 = s_goto 60 109 := rfl
theorem A60_131 {L : AL} {r : List Value} : aw g 60 131 L r σ Q = aw g 60 109 L r σ Q := (aw_eq g 60 131 _ _ _ _).trans (by rw [tq60_131]; exact rfl)
theorem tq60_134 : tT g 60 134 = s_goto 60 72 := rfl
theorem A60_134 {L : AL} {r : List Value} : aw g 60 134 L r σ Q = aw g 60 72 L r σ Q := (aw_eq g 60 134 _ _ _ _).trans (by rw [tq60_134]; exact rfl)
theorem tq60_137 : tT g 60 137 = s_const 60 139 (.int 11) := rfl
theorem A60_137 {L : AL} {r : List Value} : aw g 60 137 L r σ Q = aw g 60 139 L (.int 11 :: r) σ Q := (aw_eq g 60 137 _ _ _ _).trans (by rw [tq60_137]; exact rfl)
theorem tq60_139 : tT g 60 139 = s_newa g 60 141 20 (.int 0) := rfl
theorem A60_139 {L : AL} {r : List Value} {x : Int32} : aw g 60 139 L (.int x :: r) σ Q = (¬ x < 0 ∧ x.toNatClampNeg ≤ 65536 ∧ hsz σ + 1 ≤ gC g ∧ hsl σ + x.toNatClampNeg ≤ gS g ∧ aw g 60 141 L (.ref (hsz σ) :: r) (hnew σ 20 x.toNatClampNeg (fun _ => .int 0) x.toNatClampNeg) Q) := (aw_eq g 60 139 _ _ _ _).trans (by rw [tq60_139]; exact rfl)
theorem tq60_141 : tT g 60 141 = s_dup 60 142 := rfl
theorem A60_141 {L : AL} {r : List Value} {v : Value} : aw g 60 141 L (v :: r) σ Q = (v.category = 1 ∧ aw g 60 142 L (v :: v :: r) σ Q) := (aw_eq g 60 141 _ _ _ _).trans (by rw [tq60_141]; exact rfl)
theorem tq60_142 : tT g 60 142 = s_const 60 143 (.int 0) := rfl
theorem A60_142 {L : AL} {r : List Value} : aw g 60 142 L r σ Q = aw g 60 143 L (.int 0 :: r) σ Q := (aw_eq g 60 142 _ _ _ _).trans (by rw [tq60_142]; exact rfl)
theorem tq60_143 : tT g 60 143 = s_load vRf 60 144 0 := rfl
theorem A60_143 {l1 : Option Value} {l2 : Option Value} {l3 : Option Value} {l4 : Option Value} {l5 : Option Value} {l6 : Option Value} {l7 : Option Value} {l8 : Option Value} {l9 : Option Value} {x : Value} {r : List Value} : aw g 60 143 [some (x), l1, l2, l3, l4, l5, l6, l7, l8, l9] r σ Q = (vRf x = true ∧ aw g 60 144 [some (x), l1, l2, l3, l4, l5, l6, l7, l8, l9] (x :: r) σ Q) := (aw_eq g 60 143 _ _ _ _).trans (by rw [tq60_143]; exact h_load rfl)
theorem tq60_144 : tT g 60 144 = s_getf 60 147 0 0 := rfl
theorem A60_144 {L : AL} {r : List Value} {a : Nat} : aw g 60 144 L (.ref a :: r) σ Q = (hty σ a = some 0 ∧ aw g 60 147 L (hv σ 0 a 0 :: r) σ Q) := (aw_eq g 60 144 _ _ _ _).trans (by rw [tq60_144]; exact rfl)
theorem tq60_147 : tT g 60 147 = s_getf 60 150 1 0 := rfl
theorem A60_147 {L : AL} {r : List Value} {a : Nat} : aw g 60 147 L (.ref a :: r) σ Q = (hty σ a = some 1 ∧ aw g 60 150 L (hv σ 1 a 0 :: r) σ Q) := (aw_eq g 60 147 _ _ _ _).trans (by rw [tq60_147]; exact rfl)
theorem tq60_150 : tT g 60 150 = s_callvk 60 153 15 10 [] 1 := rfl
theorem A60_150 {L : AL} {r : List Value} {a : Nat} : aw g 60 150 L (.ref a :: r) σ Q = (hty σ a = some 10 ∧ true = true ∧ csum r ≤ 8 ∧ aw g 15 0 [some (.ref a)] [] σ (kt (aw g) 60 153 L r Q)) := (aw_eq g 60 150 _ _ _ _).trans (by rw [tq60_150]; exact rfl)
theorem tq60_153 : tT g 60 153 = s_ast g (fun _ v => vI v = true) 60 154 20 := rfl
theorem A60_153 {L : AL} {r : List Value} {a : Nat} {i : Int32} {v : Value} : aw g 60 153 L (v :: .int i :: .ref a :: r) σ Q = (hty σ a = some 20 ∧ gB g ≤ a ∧ ¬ i < 0 ∧ i.toNatClampNeg < hln σ a ∧ vI v = true ∧ aw g 60 154 L r (hput σ 20 a i.toNatClampNeg v) Q) := (aw_eq g 60 153 _ _ _ _).trans (by rw [tq60_153]; exact rfl)
theorem tq60_154 : tT g 60 154 = s_dup 60 155 := rfl
theorem A60_154 {L : AL} {r : List Value} {v : Value} : aw g 60 154 L (v :: r) σ Q = (v.category = 1 ∧ aw g 60 155 L (v :: v :: r) σ Q) := (aw_eq g 60 154 _ _ _ _).trans (by rw [tq60_154]; exact rfl)
theorem tq60_155 : tT g 60 155 = s_const 60 156 (.int 1) := rfl
theorem A60_155 {L : AL} {r : List Value} : aw g 60 155 L r σ Q = aw g 60 156 L (.int 1 :: r) σ Q := (aw_eq g 60 155 _ _ _ _).trans (by rw [tq60_155]; exact rfl)
theorem tq60_156 : tT g 60 156 = s_load vRf 60 157 0 := rfl
theorem A60_156 {l1 : Option Value} {l2 : Option Value} {l3 : Option Value} {l4 : Option Value} {l5 : Option Value} {l6 : Option Value} {l7 : Option Value} {l8 : Option Value} {l9 : Option Value} {x : Value} {r : List Value} : aw g 60 156 [some (x), l1, l2, l3, l4, l5, l6, l7, l8, l9] r σ Q = (vRf x = true ∧ aw g 60 157 [some (x), l1, l2, l3, l4, l5, l6, l7, l8, l9] (x :: r) σ Q) := (aw_eq g 60 156 _ _ _ _).trans (by rw [tq60_156]; exact h_load rfl)
theorem tq60_157 : tT g 60 157 = s_getf 60 160 0 0 := rfl
theorem A60_157 {L : AL} {r : List Value} {a : Nat} : aw g 60 157 L (.ref a :: r) σ Q = (hty σ a = some 0 ∧ aw g 60 160 L (hv σ 0 a 0 :: r) σ Q) := (aw_eq g 60 157 _ _ _ _).trans (by rw [tq60_157]; exact rfl)
theorem tq60_160 : tT g 60 160 = s_getf 60 163 1 2 := rfl
theorem A60_160 {L : AL} {r : List Value} {a : Nat} : aw g 60 160 L (.ref a :: r) σ Q = (hty σ a = some 1 ∧ aw g 60 163 L (hv σ 1 a 2 :: r) σ Q) := (aw_eq g 60 160 _ _ _ _).trans (by rw [tq60_160]; exact rfl)
theorem tq60_163 : tT g 60 163 = s_ast g (fun _ v => vI v = true) 60 164 20 := rfl
theorem A60_163 {L : AL} {r : List Value} {a : Nat} {i : Int32} {v : Value} : aw g 60 163 L (v :: .int i :: .ref a :: r) σ Q = (hty σ a = some 20 ∧ gB g ≤ a ∧ ¬ i < 0 ∧ i.toNatClampNeg < hln σ a ∧ vI v = true ∧ aw g 60 164 L r (hput σ 20 a i.toNatClampNeg v) Q) := (aw_eq g 60 163 _ _ _ _).trans (by rw [tq60_163]; exact rfl)
theorem tq60_164 : tT g 60 164 = s_dup 60 165 := rfl
theorem A60_164 {L : AL} {r : List Value} {v : Value} : aw g 60 164 L (v :: r) σ Q = (v.category = 1 ∧ aw g 60 165 L (v :: v :: r) σ Q) := (aw_eq g 60 164 _ _ _ _).trans (by rw [tq60_164]; exact rfl)
theorem tq60_165 : tT g 60 165 = s_const 60 166 (.int 2) := rfl
theorem A60_165 {L : AL} {r : List Value} : aw g 60 165 L r σ Q = aw g 60 166 L (.int 2 :: r) σ Q := (aw_eq g 60 165 _ _ _ _).trans (by rw [tq60_165]; exact rfl)
theorem tq60_166 : tT g 60 166 = s_load vRf 60 167 0 := rfl
theorem A60_166 {l1 : Option Value} {l2 : Option Value} {l3 : Option Value} {l4 : Option Value} {l5 : Option Value} {l6 : Option Value} {l7 : Option Value} {l8 : Option Value} {l9 : Option Value} {x : Value} {r : List Value} : aw g 60 166 [some (x), l1, l2, l3, l4, l5, l6, l7, l8, l9] r σ Q = (vRf x = true ∧ aw g 60 167 [some (x), l1, l2, l3, l4, l5, l6, l7, l8, l9] (x :: r) σ Q) := (aw_eq g 60 166 _ _ _ _).trans (by rw [tq60_166]; exact h_load rfl)
theorem tq60_167 : tT g 60 167 = s_getf 60 170 0 0 := rfl
theorem A60_167 {L : AL} {r : List Value} {a : Nat} : aw g 60 167 L (.ref a :: r) σ Q = (hty σ a = some 0 ∧ aw g 60 170 L (hv σ 0 a 0 :: r) σ Q) := (aw_eq g 60 167 _ _ _ _).trans (by rw [tq60_167]; exact rfl)
theorem tq60_170 : tT g 60 170 = s_getf 60 173 1 1 := rfl
theorem A60_170 {L : AL} {r : List Value} {a : Nat} : aw g 60 170 L (.ref a :: r) σ Q = (hty σ a = some 1 ∧ aw g 60 173 L (hv σ 1 a 1 :: r) σ Q) := (aw_eq g 60 170 _ _ _ _).trans (by rw [tq60_170]; exact rfl)
theorem tq60_173 : tT g 60 173 = s_callvk 60 176 15 10 [] 1 := rfl
theorem A60_173 {L : AL} {r : List Value} {a : Nat} : aw g 60 173 L (.ref a :: r) σ Q = (hty σ a = some 10 ∧ true = true ∧ csum r ≤ 8 ∧ aw g 15 0 [some (.ref a)] [] σ (kt (aw g) 60 176 L r Q)) := (aw_eq g 60 173 _ _ _ _).trans (by rw [tq60_173]; exact rfl)
theorem tq60_176 : tT g 60 176 = s_ast g (fun _ v => vI v = true) 60 177 20 := rfl
theorem A60_176 {L : AL} {r : List Value} {a : Nat} {i : Int32} {v : Value} : aw g 60 176 L (v :: .int i :: .ref a :: r) σ Q = (hty σ a = some 20 ∧ gB g ≤ a ∧ ¬ i < 0 ∧ i.toNatClampNeg < hln σ a ∧ vI v = true ∧ aw g 60 177 L r (hput σ 20 a i.toNatClampNeg v) Q) := (aw_eq g 60 176 _ _ _ _).trans (by rw [tq60_176]; exact rfl)
theorem tq60_177 : tT g 60 177 = s_dup 60 178 := rfl
theorem A60_177 {L : AL} {r : List Value} {v : Value} : aw g 60 177 L (v :: r) σ Q = (v.category = 1 ∧ aw g 60 178 L (v :: v :: r) σ Q) := (aw_eq g 60 177 _ _ _ _).trans (by rw [tq60_177]; exact rfl)
theorem tq60_178 : tT g 60 178 = s_const 60 179 (.int 3) := rfl
theorem A60_178 {L : AL} {r : List Value} : aw g 60 178 L r σ Q = aw g 60 179 L (.int 3 :: r) σ Q := (aw_eq g 60 178 _ _ _ _).trans (by rw [tq60_178]; exact rfl)
theorem tq60_179 : tT g 60 179 = s_load vI 60 180 2 := rfl
theorem A60_179 {l0 : Option Value} {l1 : Option Value} {l3 : Option Value} {l4 : Option Value} {l5 : Option Value} {l6 : Option Value} {l7 : Option Value} {l8 : Option Value} {l9 : Option Value} {x : Int32} {r : List Value} : aw g 60 179 [l0, l1, some (.int x), l3, l4, l5, l6, l7, l8, l9] r σ Q = aw g 60 180 [l0, l1, some (.int x), l3, l4, l5, l6, l7, l8, l9] (.int x :: r) σ Q := (aw_eq g 60 179 _ _ _ _).trans (by rw [tq60_179]; exact (h_load rfl).trans (propext ⟨fun z => z.2, fun z => ⟨rfl, z⟩⟩))
theorem tq60_180 : tT g 60 180 = s_ast g (fun _ v => vI v = true) 60 181 20 := rfl
theorem A60_180 {L : AL} {r : List Value} {a : Nat} {i : Int32} {v : Value} : aw g 60 180 L (v :: .int i :: .ref a :: r) σ Q = (hty σ a = some 20 ∧ gB g ≤ a ∧ ¬ i < 0 ∧ i.toNatClampNeg < hln σ a ∧ vI v = true ∧ aw g 60 181 L r (hput σ 20 a i.toNatClampNeg v) Q) := (aw_eq g 60 180 _ _ _ _).trans (by rw [tq60_180]; exact rfl)
theorem tq60_181 : tT g 60 181 = s_dup 60 182 := rfl
theorem A60_181 {L : AL} {r : List Value} {v : Value} : aw g 60 181 L (v :: r) σ Q = (v.category = 1 ∧ aw g 60 182 L (v :: v :: r) σ Q) := (aw_eq g 60 181 _ _ _ _).trans (by rw [tq60_181]; exact rfl)
theorem tq60_182 : tT g 60 182 = s_const 60 183 (.int 4) := rfl
theorem A60_182 {L : AL} {r : List Value} : aw g 60 182 L r σ Q = aw g 60 183 L (.int 4 :: r) σ Q := (aw_eq g 60 182 _ _ _ _).trans (by rw [tq60_182]; exact rfl)
theorem tq60_183 : tT g 60 183 = s_load vRf 60 184 0 := rfl
theorem A60_183 {l1 : Option Value} {l2 : Option Value} {l3 : Option Value} {l4 : Option Value} {l5 : Option Value} {l6 : Option Value} {l7 : Option Value} {l8 : Option Value} {l9 : Option Value} {x : Value} {r : List Value} : aw g 60 183 [some (x), l1, l2, l3, l4, l5, l6, l7, l8, l9] r σ Q = (vRf x = true ∧ aw g 60 184 [some (x), l1, l2, l3, l4, l5, l6, l7, l8, l9] (x :: r) σ Q) := (aw_eq g 60 183 _ _ _ _).trans (by rw [tq60_183]; exact h_load rfl)
theorem tq60_184 : tT g 60 184 = s_getf 60 187 0 0 := rfl
theorem A60_184 {L : AL} {r : List Value} {a : Nat} : aw g 60 184 L (.ref a :: r) σ Q = (hty σ a = some 0 ∧ aw g 60 187 L (hv σ 0 a 0 :: r) σ Q) := (aw_eq g 60 184 _ _ _ _).trans (by rw [tq60_184]; exact rfl)
theorem tq60_187 : tT g 60 187 = s_getf 60 190 1 3 := rfl
theorem A60_187 {L : AL} {r : List Value} {a : Nat} : aw g 60 187 L (.ref a :: r) σ Q = (hty σ a = some 1 ∧ aw g 60 190 L (hv σ 1 a 3 :: r) σ Q) := (aw_eq g 60 187 _ _ _ _).trans (by rw [tq60_187]; exact rfl)
theorem tq60_190 : tT g 60 190 = s_callk 60 193 62 [1] 1 := rfl
theorem A60_190 {L : AL} {r : List Value} {w0 : Value} : aw g 60 190 L (w0 :: r) σ Q = ((vRf w0 && true) = true ∧ csum r ≤ 8 ∧ aw g 62 0 [some w0] [] σ (kt (aw g) 60 193 L r Q)) := (aw_eq g 60 190 _ _ _ _).trans (by rw [tq60_190]; exact rfl)
theorem tq60_193 : tT g 60 193 = s_ast g (fun _ v => vI v = true) 60 194 20 := rfl
theorem A60_193 {L : AL} {r : List Value} {a : Nat} {i : Int32} {v : Value} : aw g 60 193 L (v :: .int i :: .ref a :: r) σ Q = (hty σ a = some 20 ∧ gB g ≤ a ∧ ¬ i < 0 ∧ i.toNatClampNeg < hln σ a ∧ vI v = true ∧ aw g 60 194 L r (hput σ 20 a i.toNatClampNeg v) Q) := (aw_eq g 60 193 _ _ _ _).trans (by rw [tq60_193]; exact rfl)
theorem tq60_194 : tT g 60 194 = s_dup 60 195 := rfl
theorem A60_194 {L : AL} {r : List Value} {v : Value} : aw g 60 194 L (v :: r) σ Q = (v.category = 1 ∧ aw g 60 195 L (v :: v :: r) σ Q) := (aw_eq g 60 194 _ _ _ _).trans (by rw [tq60_194]; exact rfl)
theorem tq60_195 : tT g 60 195 = s_const 60 196 (.int 5) := rfl
theorem A60_195 {L : AL} {r : List Value} : aw g 60 195 L r σ Q = aw g 60 196 L (.int 5 :: r) σ Q := (aw_eq g 60 195 _ _ _ _).trans (by rw [tq60_195]; exact rfl)
theorem tq60_196 : tT g 60 196 = s_load vRf 60 197 0 := rfl
theorem A60_196 {l1 : Option Value} {l2 : Option Value} {l3 : Option Value} {l4 : Option Value} {l5 : Option Value} {l6 : Option Value} {l7 : Option Value} {l8 : Option Value} {l9 : Option Value} {x : Value} {r : List Value} : aw g 60 196 [some (x), l1, l2, l3, l4, l5, l6, l7, l8, l9] r σ Q = (vRf x = true ∧ aw g 60 197 [some (x), l1, l2, l3, l4, l5, l6, l7, l8, l9] (x :: r) σ Q) := (aw_eq g 60 196 _ _ _ _).trans (by rw [tq60_196]; exact h_load rfl)
theorem tq60_197 : tT g 60 197 = s_getf 60 200 0 0 := rfl
theorem A60_197 {L : AL} {r : List Value} {a : Nat} : aw g 60 197 L (.ref a :: r) σ Q = (hty σ a = some 0 ∧ aw g 60 200 L (hv σ 0 a 0 :: r) σ Q) := (aw_eq g 60 197 _ _ _ _).trans (by rw [tq60_197]; exact rfl)
theorem tq60_200 : tT g 60 200 = s_getf 60 203 1 4 := rfl
theorem A60_200 {L : AL} {r : List Value} {a : Nat} : aw g 60 200 L (.ref a :: r) σ Q = (hty σ a = some 1 ∧ aw g 60 203 L (hv σ 1 a 4 :: r) σ Q) := (aw_eq g 60 200 _ _ _ _).trans (by rw [tq60_200]; exact rfl)
theorem tq60_203 : tT g 60 203 = s_callk 60 206 62 [1] 1 := rfl
theorem A60_203 {L : AL} {r : List Value} {w0 : Value} : aw g 60 203 L (w0 :: r) σ Q = ((vRf w0 && true) = true ∧ csum r ≤ 8 ∧ aw g 62 0 [some w0] [] σ (kt (aw g) 60 206 L r Q)) := (aw_eq g 60 203 _ _ _ _).trans (by rw [tq60_203]; exact rfl)
theorem tq60_206 : tT g 60 206 = s_ast g (fun _ v => vI v = true) 60 207 20 := rfl
theorem A60_206 {L : AL} {r : List Value} {a : Nat} {i : Int32} {v : Value} : aw g 60 206 L (v :: .int i :: .ref a :: r) σ Q = (hty σ a = some 20 ∧ gB g ≤ a ∧ ¬ i < 0 ∧ i.toNatClampNeg < hln σ a ∧ vI v = true ∧ aw g 60 207 L r (hput σ 20 a i.toNatClampNeg v) Q) := (aw_eq g 60 206 _ _ _ _).trans (by rw [tq60_206]; exact rfl)
theorem tq60_207 : tT g 60 207 = s_dup 60 208 := rfl
theorem A60_207 {L : AL} {r : List Value} {v : Value} : aw g 60 207 L (v :: r) σ Q = (v.category = 1 ∧ aw g 60 208 L (v :: v :: r) σ Q) := (aw_eq g 60 207 _ _ _ _).trans (by rw [tq60_207]; exact rfl)
theorem tq60_208 : tT g 60 208 = s_const 60 210 (.int 6) := rfl
theorem A60_208 {L : AL} {r : List Value} : aw g 60 208 L r σ Q = aw g 60 210 L (.int 6 :: r) σ Q := (aw_eq g 60 208 _ _ _ _).trans (by rw [tq60_208]; exact rfl)
theorem tq60_210 : tT g 60 210 = s_load vRf 60 211 0 := rfl
theorem A60_210 {l1 : Option Value} {l2 : Option Value} {l3 : Option Value} {l4 : Option Value} {l5 : Option Value} {l6 : Option Value} {l7 : Option Value} {l8 : Option Value} {l9 : Option Value} {x : Value} {r : List Value} : aw g 60 210 [some (x), l1, l2, l3, l4, l5, l6, l7, l8, l9] r σ Q = (vRf x = true ∧ aw g 60 211 [some (x), l1, l2, l3, l4, l5, l6, l7, l8, l9] (x :: r) σ Q) := (aw_eq g 60 210 _ _ _ _).trans (by rw [tq60_210]; exact h_load rfl)
theorem tq60_211 : tT g 60 211 = s_getf 60 214 0 0 := rfl
theorem A60_211 {L : AL} {r : List Value} {a : Nat} : aw g 60 211 L (.ref a :: r) σ Q = (hty σ a = some 0 ∧ aw g 60 214 L (hv σ 0 a 0 :: r) σ Q) := (aw_eq g 60 211 _ _ _ _).trans (by rw [tq60_211]; exact rfl)
theorem tq60_214 : tT g 60 214 = s_getf 60 217 1 5 := rfl
theorem A60_214 {L : AL} {r : List Value} {a : Nat} : aw g 60 214 L (.ref a :: r) σ Q = (hty σ a = some 1 ∧ aw g 60 217 L (hv σ 1 a 5 :: r) σ Q) := (aw_eq g 60 214 _ _ _ _).trans (by rw [tq60_214]; exact rfl)
theorem tq60_217 : tT g 60 217 = s_ast g (fun _ v => vI v = true) 60 218 20 := rfl
theorem A60_217 {L : AL} {r : List Value} {a : Nat} {i : Int32} {v : Value} : aw g 60 217 L (v :: .int i :: .ref a :: r) σ Q = (hty σ a = some 20 ∧ gB g ≤ a ∧ ¬ i < 0 ∧ i.toNatClampNeg < hln σ a ∧ vI v = true ∧ aw g 60 218 L r (hput σ 20 a i.toNatClampNeg v) Q) := (aw_eq g 60 217 _ _ _ _).trans (by rw [tq60_217]; exact rfl)
theorem tq60_218 : tT g 60 218 = s_dup 60 219 := rfl
theorem A60_218 {L : AL} {r : List Value} {v : Value} : aw g 60 218 L (v :: r) σ Q = (v.category = 1 ∧ aw g 60 219 L (v :: v :: r) σ Q) := (aw_eq g 60 218 _ _ _ _).trans (by rw [tq60_218]; exact rfl)
theorem tq60_219 : tT g 60 219 = s_const 60 221 (.int 7) := rfl
theorem A60_219 {L : AL} {r : List Value} : aw g 60 219 L r σ Q = aw g 60 221 L (.int 7 :: r) σ Q := (aw_eq g 60 219 _ _ _ _).trans (by rw [tq60_219]; exact rfl)
theorem tq60_221 : tT g 60 221 = s_load vRf 60 222 0 := rfl
theorem A60_221 {l1 : Option Value} {l2 : Option Value} {l3 : Option Value} {l4 : Option Value} {l5 : Option Value} {l6 : Option Value} {l7 : Option Value} {l8 : Option Value} {l9 : Option Value} {x : Value} {r : List Value} : aw g 60 221 [some (x), l1, l2, l3, l4, l5, l6, l7, l8, l9] r σ Q = (vRf x = true ∧ aw g 60 222 [some (x), l1, l2, l3, l4, l5, l6, l7, l8, l9] (x :: r) σ Q) := (aw_eq g 60 221 _ _ _ _).trans (by rw [tq60_221]; exact h_load rfl)
theorem tq60_222 : tT g 60 222 = s_getf 60 225 0 0 := rfl
theorem A60_222 {L : AL} {r : List Value} {a : Nat} : aw g 60 222 L (.ref a :: r) σ Q = (hty σ a = some 0 ∧ aw g 60 225 L (hv σ 0 a 0 :: r) σ Q) := (aw_eq g 60 222 _ _ _ _).trans (by rw [tq60_222]; exact rfl)
theorem tq60_225 : tT g 60 225 = s_getf 60 228 1 7 := rfl
theorem A60_225 {L : AL} {r : List Value} {a : Nat} : aw g 60 225 L (.ref a :: r) σ Q = (hty σ a = some 1 ∧ aw g 60 228 L (hv σ 1 a 7 :: r) σ Q) := (aw_eq g 60 225 _ _ _ _).trans (by rw [tq60_225]; exact rfl)
theorem tq60_228 : tT g 60 228 = s_ast g (fun _ v => vI v = true) 60 229 20 := rfl
theorem A60_228 {L : AL} {r : List Value} {a : Nat} {i : Int32} {v : Value} : aw g 60 228 L (v :: .int i :: .ref a :: r) σ Q = (hty σ a = some 20 ∧ gB g ≤ a ∧ ¬ i < 0 ∧ i.toNatClampNeg < hln σ a ∧ vI v = true ∧ aw g 60 229 L r (hput σ 20 a i.toNatClampNeg v) Q) := (aw_eq g 60 228 _ _ _ _).trans (by rw [tq60_228]; exact rfl)
theorem tq60_229 : tT g 60 229 = s_dup 60 230 := rfl
theorem A60_229 {L : AL} {r : List Value} {v : Value} : aw g 60 229 L (v :: r) σ Q = (v.category = 1 ∧ aw g 60 230 L (v :: v :: r) σ Q) := (aw_eq g 60 229 _ _ _ _).trans (by rw [tq60_229]; exact rfl)
theorem tq60_230 : tT g 60 230 = s_const 60 232 (.int 8) := rfl
theorem A60_230 {L : AL} {r : List Value} : aw g 60 230 L r σ Q = aw g 60 232 L (.int 8 :: r) σ Q := (aw_eq g 60 230 _ _ _ _).trans (by rw [tq60_230]; exact rfl)
theorem tq60_232 : tT g 60 232 = s_load vI 60 233 3 := rfl
theorem A60_232 {l0 : Option Value} {l1 : Option Value} {l2 : Option Value} {l4 : Option Value} {l5 : Option Value} {l6 : Option Value} {l7 : Option Value} {l8 : Option Value} {l9 : Option Value} {x : Int32} {r : List Value} : aw g 60 232 [l0, l1, l2, some (.int x), l4, l5, l6, l7, l8, l9] r σ Q = aw g 60 233 [l0, l1, l2, some (.int x), l4, l5, l6, l7, l8, l9] (.int x :: r) σ Q := (aw_eq g 60 232 _ _ _ _).trans (by rw [tq60_232]; exact (h_load rfl).trans (propext ⟨fun z => z.2, fun z => ⟨rfl, z⟩⟩))
theorem tq60_233 : tT g 60 233 = s_ast g (fun _ v => vI v = true) 60 234 20 := rfl
theorem A60_233 {L : AL} {r : List Value} {a : Nat} {i : Int32} {v : Value} : aw g 60 233 L (v :: .int i :: .ref a :: r) σ Q = (hty σ a = some 20 ∧ gB g ≤ a ∧ ¬ i < 0 ∧ i.toNatClampNeg < hln σ a ∧ vI v = true ∧ aw g 60 234 L r (hput σ 20 a i.toNatClampNeg v) Q) := (aw_eq g 60 233 _ _ _ _).trans (by rw [tq60_233]; exact rfl)
theorem tq60_234 : tT g 60 234 = s_dup 60 235 := rfl
theorem A60_234 {L : AL} {r : List Value} {v : Value} : aw g 60 234 L (v :: r) σ Q = (v.category = 1 ∧ aw g 60 235 L (v :: v :: r) σ Q) := (aw_eq g 60 234 _ _ _ _).trans (by rw [tq60_234]; exact rfl)
theorem tq60_235 : tT g 60 235 = s_const 60 237 (.int 9) := rfl
theorem A60_235 {L : AL} {r : List Value} : aw g 60 235 L r σ Q = aw g 60 237 L (.int 9 :: r) σ Q := (aw_eq g 60 235 _ _ _ _).trans (by rw [tq60_235]; exact rfl)
theorem tq60_237 : tT g 60 237 = s_load vRf 60 238 0 := rfl
theorem A60_237 {l1 : Option Value} {l2 : Option Value} {l3 : Option Value} {l4 : Option Value} {l5 : Option Value} {l6 : Option Value} {l7 : Option Value} {l8 : Option Value} {l9 : Option Value} {x : Value} {r : List Value} : aw g 60 237 [some (x), l1, l2, l3, l4, l5, l6, l7, l8, l9] r σ Q = (vRf x = true ∧ aw g 60 238 [some (x), l1, l2, l3, l4, l5, l6, l7, l8, l9] (x :: r) σ Q) := (aw_eq g 60 237 _ _ _ _).trans (by rw [tq60_237]; exact h_load rfl)
theorem tq60_238 : tT g 60 238 = s_getf 60 241 0 0 := rfl
theorem A60_238 {L : AL} {r : List Value} {a : Nat} : aw g 60 238 L (.ref a :: r) σ Q = (hty σ a = some 0 ∧ aw g 60 241 L (hv σ 0 a 0 :: r) σ Q) := (aw_eq g 60 238 _ _ _ _).trans (by rw [tq60_238]; exact rfl)
theorem tq60_241 : tT g 60 241 = s_getf 60 244 1 8 := rfl
theorem A60_241 {L : AL} {r : List Value} {a : Nat} : aw g 60 241 L (.ref a :: r) σ Q = (hty σ a = some 1 ∧ aw g 60 244 L (hv σ 1 a 8 :: r) σ Q) := (aw_eq g 60 241 _ _ _ _).trans (by rw [tq60_241]; exact rfl)
theorem tq60_244 : tT g 60 244 = s_ast g (fun _ v => vI v = true) 60 245 20 := rfl
theorem A60_244 {L : AL} {r : List Value} {a : Nat} {i : Int32} {v : Value} : aw g 60 244 L (v :: .int i :: .ref a :: r) σ Q = (hty σ a = some 20 ∧ gB g ≤ a ∧ ¬ i < 0 ∧ i.toNatClampNeg < hln σ a ∧ vI v = true ∧ aw g 60 245 L r (hput σ 20 a i.toNatClampNeg v) Q) := (aw_eq g 60 244 _ _ _ _).trans (by rw [tq60_244]; exact rfl)
theorem tq60_245 : tT g 60 245 = s_dup 60 246 := rfl
theorem A60_245 {L : AL} {r : List Value} {v : Value} : aw g 60 245 L (v :: r) σ Q = (v.category = 1 ∧ aw g 60 246 L (v :: v :: r) σ Q) := (aw_eq g 60 245 _ _ _ _).trans (by rw [tq60_245]; exact rfl)
theorem tq60_246 : tT g 60 246 = s_const 60 248 (.int 10) := rfl
theorem A60_246 {L : AL} {r : List Value} : aw g 60 246 L r σ Q = aw g 60 248 L (.int 10 :: r) σ Q := (aw_eq g 60 246 _ _ _ _).trans (by rw [tq60_246]; exact rfl)
theorem tq60_248 : tT g 60 248 = s_load vRf 60 249 0 := rfl
theorem A60_248 {l1 : Option Value} {l2 : Option Value} {l3 : Option Value} {l4 : Option Value} {l5 : Option Value} {l6 : Option Value} {l7 : Option Value} {l8 : Option Value} {l9 : Option Value} {x : Value} {r : List Value} : aw g 60 248 [some (x), l1, l2, l3, l4, l5, l6, l7, l8, l9] r σ Q = (vRf x = true ∧ aw g 60 249 [some (x), l1, l2, l3, l4, l5, l6, l7, l8, l9] (x :: r) σ Q) := (aw_eq g 60 248 _ _ _ _).trans (by rw [tq60_248]; exact h_load rfl)
theorem tq60_249 : tT g 60 249 = s_getf 60 252 0 0 := rfl
theorem A60_249 {L : AL} {r : List Value} {a : Nat} : aw g 60 249 L (.ref a :: r) σ Q = (hty σ a = some 0 ∧ aw g 60 252 L (hv σ 0 a 0 :: r) σ Q) := (aw_eq g 60 249 _ _ _ _).trans (by rw [tq60_249]; exact rfl)
theorem tq60_252 : tT g 60 252 = s_getf 60 255 1 9 := rfl
theorem A60_252 {L : AL} {r : List Value} {a : Nat} : aw g 60 252 L (.ref a :: r) σ Q = (hty σ a = some 1 ∧ aw g 60 255 L (hv σ 1 a 9 :: r) σ Q) := (aw_eq g 60 252 _ _ _ _).trans (by rw [tq60_252]; exact rfl)
theorem tq60_255 : tT g 60 255 = s_ast g (fun _ v => vI v = true) 60 256 20 := rfl
theorem A60_255 {L : AL} {r : List Value} {a : Nat} {i : Int32} {v : Value} : aw g 60 255 L (v :: .int i :: .ref a :: r) σ Q = (hty σ a = some 20 ∧ gB g ≤ a ∧ ¬ i < 0 ∧ i.toNatClampNeg < hln σ a ∧ vI v = true ∧ aw g 60 256 L r (hput σ 20 a i.toNatClampNeg v) Q) := (aw_eq g 60 255 _ _ _ _).trans (by rw [tq60_255]; exact rfl)
theorem tq60_256 : tT g 60 256 = s_store vRf 60 258 4 := rfl
theorem A60_256 {l0 : Option Value} {l1 : Option Value} {l2 : Option Value} {l3 : Option Value} {l4 : Option Value} {l5 : Option Value} {l6 : Option Value} {l7 : Option Value} {l8 : Option Value} {l9 : Option Value} {x : Value} {r : List Value} : aw g 60 256 [l0, l1, l2, l3, l4, l5, l6, l7, l8, l9] (x :: r) σ Q = (vRf x = true ∧ oc l3 = true ∧ aw g 60 258 [l0, l1, l2, l3, some (x), l5, l6, l7, l8, l9] r σ Q) := (aw_eq g 60 256 _ _ _ _).trans (by rw [tq60_256]; exact (h_store (o := oc l3) rfl rfl rfl))
theorem tq60_258 : tT g 60 258 = s_load vRf 60 260 4 := rfl
theorem A60_258 {l0 : Option Value} {l1 : Option Value} {l2 : Option Value} {l3 : Option Value} {l5 : Option Value} {l6 : Option Value} {l7 : Option Value} {l8 : Option Value} {l9 : Option Value} {x : Value} {r : List Value} : aw g 60 258 [l0, l1, l2, l3, some (x), l5, l6, l7, l8, l9] r σ Q = (vRf x = true ∧ aw g 60 260 [l0, l1, l2, l3, some (x), l5, l6, l7, l8, l9] (x :: r) σ Q) := (aw_eq g 60 258 _ _ _ _).trans (by rw [tq60_258]; exact h_load rfl)
theorem tq60_260 : tT g 60 260 = s_load vI 60 261 1 := rfl
theorem A60_260 {l0 : Option Value} {l2 : Option Value} {l3 : Option Value} {l4 : Option Value} {l5 : Option Value} {l6 : Option Value} {l7 : Option Value} {l8 : Option Value} {l9 : Option Value} {x : Int32} {r : List Value} : aw g 60 260 [l0, some (.int x), l2, l3, l4, l5, l6, l7, l8, l9] r σ Q = aw g 60 261 [l0, some (.int x), l2, l3, l4, l5, l6, l7, l8, l9] (.int x :: r) σ Q := (aw_eq g 60 260 _ _ _ _).trans (by rw [tq60_260]; exact (h_load rfl).trans (propext ⟨fun z => z.2, fun z => ⟨rfl, z⟩⟩))
theorem tq60_261 : tT g 60 261 = s_ald 60 262 20 := rfl
theorem A60_261 {L : AL} {r : List Value} {a : Nat} {i : Int32} : aw g 60 261 L (.int i :: .ref a :: r) σ Q = (hty σ a = some 20 ∧ ¬ i < 0 ∧ i.toNatClampNeg < hln σ a ∧ aw g 60 262 L (hv σ 20 a i.toNatClampNeg :: r) σ Q) := (aw_eq g 60 261 _ _ _ _).trans (by rw [tq60_261]; exact rfl)
theorem tq60_262 : tT g 60 262 = s_ret pI := rfl
theorem A60_262 {L : AL} {v : Value} : aw g 60 262 L [v] σ Q = (pI v ∧ Q (.inl (some v)) σ) := (aw_eq g 60 262 _ _ _ _).trans (by rw [tq60_262]; exact rfl)
theorem tq61_0 : tT g 61 0 = s_load vI 61 1 0 := rfl
theorem A61_0  {x : Int32} {r : List Value} : aw g 61 0 [some (.int x)] r σ Q = aw g 61 1 [some (.int x)] (.int x :: r) σ Q := (aw_eq g 61 0 _ _ _ _).trans (by rw [tq61_0]; exact (h_load rfl).trans (propext ⟨fun z => z.2, fun z => ⟨rfl, z⟩⟩))
theorem tq61_1 : tT g 61 1 = s_if 61 4 8 (fun a => a = 0) := rfl
theorem A61_1 {L : AL} {r : List Value} {a : Int32} : aw g 61 1 L (.int a :: r) σ Q = ((a = 0 → aw g 61 8 L r σ Q) ∧ (¬ a = 0 → aw g 61 4 L r σ Q)) := (aw_eq g 61 1 _ _ _ _).trans (by rw [tq61_1]; exact rfl)
theorem tq61_4 : tT g 61 4 = s_const 61 5 (.int 1) := rfl
theorem A61_4 {L : AL} {r : List Value} : aw g 61 4 L r σ Q = aw g 61 5 L (.int 1 :: r) σ Q := (aw_eq g 61 4 _ _ _ _).trans (by rw [tq61_4]; exact rfl)
theorem tq61_5 : tT g 61 5 = s_goto 61 9 := rfl
theorem A61_5 {L : AL} {r : List Value} : aw g 61 5 L r σ Q = aw g 61 9 L r σ Q := (aw_eq g 61 5 _ _ _ _).trans (by rw [tq61_5]; exact rfl)
theorem tq61_8 : tT g 61 8 = s_const 61 9 (.int 0) := rfl
theorem A61_8 {L : AL} {r : List Value} : aw g 61 8 L r σ Q = aw g 61 9 L (.int 0 :: r) σ Q := (aw_eq g 61 8 _ _ _ _).trans (by rw [tq61_8]; exact rfl)
theorem tq61_9 : tT g 61 9 = s_ret pI := rfl
theorem A61_9 {L : AL} {v : Value} : aw g 61 9 L [v] σ Q = (pI v ∧ Q (.inl (some v)) σ) := (aw_eq g 61 9 _ _ _ _).trans (by rw [tq61_9]; exact rfl)
theorem tq62_0 : tT g 62 0 = s_load vRf 62 1 0 := rfl
theorem A62_0  {x : Value} {r : List Value} : aw g 62 0 [some (x)] r σ Q = (vRf x = true ∧ aw g 62 1 [some (x)] (x :: r) σ Q) := (aw_eq g 62 0 _ _ _ _).trans (by rw [tq62_0]; exact h_load rfl)
theorem tq62_1 : tT g 62 1 = s_ifnn 62 4 8 := rfl
theorem A62_1 {L : AL} {r : List Value} {a : Value} : aw g 62 1 L (a :: r) σ Q = (vRf a = true ∧ (a = .null → aw g 62 4 L r σ Q) ∧ (a ≠ .null → aw g 62 8 L r σ Q)) := (aw_eq g 62 1 _ _ _ _).trans (by rw [tq62_1]; exact rfl)
theorem tq62_4 : tT g 62 4 = s_const 62 5 (.int (-1)) := rfl
theorem A62_4 {L : AL} {r : List Value} : aw g 62 4 L r σ Q = aw g 62 5 L (.int (-1) :: r) σ Q := (aw_eq g 62 4 _ _ _ _).trans (by rw [tq62_4]; exact rfl)
theorem tq62_5 : tT g 62 5 = s_goto 62 12 := rfl
theorem A62_5 {L : AL} {r : List Value} : aw g 62 5 L r σ Q = aw g 62 12 L r σ Q := (aw_eq g 62 5 _ _ _ _).trans (by rw [tq62_5]; exact rfl)
theorem tq62_8 : tT g 62 8 = s_load vRf 62 9 0 := rfl
theorem A62_8  {x : Value} {r : List Value} : aw g 62 8 [some (x)] r σ Q = (vRf x = true ∧ aw g 62 9 [some (x)] (x :: r) σ Q) := (aw_eq g 62 8 _ _ _ _).trans (by rw [tq62_8]; exact h_load rfl)
theorem tq62_9 : tT g 62 9 = s_getf 62 12 5 0 := rfl
theorem A62_9 {L : AL} {r : List Value} {a : Nat} : aw g 62 9 L (.ref a :: r) σ Q = (hty σ a = some 5 ∧ aw g 62 12 L (hv σ 5 a 0 :: r) σ Q) := (aw_eq g 62 9 _ _ _ _).trans (by rw [tq62_9]; exact rfl)
theorem tq62_12 : tT g 62 12 = s_ret pI := rfl
theorem A62_12 {L : AL} {v : Value} : aw g 62 12 L [v] σ Q = (pI v ∧ Q (.inl (some v)) σ) := (aw_eq g 62 12 _ _ _ _).trans (by rw [tq62_12]; exact rfl)
theorem tq63_0 : tT g 63 0 = s_load vL 63 1 0 := rfl
theorem A63_0 {l1 : Option Value} {l2 : Option Value} {l3 : Option Value} {x : Int64} {r : List Value} : aw g 63 0 [some (.long x), l1, l2, l3] r σ Q = aw g 63 1 [some (.long x), l1, l2, l3] (.long x :: r) σ Q := (aw_eq g 63 0 _ _ _ _).trans (by rw [tq63_0]; exact (h_load rfl).trans (propext ⟨fun z => z.2, fun z => ⟨rfl, z⟩⟩))
theorem tq63_1 : tT g 63 1 = s_const 63 4 (.long 31) := rfl
theorem A63_1 {L : AL} {r : List Value} : aw g 63 1 L r σ Q = aw g 63 4 L (.long 31 :: r) σ Q := (aw_eq g 63 1 _ _ _ _).trans (by rw [tq63_1]; exact rfl)
theorem tq63_4 : tT g 63 4 = s_lbin 63 5 (fun a b => .long (a * b)) := rfl
theorem A63_4 {L : AL} {r : List Value} {a b : Int64} : aw g 63 4 L (.long b :: .long a :: r) σ Q = aw g 63 5 L (.long (a * b) :: r) σ Q := (aw_eq g 63 4 _ _ _ _).trans (by rw [tq63_4]; exact rfl)
theorem tq63_5 : tT g 63 5 = s_load vL 63 6 2 := rfl
theorem A63_5 {l0 : Option Value} {l1 : Option Value} {l3 : Option Value} {x : Int64} {r : List Value} : aw g 63 5 [l0, l1, some (.long x), l3] r σ Q = aw g 63 6 [l0, l1, some (.long x), l3] (.long x :: r) σ Q := (aw_eq g 63 5 _ _ _ _).trans (by rw [tq63_5]; exact (h_load rfl).trans (propext ⟨fun z => z.2, fun z => ⟨rfl, z⟩⟩))
theorem tq63_6 : tT g 63 6 = s_lbin 63 7 (fun a b => .long (a + b)) := rfl
theorem A63_6 {L : AL} {r : List Value} {a b : Int64} : aw g 63 6 L (.long b :: .long a :: r) σ Q = aw g 63 7 L (.long (a + b) :: r) σ Q := (aw_eq g 63 6 _ _ _ _).trans (by rw [tq63_6]; exact rfl)
theorem tq63_7 : tT g 63 7 = s_ret pJ := rfl
theorem A63_7 {L : AL} {v : Value} : aw g 63 7 L [v] σ Q = (pJ v ∧ Q (.inl (some v)) σ) := (aw_eq g 63 7 _ _ _ _).trans (by rw [tq63_7]; exact rfl)
theorem tq64_0 : tT g 64 0 = s_load vL 64 1 1 := rfl
theorem A64_0 {l0 : Option Value} {l2 : Option Value} {l3 : Option Value} {l4 : Option Value} {l5 : Option Value} {l6 : Option Value} {l7 : Option Value} {l8 : Option Value} {l9 : Option Value} {l10 : Option Value} {x : Int64} {r : List Value} : aw g 64 0 [l0, some (.long x), l2, l3, l4, l5, l6, l7, l8, l9, l10] r σ Q = aw g 64 1 [l0, some (.long x), l2, l3, l4, l5, l6, l7, l8, l9, l10] (.long x :: r) σ Q := (aw_eq g 64 0 _ _ _ _).trans (by rw [tq64_0]; exact (h_load rfl).trans (propext ⟨fun z => z.2, fun z => ⟨rfl, z⟩⟩))
theorem tq64_1 : tT g 64 1 = s_store2 vL 64 3 4 := rfl
theorem A64_1 {l0 : Option Value} {l1 : Option Value} {l2 : Option Value} {l3 : Option Value} {l4 : Option Value} {l5 : Option Value} {l6 : Option Value} {l7 : Option Value} {l8 : Option Value} {l9 : Option Value} {l10 : Option Value} {x : Int64} {r : List Value} : aw g 64 1 [l0, l1, l2, l3, l4, l5, l6, l7, l8, l9, l10] (.long x :: r) σ Q = (oc l3 = true ∧ aw g 64 3 [l0, l1, l2, l3, some (.long x), none, l6, l7, l8, l9, l10] r σ Q) := (aw_eq g 64 1 _ _ _ _).trans (by rw [tq64_1]; exact (h_store2 (o := oc l3) rfl rfl rfl).trans (propext ⟨fun z => z.2, fun z => ⟨rfl, z⟩⟩))
theorem tq64_3 : tT g 64 3 = s_const 64 4 (.int 0) := rfl
theorem A64_3 {L : AL} {r : List Value} : aw g 64 3 L r σ Q = aw g 64 4 L (.int 0 :: r) σ Q := (aw_eq g 64 3 _ _ _ _).trans (by rw [tq64_3]; exact rfl)
theorem tq64_4 : tT g 64 4 = s_store vI 64 6 6 := rfl
theorem A64_4 {l0 : Option Value} {l1 : Option Value} {l2 : Option Value} {l3 : Option Value} {l4 : Option Value} {l5 : Option Value} {l6 : Option Value} {l7 : Option Value} {l8 : Option Value} {l9 : Option Value} {l10 : Option Value} {x : Int32} {r : List Value} : aw g 64 4 [l0, l1, l2, l3, l4, l5, l6, l7, l8, l9, l10] (.int x :: r) σ Q = (oc l5 = true ∧ aw g 64 6 [l0, l1, l2, l3, l4, l5, some (.int x), l7, l8, l9, l10] r σ Q) := (aw_eq g 64 4 _ _ _ _).trans (by rw [tq64_4]; exact (h_store (o := oc l5) rfl rfl rfl).trans (propext ⟨fun z => z.2, fun z => ⟨rfl, z⟩⟩))
theorem tq64_6 : tT g 64 6 = s_load vI 64 8 6 := rfl
theorem A64_6 {l0 : Option Value} {l1 : Option Value} {l2 : Option Value} {l3 : Option Value} {l4 : Option Value} {l5 : Option Value} {l7 : Option Value} {l8 : Option Value} {l9 : Option Value} {l10 : Option Value} {x : Int32} {r : List Value} : aw g 64 6 [l0, l1, l2, l3, l4, l5, some (.int x), l7, l8, l9, l10] r σ Q = aw g 64 8 [l0, l1, l2, l3, l4, l5, some (.int x), l7, l8, l9, l10] (.int x :: r) σ Q := (aw_eq g 64 6 _ _ _ _).trans (by rw [tq64_6]; exact (h_load rfl).trans (propext ⟨fun z => z.2, fun z => ⟨rfl, z⟩⟩))
theorem tq64_8 : tT g 64 8 = s_const 64 10 (.int 16) := rfl
theorem A64_8 {L : AL} {r : List Value} : aw g 64 8 L r σ Q = aw g 64 10 L (.int 16 :: r) σ Q := (aw_eq g 64 8 _ _ _ _).trans (by rw [tq64_8]; exact rfl)
theorem tq64_10 : tT g 64 10 = s_icmp 64 13 34 (fun a b => b ≤ a) := rfl
theorem A64_10 {L : AL} {r : List Value} {a b : Int32} : aw g 64 10 L (.int b :: .int a :: r) σ Q = ((b ≤ a → aw g 64 34 L r σ Q) ∧ (¬ b ≤ a → aw g 64 13 L r σ Q)) := (aw_eq g 64 10 _ _ _ _).trans (by rw [tq64_10]; exact rfl)
theorem tq64_13 : tT g 64 13 = s_load vL 64 15 4 := rfl
theorem A64_13 {l0 : Option Value} {l1 : Option Value} {l2 : Option Value} {l3 : Option Value} {l5 : Option Value} {l6 : Option Value} {l7 : Option Value} {l8 : Option Value} {l9 : Option Value} {l10 : Option Value} {x : Int64} {r : List Value} : aw g 64 13 [l0, l1, l2, l3, some (.long x), l5, l6, l7, l8, l9, l10] r σ Q = aw g 64 15 [l0, l1, l2, l3, some (.long x), l5, l6, l7, l8, l9, l10] (.long x :: r) σ Q := (aw_eq g 64 13 _ _ _ _).trans (by rw [tq64_13]; exact (h_load rfl).trans (propext ⟨fun z => z.2, fun z => ⟨rfl, z⟩⟩))
theorem tq64_15 : tT g 64 15 = s_load vRf 64 16 0 := rfl
theorem A64_15 {l1 : Option Value} {l2 : Option Value} {l3 : Option Value} {l4 : Option Value} {l5 : Option Value} {l6 : Option Value} {l7 : Option Value} {l8 : Option Value} {l9 : Option Value} {l10 : Option Value} {x : Value} {r : List Value} : aw g 64 15 [some (x), l1, l2, l3, l4, l5, l6, l7, l8, l9, l10] r σ Q = (vRf x = true ∧ aw g 64 16 [some (x), l1, l2, l3, l4, l5, l6, l7, l8, l9, l10] (x :: r) σ Q) := (aw_eq g 64 15 _ _ _ _).trans (by rw [tq64_15]; exact h_load rfl)
theorem tq64_16 : tT g 64 16 = s_load vRf 64 17 3 := rfl
theorem A64_16 {l0 : Option Value} {l1 : Option Value} {l2 : Option Value} {l4 : Option Value} {l5 : Option Value} {l6 : Option Value} {l7 : Option Value} {l8 : Option Value} {l9 : Option Value} {l10 : Option Value} {x : Value} {r : List Value} : aw g 64 16 [l0, l1, l2, some (x), l4, l5, l6, l7, l8, l9, l10] r σ Q = (vRf x = true ∧ aw g 64 17 [l0, l1, l2, some (x), l4, l5, l6, l7, l8, l9, l10] (x :: r) σ Q) := (aw_eq g 64 16 _ _ _ _).trans (by rw [tq64_16]; exact h_load rfl)
theorem tq64_17 : tT g 64 17 = s_load vI 64 19 6 := rfl
theorem A64_17 {l0 : Option Value} {l1 : Option Value} {l2 : Option Value} {l3 : Option Value} {l4 : Option Value} {l5 : Option Value} {l7 : Option Value} {l8 : Option Value} {l9 : Option Value} {l10 : Option Value} {x : Int32} {r : List Value} : aw g 64 17 [l0, l1, l2, l3, l4, l5, some (.int x), l7, l8, l9, l10] r σ Q = aw g 64 19 [l0, l1, l2, l3, l4, l5, some (.int x), l7, l8, l9, l10] (.int x :: r) σ Q := (aw_eq g 64 17 _ _ _ _).trans (by rw [tq64_17]; exact (h_load rfl).trans (propext ⟨fun z => z.2, fun z => ⟨rfl, z⟩⟩))
theorem tq64_19 : tT g 64 19 = s_callvk 64 22 65 0 [1, 0] 4 := rfl
theorem A64_19 {L : AL} {r : List Value} {a : Nat} {w0 w1 : Value} : aw g 64 19 L (w1 :: w0 :: .ref a :: r) σ Q = (hty σ a = some 0 ∧ (vRf w0 && (vI w1 && true)) = true ∧ csum r ≤ 8 ∧ aw g 65 0 [some (.ref a), some w0, some w1, none] [] σ (kt (aw g) 64 22 L r Q)) := (aw_eq g 64 19 _ _ _ _).trans (by rw [tq64_19]; exact rfl)
theorem tq64_22 : tT g 64 22 = s_i2 64 23 (fun a => .long a.toInt64) := rfl
theorem A64_22 {L : AL} {r : List Value} {a : Int32} : aw g 64 22 L (.int a :: r) σ Q = aw g 64 23 L (.long a.toInt64 :: r) σ Q := (aw_eq g 64 22 _ _ _ _).trans (by rw [tq64_22]; exact rfl)
theorem tq64_23 : tT g 64 23 = s_callk 64 26 63 [2, 2] 4 := rfl
theorem A64_23 {L : AL} {r : List Value} {w0 w1 : Value} : aw g 64 23 L (w1 :: w0 :: r) σ Q = ((vL w0 && (vL w1 && true)) = true ∧ csum r ≤ 8 ∧ aw g 63 0 [some w0, none, some w1, none] [] σ (kt (aw g) 64 26 L r Q)) := (aw_eq g 64 23 _ _ _ _).trans (by rw [tq64_23]; exact rfl)
theorem tq64_26 : tT g 64 26 = s_store2 vL 64 28 4 := rfl
theorem A64_26 {l0 : Option Value} {l1 : Option Value} {l2 : Option Value} {l3 : Option Value} {l4 : Option Value} {l5 : Option Value} {l6 : Option Value} {l7 : Option Value} {l8 : Option Value} {l9 : Option Value} {l10 : Option Value} {x : Int64} {r : List Value} : aw g 64 26 [l0, l1, l2, l3, l4, l5, l6, l7, l8, l9, l10] (.long x :: r) σ Q = (oc l3 = true ∧ aw g 64 28 [l0, l1, l2, l3, some (.long x), none, l6, l7, l8, l9, l10] r σ Q) := (aw_eq g 64 26 _ _ _ _).trans (by rw [tq64_26]; exact (h_store2 (o := oc l3) rfl rfl rfl).trans (propext ⟨fun z => z.2, fun z => ⟨rfl, z⟩⟩))
theorem tq64_28 : tT g 64 28 = s_iinc 64 31 6 1 := rfl
theorem A64_28 {l0 : Option Value} {l1 : Option Value} {l2 : Option Value} {l3 : Option Value} {l4 : Option Value} {l5 : Option Value} {l7 : Option Value} {l8 : Option Value} {l9 : Option Value} {l10 : Option Value} {x : Int32} {r : List Value} : aw g 64 28 [l0, l1, l2, l3, l4, l5, some (.int x), l7, l8, l9, l10] r σ Q = (oc l5 = true ∧ aw g 64 31 [l0, l1, l2, l3, l4, l5, some (.int (x + 1)), l7, l8, l9, l10] r σ Q) := (aw_eq g 64 28 _ _ _ _).trans (by rw [tq64_28]; exact (h_iinc (o := oc l5) rfl rfl rfl))
theorem tq64_31 : tT g 64 31 = s_goto 64 6 := rfl
theorem A64_31 {L : AL} {r : List Value} : aw g 64 31 L r σ Q = aw g 64 6 L r σ Q := (aw_eq g 64 31 _ _ _ _).trans (by rw [tq64_31]; exact rfl)
theorem tq64_34 : tT g 64 34 = s_load vRf 64 35 3 := rfl
theorem A64_34 {l0 : Option Value} {l1 : Option Value} {l2 : Option Value} {l4 : Option Value} {l5 : Option Value} {l6 : Option Value} {l7 : Option Value} {l8 : Option Value} {l9 : Option Value} {l10 : Option Value} {x : Value} {r : List Value} : aw g 64 34 [l0, l1, l2, some (x), l4, l5, l6, l7, l8, l9, l10] r σ Q = (vRf x = true ∧ aw g 64 35 [l0, l1, l2, some (x), l4, l5, l6, l7, l8, l9, l10] (x :: r) σ Q) := (aw_eq g 64 34 _ _ _ _).trans (by rw [tq64_34]; exact h_load rfl)
theorem tq64_35 : tT g 64 35 = s_getf 64 38 5 13 := rfl
theorem A64_35 {L : AL} {r : List Value} {a : Nat} : aw g 64 35 L (.ref a :: r) σ Q = (hty σ a = some 5 ∧ aw g 64 38 L (hv σ 5 a 13 :: r) σ Q) := (aw_eq g 64 35 _ _ _ _).trans (by rw [tq64_35]; exact rfl)
theorem tq64_38 : tT g 64 38 = s_store vRf 64 40 6 := rfl
theorem A64_38 {l0 : Option Value} {l1 : Option Value} {l2 : Option Value} {l3 : Option Value} {l4 : Option Value} {l5 : Option Value} {l6 : Option Value} {l7 : Option Value} {l8 : Option Value} {l9 : Option Value} {l10 : Option Value} {x : Value} {r : List Value} : aw g 64 38 [l0, l1, l2, l3, l4, l5, l6, l7, l8, l9, l10] (x :: r) σ Q = (vRf x = true ∧ oc l5 = true ∧ aw g 64 40 [l0, l1, l2, l3, l4, l5, some (x), l7, l8, l9, l10] r σ Q) := (aw_eq g 64 38 _ _ _ _).trans (by rw [tq64_38]; exact (h_store (o := oc l5) rfl rfl rfl))
theorem tq64_40 : tT g 64 40 = s_load vRf 64 42 6 := rfl
theorem A64_40 {l0 : Option Value} {l1 : Option Value} {l2 : Option Value} {l3 : Option Value} {l4 : Option Value} {l5 : Option Value} {l7 : Option Value} {l8 : Option Value} {l9 : Option Value} {l10 : Option Value} {x : Value} {r : List Value} : aw g 64 40 [l0, l1, l2, l3, l4, l5, some (x), l7, l8, l9, l10] r σ Q = (vRf x = true ∧ aw g 64 42 [l0, l1, l2, l3, l4, l5, some (x), l7, l8, l9, l10] (x :: r) σ Q) := (aw_eq g 64 40 _ _ _ _).trans (by rw [tq64_40]; exact h_load rfl)
theorem tq64_42 : tT g 64 42 = s_alen 64 43 20 := rfl
theorem A64_42 {L : AL} {r : List Value} {a : Nat} : aw g 64 42 L (.ref a :: r) σ Q = (hty σ a = some 20 ∧ aw g 64 43 L (.int (Int32.ofNat (hln σ a)) :: r) σ Q) := (aw_eq g 64 42 _ _ _ _).trans (by rw [tq64_42]; exact rfl)
theorem tq64_43 : tT g 64 43 = s_store vI 64 45 7 := rfl
theorem A64_43 {l0 : Option Value} {l1 : Option Value} {l2 : Option Value} {l3 : Option Value} {l4 : Option Value} {l5 : Option Value} {l6 : Option Value} {l7 : Option Value} {l8 : Option Value} {l9 : Option Value} {l10 : Option Value} {x : Int32} {r : List Value} : aw g 64 43 [l0, l1, l2, l3, l4, l5, l6, l7, l8, l9, l10] (.int x :: r) σ Q = (oc l6 = true ∧ aw g 64 45 [l0, l1, l2, l3, l4, l5, l6, some (.int x), l8, l9, l10] r σ Q) := (aw_eq g 64 43 _ _ _ _).trans (by rw [tq64_43]; exact (h_store (o := oc l6) rfl rfl rfl).trans (propext ⟨fun z => z.2, fun z => ⟨rfl, z⟩⟩))
theorem tq64_45 : tT g 64 45 = s_const 64 46 (.int 0) := rfl
theorem A64_45 {L : AL} {r : List Value} : aw g 64 45 L r σ Q = aw g 64 46 L (.int 0 :: r) σ Q := (aw_eq g 64 45 _ _ _ _).trans (by rw [tq64_45]; exact rfl)
theorem tq64_46 : tT g 64 46 = s_store vI 64 48 8 := rfl
theorem A64_46 {l0 : Option Value} {l1 : Option Value} {l2 : Option Value} {l3 : Option Value} {l4 : Option Value} {l5 : Option Value} {l6 : Option Value} {l7 : Option Value} {l8 : Option Value} {l9 : Option Value} {l10 : Option Value} {x : Int32} {r : List Value} : aw g 64 46 [l0, l1, l2, l3, l4, l5, l6, l7, l8, l9, l10] (.int x :: r) σ Q = (oc l7 = true ∧ aw g 64 48 [l0, l1, l2, l3, l4, l5, l6, l7, some (.int x), l9, l10] r σ Q) := (aw_eq g 64 46 _ _ _ _).trans (by rw [tq64_46]; exact (h_store (o := oc l7) rfl rfl rfl).trans (propext ⟨fun z => z.2, fun z => ⟨rfl, z⟩⟩))
theorem tq64_48 : tT g 64 48 = s_load vI 64 50 8 := rfl
theorem A64_48 {l0 : Option Value} {l1 : Option Value} {l2 : Option Value} {l3 : Option Value} {l4 : Option Value} {l5 : Option Value} {l6 : Option Value} {l7 : Option Value} {l9 : Option Value} {l10 : Option Value} {x : Int32} {r : List Value} : aw g 64 48 [l0, l1, l2, l3, l4, l5, l6, l7, some (.int x), l9, l10] r σ Q = aw g 64 50 [l0, l1, l2, l3, l4, l5, l6, l7, some (.int x), l9, l10] (.int x :: r) σ Q := (aw_eq g 64 48 _ _ _ _).trans (by rw [tq64_48]; exact (h_load rfl).trans (propext ⟨fun z => z.2, fun z => ⟨rfl, z⟩⟩))
theorem tq64_50 : tT g 64 50 = s_load vI 64 52 7 := rfl
theorem A64_50 {l0 : Option Value} {l1 : Option Value} {l2 : Option Value} {l3 : Option Value} {l4 : Option Value} {l5 : Option Value} {l6 : Option Value} {l8 : Option Value} {l9 : Option Value} {l10 : Option Value} {x : Int32} {r : List Value} : aw g 64 50 [l0, l1, l2, l3, l4, l5, l6, some (.int x), l8, l9, l10] r σ Q = aw g 64 52 [l0, l1, l2, l3, l4, l5, l6, some (.int x), l8, l9, l10] (.int x :: r) σ Q := (aw_eq g 64 50 _ _ _ _).trans (by rw [tq64_50]; exact (h_load rfl).trans (propext ⟨fun z => z.2, fun z => ⟨rfl, z⟩⟩))
theorem tq64_52 : tT g 64 52 = s_icmp 64 55 78 (fun a b => b ≤ a) := rfl
theorem A64_52 {L : AL} {r : List Value} {a b : Int32} : aw g 64 52 L (.int b :: .int a :: r) σ Q = ((b ≤ a → aw g 64 78 L r σ Q) ∧ (¬ b ≤ a → aw g 64 55 L r σ Q)) := (aw_eq g 64 52 _ _ _ _).trans (by rw [tq64_52]; exact rfl)
theorem tq64_55 : tT g 64 55 = s_load vRf 64 57 6 := rfl
theorem A64_55 {l0 : Option Value} {l1 : Option Value} {l2 : Option Value} {l3 : Option Value} {l4 : Option Value} {l5 : Option Value} {l7 : Option Value} {l8 : Option Value} {l9 : Option Value} {l10 : Option Value} {x : Value} {r : List Value} : aw g 64 55 [l0, l1, l2, l3, l4, l5, some (x), l7, l8, l9, l10] r σ Q = (vRf x = true ∧ aw g 64 57 [l0, l1, l2, l3, l4, l5, some (x), l7, l8, l9, l10] (x :: r) σ Q) := (aw_eq g 64 55 _ _ _ _).trans (by rw [tq64_55]; exact h_load rfl)
theorem tq64_57 : tT g 64 57 = s_load vI 64 59 8 := rfl
theorem A64_57 {l0 : Option Value} {l1 : Option Value} {l2 : Option Value} {l3 : Option Value} {l4 : Option Value} {l5 : Option Value} {l6 : Option Value} {l7 : Option Value} {l9 : Option Value} {l10 : Option Value} {x : Int32} {r : List Value} : aw g 64 57 [l0, l1, l2, l3, l4, l5, l6, l7, some (.int x), l9, l10] r σ Q = aw g 64 59 [l0, l1, l2, l3, l4, l5, l6, l7, some (.int x), l9, l10] (.int x :: r) σ Q := (aw_eq g 64 57 _ _ _ _).trans (by rw [tq64_57]; exact (h_load rfl).trans (propext ⟨fun z => z.2, fun z => ⟨rfl, z⟩⟩))
theorem tq64_59 : tT g 64 59 = s_ald 64 60 20 := rfl
theorem A64_59 {L : AL} {r : List Value} {a : Nat} {i : Int32} : aw g 64 59 L (.int i :: .ref a :: r) σ Q = (hty σ a = some 20 ∧ ¬ i < 0 ∧ i.toNatClampNeg < hln σ a ∧ aw g 64 60 L (hv σ 20 a i.toNatClampNeg :: r) σ Q) := (aw_eq g 64 59 _ _ _ _).trans (by rw [tq64_59]; exact rfl)
theorem tq64_60 : tT g 64 60 = s_store vI 64 62 9 := rfl
theorem A64_60 {l0 : Option Value} {l1 : Option Value} {l2 : Option Value} {l3 : Option Value} {l4 : Option Value} {l5 : Option Value} {l6 : Option Value} {l7 : Option Value} {l8 : Option Value} {l9 : Option Value} {l10 : Option Value} {x : Int32} {r : List Value} : aw g 64 60 [l0, l1, l2, l3, l4, l5, l6, l7, l8, l9, l10] (.int x :: r) σ Q = (oc l8 = true ∧ aw g 64 62 [l0, l1, l2, l3, l4, l5, l6, l7, l8, some (.int x), l10] r σ Q) := (aw_eq g 64 60 _ _ _ _).trans (by rw [tq64_60]; exact (h_store (o := oc l8) rfl rfl rfl).trans (propext ⟨fun z => z.2, fun z => ⟨rfl, z⟩⟩))
theorem tq64_62 : tT g 64 62 = s_load vL 64 64 4 := rfl
theorem A64_62 {l0 : Option Value} {l1 : Option Value} {l2 : Option Value} {l3 : Option Value} {l5 : Option Value} {l6 : Option Value} {l7 : Option Value} {l8 : Option Value} {l9 : Option Value} {l10 : Option Value} {x : Int64} {r : List Value} : aw g 64 62 [l0, l1, l2, l3, some (.long x), l5, l6, l7, l8, l9, l10] r σ Q = aw g 64 64 [l0, l1, l2, l3, some (.long x), l5, l6, l7, l8, l9, l10] (.long x :: r) σ Q := (aw_eq g 64 62 _ _ _ _).trans (by rw [tq64_62]; exact (h_load rfl).trans (propext ⟨fun z => z.2, fun z => ⟨rfl, z⟩⟩))
theorem tq64_64 : tT g 64 64 = s_load vI 64 66 9 := rfl
theorem A64_64 {l0 : Option Value} {l1 : Option Value} {l2 : Option Value} {l3 : Option Value} {l4 : Option Value} {l5 : Option Value} {l6 : Option Value} {l7 : Option Value} {l8 : Option Value} {l10 : Option Value} {x : Int32} {r : List Value} : aw g 64 64 [l0, l1, l2, l3, l4, l5, l6, l7, l8, some (.int x), l10] r σ Q = aw g 64 66 [l0, l1, l2, l3, l4, l5, l6, l7, l8, some (.int x), l10] (.int x :: r) σ Q := (aw_eq g 64 64 _ _ _ _).trans (by rw [tq64_64]; exact (h_load rfl).trans (propext ⟨fun z => z.2, fun z => ⟨rfl, z⟩⟩))
theorem tq64_66 : tT g 64 66 = s_i2 64 67 (fun a => .long a.toInt64) := rfl
theorem A64_66 {L : AL} {r : List Value} {a : Int32} : aw g 64 66 L (.int a :: r) σ Q = aw g 64 67 L (.long a.toInt64 :: r) σ Q := (aw_eq g 64 66 _ _ _ _).trans (by rw [tq64_66]; exact rfl)
theorem tq64_67 : tT g 64 67 = s_callk 64 70 63 [2, 2] 4 := rfl
theorem A64_67 {L : AL} {r : List Value} {w0 w1 : Value} : aw g 64 67 L (w1 :: w0 :: r) σ Q = ((vL w0 && (vL w1 && true)) = true ∧ csum r ≤ 8 ∧ aw g 63 0 [some w0, none, some w1, none] [] σ (kt (aw g) 64 70 L r Q)) := (aw_eq g 64 67 _ _ _ _).trans (by rw [tq64_67]; exact rfl)
theorem tq64_70 : tT g 64 70 = s_store2 vL 64 72 4 := rfl
theorem A64_70 {l0 : Option Value} {l1 : Option Value} {l2 : Option Value} {l3 : Option Value} {l4 : Option Value} {l5 : Option Value} {l6 : Option Value} {l7 : Option Value} {l8 : Option Value} {l9 : Option Value} {l10 : Option Value} {x : Int64} {r : List Value} : aw g 64 70 [l0, l1, l2, l3, l4, l5, l6, l7, l8, l9, l10] (.long x :: r) σ Q = (oc l3 = true ∧ aw g 64 72 [l0, l1, l2, l3, some (.long x), none, l6, l7, l8, l9, l10] r σ Q) := (aw_eq g 64 70 _ _ _ _).trans (by rw [tq64_70]; exact (h_store2 (o := oc l3) rfl rfl rfl).trans (propext ⟨fun z => z.2, fun z => ⟨rfl, z⟩⟩))
theorem tq64_72 : tT g 64 72 = s_iinc 64 75 8 1 := rfl
theorem A64_72 {l0 : Option Value} {l1 : Option Value} {l2 : Option Value} {l3 : Option Value} {l4 : Option Value} {l5 : Option Value} {l6 : Option Value} {l7 : Option Value} {l9 : Option Value} {l10 : Option Value} {x : Int32} {r : List Value} : aw g 64 72 [l0, l1, l2, l3, l4, l5, l6, l7, some (.int x), l9, l10] r σ Q = (oc l7 = true ∧ aw g 64 75 [l0, l1, l2, l3, l4, l5, l6, l7, some (.int (x + 1)), l9, l10] r σ Q) := (aw_eq g 64 72 _ _ _ _).trans (by rw [tq64_72]; exact (h_iinc (o := oc l7) rfl rfl rfl))
theorem tq64_75 : tT g 64 75 = s_goto 64 48 := rfl
theorem A64_75 {L : AL} {r : List Value} : aw g 64 75 L r σ Q = aw g 64 48 L r σ Q := (aw_eq g 64 75 _ _ _ _).trans (by rw [tq64_75]; exact rfl)
theorem tq64_78 : tT g 64 78 = s_const 64 79 (.int 0) := rfl
theorem A64_78 {L : AL} {r : List Value} : aw g 64 78 L r σ Q = aw g 64 79 L (.int 0 :: r) σ Q := (aw_eq g 64 78 _ _ _ _).trans (by rw [tq64_78]; exact rfl)
theorem tq64_79 : tT g 64 79 = s_store vI 64 81 6 := rfl
theorem A64_79 {l0 : Option Value} {l1 : Option Value} {l2 : Option Value} {l3 : Option Value} {l4 : Option Value} {l5 : Option Value} {l6 : Option Value} {l7 : Option Value} {l8 : Option Value} {l9 : Option Value} {l10 : Option Value} {x : Int32} {r : List Value} : aw g 64 79 [l0, l1, l2, l3, l4, l5, l6, l7, l8, l9, l10] (.int x :: r) σ Q = (oc l5 = true ∧ aw g 64 81 [l0, l1, l2, l3, l4, l5, some (.int x), l7, l8, l9, l10] r σ Q) := (aw_eq g 64 79 _ _ _ _).trans (by rw [tq64_79]; exact (h_store (o := oc l5) rfl rfl rfl).trans (propext ⟨fun z => z.2, fun z => ⟨rfl, z⟩⟩))
theorem tq64_81 : tT g 64 81 = s_load vI 64 83 6 := rfl
theorem A64_81 {l0 : Option Value} {l1 : Option Value} {l2 : Option Value} {l3 : Option Value} {l4 : Option Value} {l5 : Option Value} {l7 : Option Value} {l8 : Option Value} {l9 : Option Value} {l10 : Option Value} {x : Int32} {r : List Value} : aw g 64 81 [l0, l1, l2, l3, l4, l5, some (.int x), l7, l8, l9, l10] r σ Q = aw g 64 83 [l0, l1, l2, l3, l4, l5, some (.int x), l7, l8, l9, l10] (.int x :: r) σ Q := (aw_eq g 64 81 _ _ _ _).trans (by rw [tq64_81]; exact (h_load rfl).trans (propext ⟨fun z => z.2, fun z => ⟨rfl, z⟩⟩))
theorem tq64_83 : tT g 64 83 = s_const 64 85 (.int 6) := rfl
theorem A64_83 {L : AL} {r : List Value} : aw g 64 83 L r σ Q = aw g 64 85 L (.int 6 :: r) σ Q := (aw_eq g 64 83 _ _ _ _).trans (by rw [tq64_83]; exact rfl)
theorem tq64_85 : tT g 64 85 = s_icmp 64 88 126 (fun a b => b ≤ a) := rfl
theorem A64_85 {L : AL} {r : List Value} {a b : Int32} : aw g 64 85 L (.int b :: .int a :: r) σ Q = ((b ≤ a → aw g 64 126 L r σ Q) ∧ (¬ b ≤ a → aw g 64 88 L r σ Q)) := (aw_eq g 64 85 _ _ _ _).trans (by rw [tq64_85]; exact rfl)
theorem tq64_88 : tT g 64 88 = s_const 64 89 (.int 0) := rfl
theorem A64_88 {L : AL} {r : List Value} : aw g 64 88 L r σ Q = aw g 64 89 L (.int 0 :: r) σ Q := (aw_eq g 64 88 _ _ _ _).trans (by rw [tq64_88]; exact rfl)
theorem tq64_89 : tT g 64 89 = s_store vI 64 91 7 := rfl
theorem A64_89 {l0 : Option Value} {l1 : Option Value} {l2 : Option Value} {l3 : Option Value} {l4 : Option Value} {l5 : Option Value} {l6 : Option Value} {l7 : Option Value} {l8 : Option Value} {l9 : Option Value} {l10 : Option Value} {x : Int32} {r : List Value} : aw g 64 89 [l0, l1, l2, l3, l4, l5, l6, l7, l8, l9, l10] (.int x :: r) σ Q = (oc l6 = true ∧ aw g 64 91 [l0, l1, l2, l3, l4, l5, l6, some (.int x), l8, l9, l10] r σ Q) := (aw_eq g 64 89 _ _ _ _).trans (by rw [tq64_89]; exact (h_store (o := oc l6) rfl rfl rfl).trans (propext ⟨fun z => z.2, fun z => ⟨rfl, z⟩⟩))
theorem tq64_91 : tT g 64 91 = s_load vI 64 93 7 := rfl
theorem A64_91 {l0 : Option Value} {l1 : Option Value} {l2 : Option Value} {l3 : Option Value} {l4 : Option Value} {l5 : Option Value} {l6 : Option Value} {l8 : Option Value} {l9 : Option Value} {l10 : Option Value} {x : Int32} {r : List Value} : aw g 64 91 [l0, l1, l2, l3, l4, l5, l6, some (.int x), l8, l9, l10] r σ Q = aw g 64 93 [l0, l1, l2, l3, l4, l5, l6, some (.int x), l8, l9, l10] (.int x :: r) σ Q := (aw_eq g 64 91 _ _ _ _).trans (by rw [tq64_91]; exact (h_load rfl).trans (propext ⟨fun z => z.2, fun z => ⟨rfl, z⟩⟩))
theorem tq64_93 : tT g 64 93 = s_const 64 94 (.int 4) := rfl
theorem A64_93 {L : AL} {r : List Value} : aw g 64 93 L r σ Q = aw g 64 94 L (.int 4 :: r) σ Q := (aw_eq g 64 93 _ _ _ _).trans (by rw [tq64_93]; exact rfl)
theorem tq64_94 : tT g 64 94 = s_icmp 64 97 120 (fun a b => b ≤ a) := rfl
theorem A64_94 {L : AL} {r : List Value} {a b : Int32} : aw g 64 94 L (.int b :: .int a :: r) σ Q = ((b ≤ a → aw g 64 120 L r σ Q) ∧ (¬ b ≤ a → aw g 64 97 L r σ Q)) := (aw_eq g 64 94 _ _ _ _).trans (by rw [tq64_94]; exact rfl)
theorem tq64_97 : tT g 64 97 = s_load vL 64 99 4 := rfl
theorem A64_97 {l0 : Option Value} {l1 : Option Value} {l2 : Option Value} {l3 : Option Value} {l5 : Option Value} {l6 : Option Value} {l7 : Option Value} {l8 : Option Value} {l9 : Option Value} {l10 : Option Value} {x : Int64} {r : List Value} : aw g 64 97 [l0, l1, l2, l3, some (.long x), l5, l6, l7, l8, l9, l10] r σ Q = aw g 64 99 [l0, l1, l2, l3, some (.long x), l5, l6, l7, l8, l9, l10] (.long x :: r) σ Q := (aw_eq g 64 97 _ _ _ _).trans (by rw [tq64_97]; exact (h_load rfl).trans (propext ⟨fun z => z.2, fun z => ⟨rfl, z⟩⟩))
theorem tq64_99 : tT g 64 99 = s_load vRf 64 100 0 := rfl
theorem A64_99 {l1 : Option Value} {l2 : Option Value} {l3 : Option Value} {l4 : Option Value} {l5 : Option Value} {l6 : Option Value} {l7 : Option Value} {l8 : Option Value} {l9 : Option Value} {l10 : Option Value} {x : Value} {r : List Value} : aw g 64 99 [some (x), l1, l2, l3, l4, l5, l6, l7, l8, l9, l10] r σ Q = (vRf x = true ∧ aw g 64 100 [some (x), l1, l2, l3, l4, l5, l6, l7, l8, l9, l10] (x :: r) σ Q) := (aw_eq g 64 99 _ _ _ _).trans (by rw [tq64_99]; exact h_load rfl)
theorem tq64_100 : tT g 64 100 = s_load vRf 64 101 3 := rfl
theorem A64_100 {l0 : Option Value} {l1 : Option Value} {l2 : Option Value} {l4 : Option Value} {l5 : Option Value} {l6 : Option Value} {l7 : Option Value} {l8 : Option Value} {l9 : Option Value} {l10 : Option Value} {x : Value} {r : List Value} : aw g 64 100 [l0, l1, l2, some (x), l4, l5, l6, l7, l8, l9, l10] r σ Q = (vRf x = true ∧ aw g 64 101 [l0, l1, l2, some (x), l4, l5, l6, l7, l8, l9, l10] (x :: r) σ Q) := (aw_eq g 64 100 _ _ _ _).trans (by rw [tq64_100]; exact h_load rfl)
theorem tq64_101 : tT g 64 101 = s_load vI 64 103 6 := rfl
theorem A64_101 {l0 : Option Value} {l1 : Option Value} {l2 : Option Value} {l3 : Option Value} {l4 : Option Value} {l5 : Option Value} {l7 : Option Value} {l8 : Option Value} {l9 : Option Value} {l10 : Option Value} {x : Int32} {r : List Value} : aw g 64 101 [l0, l1, l2, l3, l4, l5, some (.int x), l7, l8, l9, l10] r σ Q = aw g 64 103 [l0, l1, l2, l3, l4, l5, some (.int x), l7, l8, l9, l10] (.int x :: r) σ Q := (aw_eq g 64 101 _ _ _ _).trans (by rw [tq64_101]; exact (h_load rfl).trans (propext ⟨fun z => z.2, fun z => ⟨rfl, z⟩⟩))
theorem tq64_103 : tT g 64 103 = s_load vI 64 105 7 := rfl
theorem A64_103 {l0 : Option Value} {l1 : Option Value} {l2 : Option Value} {l3 : Option Value} {l4 : Option Value} {l5 : Option Value} {l6 : Option Value} {l8 : Option Value} {l9 : Option Value} {l10 : Option Value} {x : Int32} {r : List Value} : aw g 64 103 [l0, l1, l2, l3, l4, l5, l6, some (.int x), l8, l9, l10] r σ Q = aw g 64 105 [l0, l1, l2, l3, l4, l5, l6, some (.int x), l8, l9, l10] (.int x :: r) σ Q := (aw_eq g 64 103 _ _ _ _).trans (by rw [tq64_103]; exact (h_load rfl).trans (propext ⟨fun z => z.2, fun z => ⟨rfl, z⟩⟩))
theorem tq64_105 : tT g 64 105 = s_callvk 64 108 68 0 [1, 0, 0] 4 := rfl
theorem A64_105 {L : AL} {r : List Value} {a : Nat} {w0 w1 w2 : Value} : aw g 64 105 L (w2 :: w1 :: w0 :: .ref a :: r) σ Q = (hty σ a = some 0 ∧ (vRf w0 && (vI w1 && (vI w2 && true))) = true ∧ csum r ≤ 8 ∧ aw g 68 0 [some (.ref a), some w0, some w1, some w2] [] σ (kt (aw g) 64 108 L r Q)) := (aw_eq g 64 105 _ _ _ _).trans (by rw [tq64_105]; exact rfl)
theorem tq64_108 : tT g 64 108 = s_i2 64 109 (fun a => .long a.toInt64) := rfl
theorem A64_108 {L : AL} {r : List Value} {a : Int32} : aw g 64 108 L (.int a :: r) σ Q = aw g 64 109 L (.long a.toInt64 :: r) σ Q := (aw_eq g 64 108 _ _ _ _).trans (by rw [tq64_108]; exact rfl)
theorem tq64_109 : tT g 64 109 = s_callk 64 112 63 [2, 2] 4 := rfl
theorem A64_109 {L : AL} {r : List Value} {w0 w1 : Value} : aw g 64 109 L (w1 :: w0 :: r) σ Q = ((vL w0 && (vL w1 && true)) = true ∧ csum r ≤ 8 ∧ aw g 63 0 [some w0, none, some w1, none] [] σ (kt (aw g) 64 112 L r Q)) := (aw_eq g 64 109 _ _ _ _).trans (by rw [tq64_109]; exact rfl)
theorem tq64_112 : tT g 64 112 = s_store2 vL 64 114 4 := rfl
theorem A64_112 {l0 : Option Value} {l1 : Option Value} {l2 : Option Value} {l3 : Option Value} {l4 : Option Value} {l5 : Option Value} {l6 : Option Value} {l7 : Option Value} {l8 : Option Value} {l9 : Option Value} {l10 : Option Value} {x : Int64} {r : List Value} : aw g 64 112 [l0, l1, l2, l3, l4, l5, l6, l7, l8, l9, l10] (.long x :: r) σ Q = (oc l3 = true ∧ aw g 64 114 [l0, l1, l2, l3, some (.long x), none, l6, l7, l8, l9, l10] r σ Q) := (aw_eq g 64 112 _ _ _ _).trans (by rw [tq64_112]; exact (h_store2 (o := oc l3) rfl rfl rfl).trans (propext ⟨fun z => z.2, fun z => ⟨rfl, z⟩⟩))
theorem tq64_114 : tT g 64 114 = s_iinc 64 117 7 1 := rfl
theorem A64_114 {l0 : Option Value} {l1 : Option Value} {l2 : Option Value} {l3 : Option Value} {l4 : Option Value} {l5 : Option Value} {l6 : Option Value} {l8 : Option Value} {l9 : Option Value} {l10 : Option Value} {x : Int32} {r : List Value} : aw g 64 114 [l0, l1, l2, l3, l4, l5, l6, some (.int x), l8, l9, l10] r σ Q = (oc l6 = true ∧ aw g 64 117 [l0, l1, l2, l3, l4, l5, l6, some (.int (x + 1)), l8, l9, l10] r σ Q) := (aw_eq g 64 114 _ _ _ _).trans (by rw [tq64_114]; exact (h_iinc (o := oc l6) rfl rfl rfl))
theorem tq64_117 : tT g 64 117 = s_goto 64 91 := rfl
theorem A64_117 {L : AL} {r : List Value} : aw g 64 117 L r σ Q = aw g 64 91 L r σ Q := (aw_eq g 64 117 _ _ _ _).trans (by rw [tq64_117]; exact rfl)
theorem tq64_120 : tT g 64 120 = s_iinc 64 123 6 1 := rfl
theorem A64_120 {l0 : Option Value} {l1 : Option Value} {l2 : Option Value} {l3 : Option Value} {l4 : Option Value} {l5 : Option Value} {l7 : Option Value} {l8 : Option Value} {l9 : Option Value} {l10 : Option Value} {x : Int32} {r : List Value} : aw g 64 120 [l0, l1, l2, l3, l4, l5, some (.int x), l7, l8, l9, l10] r σ Q = (oc l5 = true ∧ aw g 64 123 [l0, l1, l2, l3, l4, l5, some (.int (x + 1)), l7, l8, l9, l10] r σ Q) := (aw_eq g 64 120 _ _ _ _).trans (by rw [tq64_120]; exact (h_iinc (o := oc l5) rfl rfl rfl))
theorem tq64_123 : tT g 64 123 = s_goto 64 81 := rfl
theorem A64_123 {L : AL} {r : List Value} : aw g 64 123 L r σ Q = aw g 64 81 L r σ Q := (aw_eq g 64 123 _ _ _ _).trans (by rw [tq64_123]; exact rfl)
theorem tq64_126 : tT g 64 126 = s_const 64 127 (.int 0) := rfl
theorem A64_126 {L : AL} {r : List Value} : aw g 64 126 L r σ Q = aw g 64 127 L (.int 0 :: r) σ Q := (aw_eq g 64 126 _ _ _ _).trans (by rw [tq64_126]; exact rfl)
theorem tq64_127 : tT g 64 127 = s_store vI 64 129 6 := rfl
theorem A64_127 {l0 : Option Value} {l1 : Option Value} {l2 : Option Value} {l3 : Option Value} {l4 : Option Value} {l5 : Option Value} {l6 : Option Value} {l7 : Option Value} {l8 : Option Value} {l9 : Option Value} {l10 : Option Value} {x : Int32} {r : List Value} : aw g 64 127 [l0, l1, l2, l3, l4, l5, l6, l7, l8, l9, l10] (.int x :: r) σ Q = (oc l5 = true ∧ aw g 64 129 [l0, l1, l2, l3, l4, l5, some (.int x), l7, l8, l9, l10] r σ Q) := (aw_eq g 64 127 _ _ _ _).trans (by rw [tq64_127]; exact (h_store (o := oc l5) rfl rfl rfl).trans (propext ⟨fun z => z.2, fun z => ⟨rfl, z⟩⟩))
theorem tq64_129 : tT g 64 129 = s_load vRf 64 130 3 := rfl
theorem A64_129 {l0 : Option Value} {l1 : Option Value} {l2 : Option Value} {l4 : Option Value} {l5 : Option Value} {l6 : Option Value} {l7 : Option Value} {l8 : Option Value} {l9 : Option Value} {l10 : Option Value} {x : Value} {r : List Value} : aw g 64 129 [l0, l1, l2, some (x), l4, l5, l6, l7, l8, l9, l10] r σ Q = (vRf x = true ∧ aw g 64 130 [l0, l1, l2, some (x), l4, l5, l6, l7, l8, l9, l10] (x :: r) σ Q) := (aw_eq g 64 129 _ _ _ _).trans (by rw [tq64_129]; exact h_load rfl)
theorem tq64_130 : tT g 64 130 = s_load vI 64 132 6 := rfl
theorem A64_130 {l0 : Option Value} {l1 : Option Value} {l2 : Option Value} {l3 : Option Value} {l4 : Option Value} {l5 : Option Value} {l7 : Option Value} {l8 : Option Value} {l9 : Option Value} {l10 : Option Value} {x : Int32} {r : List Value} : aw g 64 130 [l0, l1, l2, l3, l4, l5, some (.int x), l7, l8, l9, l10] r σ Q = aw g 64 132 [l0, l1, l2, l3, l4, l5, some (.int x), l7, l8, l9, l10] (.int x :: r) σ Q := (aw_eq g 64 130 _ _ _ _).trans (by rw [tq64_130]; exact (h_load rfl).trans (propext ⟨fun z => z.2, fun z => ⟨rfl, z⟩⟩))
theorem tq64_132 : tT g 64 132 = s_callk 64 135 69 [1, 0] 2 := rfl
theorem A64_132 {L : AL} {r : List Value} {w0 w1 : Value} : aw g 64 132 L (w1 :: w0 :: r) σ Q = ((vRf w0 && (vI w1 && true)) = true ∧ csum r ≤ 8 ∧ aw g 69 0 [some w0, some w1] [] σ (kt (aw g) 64 135 L r Q)) := (aw_eq g 64 132 _ _ _ _).trans (by rw [tq64_132]; exact rfl)
theorem tq64_135 : tT g 64 135 = s_const 64 136 (.int (-1)) := rfl
theorem A64_135 {L : AL} {r : List Value} : aw g 64 135 L r σ Q = aw g 64 136 L (.int (-1) :: r) σ Q := (aw_eq g 64 135 _ _ _ _).trans (by rw [tq64_135]; exact rfl)
theorem tq64_136 : tT g 64 136 = s_icmp 64 139 159 (fun a b => a = b) := rfl
theorem A64_136 {L : AL} {r : List Value} {a b : Int32} : aw g 64 136 L (.int b :: .int a :: r) σ Q = ((a = b → aw g 64 159 L r σ Q) ∧ (¬ a = b → aw g 64 139 L r σ Q)) := (aw_eq g 64 136 _ _ _ _).trans (by rw [tq64_136]; exact rfl)
theorem tq64_139 : tT g 64 139 = s_load vL 64 141 4 := rfl
theorem A64_139 {l0 : Option Value} {l1 : Option Value} {l2 : Option Value} {l3 : Option Value} {l5 : Option Value} {l6 : Option Value} {l7 : Option Value} {l8 : Option Value} {l9 : Option Value} {l10 : Option Value} {x : Int64} {r : List Value} : aw g 64 139 [l0, l1, l2, l3, some (.long x), l5, l6, l7, l8, l9, l10] r σ Q = aw g 64 141 [l0, l1, l2, l3, some (.long x), l5, l6, l7, l8, l9, l10] (.long x :: r) σ Q := (aw_eq g 64 139 _ _ _ _).trans (by rw [tq64_139]; exact (h_load rfl).trans (propext ⟨fun z => z.2, fun z => ⟨rfl, z⟩⟩))
theorem tq64_141 : tT g 64 141 = s_load vRf 64 142 3 := rfl
theorem A64_141 {l0 : Option Value} {l1 : Option Value} {l2 : Option Value} {l4 : Option Value} {l5 : Option Value} {l6 : Option Value} {l7 : Option Value} {l8 : Option Value} {l9 : Option Value} {l10 : Option Value} {x : Value} {r : List Value} : aw g 64 141 [l0, l1, l2, some (x), l4, l5, l6, l7, l8, l9, l10] r σ Q = (vRf x = true ∧ aw g 64 142 [l0, l1, l2, some (x), l4, l5, l6, l7, l8, l9, l10] (x :: r) σ Q) := (aw_eq g 64 141 _ _ _ _).trans (by rw [tq64_141]; exact h_load rfl)
theorem tq64_142 : tT g 64 142 = s_load vI 64 144 6 := rfl
theorem A64_142 {l0 : Option Value} {l1 : Option Value} {l2 : Option Value} {l3 : Option Value} {l4 : Option Value} {l5 : Option Value} {l7 : Option Value} {l8 : Option Value} {l9 : Option Value} {l10 : Option Value} {x : Int32} {r : List Value} : aw g 64 142 [l0, l1, l2, l3, l4, l5, some (.int x), l7, l8, l9, l10] r σ Q = aw g 64 144 [l0, l1, l2, l3, l4, l5, some (.int x), l7, l8, l9, l10] (.int x :: r) σ Q := (aw_eq g 64 142 _ _ _ _).trans (by rw [tq64_142]; exact (h_load rfl).trans (propext ⟨fun z => z.2, fun z => ⟨rfl, z⟩⟩))
theorem tq64_144 : tT g 64 144 = s_callk 64 147 69 [1, 0] 2 := rfl
theorem A64_144 {L : AL} {r : List Value} {w0 w1 : Value} : aw g 64 144 L (w1 :: w0 :: r) σ Q = ((vRf w0 && (vI w1 && true)) = true ∧ csum r ≤ 8 ∧ aw g 69 0 [some w0, some w1] [] σ (kt (aw g) 64 147 L r Q)) := (aw_eq g 64 144 _ _ _ _).trans (by rw [tq64_144]; exact rfl)
theorem tq64_147 : tT g 64 147 = s_i2 64 148 (fun a => .long a.toInt64) := rfl
theorem A64_147 {L : AL} {r : List Value} {a : Int32} : aw g 64 147 L (.int a :: r) σ Q = aw g 64 148 L (.long a.toInt64 :: r) σ Q := (aw_eq g 64 147 _ _ _ _).trans (by rw [tq64_147]; exact rfl)
theorem tq64_148 : tT g 64 148 = s_callk 64 151 63 [2, 2] 4 := rfl
theorem A64_148 {L : AL} {r : List Value} {w0 w1 : Value} : aw g 64 148 L (w1 :: w0 :: r) σ Q = ((vL w0 && (vL w1 && true)) = true ∧ csum r ≤ 8 ∧ aw g 63 0 [some w0, none, some w1, none] [] σ (kt (aw g) 64 151 L r Q)) := (aw_eq g 64 148 _ _ _ _).trans (by rw [tq64_148]; exact rfl)
theorem tq64_151 : tT g 64 151 = s_store2 vL 64 153 4 := rfl
theorem A64_151 {l0 : Option Value} {l1 : Option Value} {l2 : Option Value} {l3 : Option Value} {l4 : Option Value} {l5 : Option Value} {l6 : Option Value} {l7 : Option Value} {l8 : Option Value} {l9 : Option Value} {l10 : Option Value} {x : Int64} {r : List Value} : aw g 64 151 [l0, l1, l2, l3, l4, l5, l6, l7, l8, l9, l10] (.long x :: r) σ Q = (oc l3 = true ∧ aw g 64 153 [l0, l1, l2, l3, some (.long x), none, l6, l7, l8, l9, l10] r σ Q) := (aw_eq g 64 151 _ _ _ _).trans (by rw [tq64_151]; exact (h_store2 (o := oc l3) rfl rfl rfl).trans (propext ⟨fun z => z.2, fun z => ⟨rfl, z⟩⟩))
theorem tq64_153 : tT g 64 153 = s_iinc 64 156 6 1 := rfl
theorem A64_153 {l0 : Option Value} {l1 : Option Value} {l2 : Option Value} {l3 : Option Value} {l4 : Option Value} {l5 : Option Value} {l7 : Option Value} {l8 : Option Value} {l9 : Option Value} {l10 : Option Value} {x : Int32} {r : List Value} : aw g 64 153 [l0, l1, l2, l3, l4, l5, some (.int x), l7, l8, l9, l10] r σ Q = (oc l5 = true ∧ aw g 64 156 [l0, l1, l2, l3, l4, l5, some (.int (x + 1)), l7, l8, l9, l10] r σ Q) := (aw_eq g 64 153 _ _ _ _).trans (by rw [tq64_153]; exact (h_iinc (o := oc l5) rfl rfl rfl))
theorem tq64_156 : tT g 64 156 = s_goto 64 129 := rfl
theorem A64_156 {L : AL} {r : List Value} : aw g 64 156 L r σ Q = aw g 64 129 L r σ Q := (aw_eq g 64 156 _ _ _ _).trans (by rw [tq64_156]; exact rfl)
theorem tq64_159 : tT g 64 159 = s_const 64 160 (.int 3) := rfl
theorem A64_159 {L : AL} {r : List Value} : aw g 64 159 L r σ Q = aw g 64 160 L (.int 3 :: r) σ Q := (aw_eq g 64 159 _ _ _ _).trans (by rw [tq64_159]; exact rfl)
theorem tq64_160 : tT g 64 160 = s_newa g 64 162 20 (.int 0) := rfl
theorem A64_160 {L : AL} {r : List Value} {x : Int32} : aw g 64 160 L (.int x :: r) σ Q = (¬ x < 0 ∧ x.toNatClampNeg ≤ 65536 ∧ hsz σ + 1 ≤ gC g ∧ hsl σ + x.toNatClampNeg ≤ gS g ∧ aw g 64 162 L (.ref (hsz σ) :: r) (hnew σ 20 x.toNatClampNeg (fun _ => .int 0) x.toNatClampNeg) Q) := (aw_eq g 64 160 _ _ _ _).trans (by rw [tq64_160]; exact rfl)
theorem tq64_162 : tT g 64 162 = s_dup 64 163 := rfl
theorem A64_162 {L : AL} {r : List Value} {v : Value} : aw g 64 162 L (v :: r) σ Q = (v.category = 1 ∧ aw g 64 163 L (v :: v :: r) σ Q) := (aw_eq g 64 162 _ _ _ _).trans (by rw [tq64_162]; exact rfl)
theorem tq64_163 : tT g 64 163 = s_const 64 164 (.int 0) := rfl
theorem A64_163 {L : AL} {r : List Value} : aw g 64 163 L r σ Q = aw g 64 164 L (.int 0 :: r) σ Q := (aw_eq g 64 163 _ _ _ _).trans (by rw [tq64_163]; exact rfl)
theorem tq64_164 : tT g 64 164 = s_const 64 165 (.int 0) := rfl
theorem A64_164 {L : AL} {r : List Value} : aw g 64 164 L r σ Q = aw g 64 165 L (.int 0 :: r) σ Q := (aw_eq g 64 164 _ _ _ _).trans (by rw [tq64_164]; exact rfl)
theorem tq64_165 : tT g 64 165 = s_ast g (fun _ v => vI v = true) 64 166 20 := rfl
theorem A64_165 {L : AL} {r : List Value} {a : Nat} {i : Int32} {v : Value} : aw g 64 165 L (v :: .int i :: .ref a :: r) σ Q = (hty σ a = some 20 ∧ gB g ≤ a ∧ ¬ i < 0 ∧ i.toNatClampNeg < hln σ a ∧ vI v = true ∧ aw g 64 166 L r (hput σ 20 a i.toNatClampNeg v) Q) := (aw_eq g 64 165 _ _ _ _).trans (by rw [tq64_165]; exact rfl)
theorem tq64_166 : tT g 64 166 = s_dup 64 167 := rfl
theorem A64_166 {L : AL} {r : List Value} {v : Value} : aw g 64 166 L (v :: r) σ Q = (v.category = 1 ∧ aw g 64 167 L (v :: v :: r) σ Q) := (aw_eq g 64 166 _ _ _ _).trans (by rw [tq64_166]; exact rfl)
theorem tq64_167 : tT g 64 167 = s_const 64 168 (.int 1) := rfl
theorem A64_167 {L : AL} {r : List Value} : aw g 64 167 L r σ Q = aw g 64 168 L (.int 1 :: r) σ Q := (aw_eq g 64 167 _ _ _ _).trans (by rw [tq64_167]; exact rfl)
theorem tq64_168 : tT g 64 168 = s_const 64 169 (.int 5) := rfl
theorem A64_168 {L : AL} {r : List Value} : aw g 64 168 L r σ Q = aw g 64 169 L (.int 5 :: r) σ Q := (aw_eq g 64 168 _ _ _ _).trans (by rw [tq64_168]; exact rfl)
theorem tq64_169 : tT g 64 169 = s_ast g (fun _ v => vI v = true) 64 170 20 := rfl
theorem A64_169 {L : AL} {r : List Value} {a : Nat} {i : Int32} {v : Value} : aw g 64 169 L (v :: .int i :: .ref a :: r) σ Q = (hty σ a = some 20 ∧ gB g ≤ a ∧ ¬ i < 0 ∧ i.toNatClampNeg < hln σ a ∧ vI v = true ∧ aw g 64 170 L r (hput σ 20 a i.toNatClampNeg v) Q) := (aw_eq g 64 169 _ _ _ _).trans (by rw [tq64_169]; exact rfl)
theorem tq64_170 : tT g 64 170 = s_dup 64 171 := rfl
theorem A64_170 {L : AL} {r : List Value} {v : Value} : aw g 64 170 L (v :: r) σ Q = (v.category = 1 ∧ aw g 64 171 L (v :: v :: r) σ Q) := (aw_eq g 64 170 _ _ _ _).trans (by rw [tq64_170]; exact rfl)
theorem tq64_171 : tT g 64 171 = s_const 64 172 (.int 2) := rfl
theorem A64_171 {L : AL} {r : List Value} : aw g 64 171 L r σ Q = aw g 64 172 L (.int 2 :: r) σ Q := (aw_eq g 64 171 _ _ _ _).trans (by rw [tq64_171]; exact rfl)
theorem tq64_172 : tT g 64 172 = s_const 64 174 (.int 12) := rfl
theorem A64_172 {L : AL} {r : List Value} : aw g 64 172 L r σ Q = aw g 64 174 L (.int 12 :: r) σ Q := (aw_eq g 64 172 _ _ _ _).trans (by rw [tq64_172]; exact rfl)
theorem tq64_174 : tT g 64 174 = s_ast g (fun _ v => vI v = true) 64 175 20 := rfl
theorem A64_174 {L : AL} {r : List Value} {a : Nat} {i : Int32} {v : Value} : aw g 64 174 L (v :: .int i :: .ref a :: r) σ Q = (hty σ a = some 20 ∧ gB g ≤ a ∧ ¬ i < 0 ∧ i.toNatClampNeg < hln σ a ∧ vI v = true ∧ aw g 64 175 L r (hput σ 20 a i.toNatClampNeg v) Q) := (aw_eq g 64 174 _ _ _ _).trans (by rw [tq64_174]; exact rfl)
theorem tq64_175 : tT g 64 175 = s_store vRf 64 177 6 := rfl
theorem A64_175 {l0 : Option Value} {l1 : Option Value} {l2 : Option Value} {l3 : Option Value} {l4 : Option Value} {l5 : Option Value} {l6 : Option Value} {l7 : Option Value} {l8 : Option Value} {l9 : Option Value} {l10 : Option Value} {x : Value} {r : List Value} : aw g 64 175 [l0, l1, l2, l3, l4, l5, l6, l7, l8, l9, l10] (x :: r) σ Q = (vRf x = true ∧ oc l5 = true ∧ aw g 64 177 [l0, l1, l2, l3, l4, l5, some (x), l7, l8, l9, l10] r σ Q) := (aw_eq g 64 175 _ _ _ _).trans (by rw [tq64_175]; exact (h_store (o := oc l5) rfl rfl rfl))
theorem tq64_177 : tT g 64 177 = s_load vRf 64 179 6 := rfl
theorem A64_177 {l0 : Option Value} {l1 : Option Value} {l2 : Option Value} {l3 : Option Value} {l4 : Option Value} {l5 : Option Value} {l7 : Option Value} {l8 : Option Value} {l9 : Option Value} {l10 : Option Value} {x : Value} {r : List Value} : aw g 64 177 [l0, l1, l2, l3, l4, l5, some (x), l7, l8, l9, l10] r σ Q = (vRf x = true ∧ aw g 64 179 [l0, l1, l2, l3, l4, l5, some (x), l7, l8, l9, l10] (x :: r) σ Q) := (aw_eq g 64 177 _ _ _ _).trans (by rw [tq64_177]; exact h_load rfl)
theorem tq64_179 : tT g 64 179 = s_store vRf 64 181 7 := rfl
theorem A64_179 {l0 : Option Value} {l1 : Option Value} {l2 : Option Value} {l3 : Option Value} {l4 : Option Value} {l5 : Option Value} {l6 : Option Value} {l7 : Option Value} {l8 : Option Value} {l9 : Option Value} {l10 : Option Value} {x : Value} {r : List Value} : aw g 64 179 [l0, l1, l2, l3, l4, l5, l6, l7, l8, l9, l10] (x :: r) σ Q = (vRf x = true ∧ oc l6 = true ∧ aw g 64 181 [l0, l1, l2, l3, l4, l5, l6, some (x), l8, l9, l10] r σ Q) := (aw_eq g 64 179 _ _ _ _).trans (by rw [tq64_179]; exact (h_store (o := oc l6) rfl rfl rfl))
theorem tq64_181 : tT g 64 181 = s_load vRf 64 183 7 := rfl
theorem A64_181 {l0 : Option Value} {l1 : Option Value} {l2 : Option Value} {l3 : Option Value} {l4 : Option Value} {l5 : Option Value} {l6 : Option Value} {l8 : Option Value} {l9 : Option Value} {l10 : Option Value} {x : Value} {r : List Value} : aw g 64 181 [l0, l1, l2, l3, l4, l5, l6, some (x), l8, l9, l10] r σ Q = (vRf x = true ∧ aw g 64 183 [l0, l1, l2, l3, l4, l5, l6, some (x), l8, l9, l10] (x :: r) σ Q) := (aw_eq g 64 181 _ _ _ _).trans (by rw [tq64_181]; exact h_load rfl)
theorem tq64_183 : tT g 64 183 = s_alen 64 184 20 := rfl
theorem A64_183 {L : AL} {r : List Value} {a : Nat} : aw g 64 183 L (.ref a :: r) σ Q = (hty σ a = some 20 ∧ aw g 64 184 L (.int (Int32.ofNat (hln σ a)) :: r) σ Q) := (aw_eq g 64 183 _ _ _ _).trans (by rw [tq64_183]; exact rfl)
theorem tq64_184 : tT g 64 184 = s_store vI 64 186 8 := rfl
theorem A64_184 {l0 : Option Value} {l1 : Option Value} {l2 : Option Value} {l3 : Option Value} {l4 : Option Value} {l5 : Option Value} {l6 : Option Value} {l7 : Option Value} {l8 : Option Value} {l9 : Option Value} {l10 : Option Value} {x : Int32} {r : List Value} : aw g 64 184 [l0, l1, l2, l3, l4, l5, l6, l7, l8, l9, l10] (.int x :: r) σ Q = (oc l7 = true ∧ aw g 64 186 [l0, l1, l2, l3, l4, l5, l6, l7, some (.int x), l9, l10] r σ Q) := (aw_eq g 64 184 _ _ _ _).trans (by rw [tq64_184]; exact (h_store (o := oc l7) rfl rfl rfl).trans (propext ⟨fun z => z.2, fun z => ⟨rfl, z⟩⟩))
theorem tq64_186 : tT g 64 186 = s_const 64 187 (.int 0) := rfl
theorem A64_186 {L : AL} {r : List Value} : aw g 64 186 L r σ Q = aw g 64 187 L (.int 0 :: r) σ Q := (aw_eq g 64 186 _ _ _ _).trans (by rw [tq64_186]; exact rfl)
theorem tq64_187 : tT g 64 187 = s_store vI 64 189 9 := rfl
theorem A64_187 {l0 : Option Value} {l1 : Option Value} {l2 : Option Value} {l3 : Option Value} {l4 : Option Value} {l5 : Option Value} {l6 : Option Value} {l7 : Option Value} {l8 : Option Value} {l9 : Option Value} {l10 : Option Value} {x : Int32} {r : List Value} : aw g 64 187 [l0, l1, l2, l3, l4, l5, l6, l7, l8, l9, l10] (.int x :: r) σ Q = (oc l8 = true ∧ aw g 64 189 [l0, l1, l2, l3, l4, l5, l6, l7, l8, some (.int x), l10] r σ Q) := (aw_eq g 64 187 _ _ _ _).trans (by rw [tq64_187]; exact (h_store (o := oc l8) rfl rfl rfl).trans (propext ⟨fun z => z.2, fun z => ⟨rfl, z⟩⟩))
theorem tq64_189 : tT g 64 189 = s_load vI 64 191 9 := rfl
theorem A64_189 {l0 : Option Value} {l1 : Option Value} {l2 : Option Value} {l3 : Option Value} {l4 : Option Value} {l5 : Option Value} {l6 : Option Value} {l7 : Option Value} {l8 : Option Value} {l10 : Option Value} {x : Int32} {r : List Value} : aw g 64 189 [l0, l1, l2, l3, l4, l5, l6, l7, l8, some (.int x), l10] r σ Q = aw g 64 191 [l0, l1, l2, l3, l4, l5, l6, l7, l8, some (.int x), l10] (.int x :: r) σ Q := (aw_eq g 64 189 _ _ _ _).trans (by rw [tq64_189]; exact (h_load rfl).trans (propext ⟨fun z => z.2, fun z => ⟨rfl, z⟩⟩))
theorem tq64_191 : tT g 64 191 = s_load vI 64 193 8 := rfl
theorem A64_191 {l0 : Option Value} {l1 : Option Value} {l2 : Option Value} {l3 : Option Value} {l4 : Option Value} {l5 : Option Value} {l6 : Option Value} {l7 : Option Value} {l9 : Option Value} {l10 : Option Value} {x : Int32} {r : List Value} : aw g 64 191 [l0, l1, l2, l3, l4, l5, l6, l7, some (.int x), l9, l10] r σ Q = aw g 64 193 [l0, l1, l2, l3, l4, l5, l6, l7, some (.int x), l9, l10] (.int x :: r) σ Q := (aw_eq g 64 191 _ _ _ _).trans (by rw [tq64_191]; exact (h_load rfl).trans (propext ⟨fun z => z.2, fun z => ⟨rfl, z⟩⟩))
theorem tq64_193 : tT g 64 193 = s_icmp 64 196 246 (fun a b => b ≤ a) := rfl
theorem A64_193 {L : AL} {r : List Value} {a b : Int32} : aw g 64 193 L (.int b :: .int a :: r) σ Q = ((b ≤ a → aw g 64 246 L r σ Q) ∧ (¬ b ≤ a → aw g 64 196 L r σ Q)) := (aw_eq g 64 193 _ _ _ _).trans (by rw [tq64_193]; exact rfl)
theorem tq64_196 : tT g 64 196 = s_load vRf 64 198 7 := rfl
theorem A64_196 {l0 : Option Value} {l1 : Option Value} {l2 : Option Value} {l3 : Option Value} {l4 : Option Value} {l5 : Option Value} {l6 : Option Value} {l8 : Option Value} {l9 : Option Value} {l10 : Option Value} {x : Value} {r : List Value} : aw g 64 196 [l0, l1, l2, l3, l4, l5, l6, some (x), l8, l9, l10] r σ Q = (vRf x = true ∧ aw g 64 198 [l0, l1, l2, l3, l4, l5, l6, some (x), l8, l9, l10] (x :: r) σ Q) := (aw_eq g 64 196 _ _ _ _).trans (by rw [tq64_196]; exact h_load rfl)
theorem tq64_198 : tT g 64 198 = s_load vI 64 200 9 := rfl
theorem A64_198 {l0 : Option Value} {l1 : Option Value} {l2 : Option Value} {l3 : Option Value} {l4 : Option Value} {l5 : Option Value} {l6 : Option Value} {l7 : Option Value} {l8 : Option Value} {l10 : Option Value} {x : Int32} {r : List Value} : aw g 64 198 [l0, l1, l2, l3, l4, l5, l6, l7, l8, some (.int x), l10] r σ Q = aw g 64 200 [l0, l1, l2, l3, l4, l5, l6, l7, l8, some (.int x), l10] (.int x :: r) σ Q := (aw_eq g 64 198 _ _ _ _).trans (by rw [tq64_198]; exact (h_load rfl).trans (propext ⟨fun z => z.2, fun z => ⟨rfl, z⟩⟩))
theorem tq64_200 : tT g 64 200 = s_ald 64 201 20 := rfl
theorem A64_200 {L : AL} {r : List Value} {a : Nat} {i : Int32} : aw g 64 200 L (.int i :: .ref a :: r) σ Q = (hty σ a = some 20 ∧ ¬ i < 0 ∧ i.toNatClampNeg < hln σ a ∧ aw g 64 201 L (hv σ 20 a i.toNatClampNeg :: r) σ Q) := (aw_eq g 64 200 _ _ _ _).trans (by rw [tq64_200]; exact rfl)
theorem tq64_201 : tT g 64 201 = s_store vI 64 203 10 := rfl
theorem A64_201 {l0 : Option Value} {l1 : Option Value} {l2 : Option Value} {l3 : Option Value} {l4 : Option Value} {l5 : Option Value} {l6 : Option Value} {l7 : Option Value} {l8 : Option Value} {l9 : Option Value} {l10 : Option Value} {x : Int32} {r : List Value} : aw g 64 201 [l0, l1, l2, l3, l4, l5, l6, l7, l8, l9, l10] (.int x :: r) σ Q = (oc l9 = true ∧ aw g 64 203 [l0, l1, l2, l3, l4, l5, l6, l7, l8, l9, some (.int x)] r σ Q) := (aw_eq g 64 201 _ _ _ _).trans (by rw [tq64_201]; exact (h_store (o := oc l9) rfl rfl rfl).trans (propext ⟨fun z => z.2, fun z => ⟨rfl, z⟩⟩))
theorem tq64_203 : tT g 64 203 = s_load vL 64 205 4 := rfl
theorem A64_203 {l0 : Option Value} {l1 : Option Value} {l2 : Option Value} {l3 : Option Value} {l5 : Option Value} {l6 : Option Value} {l7 : Option Value} {l8 : Option Value} {l9 : Option Value} {l10 : Option Value} {x : Int64} {r : List Value} : aw g 64 203 [l0, l1, l2, l3, some (.long x), l5, l6, l7, l8, l9, l10] r σ Q = aw g 64 205 [l0, l1, l2, l3, some (.long x), l5, l6, l7, l8, l9, l10] (.long x :: r) σ Q := (aw_eq g 64 203 _ _ _ _).trans (by rw [tq64_203]; exact (h_load rfl).trans (propext ⟨fun z => z.2, fun z => ⟨rfl, z⟩⟩))
theorem tq64_205 : tT g 64 205 = s_load vRf 64 206 3 := rfl
theorem A64_205 {l0 : Option Value} {l1 : Option Value} {l2 : Option Value} {l4 : Option Value} {l5 : Option Value} {l6 : Option Value} {l7 : Option Value} {l8 : Option Value} {l9 : Option Value} {l10 : Option Value} {x : Value} {r : List Value} : aw g 64 205 [l0, l1, l2, some (x), l4, l5, l6, l7, l8, l9, l10] r σ Q = (vRf x = true ∧ aw g 64 206 [l0, l1, l2, some (x), l4, l5, l6, l7, l8, l9, l10] (x :: r) σ Q) := (aw_eq g 64 205 _ _ _ _).trans (by rw [tq64_205]; exact h_load rfl)
theorem tq64_206 : tT g 64 206 = s_load vI 64 208 10 := rfl
theorem A64_206 {l0 : Option Value} {l1 : Option Value} {l2 : Option Value} {l3 : Option Value} {l4 : Option Value} {l5 : Option Value} {l6 : Option Value} {l7 : Option Value} {l8 : Option Value} {l9 : Option Value} {x : Int32} {r : List Value} : aw g 64 206 [l0, l1, l2, l3, l4, l5, l6, l7, l8, l9, some (.int x)] r σ Q = aw g 64 208 [l0, l1, l2, l3, l4, l5, l6, l7, l8, l9, some (.int x)] (.int x :: r) σ Q := (aw_eq g 64 206 _ _ _ _).trans (by rw [tq64_206]; exact (h_load rfl).trans (propext ⟨fun z => z.2, fun z => ⟨rfl, z⟩⟩))
theorem tq64_208 : tT g 64 208 = s_const 64 209 (.int 0) := rfl
theorem A64_208 {L : AL} {r : List Value} : aw g 64 208 L r σ Q = aw g 64 209 L (.int 0 :: r) σ Q := (aw_eq g 64 208 _ _ _ _).trans (by rw [tq64_208]; exact rfl)
theorem tq64_209 : tT g 64 209 = s_callk 64 212 70 [1, 0, 0] 4 := rfl
theorem A64_209 {L : AL} {r : List Value} {w0 w1 w2 : Value} : aw g 64 209 L (w2 :: w1 :: w0 :: r) σ Q = ((vRf w0 && (vI w1 && (vI w2 && true))) = true ∧ csum r ≤ 8 ∧ aw g 70 0 [some w0, some w1, some w2, none] [] σ (kt (aw g) 64 212 L r Q)) := (aw_eq g 64 209 _ _ _ _).trans (by rw [tq64_209]; exact rfl)
theorem tq64_212 : tT g 64 212 = s_i2 64 213 (fun a => .long a.toInt64) := rfl
theorem A64_212 {L : AL} {r : List Value} {a : Int32} : aw g 64 212 L (.int a :: r) σ Q = aw g 64 213 L (.long a.toInt64 :: r) σ Q := (aw_eq g 64 212 _ _ _ _).trans (by rw [tq64_212]; exact rfl)
theorem tq64_213 : tT g 64 213 = s_callk 64 216 63 [2, 2] 4 := rfl
theorem A64_213 {L : AL} {r : List Value} {w0 w1 : Value} : aw g 64 213 L (w1 :: w0 :: r) σ Q = ((vL w0 && (vL w1 && true)) = true ∧ csum r ≤ 8 ∧ aw g 63 0 [some w0, none, some w1, none] [] σ (kt (aw g) 64 216 L r Q)) := (aw_eq g 64 213 _ _ _ _).trans (by rw [tq64_213]; exact rfl)
theorem tq64_216 : tT g 64 216 = s_load vRf 64 217 3 := rfl
theorem A64_216 {l0 : Option Value} {l1 : Option Value} {l2 : Option Value} {l4 : Option Value} {l5 : Option Value} {l6 : Option Value} {l7 : Option Value} {l8 : Option Value} {l9 : Option Value} {l10 : Option Value} {x : Value} {r : List Value} : aw g 64 216 [l0, l1, l2, some (x), l4, l5, l6, l7, l8, l9, l10] r σ Q = (vRf x = true ∧ aw g 64 217 [l0, l1, l2, some (x), l4, l5, l6, l7, l8, l9, l10] (x :: r) σ Q) := (aw_eq g 64 216 _ _ _ _).trans (by rw [tq64_216]; exact h_load rfl)
theorem tq64_217 : tT g 64 217 = s_load vI 64 219 10 := rfl
theorem A64_217 {l0 : Option Value} {l1 : Option Value} {l2 : Option Value} {l3 : Option Value} {l4 : Option Value} {l5 : Option Value} {l6 : Option Value} {l7 : Option Value} {l8 : Option Value} {l9 : Option Value} {x : Int32} {r : List Value} : aw g 64 217 [l0, l1, l2, l3, l4, l5, l6, l7, l8, l9, some (.int x)] r σ Q = aw g 64 219 [l0, l1, l2, l3, l4, l5, l6, l7, l8, l9, some (.int x)] (.int x :: r) σ Q := (aw_eq g 64 217 _ _ _ _).trans (by rw [tq64_217]; exact (h_load rfl).trans (propext ⟨fun z => z.2, fun z => ⟨rfl, z⟩⟩))
theorem tq64_219 : tT g 64 219 = s_const 64 220 (.int 1) := rfl
theorem A64_219 {L : AL} {r : List Value} : aw g 64 219 L r σ Q = aw g 64 220 L (.int 1 :: r) σ Q := (aw_eq g 64 219 _ _ _ _).trans (by rw [tq64_219]; exact rfl)
theorem tq64_220 : tT g 64 220 = s_callk 64 223 70 [1, 0, 0] 4 := rfl
theorem A64_220 {L : AL} {r : List Value} {w0 w1 w2 : Value} : aw g 64 220 L (w2 :: w1 :: w0 :: r) σ Q = ((vRf w0 && (vI w1 && (vI w2 && true))) = true ∧ csum r ≤ 8 ∧ aw g 70 0 [some w0, some w1, some w2, none] [] σ (kt (aw g) 64 223 L r Q)) := (aw_eq g 64 220 _ _ _ _).trans (by rw [tq64_220]; exact rfl)
theorem tq64_223 : tT g 64 223 = s_i2 64 224 (fun a => .long a.toInt64) := rfl
theorem A64_223 {L : AL} {r : List Value} {a : Int32} : aw g 64 223 L (.int a :: r) σ Q = aw g 64 224 L (.long a.toInt64 :: r) σ Q := (aw_eq g 64 223 _ _ _ _).trans (by rw [tq64_223]; exact rfl)
theorem tq64_224 : tT g 64 224 = s_callk 64 227 63 [2, 2] 4 := rfl
theorem A64_224 {L : AL} {r : List Value} {w0 w1 : Value} : aw g 64 224 L (w1 :: w0 :: r) σ Q = ((vL w0 && (vL w1 && true)) = true ∧ csum r ≤ 8 ∧ aw g 63 0 [some w0, none, some w1, none] [] σ (kt (aw g) 64 227 L r Q)) := (aw_eq g 64 224 _ _ _ _).trans (by rw [tq64_224]; exact rfl)
theorem tq64_227 : tT g 64 227 = s_load vRf 64 228 3 := rfl
theorem A64_227 {l0 : Option Value} {l1 : Option Value} {l2 : Option Value} {l4 : Option Value} {l5 : Option Value} {l6 : Option Value} {l7 : Option Value} {l8 : Option Value} {l9 : Option Value} {l10 : Option Value} {x : Value} {r : List Value} : aw g 64 227 [l0, l1, l2, some (x), l4, l5, l6, l7, l8, l9, l10] r σ Q = (vRf x = true ∧ aw g 64 228 [l0, l1, l2, some (x), l4, l5, l6, l7, l8, l9, l10] (x :: r) σ Q) := (aw_eq g 64 227 _ _ _ _).trans (by rw [tq64_227]; exact h_load rfl)
theorem tq64_228 : tT g 64 228 = s_load vI 64 230 10 := rfl
theorem A64_228 {l0 : Option Value} {l1 : Option Value} {l2 : Option Value} {l3 : Option Value} {l4 : Option Value} {l5 : Option Value} {l6 : Option Value} {l7 : Option Value} {l8 : Option Value} {l9 : Option Value} {x : Int32} {r : List Value} : aw g 64 228 [l0, l1, l2, l3, l4, l5, l6, l7, l8, l9, some (.int x)] r σ Q = aw g 64 230 [l0, l1, l2, l3, l4, l5, l6, l7, l8, l9, some (.int x)] (.int x :: r) σ Q := (aw_eq g 64 228 _ _ _ _).trans (by rw [tq64_228]; exact (h_load rfl).trans (propext ⟨fun z => z.2, fun z => ⟨rfl, z⟩⟩))
theorem tq64_230 : tT g 64 230 = s_const 64 231 (.int (-1)) := rfl
theorem A64_230 {L : AL} {r : List Value} : aw g 64 230 L r σ Q = aw g 64 231 L (.int (-1) :: r) σ Q := (aw_eq g 64 230 _ _ _ _).trans (by rw [tq64_230]; exact rfl)
theorem tq64_231 : tT g 64 231 = s_callk 64 234 70 [1, 0, 0] 4 := rfl
theorem A64_231 {L : AL} {r : List Value} {w0 w1 w2 : Value} : aw g 64 231 L (w2 :: w1 :: w0 :: r) σ Q = ((vRf w0 && (vI w1 && (vI w2 && true))) = true ∧ csum r ≤ 8 ∧ aw g 70 0 [some w0, some w1, some w2, none] [] σ (kt (aw g) 64 234 L r Q)) := (aw_eq g 64 231 _ _ _ _).trans (by rw [tq64_231]; exact rfl)
theorem tq64_234 : tT g 64 234 = s_i2 64 235 (fun a => .long a.toInt64) := rfl
theorem A64_234 {L : AL} {r : List Value} {a : Int32} : aw g 64 234 L (.int a :: r) σ Q = aw g 64 235 L (.long a.toInt64 :: r) σ Q := (aw_eq g 64 234 _ _ _ _).trans (by rw [tq64_234]; exact rfl)
theorem tq64_235 : tT g 64 235 = s_callk 64 238 63 [2, 2] 4 := rfl
theorem A64_235 {L : AL} {r : List Value} {w0 w1 : Value} : aw g 64 235 L (w1 :: w0 :: r) σ Q = ((vL w0 && (vL w1 && true)) = true ∧ csum r ≤ 8 ∧ aw g 63 0 [some w0, none, some w1, none] [] σ (kt (aw g) 64 238 L r Q)) := (aw_eq g 64 235 _ _ _ _).trans (by rw [tq64_235]; exact rfl)
theorem tq64_238 : tT g 64 238 = s_store2 vL 64 240 4 := rfl
theorem A64_238 {l0 : Option Value} {l1 : Option Value} {l2 : Option Value} {l3 : Option Value} {l4 : Option Value} {l5 : Option Value} {l6 : Option Value} {l7 : Option Value} {l8 : Option Value} {l9 : Option Value} {l10 : Option Value} {x : Int64} {r : List Value} : aw g 64 238 [l0, l1, l2, l3, l4, l5, l6, l7, l8, l9, l10] (.long x :: r) σ Q = (oc l3 = true ∧ aw g 64 240 [l0, l1, l2, l3, some (.long x), none, l6, l7, l8, l9, l10] r σ Q) := (aw_eq g 64 238 _ _ _ _).trans (by rw [tq64_238]; exact (h_store2 (o := oc l3) rfl rfl rfl).trans (propext ⟨fun z => z.2, fun z => ⟨rfl, z⟩⟩))
theorem tq64_240 : tT g 64 240 = s_iinc 64 243 9 1 := rfl
theorem A64_240 {l0 : Option Value} {l1 : Option Value} {l2 : Option Value} {l3 : Option Value} {l4 : Option Value} {l5 : Option Value} {l6 : Option Value} {l7 : Option Value} {l8 : Option Value} {l10 : Option Value} {x : Int32} {r : List Value} : aw g 64 240 [l0, l1, l2, l3, l4, l5, l6, l7, l8, some (.int x), l10] r σ Q = (oc l8 = true ∧ aw g 64 243 [l0, l1, l2, l3, l4, l5, l6, l7, l8, some (.int (x + 1)), l10] r σ Q) := (aw_eq g 64 240 _ _ _ _).trans (by rw [tq64_240]; exact (h_iinc (o := oc l8) rfl rfl rfl))
theorem tq64_243 : tT g 64 243 = s_goto 64 189 := rfl
theorem A64_243 {L : AL} {r : List Value} : aw g 64 243 L r σ Q = aw g 64 189 L r σ Q := (aw_eq g 64 243 _ _ _ _).trans (by rw [tq64_243]; exact rfl)
theorem tq64_246 : tT g 64 246 = s_load vL 64 248 4 := rfl
theorem A64_246 {l0 : Option Value} {l1 : Option Value} {l2 : Option Value} {l3 : Option Value} {l5 : Option Value} {l6 : Option Value} {l7 : Option Value} {l8 : Option Value} {l9 : Option Value} {l10 : Option Value} {x : Int64} {r : List Value} : aw g 64 246 [l0, l1, l2, l3, some (.long x), l5, l6, l7, l8, l9, l10] r σ Q = aw g 64 248 [l0, l1, l2, l3, some (.long x), l5, l6, l7, l8, l9, l10] (.long x :: r) σ Q := (aw_eq g 64 246 _ _ _ _).trans (by rw [tq64_246]; exact (h_load rfl).trans (propext ⟨fun z => z.2, fun z => ⟨rfl, z⟩⟩))
theorem tq64_248 : tT g 64 248 = s_load vRf 64 249 0 := rfl
theorem A64_248 {l1 : Option Value} {l2 : Option Value} {l3 : Option Value} {l4 : Option Value} {l5 : Option Value} {l6 : Option Value} {l7 : Option Value} {l8 : Option Value} {l9 : Option Value} {l10 : Option Value} {x : Value} {r : List Value} : aw g 64 248 [some (x), l1, l2, l3, l4, l5, l6, l7, l8, l9, l10] r σ Q = (vRf x = true ∧ aw g 64 249 [some (x), l1, l2, l3, l4, l5, l6, l7, l8, l9, l10] (x :: r) σ Q) := (aw_eq g 64 248 _ _ _ _).trans (by rw [tq64_248]; exact h_load rfl)
theorem tq64_249 : tT g 64 249 = s_load vRf 64 250 3 := rfl
theorem A64_249 {l0 : Option Value} {l1 : Option Value} {l2 : Option Value} {l4 : Option Value} {l5 : Option Value} {l6 : Option Value} {l7 : Option Value} {l8 : Option Value} {l9 : Option Value} {l10 : Option Value} {x : Value} {r : List Value} : aw g 64 249 [l0, l1, l2, some (x), l4, l5, l6, l7, l8, l9, l10] r σ Q = (vRf x = true ∧ aw g 64 250 [l0, l1, l2, some (x), l4, l5, l6, l7, l8, l9, l10] (x :: r) σ Q) := (aw_eq g 64 249 _ _ _ _).trans (by rw [tq64_249]; exact h_load rfl)
theorem tq64_250 : tT g 64 250 = s_getf 64 253 5 0 := rfl
theorem A64_250 {L : AL} {r : List Value} {a : Nat} : aw g 64 250 L (.ref a :: r) σ Q = (hty σ a = some 5 ∧ aw g 64 253 L (hv σ 5 a 0 :: r) σ Q) := (aw_eq g 64 250 _ _ _ _).trans (by rw [tq64_250]; exact rfl)
theorem tq64_253 : tT g 64 253 = s_const 64 255 (.int 10) := rfl
theorem A64_253 {L : AL} {r : List Value} : aw g 64 253 L r σ Q = aw g 64 255 L (.int 10 :: r) σ Q := (aw_eq g 64 253 _ _ _ _).trans (by rw [tq64_253]; exact rfl)
theorem tq64_255 : tT g 64 255 = s_callvk 64 258 71 0 [0, 0] 4 := rfl
theorem A64_255 {L : AL} {r : List Value} {a : Nat} {w0 w1 : Value} : aw g 64 255 L (w1 :: w0 :: .ref a :: r) σ Q = (hty σ a = some 0 ∧ (vI w0 && (vI w1 && true)) = true ∧ csum r ≤ 8 ∧ aw g 71 0 [some (.ref a), some w0, some w1, none] [] σ (kt (aw g) 64 258 L r Q)) := (aw_eq g 64 255 _ _ _ _).trans (by rw [tq64_255]; exact rfl)
theorem tq64_258 : tT g 64 258 = s_i2 64 259 (fun a => .long a.toInt64) := rfl
theorem A64_258 {L : AL} {r : List Value} {a : Int32} : aw g 64 258 L (.int a :: r) σ Q = aw g 64 259 L (.long a.toInt64 :: r) σ Q := (aw_eq g 64 258 _ _ _ _).trans (by rw [tq64_258]; exact rfl)
theorem tq64_259 : tT g 64 259 = s_callk 64 262 63 [2, 2] 4 := rfl
theorem A64_259 {L : AL} {r : List Value} {w0 w1 : Value} : aw g 64 259 L (w1 :: w0 :: r) σ Q = ((vL w0 && (vL w1 && true)) = true ∧ csum r ≤ 8 ∧ aw g 63 0 [some w0, none, some w1, none] [] σ (kt (aw g) 64 262 L r Q)) := (aw_eq g 64 259 _ _ _ _).trans (by rw [tq64_259]; exact rfl)
theorem tq64_262 : tT g 64 262 = s_store2 vL 64 264 4 := rfl
theorem A64_262 {l0 : Option Value} {l1 : Option Value} {l2 : Option Value} {l3 : Option Value} {l4 : Option Value} {l5 : Option Value} {l6 : Option Value} {l7 : Option Value} {l8 : Option Value} {l9 : Option Value} {l10 : Option Value} {x : Int64} {r : List Value} : aw g 64 262 [l0, l1, l2, l3, l4, l5, l6, l7, l8, l9, l10] (.long x :: r) σ Q = (oc l3 = true ∧ aw g 64 264 [l0, l1, l2, l3, some (.long x), none, l6, l7, l8, l9, l10] r σ Q) := (aw_eq g 64 262 _ _ _ _).trans (by rw [tq64_262]; exact (h_store2 (o := oc l3) rfl rfl rfl).trans (propext ⟨fun z => z.2, fun z => ⟨rfl, z⟩⟩))
theorem tq64_264 : tT g 64 264 = s_load vRf 64 265 3 := rfl
theorem A64_264 {l0 : Option Value} {l1 : Option Value} {l2 : Option Value} {l4 : Option Value} {l5 : Option Value} {l6 : Option Value} {l7 : Option Value} {l8 : Option Value} {l9 : Option Value} {l10 : Option Value} {x : Value} {r : List Value} : aw g 64 264 [l0, l1, l2, some (x), l4, l5, l6, l7, l8, l9, l10] r σ Q = (vRf x = true ∧ aw g 64 265 [l0, l1, l2, some (x), l4, l5, l6, l7, l8, l9, l10] (x :: r) σ Q) := (aw_eq g 64 264 _ _ _ _).trans (by rw [tq64_264]; exact h_load rfl)
theorem tq64_265 : tT g 64 265 = s_callk 64 268 72 [1] 1 := rfl
theorem A64_265 {L : AL} {r : List Value} {w0 : Value} : aw g 64 265 L (w0 :: r) σ Q = ((vRf w0 && true) = true ∧ csum r ≤ 8 ∧ aw g 72 0 [some w0] [] σ (kt (aw g) 64 268 L r Q)) := (aw_eq g 64 265 _ _ _ _).trans (by rw [tq64_265]; exact rfl)
theorem tq64_268 : tT g 64 268 = s_if 64 271 289 (fun a => a = 0) := rfl
theorem A64_268 {L : AL} {r : List Value} {a : Int32} : aw g 64 268 L (.int a :: r) σ Q = ((a = 0 → aw g 64 289 L r σ Q) ∧ (¬ a = 0 → aw g 64 271 L r σ Q)) := (aw_eq g 64 268 _ _ _ _).trans (by rw [tq64_268]; exact rfl)
theorem tq64_271 : tT g 64 271 = s_load vL 64 273 4 := rfl
theorem A64_271 {l0 : Option Value} {l1 : Option Value} {l2 : Option Value} {l3 : Option Value} {l5 : Option Value} {l6 : Option Value} {l7 : Option Value} {l8 : Option Value} {l9 : Option Value} {l10 : Option Value} {x : Int64} {r : List Value} : aw g 64 271 [l0, l1, l2, l3, some (.long x), l5, l6, l7, l8, l9, l10] r σ Q = aw g 64 273 [l0, l1, l2, l3, some (.long x), l5, l6, l7, l8, l9, l10] (.long x :: r) σ Q := (aw_eq g 64 271 _ _ _ _).trans (by rw [tq64_271]; exact (h_load rfl).trans (propext ⟨fun z => z.2, fun z => ⟨rfl, z⟩⟩))
theorem tq64_273 : tT g 64 273 = s_load vRf 64 274 0 := rfl
theorem A64_273 {l1 : Option Value} {l2 : Option Value} {l3 : Option Value} {l4 : Option Value} {l5 : Option Value} {l6 : Option Value} {l7 : Option Value} {l8 : Option Value} {l9 : Option Value} {l10 : Option Value} {x : Value} {r : List Value} : aw g 64 273 [some (x), l1, l2, l3, l4, l5, l6, l7, l8, l9, l10] r σ Q = (vRf x = true ∧ aw g 64 274 [some (x), l1, l2, l3, l4, l5, l6, l7, l8, l9, l10] (x :: r) σ Q) := (aw_eq g 64 273 _ _ _ _).trans (by rw [tq64_273]; exact h_load rfl)
theorem tq64_274 : tT g 64 274 = s_load vRf 64 275 3 := rfl
theorem A64_274 {l0 : Option Value} {l1 : Option Value} {l2 : Option Value} {l4 : Option Value} {l5 : Option Value} {l6 : Option Value} {l7 : Option Value} {l8 : Option Value} {l9 : Option Value} {l10 : Option Value} {x : Value} {r : List Value} : aw g 64 274 [l0, l1, l2, some (x), l4, l5, l6, l7, l8, l9, l10] r σ Q = (vRf x = true ∧ aw g 64 275 [l0, l1, l2, some (x), l4, l5, l6, l7, l8, l9, l10] (x :: r) σ Q) := (aw_eq g 64 274 _ _ _ _).trans (by rw [tq64_274]; exact h_load rfl)
theorem tq64_275 : tT g 64 275 = s_getf 64 278 5 0 := rfl
theorem A64_275 {L : AL} {r : List Value} {a : Nat} : aw g 64 275 L (.ref a :: r) σ Q = (hty σ a = some 5 ∧ aw g 64 278 L (hv σ 5 a 0 :: r) σ Q) := (aw_eq g 64 275 _ _ _ _).trans (by rw [tq64_275]; exact rfl)
theorem tq64_278 : tT g 64 278 = s_const 64 279 (.int 2) := rfl
theorem A64_278 {L : AL} {r : List Value} : aw g 64 278 L r σ Q = aw g 64 279 L (.int 2 :: r) σ Q := (aw_eq g 64 278 _ _ _ _).trans (by rw [tq64_278]; exact rfl)
theorem tq64_279 : tT g 64 279 = s_callvk 64 282 73 0 [0, 0] 6 := rfl
theorem A64_279 {L : AL} {r : List Value} {a : Nat} {w0 w1 : Value} : aw g 64 279 L (w1 :: w0 :: .ref a :: r) σ Q = (hty σ a = some 0 ∧ (vI w0 && (vI w1 && true)) = true ∧ csum r ≤ 8 ∧ aw g 73 0 [some (.ref a), some w0, some w1, none, none, none] [] σ (kt (aw g) 64 282 L r Q)) := (aw_eq g 64 279 _ _ _ _).trans (by rw [tq64_279]; exact rfl)
theorem tq64_282 : tT g 64 282 = s_i2 64 283 (fun a => .long a.toInt64) := rfl
theorem A64_282 {L : AL} {r : List Value} {a : Int32} : aw g 64 282 L (.int a :: r) σ Q = aw g 64 283 L (.long a.toInt64 :: r) σ Q := (aw_eq g 64 282 _ _ _ _).trans (by rw [tq64_282]; exact rfl)
theorem tq64_283 : tT g 64 283 = s_callk 64 286 63 [2, 2] 4 := rfl
theorem A64_283 {L : AL} {r : List Value} {w0 w1 : Value} : aw g 64 283 L (w1 :: w0 :: r) σ Q = ((vL w0 && (vL w1 && true)) = true ∧ csum r ≤ 8 ∧ aw g 63 0 [some w0, none, some w1, none] [] σ (kt (aw g) 64 286 L r Q)) := (aw_eq g 64 283 _ _ _ _).trans (by rw [tq64_283]; exact rfl)
theorem tq64_286 : tT g 64 286 = s_goto 64 291 := rfl
theorem A64_286 {L : AL} {r : List Value} : aw g 64 286 L r σ Q = aw g 64 291 L r σ Q := (aw_eq g 64 286 _ _ _ _).trans (by rw [tq64_286]; exact rfl)
theorem tq64_289 : tT g 64 289 = s_load vL 64 291 4 := rfl
theorem A64_289 {l0 : Option Value} {l1 : Option Value} {l2 : Option Value} {l3 : Option Value} {l5 : Option Value} {l6 : Option Value} {l7 : Option Value} {l8 : Option Value} {l9 : Option Value} {l10 : Option Value} {x : Int64} {r : List Value} : aw g 64 289 [l0, l1, l2, l3, some (.long x), l5, l6, l7, l8, l9, l10] r σ Q = aw g 64 291 [l0, l1, l2, l3, some (.long x), l5, l6, l7, l8, l9, l10] (.long x :: r) σ Q := (aw_eq g 64 289 _ _ _ _).trans (by rw [tq64_289]; exact (h_load rfl).trans (propext ⟨fun z => z.2, fun z => ⟨rfl, z⟩⟩))
theorem tq64_291 : tT g 64 291 = s_ret pJ := rfl
theorem A64_291 {L : AL} {v : Value} : aw g 64 291 L [v] σ Q = (pJ v ∧ Q (.inl (some v)) σ) := (aw_eq g 64 291 _ _ _ _).trans (by rw [tq64_291]; exact rfl)
theorem tq65_0 : tT g 65 0 = s_const 65 2 (.int 16) := rfl
theorem A65_0 {L : AL} {r : List Value} : aw g 65 0 L r σ Q = aw g 65 2 L (.int 16 :: r) σ Q := (aw_eq g 65 0 _ _ _ _).trans (by rw [tq65_0]; exact rfl)
theorem tq65_2 : tT g 65 2 = s_newa g 65 4 20 (.int 0) := rfl
theorem A65_2 {L : AL} {r : List Value} {x : Int32} : aw g 65 2 L (.int x :: r) σ Q = (¬ x < 0 ∧ x.toNatClampNeg ≤ 65536 ∧ hsz σ + 1 ≤ gC g ∧ hsl σ + x.toNatClampNeg ≤ gS g ∧ aw g 65 4 L (.ref (hsz σ) :: r) (hnew σ 20 x.toNatClampNeg (fun _ => .int 0) x.toNatClampNeg) Q) := (aw_eq g 65 2 _ _ _ _).trans (by rw [tq65_2]; exact rfl)
theorem tq65_4 : tT g 65 4 = s_dup 65 5 := rfl
theorem A65_4 {L : AL} {r : List Value} {v : Value} : aw g 65 4 L (v :: r) σ Q = (v.category = 1 ∧ aw g 65 5 L (v :: v :: r) σ Q) := (aw_eq g 65 4 _ _ _ _).trans (by rw [tq65_4]; exact rfl)
theorem tq65_5 : tT g 65 5 = s_const 65 6 (.int 0) := rfl
theorem A65_5 {L : AL} {r : List Value} : aw g 65 5 L r σ Q = aw g 65 6 L (.int 0 :: r) σ Q := (aw_eq g 65 5 _ _ _ _).trans (by rw [tq65_5]; exact rfl)
theorem tq65_6 : tT g 65 6 = s_load vRf 65 7 1 := rfl
theorem A65_6 {l0 : Option Value} {l2 : Option Value} {l3 : Option Value} {x : Value} {r : List Value} : aw g 65 6 [l0, some (x), l2, l3] r σ Q = (vRf x = true ∧ aw g 65 7 [l0, some (x), l2, l3] (x :: r) σ Q) := (aw_eq g 65 6 _ _ _ _).trans (by rw [tq65_6]; exact h_load rfl)
theorem tq65_7 : tT g 65 7 = s_getf 65 10 5 3 := rfl
theorem A65_7 {L : AL} {r : List Value} {a : Nat} : aw g 65 7 L (.ref a :: r) σ Q = (hty σ a = some 5 ∧ aw g 65 10 L (hv σ 5 a 3 :: r) σ Q) := (aw_eq g 65 7 _ _ _ _).trans (by rw [tq65_7]; exact rfl)
theorem tq65_10 : tT g 65 10 = s_ast g (fun _ v => vI v = true) 65 11 20 := rfl
theorem A65_10 {L : AL} {r : List Value} {a : Nat} {i : Int32} {v : Value} : aw g 65 10 L (v :: .int i :: .ref a :: r) σ Q = (hty σ a = some 20 ∧ gB g ≤ a ∧ ¬ i < 0 ∧ i.toNatClampNeg < hln σ a ∧ vI v = true ∧ aw g 65 11 L r (hput σ 20 a i.toNatClampNeg v) Q) := (aw_eq g 65 10 _ _ _ _).trans (by rw [tq65_10]; exact rfl)
theorem tq65_11 : tT g 65 11 = s_dup 65 12 := rfl
theorem A65_11 {L : AL} {r : List Value} {v : Value} : aw g 65 11 L (v :: r) σ Q = (v.category = 1 ∧ aw g 65 12 L (v :: v :: r) σ Q) := (aw_eq g 65 11 _ _ _ _).trans (by rw [tq65_11]; exact rfl)
theorem tq65_12 : tT g 65 12 = s_const 65 13 (.int 1) := rfl
theorem A65_12 {L : AL} {r : List Value} : aw g 65 12 L r σ Q = aw g 65 13 L (.int 1 :: r) σ Q := (aw_eq g 65 12 _ _ _ _).trans (by rw [tq65_12]; exact rfl)
theorem tq65_13 : tT g 65 13 = s_load vRf 65 14 1 := rfl
theorem A65_13 {l0 : Option Value} {l2 : Option Value} {l3 : Option Value} {x : Value} {r : List Value} : aw g 65 13 [l0, some (x), l2, l3] r σ Q = (vRf x = true ∧ aw g 65 14 [l0, some (x), l2, l3] (x :: r) σ Q) := (aw_eq g 65 13 _ _ _ _).trans (by rw [tq65_13]; exact h_load rfl)
theorem tq65_14 : tT g 65 14 = s_getf 65 17 5 2 := rfl
theorem A65_14 {L : AL} {r : List Value} {a : Nat} : aw g 65 14 L (.ref a :: r) σ Q = (hty σ a = some 5 ∧ aw g 65 17 L (hv σ 5 a 2 :: r) σ Q) := (aw_eq g 65 14 _ _ _ _).trans (by rw [tq65_14]; exact rfl)
theorem tq65_17 : tT g 65 17 = s_getf 65 20 6 2 := rfl
theorem A65_17 {L : AL} {r : List Value} {a : Nat} : aw g 65 17 L (.ref a :: r) σ Q = (hty σ a = some 6 ∧ aw g 65 20 L (hv σ 6 a 2 :: r) σ Q) := (aw_eq g 65 17 _ _ _ _).trans (by rw [tq65_17]; exact rfl)
theorem tq65_20 : tT g 65 20 = s_ast g (fun _ v => vI v = true) 65 21 20 := rfl
theorem A65_20 {L : AL} {r : List Value} {a : Nat} {i : Int32} {v : Value} : aw g 65 20 L (v :: .int i :: .ref a :: r) σ Q = (hty σ a = some 20 ∧ gB g ≤ a ∧ ¬ i < 0 ∧ i.toNatClampNeg < hln σ a ∧ vI v = true ∧ aw g 65 21 L r (hput σ 20 a i.toNatClampNeg v) Q) := (aw_eq g 65 20 _ _ _ _).trans (by rw [tq65_20]; exact rfl)
theorem tq65_21 : tT g 65 21 = s_dup 65 22 := rfl
theorem A65_21 {L : AL} {r : List Value} {v : Value} : aw g 65 21 L (v :: r) σ Q = (v.category = 1 ∧ aw g 65 22 L (v :: v :: r) σ Q) := (aw_eq g 65 21 _ _ _ _).trans (by rw [tq65_21]; exact rfl)
theorem tq65_22 : tT g 65 22 = s_const 65 23 (.int 2) := rfl
theorem A65_22 {L : AL} {r : List Value} : aw g 65 22 L r σ Q = aw g 65 23 L (.int 2 :: r) σ Q := (aw_eq g 65 22 _ _ _ _).trans (by rw [tq65_22]; exact rfl)
theorem tq65_23 : tT g 65 23 = s_load vRf 65 24 1 := rfl
theorem A65_23 {l0 : Option Value} {l2 : Option Value} {l3 : Option Value} {x : Value} {r : List Value} : aw g 65 23 [l0, some (x), l2, l3] r σ Q = (vRf x = true ∧ aw g 65 24 [l0, some (x), l2, l3] (x :: r) σ Q) := (aw_eq g 65 23 _ _ _ _).trans (by rw [tq65_23]; exact h_load rfl)
theorem tq65_24 : tT g 65 24 = s_getf 65 27 5 2 := rfl
theorem A65_24 {L : AL} {r : List Value} {a : Nat} : aw g 65 24 L (.ref a :: r) σ Q = (hty σ a = some 5 ∧ aw g 65 27 L (hv σ 5 a 2 :: r) σ Q) := (aw_eq g 65 24 _ _ _ _).trans (by rw [tq65_24]; exact rfl)
theorem tq65_27 : tT g 65 27 = s_getf 65 30 6 3 := rfl
theorem A65_27 {L : AL} {r : List Value} {a : Nat} : aw g 65 27 L (.ref a :: r) σ Q = (hty σ a = some 6 ∧ aw g 65 30 L (hv σ 6 a 3 :: r) σ Q) := (aw_eq g 65 27 _ _ _ _).trans (by rw [tq65_27]; exact rfl)
theorem tq65_30 : tT g 65 30 = s_ast g (fun _ v => vI v = true) 65 31 20 := rfl
theorem A65_30 {L : AL} {r : List Value} {a : Nat} {i : Int32} {v : Value} : aw g 65 30 L (v :: .int i :: .ref a :: r) σ Q = (hty σ a = some 20 ∧ gB g ≤ a ∧ ¬ i < 0 ∧ i.toNatClampNeg < hln σ a ∧ vI v = true ∧ aw g 65 31 L r (hput σ 20 a i.toNatClampNeg v) Q) := (aw_eq g 65 30 _ _ _ _).trans (by rw [tq65_30]; exact rfl)
theorem tq65_31 : tT g 65 31 = s_dup 65 32 := rfl
theorem A65_31 {L : AL} {r : List Value} {v : Value} : aw g 65 31 L (v :: r) σ Q = (v.category = 1 ∧ aw g 65 32 L (v :: v :: r) σ Q) := (aw_eq g 65 31 _ _ _ _).trans (by rw [tq65_31]; exact rfl)
theorem tq65_32 : tT g 65 32 = s_const 65 33 (.int 3) := rfl
theorem A65_32 {L : AL} {r : List Value} : aw g 65 32 L r σ Q = aw g 65 33 L (.int 3 :: r) σ Q := (aw_eq g 65 32 _ _ _ _).trans (by rw [tq65_32]; exact rfl)
theorem tq65_33 : tT g 65 33 = s_load vRf 65 34 1 := rfl
theorem A65_33 {l0 : Option Value} {l2 : Option Value} {l3 : Option Value} {x : Value} {r : List Value} : aw g 65 33 [l0, some (x), l2, l3] r σ Q = (vRf x = true ∧ aw g 65 34 [l0, some (x), l2, l3] (x :: r) σ Q) := (aw_eq g 65 33 _ _ _ _).trans (by rw [tq65_33]; exact h_load rfl)
theorem tq65_34 : tT g 65 34 = s_getf 65 37 5 7 := rfl
theorem A65_34 {L : AL} {r : List Value} {a : Nat} : aw g 65 34 L (.ref a :: r) σ Q = (hty σ a = some 5 ∧ aw g 65 37 L (hv σ 5 a 7 :: r) σ Q) := (aw_eq g 65 34 _ _ _ _).trans (by rw [tq65_34]; exact rfl)
theorem tq65_37 : tT g 65 37 = s_ast g (fun _ v => vI v = true) 65 38 20 := rfl
theorem A65_37 {L : AL} {r : List Value} {a : Nat} {i : Int32} {v : Value} : aw g 65 37 L (v :: .int i :: .ref a :: r) σ Q = (hty σ a = some 20 ∧ gB g ≤ a ∧ ¬ i < 0 ∧ i.toNatClampNeg < hln σ a ∧ vI v = true ∧ aw g 65 38 L r (hput σ 20 a i.toNatClampNeg v) Q) := (aw_eq g 65 37 _ _ _ _).trans (by rw [tq65_37]; exact rfl)
theorem tq65_38 : tT g 65 38 = s_dup 65 39 := rfl
theorem A65_38 {L : AL} {r : List Value} {v : Value} : aw g 65 38 L (v :: r) σ Q = (v.category = 1 ∧ aw g 65 39 L (v :: v :: r) σ Q) := (aw_eq g 65 38 _ _ _ _).trans (by rw [tq65_38]; exact rfl)
theorem tq65_39 : tT g 65 39 = s_const 65 40 (.int 4) := rfl
theorem A65_39 {L : AL} {r : List Value} : aw g 65 39 L r σ Q = aw g 65 40 L (.int 4 :: r) σ Q := (aw_eq g 65 39 _ _ _ _).trans (by rw [tq65_39]; exact rfl)
theorem tq65_40 : tT g 65 40 = s_load vRf 65 41 1 := rfl
theorem A65_40 {l0 : Option Value} {l2 : Option Value} {l3 : Option Value} {x : Value} {r : List Value} : aw g 65 40 [l0, some (x), l2, l3] r σ Q = (vRf x = true ∧ aw g 65 41 [l0, some (x), l2, l3] (x :: r) σ Q) := (aw_eq g 65 40 _ _ _ _).trans (by rw [tq65_40]; exact h_load rfl)
theorem tq65_41 : tT g 65 41 = s_getf 65 44 5 8 := rfl
theorem A65_41 {L : AL} {r : List Value} {a : Nat} : aw g 65 41 L (.ref a :: r) σ Q = (hty σ a = some 5 ∧ aw g 65 44 L (hv σ 5 a 8 :: r) σ Q) := (aw_eq g 65 41 _ _ _ _).trans (by rw [tq65_41]; exact rfl)
theorem tq65_44 : tT g 65 44 = s_ast g (fun _ v => vI v = true) 65 45 20 := rfl
theorem A65_44 {L : AL} {r : List Value} {a : Nat} {i : Int32} {v : Value} : aw g 65 44 L (v :: .int i :: .ref a :: r) σ Q = (hty σ a = some 20 ∧ gB g ≤ a ∧ ¬ i < 0 ∧ i.toNatClampNeg < hln σ a ∧ vI v = true ∧ aw g 65 45 L r (hput σ 20 a i.toNatClampNeg v) Q) := (aw_eq g 65 44 _ _ _ _).trans (by rw [tq65_44]; exact rfl)
theorem tq65_45 : tT g 65 45 = s_dup 65 46 := rfl
theorem A65_45 {L : AL} {r : List Value} {v : Value} : aw g 65 45 L (v :: r) σ Q = (v.category = 1 ∧ aw g 65 46 L (v :: v :: r) σ Q) := (aw_eq g 65 45 _ _ _ _).trans (by rw [tq65_45]; exact rfl)
theorem tq65_46 : tT g 65 46 = s_const 65 47 (.int 5) := rfl
theorem A65_46 {L : AL} {r : List Value} : aw g 65 46 L r σ Q = aw g 65 47 L (.int 5 :: r) σ Q := (aw_eq g 65 46 _ _ _ _).trans (by rw [tq65_46]; exact rfl)
theorem tq65_47 : tT g 65 47 = s_load vRf 65 48 1 := rfl
theorem A65_47 {l0 : Option Value} {l2 : Option Value} {l3 : Option Value} {x : Value} {r : List Value} : aw g 65 47 [l0, some (x), l2, l3] r σ Q = (vRf x = true ∧ aw g 65 48 [l0, some (x), l2, l3] (x :: r) σ Q) := (aw_eq g 65 47 _ _ _ _).trans (by rw [tq65_47]; exact h_load rfl)
theorem tq65_48 : tT g 65 48 = s_getf 65 51 5 9 := rfl
theorem A65_48 {L : AL} {r : List Value} {a : Nat} : aw g 65 48 L (.ref a :: r) σ Q = (hty σ a = some 5 ∧ aw g 65 51 L (hv σ 5 a 9 :: r) σ Q) := (aw_eq g 65 48 _ _ _ _).trans (by rw [tq65_48]; exact rfl)
theorem tq65_51 : tT g 65 51 = s_ast g (fun _ v => vI v = true) 65 52 20 := rfl
theorem A65_51 {L : AL} {r : List Value} {a : Nat} {i : Int32} {v : Value} : aw g 65 51 L (v :: .int i :: .ref a :: r) σ Q = (hty σ a = some 20 ∧ gB g ≤ a ∧ ¬ i < 0 ∧ i.toNatClampNeg < hln σ a ∧ vI v = true ∧ aw g 65 52 L r (hput σ 20 a i.toNatClampNeg v) Q) := (aw_eq g 65 51 _ _ _ _).trans (by rw [tq65_51]; exact rfl)
theorem tq65_52 : tT g 65 52 = s_dup 65 53 := rfl
theorem A65_52 {L : AL} {r : List Value} {v : Value} : aw g 65 52 L (v :: r) σ Q = (v.category = 1 ∧ aw g 65 53 L (v :: v :: r) σ Q) := (aw_eq g 65 52 _ _ _ _).trans (by rw [tq65_52]; exact rfl)
theorem tq65_53 : tT g 65 53 = s_const 65 55 (.int 6) := rfl
theorem A65_53 {L : AL} {r : List Value} : aw g 65 53 L r σ Q = aw g 65 55 L (.int 6 :: r) σ Q := (aw_eq g 65 53 _ _ _ _).trans (by rw [tq65_53]; exact rfl)
theorem tq65_55 : tT g 65 55 = s_load vRf 65 56 1 := rfl
theorem A65_55 {l0 : Option Value} {l2 : Option Value} {l3 : Option Value} {x : Value} {r : List Value} : aw g 65 55 [l0, some (x), l2, l3] r σ Q = (vRf x = true ∧ aw g 65 56 [l0, some (x), l2, l3] (x :: r) σ Q) := (aw_eq g 65 55 _ _ _ _).trans (by rw [tq65_55]; exact h_load rfl)
theorem tq65_56 : tT g 65 56 = s_getf 65 59 5 10 := rfl
theorem A65_56 {L : AL} {r : List Value} {a : Nat} : aw g 65 56 L (.ref a :: r) σ Q = (hty σ a = some 5 ∧ aw g 65 59 L (hv σ 5 a 10 :: r) σ Q) := (aw_eq g 65 56 _ _ _ _).trans (by rw [tq65_56]; exact rfl)
theorem tq65_59 : tT g 65 59 = s_ast g (fun _ v => vI v = true) 65 60 20 := rfl
theorem A65_59 {L : AL} {r : List Value} {a : Nat} {i : Int32} {v : Value} : aw g 65 59 L (v :: .int i :: .ref a :: r) σ Q = (hty σ a = some 20 ∧ gB g ≤ a ∧ ¬ i < 0 ∧ i.toNatClampNeg < hln σ a ∧ vI v = true ∧ aw g 65 60 L r (hput σ 20 a i.toNatClampNeg v) Q) := (aw_eq g 65 59 _ _ _ _).trans (by rw [tq65_59]; exact rfl)
theorem tq65_60 : tT g 65 60 = s_dup 65 61 := rfl
theorem A65_60 {L : AL} {r : List Value} {v : Value} : aw g 65 60 L (v :: r) σ Q = (v.category = 1 ∧ aw g 65 61 L (v :: v :: r) σ Q) := (aw_eq g 65 60 _ _ _ _).trans (by rw [tq65_60]; exact rfl)
theorem tq65_61 : tT g 65 61 = s_const 65 63 (.int 7) := rfl
theorem A65_61 {L : AL} {r : List Value} : aw g 65 61 L r σ Q = aw g 65 63 L (.int 7 :: r) σ Q := (aw_eq g 65 61 _ _ _ _).trans (by rw [tq65_61]; exact rfl)
theorem tq65_63 : tT g 65 63 = s_load vRf 65 64 1 := rfl
theorem A65_63 {l0 : Option Value} {l2 : Option Value} {l3 : Option Value} {x : Value} {r : List Value} : aw g 65 63 [l0, some (x), l2, l3] r σ Q = (vRf x = true ∧ aw g 65 64 [l0, some (x), l2, l3] (x :: r) σ Q) := (aw_eq g 65 63 _ _ _ _).trans (by rw [tq65_63]; exact h_load rfl)
theorem tq65_64 : tT g 65 64 = s_getf 65 67 5 11 := rfl
theorem A65_64 {L : AL} {r : List Value} {a : Nat} : aw g 65 64 L (.ref a :: r) σ Q = (hty σ a = some 5 ∧ aw g 65 67 L (hv σ 5 a 11 :: r) σ Q) := (aw_eq g 65 64 _ _ _ _).trans (by rw [tq65_64]; exact rfl)
theorem tq65_67 : tT g 65 67 = s_ast g (fun _ v => vI v = true) 65 68 20 := rfl
theorem A65_67 {L : AL} {r : List Value} {a : Nat} {i : Int32} {v : Value} : aw g 65 67 L (v :: .int i :: .ref a :: r) σ Q = (hty σ a = some 20 ∧ gB g ≤ a ∧ ¬ i < 0 ∧ i.toNatClampNeg < hln σ a ∧ vI v = true ∧ aw g 65 68 L r (hput σ 20 a i.toNatClampNeg v) Q) := (aw_eq g 65 67 _ _ _ _).trans (by rw [tq65_67]; exact rfl)
theorem tq65_68 : tT g 65 68 = s_dup 65 69 := rfl
theorem A65_68 {L : AL} {r : List Value} {v : Value} : aw g 65 68 L (v :: r) σ Q = (v.category = 1 ∧ aw g 65 69 L (v :: v :: r) σ Q) := (aw_eq g 65 68 _ _ _ _).trans (by rw [tq65_68]; exact rfl)
theorem tq65_69 : tT g 65 69 = s_const 65 71 (.int 8) := rfl
theorem A65_69 {L : AL} {r : List Value} : aw g 65 69 L r σ Q = aw g 65 71 L (.int 8 :: r) σ Q := (aw_eq g 65 69 _ _ _ _).trans (by rw [tq65_69]; exact rfl)
theorem tq65_71 : tT g 65 71 = s_load vRf 65 72 1 := rfl
theorem A65_71 {l0 : Option Value} {l2 : Option Value} {l3 : Option Value} {x : Value} {r : List Value} : aw g 65 71 [l0, some (x), l2, l3] r σ Q = (vRf x = true ∧ aw g 65 72 [l0, some (x), l2, l3] (x :: r) σ Q) := (aw_eq g 65 71 _ _ _ _).trans (by rw [tq65_71]; exact h_load rfl)
theorem tq65_72 : tT g 65 72 = s_getf 65 75 5 12 := rfl
theorem A65_72 {L : AL} {r : List Value} {a : Nat} : aw g 65 72 L (.ref a :: r) σ Q = (hty σ a = some 5 ∧ aw g 65 75 L (hv σ 5 a 12 :: r) σ Q) := (aw_eq g 65 72 _ _ _ _).trans (by rw [tq65_72]; exact rfl)
theorem tq65_75 : tT g 65 75 = s_ast g (fun _ v => vI v = true) 65 76 20 := rfl
theorem A65_75 {L : AL} {r : List Value} {a : Nat} {i : Int32} {v : Value} : aw g 65 75 L (v :: .int i :: .ref a :: r) σ Q = (hty σ a = some 20 ∧ gB g ≤ a ∧ ¬ i < 0 ∧ i.toNatClampNeg < hln σ a ∧ vI v = true ∧ aw g 65 76 L r (hput σ 20 a i.toNatClampNeg v) Q) := (aw_eq g 65 75 _ _ _ _).trans (by rw [tq65_75]; exact rfl)
theorem tq65_76 : tT g 65 76 = s_dup 65 77 := rfl
theorem A65_76 {L : AL} {r : List Value} {v : Value} : aw g 65 76 L (v :: r) σ Q = (v.category = 1 ∧ aw g 65 77 L (v :: v :: r) σ Q) := (aw_eq g 65 76 _ _ _ _).trans (by rw [tq65_76]; exact rfl)
theorem tq65_77 : tT g 65 77 = s_const 65 79 (.int 9) := rfl
theorem A65_77 {L : AL} {r : List Value} : aw g 65 77 L r σ Q = aw g 65 79 L (.int 9 :: r) σ Q := (aw_eq g 65 77 _ _ _ _).trans (by rw [tq65_77]; exact rfl)
theorem tq65_79 : tT g 65 79 = s_load vRf 65 80 0 := rfl
theorem A65_79 {l1 : Option Value} {l2 : Option Value} {l3 : Option Value} {x : Value} {r : List Value} : aw g 65 79 [some (x), l1, l2, l3] r σ Q = (vRf x = true ∧ aw g 65 80 [some (x), l1, l2, l3] (x :: r) σ Q) := (aw_eq g 65 79 _ _ _ _).trans (by rw [tq65_79]; exact h_load rfl)
theorem tq65_80 : tT g 65 80 = s_load vRf 65 81 1 := rfl
theorem A65_80 {l0 : Option Value} {l2 : Option Value} {l3 : Option Value} {x : Value} {r : List Value} : aw g 65 80 [l0, some (x), l2, l3] r σ Q = (vRf x = true ∧ aw g 65 81 [l0, some (x), l2, l3] (x :: r) σ Q) := (aw_eq g 65 80 _ _ _ _).trans (by rw [tq65_80]; exact h_load rfl)
theorem tq65_81 : tT g 65 81 = s_const 65 82 (.int 0) := rfl
theorem A65_81 {L : AL} {r : List Value} : aw g 65 81 L r σ Q = aw g 65 82 L (.int 0 :: r) σ Q := (aw_eq g 65 81 _ _ _ _).trans (by rw [tq65_81]; exact rfl)
theorem tq65_82 : tT g 65 82 = s_callvk 65 85 66 0 [1, 0] 5 := rfl
theorem A65_82 {L : AL} {r : List Value} {a : Nat} {w0 w1 : Value} : aw g 65 82 L (w1 :: w0 :: .ref a :: r) σ Q = (hty σ a = some 0 ∧ (vRf w0 && (vI w1 && true)) = true ∧ csum r ≤ 8 ∧ aw g 66 0 [some (.ref a), some w0, some w1, none, none] [] σ (kt (aw g) 65 85 L r Q)) := (aw_eq g 65 82 _ _ _ _).trans (by rw [tq65_82]; exact rfl)
theorem tq65_85 : tT g 65 85 = s_ast g (fun _ v => vI v = true) 65 86 20 := rfl
theorem A65_85 {L : AL} {r : List Value} {a : Nat} {i : Int32} {v : Value} : aw g 65 85 L (v :: .int i :: .ref a :: r) σ Q = (hty σ a = some 20 ∧ gB g ≤ a ∧ ¬ i < 0 ∧ i.toNatClampNeg < hln σ a ∧ vI v = true ∧ aw g 65 86 L r (hput σ 20 a i.toNatClampNeg v) Q) := (aw_eq g 65 85 _ _ _ _).trans (by rw [tq65_85]; exact rfl)
theorem tq65_86 : tT g 65 86 = s_dup 65 87 := rfl
theorem A65_86 {L : AL} {r : List Value} {v : Value} : aw g 65 86 L (v :: r) σ Q = (v.category = 1 ∧ aw g 65 87 L (v :: v :: r) σ Q) := (aw_eq g 65 86 _ _ _ _).trans (by rw [tq65_86]; exact rfl)
theorem tq65_87 : tT g 65 87 = s_const 65 89 (.int 10) := rfl
theorem A65_87 {L : AL} {r : List Value} : aw g 65 87 L r σ Q = aw g 65 89 L (.int 10 :: r) σ Q := (aw_eq g 65 87 _ _ _ _).trans (by rw [tq65_87]; exact rfl)
theorem tq65_89 : tT g 65 89 = s_load vRf 65 90 0 := rfl
theorem A65_89 {l1 : Option Value} {l2 : Option Value} {l3 : Option Value} {x : Value} {r : List Value} : aw g 65 89 [some (x), l1, l2, l3] r σ Q = (vRf x = true ∧ aw g 65 90 [some (x), l1, l2, l3] (x :: r) σ Q) := (aw_eq g 65 89 _ _ _ _).trans (by rw [tq65_89]; exact h_load rfl)
theorem tq65_90 : tT g 65 90 = s_load vRf 65 91 1 := rfl
theorem A65_90 {l0 : Option Value} {l2 : Option Value} {l3 : Option Value} {x : Value} {r : List Value} : aw g 65 90 [l0, some (x), l2, l3] r σ Q = (vRf x = true ∧ aw g 65 91 [l0, some (x), l2, l3] (x :: r) σ Q) := (aw_eq g 65 90 _ _ _ _).trans (by rw [tq65_90]; exact h_load rfl)
theorem tq65_91 : tT g 65 91 = s_const 65 92 (.int 1) := rfl
theorem A65_91 {L : AL} {r : List Value} : aw g 65 91 L r σ Q = aw g 65 92 L (.int 1 :: r) σ Q := (aw_eq g 65 91 _ _ _ _).trans (by rw [tq65_91]; exact rfl)
theorem tq65_92 : tT g 65 92 = s_callvk 65 95 66 0 [1, 0] 5 := rfl
theorem A65_92 {L : AL} {r : List Value} {a : Nat} {w0 w1 : Value} : aw g 65 92 L (w1 :: w0 :: .ref a :: r) σ Q = (hty σ a = some 0 ∧ (vRf w0 && (vI w1 && true)) = true ∧ csum r ≤ 8 ∧ aw g 66 0 [some (.ref a), some w0, some w1, none, none] [] σ (kt (aw g) 65 95 L r Q)) := (aw_eq g 65 92 _ _ _ _).trans (by rw [tq65_92]; exact rfl)
theorem tq65_95 : tT g 65 95 = s_ast g (fun _ v => vI v = true) 65 96 20 := rfl
theorem A65_95 {L : AL} {r : List Value} {a : Nat} {i : Int32} {v : Value} : aw g 65 95 L (v :: .int i :: .ref a :: r) σ Q = (hty σ a = some 20 ∧ gB g ≤ a ∧ ¬ i < 0 ∧ i.toNatClampNeg < hln σ a ∧ vI v = true ∧ aw g 65 96 L r (hput σ 20 a i.toNatClampNeg v) Q) := (aw_eq g 65 95 _ _ _ _).trans (by rw [tq65_95]; exact rfl)
theorem tq65_96 : tT g 65 96 = s_dup 65 97 := rfl
theorem A65_96 {L : AL} {r : List Value} {v : Value} : aw g 65 96 L (v :: r) σ Q = (v.category = 1 ∧ aw g 65 97 L (v :: v :: r) σ Q) := (aw_eq g 65 96 _ _ _ _).trans (by rw [tq65_96]; exact rfl)
theorem tq65_97 : tT g 65 97 = s_const 65 99 (.int 11) := rfl
theorem A65_97 {L : AL} {r : List Value} : aw g 65 97 L r σ Q = aw g 65 99 L (.int 11 :: r) σ Q := (aw_eq g 65 97 _ _ _ _).trans (by rw [tq65_97]; exact rfl)
theorem tq65_99 : tT g 65 99 = s_load vRf 65 100 0 := rfl
theorem A65_99 {l1 : Option Value} {l2 : Option Value} {l3 : Option Value} {x : Value} {r : List Value} : aw g 65 99 [some (x), l1, l2, l3] r σ Q = (vRf x = true ∧ aw g 65 100 [some (x), l1, l2, l3] (x :: r) σ Q) := (aw_eq g 65 99 _ _ _ _).trans (by rw [tq65_99]; exact h_load rfl)
theorem tq65_100 : tT g 65 100 = s_load vRf 65 101 1 := rfl
theorem A65_100 {l0 : Option Value} {l2 : Option Value} {l3 : Option Value} {x : Value} {r : List Value} : aw g 65 100 [l0, some (x), l2, l3] r σ Q = (vRf x = true ∧ aw g 65 101 [l0, some (x), l2, l3] (x :: r) σ Q) := (aw_eq g 65 100 _ _ _ _).trans (by rw [tq65_100]; exact h_load rfl)
theorem tq65_101 : tT g 65 101 = s_const 65 102 (.int 2) := rfl
theorem A65_101 {L : AL} {r : List Value} : aw g 65 101 L r σ Q = aw g 65 102 L (.int 2 :: r) σ Q := (aw_eq g 65 101 _ _ _ _).trans (by rw [tq65_101]; exact rfl)
theorem tq65_102 : tT g 65 102 = s_callvk 65 105 66 0 [1, 0] 5 := rfl
theorem A65_102 {L : AL} {r : List Value} {a : Nat} {w0 w1 : Value} : aw g 65 102 L (w1 :: w0 :: .ref a :: r) σ Q = (hty σ a = some 0 ∧ (vRf w0 && (vI w1 && true)) = true ∧ csum r ≤ 8 ∧ aw g 66 0 [some (.ref a), some w0, some w1, none, none] [] σ (kt (aw g) 65 105 L r Q)) := (aw_eq g 65 102 _ _ _ _).trans (by rw [tq65_102]; exact rfl)
theorem tq65_105 : tT g 65 105 = s_ast g (fun _ v => vI v = true) 65 106 20 := rfl
theorem A65_105 {L : AL} {r : List Value} {a : Nat} {i : Int32} {v : Value} : aw g 65 105 L (v :: .int i :: .ref a :: r) σ Q = (hty σ a = some 20 ∧ gB g ≤ a ∧ ¬ i < 0 ∧ i.toNatClampNeg < hln σ a ∧ vI v = true ∧ aw g 65 106 L r (hput σ 20 a i.toNatClampNeg v) Q) := (aw_eq g 65 105 _ _ _ _).trans (by rw [tq65_105]; exact rfl)
theorem tq65_106 : tT g 65 106 = s_dup 65 107 := rfl
theorem A65_106 {L : AL} {r : List Value} {v : Value} : aw g 65 106 L (v :: r) σ Q = (v.category = 1 ∧ aw g 65 107 L (v :: v :: r) σ Q) := (aw_eq g 65 106 _ _ _ _).trans (by rw [tq65_106]; exact rfl)
theorem tq65_107 : tT g 65 107 = s_const 65 109 (.int 12) := rfl
theorem A65_107 {L : AL} {r : List Value} : aw g 65 107 L r σ Q = aw g 65 109 L (.int 12 :: r) σ Q := (aw_eq g 65 107 _ _ _ _).trans (by rw [tq65_107]; exact rfl)
theorem tq65_109 : tT g 65 109 = s_load vRf 65 110 1 := rfl
theorem A65_109 {l0 : Option Value} {l2 : Option Value} {l3 : Option Value} {x : Value} {r : List Value} : aw g 65 109 [l0, some (x), l2, l3] r σ Q = (vRf x = true ∧ aw g 65 110 [l0, some (x), l2, l3] (x :: r) σ Q) := (aw_eq g 65 109 _ _ _ _).trans (by rw [tq65_109]; exact h_load rfl)
theorem tq65_110 : tT g 65 110 = s_callvk 65 113 193 5 [] 3 := rfl
theorem A65_110 {L : AL} {r : List Value} {a : Nat} : aw g 65 110 L (.ref a :: r) σ Q = (hty σ a = some 5 ∧ true = true ∧ csum r ≤ 8 ∧ aw g 193 0 [some (.ref a), none, none] [] σ (kt (aw g) 65 113 L r Q)) := (aw_eq g 65 110 _ _ _ _).trans (by rw [tq65_110]; exact rfl)
theorem tq65_113 : tT g 65 113 = s_ast g (fun _ v => vI v = true) 65 114 20 := rfl
theorem A65_113 {L : AL} {r : List Value} {a : Nat} {i : Int32} {v : Value} : aw g 65 113 L (v :: .int i :: .ref a :: r) σ Q = (hty σ a = some 20 ∧ gB g ≤ a ∧ ¬ i < 0 ∧ i.toNatClampNeg < hln σ a ∧ vI v = true ∧ aw g 65 114 L r (hput σ 20 a i.toNatClampNeg v) Q) := (aw_eq g 65 113 _ _ _ _).trans (by rw [tq65_113]; exact rfl)
theorem tq65_114 : tT g 65 114 = s_dup 65 115 := rfl
theorem A65_114 {L : AL} {r : List Value} {v : Value} : aw g 65 114 L (v :: r) σ Q = (v.category = 1 ∧ aw g 65 115 L (v :: v :: r) σ Q) := (aw_eq g 65 114 _ _ _ _).trans (by rw [tq65_114]; exact rfl)
theorem tq65_115 : tT g 65 115 = s_const 65 117 (.int 13) := rfl
theorem A65_115 {L : AL} {r : List Value} : aw g 65 115 L r σ Q = aw g 65 117 L (.int 13 :: r) σ Q := (aw_eq g 65 115 _ _ _ _).trans (by rw [tq65_115]; exact rfl)
theorem tq65_117 : tT g 65 117 = s_load vRf 65 118 1 := rfl
theorem A65_117 {l0 : Option Value} {l2 : Option Value} {l3 : Option Value} {x : Value} {r : List Value} : aw g 65 117 [l0, some (x), l2, l3] r σ Q = (vRf x = true ∧ aw g 65 118 [l0, some (x), l2, l3] (x :: r) σ Q) := (aw_eq g 65 117 _ _ _ _).trans (by rw [tq65_117]; exact h_load rfl)
theorem tq65_118 : tT g 65 118 = s_getf 65 121 5 20 := rfl
theorem A65_118 {L : AL} {r : List Value} {a : Nat} : aw g 65 118 L (.ref a :: r) σ Q = (hty σ a = some 5 ∧ aw g 65 121 L (hv σ 5 a 20 :: r) σ Q) := (aw_eq g 65 118 _ _ _ _).trans (by rw [tq65_118]; exact rfl)
theorem tq65_121 : tT g 65 121 = s_ast g (fun _ v => vI v = true) 65 122 20 := rfl
theorem A65_121 {L : AL} {r : List Value} {a : Nat} {i : Int32} {v : Value} : aw g 65 121 L (v :: .int i :: .ref a :: r) σ Q = (hty σ a = some 20 ∧ gB g ≤ a ∧ ¬ i < 0 ∧ i.toNatClampNeg < hln σ a ∧ vI v = true ∧ aw g 65 122 L r (hput σ 20 a i.toNatClampNeg v) Q) := (aw_eq g 65 121 _ _ _ _).trans (by rw [tq65_121]; exact rfl)
theorem tq65_122 : tT g 65 122 = s_dup 65 123 := rfl
theorem A65_122 {L : AL} {r : List Value} {v : Value} : aw g 65 122 L (v :: r) σ Q = (v.category = 1 ∧ aw g 65 123 L (v :: v :: r) σ Q) := (aw_eq g 65 122 _ _ _ _).trans (by rw [tq65_122]; exact rfl)
theorem tq65_123 : tT g 65 123 = s_const 65 125 (.int 14) := rfl
theorem A65_123 {L : AL} {r : List Value} : aw g 65 123 L r σ Q = aw g 65 125 L (.int 14 :: r) σ Q := (aw_eq g 65 123 _ _ _ _).trans (by rw [tq65_123]; exact rfl)
theorem tq65_125 : tT g 65 125 = s_load vRf 65 126 1 := rfl
theorem A65_125 {l0 : Option Value} {l2 : Option Value} {l3 : Option Value} {x : Value} {r : List Value} : aw g 65 125 [l0, some (x), l2, l3] r σ Q = (vRf x = true ∧ aw g 65 126 [l0, some (x), l2, l3] (x :: r) σ Q) := (aw_eq g 65 125 _ _ _ _).trans (by rw [tq65_125]; exact h_load rfl)
theorem tq65_126 : tT g 65 126 = s_getf 65 129 5 6 := rfl
theorem A65_126 {L : AL} {r : List Value} {a : Nat} : aw g 65 126 L (.ref a :: r) σ Q = (hty σ a = some 5 ∧ aw g 65 129 L (hv σ 5 a 6 :: r) σ Q) := (aw_eq g 65 126 _ _ _ _).trans (by rw [tq65_126]; exact rfl)
theorem tq65_129 : tT g 65 129 = s_ast g (fun _ v => vI v = true) 65 130 20 := rfl
theorem A65_129 {L : AL} {r : List Value} {a : Nat} {i : Int32} {v : Value} : aw g 65 129 L (v :: .int i :: .ref a :: r) σ Q = (hty σ a = some 20 ∧ gB g ≤ a ∧ ¬ i < 0 ∧ i.toNatClampNeg < hln σ a ∧ vI v = true ∧ aw g 65 130 L r (hput σ 20 a i.toNatClampNeg v) Q) := (aw_eq g 65 129 _ _ _ _).trans (by rw [tq65_129]; exact rfl)
theorem tq65_130 : tT g 65 130 = s_dup 65 131 := rfl
theorem A65_130 {L : AL} {r : List Value} {v : Value} : aw g 65 130 L (v :: r) σ Q = (v.category = 1 ∧ aw g 65 131 L (v :: v :: r) σ Q) := (aw_eq g 65 130 _ _ _ _).trans (by rw [tq65_130]; exact rfl)
theorem tq65_131 : tT g 65 131 = s_const 65 133 (.int 15) := rfl
theorem A65_131 {L : AL} {r : List Value} : aw g 65 131 L r σ Q = aw g 65 133 L (.int 15 :: r) σ Q := (aw_eq g 65 131 _ _ _ _).trans (by rw [tq65_131]; exact rfl)
theorem tq65_133 : tT g 65 133 = s_load vRf 65 134 1 := rfl
theorem A65_133 {l0 : Option Value} {l2 : Option Value} {l3 : Option Value} {x : Value} {r : List Value} : aw g 65 133 [l0, some (x), l2, l3] r σ Q = (vRf x = true ∧ aw g 65 134 [l0, some (x), l2, l3] (x :: r) σ Q) := (aw_eq g 65 133 _ _ _ _).trans (by rw [tq65_133]; exact h_load rfl)
theorem tq65_134 : tT g 65 134 = s_getf 65 137 5 1 := rfl
theorem A65_134 {L : AL} {r : List Value} {a : Nat} : aw g 65 134 L (.ref a :: r) σ Q = (hty σ a = some 5 ∧ aw g 65 137 L (hv σ 5 a 1 :: r) σ Q) := (aw_eq g 65 134 _ _ _ _).trans (by rw [tq65_134]; exact rfl)
theorem tq65_137 : tT g 65 137 = s_ast g (fun _ v => vI v = true) 65 138 20 := rfl
theorem A65_137 {L : AL} {r : List Value} {a : Nat} {i : Int32} {v : Value} : aw g 65 137 L (v :: .int i :: .ref a :: r) σ Q = (hty σ a = some 20 ∧ gB g ≤ a ∧ ¬ i < 0 ∧ i.toNatClampNeg < hln σ a ∧ vI v = true ∧ aw g 65 138 L r (hput σ 20 a i.toNatClampNeg v) Q) := (aw_eq g 65 137 _ _ _ _).trans (by rw [tq65_137]; exact rfl)
theorem tq65_138 : tT g 65 138 = s_store vRf 65 139 3 := rfl
theorem A65_138 {l0 : Option Value} {l1 : Option Value} {l2 : Option Value} {l3 : Option Value} {x : Value} {r : List Value} : aw g 65 138 [l0, l1, l2, l3] (x :: r) σ Q = (vRf x = true ∧ oc l2 = true ∧ aw g 65 139 [l0, l1, l2, some (x)] r σ Q) := (aw_eq g 65 138 _ _ _ _).trans (by rw [tq65_138]; exact (h_store (o := oc l2) rfl rfl rfl))
theorem tq65_139 : tT g 65 139 = s_load vRf 65 140 3 := rfl
theorem A65_139 {l0 : Option Value} {l1 : Option Value} {l2 : Option Value} {x : Value} {r : List Value} : aw g 65 139 [l0, l1, l2, some (x)] r σ Q = (vRf x = true ∧ aw g 65 140 [l0, l1, l2, some (x)] (x :: r) σ Q) := (aw_eq g 65 139 _ _ _ _).trans (by rw [tq65_139]; exact h_load rfl)
theorem tq65_140 : tT g 65 140 = s_load vI 65 141 2 := rfl
theorem A65_140 {l0 : Option Value} {l1 : Option Value} {l3 : Option Value} {x : Int32} {r : List Value} : aw g 65 140 [l0, l1, some (.int x), l3] r σ Q = aw g 65 141 [l0, l1, some (.int x), l3] (.int x :: r) σ Q := (aw_eq g 65 140 _ _ _ _).trans (by rw [tq65_140]; exact (h_load rfl).trans (propext ⟨fun z => z.2, fun z => ⟨rfl, z⟩⟩))
theorem tq65_141 : tT g 65 141 = s_ald 65 142 20 := rfl
theorem A65_141 {L : AL} {r : List Value} {a : Nat} {i : Int32} : aw g 65 141 L (.int i :: .ref a :: r) σ Q = (hty σ a = some 20 ∧ ¬ i < 0 ∧ i.toNatClampNeg < hln σ a ∧ aw g 65 142 L (hv σ 20 a i.toNatClampNeg :: r) σ Q) := (aw_eq g 65 141 _ _ _ _).trans (by rw [tq65_141]; exact rfl)
theorem tq65_142 : tT g 65 142 = s_ret pI := rfl
theorem A65_142 {L : AL} {v : Value} : aw g 65 142 L [v] σ Q = (pI v ∧ Q (.inl (some v)) σ) := (aw_eq g 65 142 _ _ _ _).trans (by rw [tq65_142]; exact rfl)
theorem tq66_0 : tT g 66 0 = s_const 66 1 (.int 0) := rfl
theorem A66_0 {L : AL} {r : List Value} : aw g 66 0 L r σ Q = aw g 66 1 L (.int 0 :: r) σ Q := (aw_eq g 66 0 _ _ _ _).trans (by rw [tq66_0]; exact rfl)
theorem tq66_1 : tT g 66 1 = s_store vI 66 2 3 := rfl
theorem A66_1 {l0 : Option Value} {l1 : Option Value} {l2 : Option Value} {l3 : Option Value} {l4 : Option Value} {x : Int32} {r : List Value} : aw g 66 1 [l0, l1, l2, l3, l4] (.int x :: r) σ Q = (oc l2 = true ∧ aw g 66 2 [l0, l1, l2, some (.int x), l4] r σ Q) := (aw_eq g 66 1 _ _ _ _).trans (by rw [tq66_1]; exact (h_store (o := oc l2) rfl rfl rfl).trans (propext ⟨fun z => z.2, fun z => ⟨rfl, z⟩⟩))
theorem tq66_2 : tT g 66 2 = s_const 66 3 (.int 0) := rfl
theorem A66_2 {L : AL} {r : List Value} : aw g 66 2 L r σ Q = aw g 66 3 L (.int 0 :: r) σ Q := (aw_eq g 66 2 _ _ _ _).trans (by rw [tq66_2]; exact rfl)
theorem tq66_3 : tT g 66 3 = s_store vI 66 5 4 := rfl
theorem A66_3 {l0 : Option Value} {l1 : Option Value} {l2 : Option Value} {l3 : Option Value} {l4 : Option Value} {x : Int32} {r : List Value} : aw g 66 3 [l0, l1, l2, l3, l4] (.int x :: r) σ Q = (oc l3 = true ∧ aw g 66 5 [l0, l1, l2, l3, some (.int x)] r σ Q) := (aw_eq g 66 3 _ _ _ _).trans (by rw [tq66_3]; exact (h_store (o := oc l3) rfl rfl rfl).trans (propext ⟨fun z => z.2, fun z => ⟨rfl, z⟩⟩))
theorem tq66_5 : tT g 66 5 = s_load vI 66 7 4 := rfl
theorem A66_5 {l0 : Option Value} {l1 : Option Value} {l2 : Option Value} {l3 : Option Value} {x : Int32} {r : List Value} : aw g 66 5 [l0, l1, l2, l3, some (.int x)] r σ Q = aw g 66 7 [l0, l1, l2, l3, some (.int x)] (.int x :: r) σ Q := (aw_eq g 66 5 _ _ _ _).trans (by rw [tq66_5]; exact (h_load rfl).trans (propext ⟨fun z => z.2, fun z => ⟨rfl, z⟩⟩))
theorem tq66_7 : tT g 66 7 = s_const 66 9 (.int 6) := rfl
theorem A66_7 {L : AL} {r : List Value} : aw g 66 7 L r σ Q = aw g 66 9 L (.int 6 :: r) σ Q := (aw_eq g 66 7 _ _ _ _).trans (by rw [tq66_7]; exact rfl)
theorem tq66_9 : tT g 66 9 = s_icmp 66 12 40 (fun a b => b ≤ a) := rfl
theorem A66_9 {L : AL} {r : List Value} {a b : Int32} : aw g 66 9 L (.int b :: .int a :: r) σ Q = ((b ≤ a → aw g 66 40 L r σ Q) ∧ (¬ b ≤ a → aw g 66 12 L r σ Q)) := (aw_eq g 66 9 _ _ _ _).trans (by rw [tq66_9]; exact rfl)
theorem tq66_12 : tT g 66 12 = s_load vI 66 13 3 := rfl
theorem A66_12 {l0 : Option Value} {l1 : Option Value} {l2 : Option Value} {l4 : Option Value} {x : Int32} {r : List Value} : aw g 66 12 [l0, l1, l2, some (.int x), l4] r σ Q = aw g 66 13 [l0, l1, l2, some (.int x), l4] (.int x :: r) σ Q := (aw_eq g 66 12 _ _ _ _).trans (by rw [tq66_12]; exact (h_load rfl).trans (propext ⟨fun z => z.2, fun z => ⟨rfl, z⟩⟩))
theorem tq66_13 : tT g 66 13 = s_load vRf 66 14 0 := rfl
theorem A66_13 {l1 : Option Value} {l2 : Option Value} {l3 : Option Value} {l4 : Option Value} {x : Value} {r : List Value} : aw g 66 13 [some (x), l1, l2, l3, l4] r σ Q = (vRf x = true ∧ aw g 66 14 [some (x), l1, l2, l3, l4] (x :: r) σ Q) := (aw_eq g 66 13 _ _ _ _).trans (by rw [tq66_13]; exact h_load rfl)
theorem tq66_14 : tT g 66 14 = s_load vRf 66 15 1 := rfl
theorem A66_14 {l0 : Option Value} {l2 : Option Value} {l3 : Option Value} {l4 : Option Value} {x : Value} {r : List Value} : aw g 66 14 [l0, some (x), l2, l3, l4] r σ Q = (vRf x = true ∧ aw g 66 15 [l0, some (x), l2, l3, l4] (x :: r) σ Q) := (aw_eq g 66 14 _ _ _ _).trans (by rw [tq66_14]; exact h_load rfl)
theorem tq66_15 : tT g 66 15 = s_load vI 66 17 4 := rfl
theorem A66_15 {l0 : Option Value} {l1 : Option Value} {l2 : Option Value} {l3 : Option Value} {x : Int32} {r : List Value} : aw g 66 15 [l0, l1, l2, l3, some (.int x)] r σ Q = aw g 66 17 [l0, l1, l2, l3, some (.int x)] (.int x :: r) σ Q := (aw_eq g 66 15 _ _ _ _).trans (by rw [tq66_15]; exact (h_load rfl).trans (propext ⟨fun z => z.2, fun z => ⟨rfl, z⟩⟩))
theorem tq66_17 : tT g 66 17 = s_callvk 66 20 67 0 [1, 0] 3 := rfl
theorem A66_17 {L : AL} {r : List Value} {a : Nat} {w0 w1 : Value} : aw g 66 17 L (w1 :: w0 :: .ref a :: r) σ Q = (hty σ a = some 0 ∧ (vRf w0 && (vI w1 && true)) = true ∧ csum r ≤ 8 ∧ aw g 67 0 [some (.ref a), some w0, some w1] [] σ (kt (aw g) 66 20 L r Q)) := (aw_eq g 66 17 _ _ _ _).trans (by rw [tq66_17]; exact rfl)
theorem tq66_20 : tT g 66 20 = s_load vI 66 21 2 := rfl
theorem A66_20 {l0 : Option Value} {l1 : Option Value} {l3 : Option Value} {l4 : Option Value} {x : Int32} {r : List Value} : aw g 66 20 [l0, l1, some (.int x), l3, l4] r σ Q = aw g 66 21 [l0, l1, some (.int x), l3, l4] (.int x :: r) σ Q := (aw_eq g 66 20 _ _ _ _).trans (by rw [tq66_20]; exact (h_load rfl).trans (propext ⟨fun z => z.2, fun z => ⟨rfl, z⟩⟩))
theorem tq66_21 : tT g 66 21 = s_icmp 66 28 24 (fun a b => a = b) := rfl
theorem A66_21 {L : AL} {r : List Value} {a b : Int32} : aw g 66 21 L (.int b :: .int a :: r) σ Q = ((a = b → aw g 66 24 L r σ Q) ∧ (¬ a = b → aw g 66 28 L r σ Q)) := (aw_eq g 66 21 _ _ _ _).trans (by rw [tq66_21]; exact rfl)
theorem tq66_24 : tT g 66 24 = s_const 66 25 (.int 1) := rfl
theorem A66_24 {L : AL} {r : List Value} : aw g 66 24 L r σ Q = aw g 66 25 L (.int 1 :: r) σ Q := (aw_eq g 66 24 _ _ _ _).trans (by rw [tq66_24]; exact rfl)
theorem tq66_25 : tT g 66 25 = s_goto 66 29 := rfl
theorem A66_25 {L : AL} {r : List Value} : aw g 66 25 L r σ Q = aw g 66 29 L r σ Q := (aw_eq g 66 25 _ _ _ _).trans (by rw [tq66_25]; exact rfl)
theorem tq66_28 : tT g 66 28 = s_const 66 29 (.int 0) := rfl
theorem A66_28 {L : AL} {r : List Value} : aw g 66 28 L r σ Q = aw g 66 29 L (.int 0 :: r) σ Q := (aw_eq g 66 28 _ _ _ _).trans (by rw [tq66_28]; exact rfl)
theorem tq66_29 : tT g 66 29 = s_callk 66 32 61 [0] 1 := rfl
theorem A66_29 {L : AL} {r : List Value} {w0 : Value} : aw g 66 29 L (w0 :: r) σ Q = ((vI w0 && true) = true ∧ csum r ≤ 8 ∧ aw g 61 0 [some w0] [] σ (kt (aw g) 66 32 L r Q)) := (aw_eq g 66 29 _ _ _ _).trans (by rw [tq66_29]; exact rfl)
theorem tq66_32 : tT g 66 32 = s_bin 66 33 (fun a b => a + b) := rfl
theorem A66_32 {L : AL} {r : List Value} {a b : Int32} : aw g 66 32 L (.int b :: .int a :: r) σ Q = aw g 66 33 L (.int (a + b) :: r) σ Q := (aw_eq g 66 32 _ _ _ _).trans (by rw [tq66_32]; exact rfl)
theorem tq66_33 : tT g 66 33 = s_store vI 66 34 3 := rfl
theorem A66_33 {l0 : Option Value} {l1 : Option Value} {l2 : Option Value} {l3 : Option Value} {l4 : Option Value} {x : Int32} {r : List Value} : aw g 66 33 [l0, l1, l2, l3, l4] (.int x :: r) σ Q = (oc l2 = true ∧ aw g 66 34 [l0, l1, l2, some (.int x), l4] r σ Q) := (aw_eq g 66 33 _ _ _ _).trans (by rw [tq66_33]; exact (h_store (o := oc l2) rfl rfl rfl).trans (propext ⟨fun z => z.2, fun z => ⟨rfl, z⟩⟩))
theorem tq66_34 : tT g 66 34 = s_iinc 66 37 4 1 := rfl
theorem A66_34 {l0 : Option Value} {l1 : Option Value} {l2 : Option Value} {l3 : Option Value} {x : Int32} {r : List Value} : aw g 66 34 [l0, l1, l2, l3, some (.int x)] r σ Q = (oc l3 = true ∧ aw g 66 37 [l0, l1, l2, l3, some (.int (x + 1))] r σ Q) := (aw_eq g 66 34 _ _ _ _).trans (by rw [tq66_34]; exact (h_iinc (o := oc l3) rfl rfl rfl))
theorem tq66_37 : tT g 66 37 = s_goto 66 5 := rfl
theorem A66_37 {L : AL} {r : List Value} : aw g 66 37 L r σ Q = aw g 66 5 L r σ Q := (aw_eq g 66 37 _ _ _ _).trans (by rw [tq66_37]; exact rfl)
theorem tq66_40 : tT g 66 40 = s_load vI 66 41 3 := rfl
theorem A66_40 {l0 : Option Value} {l1 : Option Value} {l2 : Option Value} {l4 : Option Value} {x : Int32} {r : List Value} : aw g 66 40 [l0, l1, l2, some (.int x), l4] r σ Q = aw g 66 41 [l0, l1, l2, some (.int x), l4] (.int x :: r) σ Q := (aw_eq g 66 40 _ _ _ _).trans (by rw [tq66_40]; exact (h_load rfl).trans (propext ⟨fun z => z.2, fun z => ⟨rfl, z⟩⟩))
theorem tq66_41 : tT g 66 41 = s_ret pI := rfl
theorem A66_41 {L : AL} {v : Value} : aw g 66 41 L [v] σ Q = (pI v ∧ Q (.inl (some v)) σ) := (aw_eq g 66 41 _ _ _ _).trans (by rw [tq66_41]; exact rfl)
theorem tq67_0 : tT g 67 0 = s_load vRf 67 1 0 := rfl
theorem A67_0 {l1 : Option Value} {l2 : Option Value} {x : Value} {r : List Value} : aw g 67 0 [some (x), l1, l2] r σ Q = (vRf x = true ∧ aw g 67 1 [some (x), l1, l2] (x :: r) σ Q) := (aw_eq g 67 0 _ _ _ _).trans (by rw [tq67_0]; exact h_load rfl)
theorem tq67_1 : tT g 67 1 = s_getf 67 4 0 0 := rfl
theorem A67_1 {L : AL} {r : List Value} {a : Nat} : aw g 67 1 L (.ref a :: r) σ Q = (hty σ a = some 0 ∧ aw g 67 4 L (hv σ 0 a 0 :: r) σ Q) := (aw_eq g 67 1 _ _ _ _).trans (by rw [tq67_1]; exact rfl)
theorem tq67_4 : tT g 67 4 = s_load vRf 67 5 1 := rfl
theorem A67_4 {l0 : Option Value} {l2 : Option Value} {x : Value} {r : List Value} : aw g 67 4 [l0, some (x), l2] r σ Q = (vRf x = true ∧ aw g 67 5 [l0, some (x), l2] (x :: r) σ Q) := (aw_eq g 67 4 _ _ _ _).trans (by rw [tq67_4]; exact h_load rfl)
theorem tq67_5 : tT g 67 5 = s_load vI 67 6 2 := rfl
theorem A67_5 {l0 : Option Value} {l1 : Option Value} {x : Int32} {r : List Value} : aw g 67 5 [l0, l1, some (.int x)] r σ Q = aw g 67 6 [l0, l1, some (.int x)] (.int x :: r) σ Q := (aw_eq g 67 5 _ _ _ _).trans (by rw [tq67_5]; exact (h_load rfl).trans (propext ⟨fun z => z.2, fun z => ⟨rfl, z⟩⟩))
theorem tq67_6 : tT g 67 6 = s_callvk 67 9 111 1 [1, 0] 5 := rfl
theorem A67_6 {L : AL} {r : List Value} {a : Nat} {w0 w1 : Value} : aw g 67 6 L (w1 :: w0 :: .ref a :: r) σ Q = (hty σ a = some 1 ∧ (vRf w0 && (vI w1 && true)) = true ∧ csum r ≤ 8 ∧ aw g 111 0 [some (.ref a), some w0, some w1, none, none] [] σ (kt (aw g) 67 9 L r Q)) := (aw_eq g 67 6 _ _ _ _).trans (by rw [tq67_6]; exact rfl)
theorem tq67_9 : tT g 67 9 = s_ifnull 67 12 14 := rfl
theorem A67_9 {L : AL} {r : List Value} {a : Value} : aw g 67 9 L (a :: r) σ Q = (vRf a = true ∧ (a = .null → aw g 67 14 L r σ Q) ∧ (a ≠ .null → aw g 67 12 L r σ Q)) := (aw_eq g 67 9 _ _ _ _).trans (by rw [tq67_9]; exact rfl)
theorem tq67_12 : tT g 67 12 = s_const 67 13 (.int 0) := rfl
theorem A67_12 {L : AL} {r : List Value} : aw g 67 12 L r σ Q = aw g 67 13 L (.int 0 :: r) σ Q := (aw_eq g 67 12 _ _ _ _).trans (by rw [tq67_12]; exact rfl)
theorem tq67_13 : tT g 67 13 = s_ret pI := rfl
theorem A67_13 {L : AL} {v : Value} : aw g 67 13 L [v] σ Q = (pI v ∧ Q (.inl (some v)) σ) := (aw_eq g 67 13 _ _ _ _).trans (by rw [tq67_13]; exact rfl)
theorem tq67_14 : tT g 67 14 = s_load vRf 67 15 1 := rfl
theorem A67_14 {l0 : Option Value} {l2 : Option Value} {x : Value} {r : List Value} : aw g 67 14 [l0, some (x), l2] r σ Q = (vRf x = true ∧ aw g 67 15 [l0, some (x), l2] (x :: r) σ Q) := (aw_eq g 67 14 _ _ _ _).trans (by rw [tq67_14]; exact h_load rfl)
theorem tq67_15 : tT g 67 15 = s_getf 67 18 5 14 := rfl
theorem A67_15 {L : AL} {r : List Value} {a : Nat} : aw g 67 15 L (.ref a :: r) σ Q = (hty σ a = some 5 ∧ aw g 67 18 L (hv σ 5 a 14 :: r) σ Q) := (aw_eq g 67 15 _ _ _ _).trans (by rw [tq67_15]; exact rfl)
theorem tq67_18 : tT g 67 18 = s_load vI 67 19 2 := rfl
theorem A67_18 {l0 : Option Value} {l1 : Option Value} {x : Int32} {r : List Value} : aw g 67 18 [l0, l1, some (.int x)] r σ Q = aw g 67 19 [l0, l1, some (.int x)] (.int x :: r) σ Q := (aw_eq g 67 18 _ _ _ _).trans (by rw [tq67_18]; exact (h_load rfl).trans (propext ⟨fun z => z.2, fun z => ⟨rfl, z⟩⟩))
theorem tq67_19 : tT g 67 19 = s_ald 67 20 21 := rfl
theorem A67_19 {L : AL} {r : List Value} {a : Nat} {i : Int32} : aw g 67 19 L (.int i :: .ref a :: r) σ Q = (hty σ a = some 21 ∧ ¬ i < 0 ∧ i.toNatClampNeg < hln σ a ∧ aw g 67 20 L (hv σ 21 a i.toNatClampNeg :: r) σ Q) := (aw_eq g 67 19 _ _ _ _).trans (by rw [tq67_19]; exact rfl)
theorem tq67_20 : tT g 67 20 = s_if 67 23 27 (fun a => a = 0) := rfl
theorem A67_20 {L : AL} {r : List Value} {a : Int32} : aw g 67 20 L (.int a :: r) σ Q = ((a = 0 → aw g 67 27 L r σ Q) ∧ (¬ a = 0 → aw g 67 23 L r σ Q)) := (aw_eq g 67 20 _ _ _ _).trans (by rw [tq67_20]; exact rfl)
theorem tq67_23 : tT g 67 23 = s_const 67 24 (.int 1) := rfl
theorem A67_23 {L : AL} {r : List Value} : aw g 67 23 L r σ Q = aw g 67 24 L (.int 1 :: r) σ Q := (aw_eq g 67 23 _ _ _ _).trans (by rw [tq67_23]; exact rfl)
theorem tq67_24 : tT g 67 24 = s_goto 67 41 := rfl
theorem A67_24 {L : AL} {r : List Value} : aw g 67 24 L r σ Q = aw g 67 41 L r σ Q := (aw_eq g 67 24 _ _ _ _).trans (by rw [tq67_24]; exact rfl)
theorem tq67_27 : tT g 67 27 = s_load vRf 67 28 1 := rfl
theorem A67_27 {l0 : Option Value} {l2 : Option Value} {x : Value} {r : List Value} : aw g 67 27 [l0, some (x), l2] r σ Q = (vRf x = true ∧ aw g 67 28 [l0, some (x), l2] (x :: r) σ Q) := (aw_eq g 67 27 _ _ _ _).trans (by rw [tq67_27]; exact h_load rfl)
theorem tq67_28 : tT g 67 28 = s_getf 67 31 5 15 := rfl
theorem A67_28 {L : AL} {r : List Value} {a : Nat} : aw g 67 28 L (.ref a :: r) σ Q = (hty σ a = some 5 ∧ aw g 67 31 L (hv σ 5 a 15 :: r) σ Q) := (aw_eq g 67 28 _ _ _ _).trans (by rw [tq67_28]; exact rfl)
theorem tq67_31 : tT g 67 31 = s_load vI 67 32 2 := rfl
theorem A67_31 {l0 : Option Value} {l1 : Option Value} {x : Int32} {r : List Value} : aw g 67 31 [l0, l1, some (.int x)] r σ Q = aw g 67 32 [l0, l1, some (.int x)] (.int x :: r) σ Q := (aw_eq g 67 31 _ _ _ _).trans (by rw [tq67_31]; exact (h_load rfl).trans (propext ⟨fun z => z.2, fun z => ⟨rfl, z⟩⟩))
theorem tq67_32 : tT g 67 32 = s_ald 67 33 21 := rfl
theorem A67_32 {L : AL} {r : List Value} {a : Nat} {i : Int32} : aw g 67 32 L (.int i :: .ref a :: r) σ Q = (hty σ a = some 21 ∧ ¬ i < 0 ∧ i.toNatClampNeg < hln σ a ∧ aw g 67 33 L (hv σ 21 a i.toNatClampNeg :: r) σ Q) := (aw_eq g 67 32 _ _ _ _).trans (by rw [tq67_32]; exact rfl)
theorem tq67_33 : tT g 67 33 = s_if 67 36 40 (fun a => a = 0) := rfl
theorem A67_33 {L : AL} {r : List Value} {a : Int32} : aw g 67 33 L (.int a :: r) σ Q = ((a = 0 → aw g 67 40 L r σ Q) ∧ (¬ a = 0 → aw g 67 36 L r σ Q)) := (aw_eq g 67 33 _ _ _ _).trans (by rw [tq67_33]; exact rfl)
theorem tq67_36 : tT g 67 36 = s_const 67 37 (.int 2) := rfl
theorem A67_36 {L : AL} {r : List Value} : aw g 67 36 L r σ Q = aw g 67 37 L (.int 2 :: r) σ Q := (aw_eq g 67 36 _ _ _ _).trans (by rw [tq67_36]; exact rfl)
theorem tq67_37 : tT g 67 37 = s_goto 67 41 := rfl
theorem A67_37 {L : AL} {r : List Value} : aw g 67 37 L r σ Q = aw g 67 41 L r σ Q := (aw_eq g 67 37 _ _ _ _).trans (by rw [tq67_37]; exact rfl)
theorem tq67_40 : tT g 67 40 = s_const 67 41 (.int 3) := rfl
theorem A67_40 {L : AL} {r : List Value} : aw g 67 40 L r σ Q = aw g 67 41 L (.int 3 :: r) σ Q := (aw_eq g 67 40 _ _ _ _).trans (by rw [tq67_40]; exact rfl)
theorem tq67_41 : tT g 67 41 = s_ret pI := rfl
theorem A67_41 {L : AL} {v : Value} : aw g 67 41 L [v] σ Q = (pI v ∧ Q (.inl (some v)) σ) := (aw_eq g 67 41 _ _ _ _).trans (by rw [tq67_41]; exact rfl)
theorem tq68_0 : tT g 68 0 = s_load vI 68 1 3 := rfl
theorem A68_0 {l0 : Option Value} {l1 : Option Value} {l2 : Option Value} {x : Int32} {r : List Value} : aw g 68 0 [l0, l1, l2, some (.int x)] r σ Q = aw g 68 1 [l0, l1, l2, some (.int x)] (.int x :: r) σ Q := (aw_eq g 68 0 _ _ _ _).trans (by rw [tq68_0]; exact (h_load rfl).trans (propext ⟨fun z => z.2, fun z => ⟨rfl, z⟩⟩))
theorem tq68_1 : tT g 68 1 = s_if 68 14 4 (fun a => a = 0) := rfl
theorem A68_1 {L : AL} {r : List Value} {a : Int32} : aw g 68 1 L (.int a :: r) σ Q = ((a = 0 → aw g 68 4 L r σ Q) ∧ (¬ a = 0 → aw g 68 14 L r σ Q)) := (aw_eq g 68 1 _ _ _ _).trans (by rw [tq68_1]; exact rfl)
theorem tq68_4 : tT g 68 4 = s_load vRf 68 5 1 := rfl
theorem A68_4 {l0 : Option Value} {l2 : Option Value} {l3 : Option Value} {x : Value} {r : List Value} : aw g 68 4 [l0, some (x), l2, l3] r σ Q = (vRf x = true ∧ aw g 68 5 [l0, some (x), l2, l3] (x :: r) σ Q) := (aw_eq g 68 4 _ _ _ _).trans (by rw [tq68_4]; exact h_load rfl)
theorem tq68_5 : tT g 68 5 = s_getf 68 8 5 2 := rfl
theorem A68_5 {L : AL} {r : List Value} {a : Nat} : aw g 68 5 L (.ref a :: r) σ Q = (hty σ a = some 5 ∧ aw g 68 8 L (hv σ 5 a 2 :: r) σ Q) := (aw_eq g 68 5 _ _ _ _).trans (by rw [tq68_5]; exact rfl)
theorem tq68_8 : tT g 68 8 = s_getf 68 11 6 1 := rfl
theorem A68_8 {L : AL} {r : List Value} {a : Nat} : aw g 68 8 L (.ref a :: r) σ Q = (hty σ a = some 6 ∧ aw g 68 11 L (hv σ 6 a 1 :: r) σ Q) := (aw_eq g 68 8 _ _ _ _).trans (by rw [tq68_8]; exact rfl)
theorem tq68_11 : tT g 68 11 = s_load vI 68 12 2 := rfl
theorem A68_11 {l0 : Option Value} {l1 : Option Value} {l3 : Option Value} {x : Int32} {r : List Value} : aw g 68 11 [l0, l1, some (.int x), l3] r σ Q = aw g 68 12 [l0, l1, some (.int x), l3] (.int x :: r) σ Q := (aw_eq g 68 11 _ _ _ _).trans (by rw [tq68_11]; exact (h_load rfl).trans (propext ⟨fun z => z.2, fun z => ⟨rfl, z⟩⟩))
theorem tq68_12 : tT g 68 12 = s_ald 68 13 20 := rfl
theorem A68_12 {L : AL} {r : List Value} {a : Nat} {i : Int32} : aw g 68 12 L (.int i :: .ref a :: r) σ Q = (hty σ a = some 20 ∧ ¬ i < 0 ∧ i.toNatClampNeg < hln σ a ∧ aw g 68 13 L (hv σ 20 a i.toNatClampNeg :: r) σ Q) := (aw_eq g 68 12 _ _ _ _).trans (by rw [tq68_12]; exact rfl)
theorem tq68_13 : tT g 68 13 = s_ret pI := rfl
theorem A68_13 {L : AL} {v : Value} : aw g 68 13 L [v] σ Q = (pI v ∧ Q (.inl (some v)) σ) := (aw_eq g 68 13 _ _ _ _).trans (by rw [tq68_13]; exact rfl)
theorem tq68_14 : tT g 68 14 = s_load vI 68 15 3 := rfl
theorem A68_14 {l0 : Option Value} {l1 : Option Value} {l2 : Option Value} {x : Int32} {r : List Value} : aw g 68 14 [l0, l1, l2, some (.int x)] r σ Q = aw g 68 15 [l0, l1, l2, some (.int x)] (.int x :: r) σ Q := (aw_eq g 68 14 _ _ _ _).trans (by rw [tq68_14]; exact (h_load rfl).trans (propext ⟨fun z => z.2, fun z => ⟨rfl, z⟩⟩))
theorem tq68_15 : tT g 68 15 = s_const 68 16 (.int 1) := rfl
theorem A68_15 {L : AL} {r : List Value} : aw g 68 15 L r σ Q = aw g 68 16 L (.int 1 :: r) σ Q := (aw_eq g 68 15 _ _ _ _).trans (by rw [tq68_15]; exact rfl)
theorem tq68_16 : tT g 68 16 = s_icmp 68 39 19 (fun a b => a = b) := rfl
theorem A68_16 {L : AL} {r : List Value} {a b : Int32} : aw g 68 16 L (.int b :: .int a :: r) σ Q = ((a = b → aw g 68 19 L r σ Q) ∧ (¬ a = b → aw g 68 39 L r σ Q)) := (aw_eq g 68 16 _ _ _ _).trans (by rw [tq68_16]; exact rfl)
theorem tq68_19 : tT g 68 19 = s_load vRf 68 20 0 := rfl
theorem A68_19 {l1 : Option Value} {l2 : Option Value} {l3 : Option Value} {x : Value} {r : List Value} : aw g 68 19 [some (x), l1, l2, l3] r σ Q = (vRf x = true ∧ aw g 68 20 [some (x), l1, l2, l3] (x :: r) σ Q) := (aw_eq g 68 19 _ _ _ _).trans (by rw [tq68_19]; exact h_load rfl)
theorem tq68_20 : tT g 68 20 = s_getf 68 23 0 0 := rfl
theorem A68_20 {L : AL} {r : List Value} {a : Nat} : aw g 68 20 L (.ref a :: r) σ Q = (hty σ a = some 0 ∧ aw g 68 23 L (hv σ 0 a 0 :: r) σ Q) := (aw_eq g 68 20 _ _ _ _).trans (by rw [tq68_20]; exact rfl)
theorem tq68_23 : tT g 68 23 = s_getf 68 26 1 1 := rfl
theorem A68_23 {L : AL} {r : List Value} {a : Nat} : aw g 68 23 L (.ref a :: r) σ Q = (hty σ a = some 1 ∧ aw g 68 26 L (hv σ 1 a 1 :: r) σ Q) := (aw_eq g 68 23 _ _ _ _).trans (by rw [tq68_23]; exact rfl)
theorem tq68_26 : tT g 68 26 = s_load vRf 68 27 0 := rfl
theorem A68_26 {l1 : Option Value} {l2 : Option Value} {l3 : Option Value} {x : Value} {r : List Value} : aw g 68 26 [some (x), l1, l2, l3] r σ Q = (vRf x = true ∧ aw g 68 27 [some (x), l1, l2, l3] (x :: r) σ Q) := (aw_eq g 68 26 _ _ _ _).trans (by rw [tq68_26]; exact h_load rfl)
theorem tq68_27 : tT g 68 27 = s_getf 68 30 0 0 := rfl
theorem A68_27 {L : AL} {r : List Value} {a : Nat} : aw g 68 27 L (.ref a :: r) σ Q = (hty σ a = some 0 ∧ aw g 68 30 L (hv σ 0 a 0 :: r) σ Q) := (aw_eq g 68 27 _ _ _ _).trans (by rw [tq68_27]; exact rfl)
theorem tq68_30 : tT g 68 30 = s_load vRf 68 31 1 := rfl
theorem A68_30 {l0 : Option Value} {l2 : Option Value} {l3 : Option Value} {x : Value} {r : List Value} : aw g 68 30 [l0, some (x), l2, l3] r σ Q = (vRf x = true ∧ aw g 68 31 [l0, some (x), l2, l3] (x :: r) σ Q) := (aw_eq g 68 30 _ _ _ _).trans (by rw [tq68_30]; exact h_load rfl)
theorem tq68_31 : tT g 68 31 = s_load vI 68 32 2 := rfl
theorem A68_31 {l0 : Option Value} {l1 : Option Value} {l3 : Option Value} {x : Int32} {r : List Value} : aw g 68 31 [l0, l1, some (.int x), l3] r σ Q = aw g 68 32 [l0, l1, some (.int x), l3] (.int x :: r) σ Q := (aw_eq g 68 31 _ _ _ _).trans (by rw [tq68_31]; exact (h_load rfl).trans (propext ⟨fun z => z.2, fun z => ⟨rfl, z⟩⟩))
theorem tq68_32 : tT g 68 32 = s_callvk 68 35 111 1 [1, 0] 5 := rfl
theorem A68_32 {L : AL} {r : List Value} {a : Nat} {w0 w1 : Value} : aw g 68 32 L (w1 :: w0 :: .ref a :: r) σ Q = (hty σ a = some 1 ∧ (vRf w0 && (vI w1 && true)) = true ∧ csum r ≤ 8 ∧ aw g 111 0 [some (.ref a), some w0, some w1, none, none] [] σ (kt (aw g) 68 35 L r Q)) := (aw_eq g 68 32 _ _ _ _).trans (by rw [tq68_32]; exact rfl)
theorem tq68_35 : tT g 68 35 = s_callvk 68 38 23 10 [1] 2 := rfl
theorem A68_35 {L : AL} {r : List Value} {a : Nat} {w0 : Value} : aw g 68 35 L (w0 :: .ref a :: r) σ Q = (hty σ a = some 10 ∧ (vRf w0 && true) = true ∧ csum r ≤ 8 ∧ aw g 23 0 [some (.ref a), some w0] [] σ (kt (aw g) 68 38 L r Q)) := (aw_eq g 68 35 _ _ _ _).trans (by rw [tq68_35]; exact rfl)
theorem tq68_38 : tT g 68 38 = s_ret pI := rfl
theorem A68_38 {L : AL} {v : Value} : aw g 68 38 L [v] σ Q = (pI v ∧ Q (.inl (some v)) σ) := (aw_eq g 68 38 _ _ _ _).trans (by rw [tq68_38]; exact rfl)
theorem tq68_39 : tT g 68 39 = s_load vI 68 40 3 := rfl
theorem A68_39 {l0 : Option Value} {l1 : Option Value} {l2 : Option Value} {x : Int32} {r : List Value} : aw g 68 39 [l0, l1, l2, some (.int x)] r σ Q = aw g 68 40 [l0, l1, l2, some (.int x)] (.int x :: r) σ Q := (aw_eq g 68 39 _ _ _ _).trans (by rw [tq68_39]; exact (h_load rfl).trans (propext ⟨fun z => z.2, fun z => ⟨rfl, z⟩⟩))
theorem tq68_40 : tT g 68 40 = s_const 68 41 (.int 2) := rfl
theorem A68_40 {L : AL} {r : List Value} : aw g 68 40 L r σ Q = aw g 68 41 L (.int 2 :: r) σ Q := (aw_eq g 68 40 _ _ _ _).trans (by rw [tq68_40]; exact rfl)
theorem tq68_41 : tT g 68 41 = s_icmp 68 53 44 (fun a b => a = b) := rfl
theorem A68_41 {L : AL} {r : List Value} {a b : Int32} : aw g 68 41 L (.int b :: .int a :: r) σ Q = ((a = b → aw g 68 44 L r σ Q) ∧ (¬ a = b → aw g 68 53 L r σ Q)) := (aw_eq g 68 41 _ _ _ _).trans (by rw [tq68_41]; exact rfl)
theorem tq68_44 : tT g 68 44 = s_load vRf 68 45 0 := rfl
theorem A68_44 {l1 : Option Value} {l2 : Option Value} {l3 : Option Value} {x : Value} {r : List Value} : aw g 68 44 [some (x), l1, l2, l3] r σ Q = (vRf x = true ∧ aw g 68 45 [some (x), l1, l2, l3] (x :: r) σ Q) := (aw_eq g 68 44 _ _ _ _).trans (by rw [tq68_44]; exact h_load rfl)
theorem tq68_45 : tT g 68 45 = s_load vRf 68 46 1 := rfl
theorem A68_45 {l0 : Option Value} {l2 : Option Value} {l3 : Option Value} {x : Value} {r : List Value} : aw g 68 45 [l0, some (x), l2, l3] r σ Q = (vRf x = true ∧ aw g 68 46 [l0, some (x), l2, l3] (x :: r) σ Q) := (aw_eq g 68 45 _ _ _ _).trans (by rw [tq68_45]; exact h_load rfl)
theorem tq68_46 : tT g 68 46 = s_load vI 68 47 2 := rfl
theorem A68_46 {l0 : Option Value} {l1 : Option Value} {l3 : Option Value} {x : Int32} {r : List Value} : aw g 68 46 [l0, l1, some (.int x), l3] r σ Q = aw g 68 47 [l0, l1, some (.int x), l3] (.int x :: r) σ Q := (aw_eq g 68 46 _ _ _ _).trans (by rw [tq68_46]; exact (h_load rfl).trans (propext ⟨fun z => z.2, fun z => ⟨rfl, z⟩⟩))
theorem tq68_47 : tT g 68 47 = s_callvk 68 50 67 0 [1, 0] 3 := rfl
theorem A68_47 {L : AL} {r : List Value} {a : Nat} {w0 w1 : Value} : aw g 68 47 L (w1 :: w0 :: .ref a :: r) σ Q = (hty σ a = some 0 ∧ (vRf w0 && (vI w1 && true)) = true ∧ csum r ≤ 8 ∧ aw g 67 0 [some (.ref a), some w0, some w1] [] σ (kt (aw g) 68 50 L r Q)) := (aw_eq g 68 47 _ _ _ _).trans (by rw [tq68_47]; exact rfl)
theorem tq68_50 : tT g 68 50 = s_goto 68 77 := rfl
theorem A68_50 {L : AL} {r : List Value} : aw g 68 50 L r σ Q = aw g 68 77 L r σ Q := (aw_eq g 68 50 _ _ _ _).trans (by rw [tq68_50]; exact rfl)
theorem tq68_53 : tT g 68 53 = s_load vRf 68 54 1 := rfl
theorem A68_53 {l0 : Option Value} {l2 : Option Value} {l3 : Option Value} {x : Value} {r : List Value} : aw g 68 53 [l0, some (x), l2, l3] r σ Q = (vRf x = true ∧ aw g 68 54 [l0, some (x), l2, l3] (x :: r) σ Q) := (aw_eq g 68 53 _ _ _ _).trans (by rw [tq68_53]; exact h_load rfl)
theorem tq68_54 : tT g 68 54 = s_callvk 68 57 194 5 [] 1 := rfl
theorem A68_54 {L : AL} {r : List Value} {a : Nat} : aw g 68 54 L (.ref a :: r) σ Q = (hty σ a = some 5 ∧ true = true ∧ csum r ≤ 8 ∧ aw g 194 0 [some (.ref a)] [] σ (kt (aw g) 68 57 L r Q)) := (aw_eq g 68 54 _ _ _ _).trans (by rw [tq68_54]; exact rfl)
theorem tq68_57 : tT g 68 57 = s_if 68 60 73 (fun a => a = 0) := rfl
theorem A68_57 {L : AL} {r : List Value} {a : Int32} : aw g 68 57 L (.int a :: r) σ Q = ((a = 0 → aw g 68 73 L r σ Q) ∧ (¬ a = 0 → aw g 68 60 L r σ Q)) := (aw_eq g 68 57 _ _ _ _).trans (by rw [tq68_57]; exact rfl)
theorem tq68_60 : tT g 68 60 = s_load vRf 68 61 1 := rfl
theorem A68_60 {l0 : Option Value} {l2 : Option Value} {l3 : Option Value} {x : Value} {r : List Value} : aw g 68 60 [l0, some (x), l2, l3] r σ Q = (vRf x = true ∧ aw g 68 61 [l0, some (x), l2, l3] (x :: r) σ Q) := (aw_eq g 68 60 _ _ _ _).trans (by rw [tq68_60]; exact h_load rfl)
theorem tq68_61 : tT g 68 61 = s_getf 68 64 5 16 := rfl
theorem A68_61 {L : AL} {r : List Value} {a : Nat} : aw g 68 61 L (.ref a :: r) σ Q = (hty σ a = some 5 ∧ aw g 68 64 L (hv σ 5 a 16 :: r) σ Q) := (aw_eq g 68 61 _ _ _ _).trans (by rw [tq68_61]; exact rfl)
theorem tq68_64 : tT g 68 64 = s_load vI 68 65 2 := rfl
theorem A68_64 {l0 : Option Value} {l1 : Option Value} {l3 : Option Value} {x : Int32} {r : List Value} : aw g 68 64 [l0, l1, some (.int x), l3] r σ Q = aw g 68 65 [l0, l1, some (.int x), l3] (.int x :: r) σ Q := (aw_eq g 68 64 _ _ _ _).trans (by rw [tq68_64]; exact (h_load rfl).trans (propext ⟨fun z => z.2, fun z => ⟨rfl, z⟩⟩))
theorem tq68_65 : tT g 68 65 = s_ald 68 66 21 := rfl
theorem A68_65 {L : AL} {r : List Value} {a : Nat} {i : Int32} : aw g 68 65 L (.int i :: .ref a :: r) σ Q = (hty σ a = some 21 ∧ ¬ i < 0 ∧ i.toNatClampNeg < hln σ a ∧ aw g 68 66 L (hv σ 21 a i.toNatClampNeg :: r) σ Q) := (aw_eq g 68 65 _ _ _ _).trans (by rw [tq68_65]; exact rfl)
theorem tq68_66 : tT g 68 66 = s_if 68 69 73 (fun a => a = 0) := rfl
theorem A68_66 {L : AL} {r : List Value} {a : Int32} : aw g 68 66 L (.int a :: r) σ Q = ((a = 0 → aw g 68 73 L r σ Q) ∧ (¬ a = 0 → aw g 68 69 L r σ Q)) := (aw_eq g 68 66 _ _ _ _).trans (by rw [tq68_66]; exact rfl)
theorem tq68_69 : tT g 68 69 = s_const 68 70 (.int 1) := rfl
theorem A68_69 {L : AL} {r : List Value} : aw g 68 69 L r σ Q = aw g 68 70 L (.int 1 :: r) σ Q := (aw_eq g 68 69 _ _ _ _).trans (by rw [tq68_69]; exact rfl)
theorem tq68_70 : tT g 68 70 = s_goto 68 74 := rfl
theorem A68_70 {L : AL} {r : List Value} : aw g 68 70 L r σ Q = aw g 68 74 L r σ Q := (aw_eq g 68 70 _ _ _ _).trans (by rw [tq68_70]; exact rfl)
theorem tq68_73 : tT g 68 73 = s_const 68 74 (.int 0) := rfl
theorem A68_73 {L : AL} {r : List Value} : aw g 68 73 L r σ Q = aw g 68 74 L (.int 0 :: r) σ Q := (aw_eq g 68 73 _ _ _ _).trans (by rw [tq68_73]; exact rfl)
theorem tq68_74 : tT g 68 74 = s_callk 68 77 61 [0] 1 := rfl
theorem A68_74 {L : AL} {r : List Value} {w0 : Value} : aw g 68 74 L (w0 :: r) σ Q = ((vI w0 && true) = true ∧ csum r ≤ 8 ∧ aw g 61 0 [some w0] [] σ (kt (aw g) 68 77 L r Q)) := (aw_eq g 68 74 _ _ _ _).trans (by rw [tq68_74]; exact rfl)
theorem tq68_77 : tT g 68 77 = s_ret pI := rfl
theorem A68_77 {L : AL} {v : Value} : aw g 68 77 L [v] σ Q = (pI v ∧ Q (.inl (some v)) σ) := (aw_eq g 68 77 _ _ _ _).trans (by rw [tq68_77]; exact rfl)
theorem tq69_0 : tT g 69 0 = s_load vRf 69 1 0 := rfl
theorem A69_0 {l1 : Option Value} {x : Value} {r : List Value} : aw g 69 0 [some (x), l1] r σ Q = (vRf x = true ∧ aw g 69 1 [some (x), l1] (x :: r) σ Q) := (aw_eq g 69 0 _ _ _ _).trans (by rw [tq69_0]; exact h_load rfl)
theorem tq69_1 : tT g 69 1 = s_getf 69 4 5 21 := rfl
theorem A69_1 {L : AL} {r : List Value} {a : Nat} : aw g 69 1 L (.ref a :: r) σ Q = (hty σ a = some 5 ∧ aw g 69 4 L (hv σ 5 a 21 :: r) σ Q) := (aw_eq g 69 1 _ _ _ _).trans (by rw [tq69_1]; exact rfl)
theorem tq69_4 : tT g 69 4 = s_ifnull 69 7 21 := rfl
theorem A69_4 {L : AL} {r : List Value} {a : Value} : aw g 69 4 L (a :: r) σ Q = (vRf a = true ∧ (a = .null → aw g 69 21 L r σ Q) ∧ (a ≠ .null → aw g 69 7 L r σ Q)) := (aw_eq g 69 4 _ _ _ _).trans (by rw [tq69_4]; exact rfl)
theorem tq69_7 : tT g 69 7 = s_load vI 69 8 1 := rfl
theorem A69_7 {l0 : Option Value} {x : Int32} {r : List Value} : aw g 69 7 [l0, some (.int x)] r σ Q = aw g 69 8 [l0, some (.int x)] (.int x :: r) σ Q := (aw_eq g 69 7 _ _ _ _).trans (by rw [tq69_7]; exact (h_load rfl).trans (propext ⟨fun z => z.2, fun z => ⟨rfl, z⟩⟩))
theorem tq69_8 : tT g 69 8 = s_load vRf 69 9 0 := rfl
theorem A69_8 {l1 : Option Value} {x : Value} {r : List Value} : aw g 69 8 [some (x), l1] r σ Q = (vRf x = true ∧ aw g 69 9 [some (x), l1] (x :: r) σ Q) := (aw_eq g 69 8 _ _ _ _).trans (by rw [tq69_8]; exact h_load rfl)
theorem tq69_9 : tT g 69 9 = s_getf 69 12 5 21 := rfl
theorem A69_9 {L : AL} {r : List Value} {a : Nat} : aw g 69 9 L (.ref a :: r) σ Q = (hty σ a = some 5 ∧ aw g 69 12 L (hv σ 5 a 21 :: r) σ Q) := (aw_eq g 69 9 _ _ _ _).trans (by rw [tq69_9]; exact rfl)
theorem tq69_12 : tT g 69 12 = s_getf 69 15 9 1 := rfl
theorem A69_12 {L : AL} {r : List Value} {a : Nat} : aw g 69 12 L (.ref a :: r) σ Q = (hty σ a = some 9 ∧ aw g 69 15 L (hv σ 9 a 1 :: r) σ Q) := (aw_eq g 69 12 _ _ _ _).trans (by rw [tq69_12]; exact rfl)
theorem tq69_15 : tT g 69 15 = s_callvk 69 18 15 10 [] 1 := rfl
theorem A69_15 {L : AL} {r : List Value} {a : Nat} : aw g 69 15 L (.ref a :: r) σ Q = (hty σ a = some 10 ∧ true = true ∧ csum r ≤ 8 ∧ aw g 15 0 [some (.ref a)] [] σ (kt (aw g) 69 18 L r Q)) := (aw_eq g 69 15 _ _ _ _).trans (by rw [tq69_15]; exact rfl)
theorem tq69_18 : tT g 69 18 = s_icmp 69 21 25 (fun a b => a < b) := rfl
theorem A69_18 {L : AL} {r : List Value} {a b : Int32} : aw g 69 18 L (.int b :: .int a :: r) σ Q = ((a < b → aw g 69 25 L r σ Q) ∧ (¬ a < b → aw g 69 21 L r σ Q)) := (aw_eq g 69 18 _ _ _ _).trans (by rw [tq69_18]; exact rfl)
theorem tq69_21 : tT g 69 21 = s_const 69 22 (.int (-1)) := rfl
theorem A69_21 {L : AL} {r : List Value} : aw g 69 21 L r σ Q = aw g 69 22 L (.int (-1) :: r) σ Q := (aw_eq g 69 21 _ _ _ _).trans (by rw [tq69_21]; exact rfl)
theorem tq69_22 : tT g 69 22 = s_goto 69 42 := rfl
theorem A69_22 {L : AL} {r : List Value} : aw g 69 22 L r σ Q = aw g 69 42 L r σ Q := (aw_eq g 69 22 _ _ _ _).trans (by rw [tq69_22]; exact rfl)
theorem tq69_25 : tT g 69 25 = s_load vRf 69 26 0 := rfl
theorem A69_25 {l1 : Option Value} {x : Value} {r : List Value} : aw g 69 25 [some (x), l1] r σ Q = (vRf x = true ∧ aw g 69 26 [some (x), l1] (x :: r) σ Q) := (aw_eq g 69 25 _ _ _ _).trans (by rw [tq69_25]; exact h_load rfl)
theorem tq69_26 : tT g 69 26 = s_getf 69 29 5 21 := rfl
theorem A69_26 {L : AL} {r : List Value} {a : Nat} : aw g 69 26 L (.ref a :: r) σ Q = (hty σ a = some 5 ∧ aw g 69 29 L (hv σ 5 a 21 :: r) σ Q) := (aw_eq g 69 26 _ _ _ _).trans (by rw [tq69_26]; exact rfl)
theorem tq69_29 : tT g 69 29 = s_getf 69 32 9 1 := rfl
theorem A69_29 {L : AL} {r : List Value} {a : Nat} : aw g 69 29 L (.ref a :: r) σ Q = (hty σ a = some 9 ∧ aw g 69 32 L (hv σ 9 a 1 :: r) σ Q) := (aw_eq g 69 29 _ _ _ _).trans (by rw [tq69_29]; exact rfl)
theorem tq69_32 : tT g 69 32 = s_load vI 69 33 1 := rfl
theorem A69_32 {l0 : Option Value} {x : Int32} {r : List Value} : aw g 69 32 [l0, some (.int x)] r σ Q = aw g 69 33 [l0, some (.int x)] (.int x :: r) σ Q := (aw_eq g 69 32 _ _ _ _).trans (by rw [tq69_32]; exact (h_load rfl).trans (propext ⟨fun z => z.2, fun z => ⟨rfl, z⟩⟩))
theorem tq69_33 : tT g 69 33 = s_callvk 69 36 25 10 [0] 2 := rfl
theorem A69_33 {L : AL} {r : List Value} {a : Nat} {w0 : Value} : aw g 69 33 L (w0 :: .ref a :: r) σ Q = (hty σ a = some 10 ∧ (vI w0 && true) = true ∧ csum r ≤ 8 ∧ aw g 25 0 [some (.ref a), some w0] [] σ (kt (aw g) 69 36 L r Q)) := (aw_eq g 69 33 _ _ _ _).trans (by rw [tq69_33]; exact rfl)
theorem tq69_36 : tT g 69 36 = s_cast 69 39 [12] := rfl
theorem A69_36 {L : AL} {r : List Value} : aw g 69 36 L (.null :: r) σ Q = aw g 69 39 L (.null :: r) σ Q := (aw_eq g 69 36 _ _ _ _).trans (by rw [tq69_36]; exact rfl)
theorem A69_36r {L : AL} {r : List Value} {a : Nat} : aw g 69 36 L (.ref a :: r) σ Q = (hty σ a = some 12 ∧ aw g 69 39 L (.ref a :: r) σ Q) := (aw_eq g 69 36 _ _ _ _).trans (by rw [tq69_36]; exact propext ⟨fun z => (by obtain ⟨⟨u, hu, hu2⟩, z2⟩ := z; rw [List.mem_singleton] at hu; subst hu; exact ⟨hu2, z2⟩), fun z => ⟨⟨_, List.mem_cons_self, z.1⟩, z.2⟩⟩)
theorem tq69_39 : tT g 69 39 = s_callvk 69 42 8 12 [] 1 := rfl
theorem A69_39 {L : AL} {r : List Value} {a : Nat} : aw g 69 39 L (.ref a :: r) σ Q = (hty σ a = some 12 ∧ true = true ∧ csum r ≤ 8 ∧ aw g 8 0 [some (.ref a)] [] σ (kt (aw g) 69 42 L r Q)) := (aw_eq g 69 39 _ _ _ _).trans (by rw [tq69_39]; exact rfl)
theorem tq69_42 : tT g 69 42 = s_ret pI := rfl
theorem A69_42 {L : AL} {v : Value} : aw g 69 42 L [v] σ Q = (pI v ∧ Q (.inl (some v)) σ) := (aw_eq g 69 42 _ _ _ _).trans (by rw [tq69_42]; exact rfl)
theorem tq70_0 : tT g 70 0 = s_load vRf 70 1 0 := rfl
theorem A70_0 {l1 : Option Value} {l2 : Option Value} {l3 : Option Value} {x : Value} {r : List Value} : aw g 70 0 [some (x), l1, l2, l3] r σ Q = (vRf x = true ∧ aw g 70 1 [some (x), l1, l2, l3] (x :: r) σ Q) := (aw_eq g 70 0 _ _ _ _).trans (by rw [tq70_0]; exact h_load rfl)
theorem tq70_1 : tT g 70 1 = s_getf 70 4 5 21 := rfl
theorem A70_1 {L : AL} {r : List Value} {a : Nat} : aw g 70 1 L (.ref a :: r) σ Q = (hty σ a = some 5 ∧ aw g 70 4 L (hv σ 5 a 21 :: r) σ Q) := (aw_eq g 70 1 _ _ _ _).trans (by rw [tq70_1]; exact rfl)
theorem tq70_4 : tT g 70 4 = s_ifnn 70 7 11 := rfl
theorem A70_4 {L : AL} {r : List Value} {a : Value} : aw g 70 4 L (a :: r) σ Q = (vRf a = true ∧ (a = .null → aw g 70 7 L r σ Q) ∧ (a ≠ .null → aw g 70 11 L r σ Q)) := (aw_eq g 70 4 _ _ _ _).trans (by rw [tq70_4]; exact rfl)
theorem tq70_7 : tT g 70 7 = s_const 70 8 .null := rfl
theorem A70_7 {L : AL} {r : List Value} : aw g 70 7 L r σ Q = aw g 70 8 L (.null :: r) σ Q := (aw_eq g 70 7 _ _ _ _).trans (by rw [tq70_7]; exact rfl)
theorem tq70_8 : tT g 70 8 = s_goto 70 19 := rfl
theorem A70_8 {L : AL} {r : List Value} : aw g 70 8 L r σ Q = aw g 70 19 L r σ Q := (aw_eq g 70 8 _ _ _ _).trans (by rw [tq70_8]; exact rfl)
theorem tq70_11 : tT g 70 11 = s_load vRf 70 12 0 := rfl
theorem A70_11 {l1 : Option Value} {l2 : Option Value} {l3 : Option Value} {x : Value} {r : List Value} : aw g 70 11 [some (x), l1, l2, l3] r σ Q = (vRf x = true ∧ aw g 70 12 [some (x), l1, l2, l3] (x :: r) σ Q) := (aw_eq g 70 11 _ _ _ _).trans (by rw [tq70_11]; exact h_load rfl)
theorem tq70_12 : tT g 70 12 = s_getf 70 15 5 21 := rfl
theorem A70_12 {L : AL} {r : List Value} {a : Nat} : aw g 70 12 L (.ref a :: r) σ Q = (hty σ a = some 5 ∧ aw g 70 15 L (hv σ 5 a 21 :: r) σ Q) := (aw_eq g 70 12 _ _ _ _).trans (by rw [tq70_12]; exact rfl)
theorem tq70_15 : tT g 70 15 = s_load vI 70 16 1 := rfl
theorem A70_15 {l0 : Option Value} {l2 : Option Value} {l3 : Option Value} {x : Int32} {r : List Value} : aw g 70 15 [l0, some (.int x), l2, l3] r σ Q = aw g 70 16 [l0, some (.int x), l2, l3] (.int x :: r) σ Q := (aw_eq g 70 15 _ _ _ _).trans (by rw [tq70_15]; exact (h_load rfl).trans (propext ⟨fun z => z.2, fun z => ⟨rfl, z⟩⟩))
theorem tq70_16 : tT g 70 16 = s_callvk 70 19 103 9 [0] 6 := rfl
theorem A70_16 {L : AL} {r : List Value} {a : Nat} {w0 : Value} : aw g 70 16 L (w0 :: .ref a :: r) σ Q = (hty σ a = some 9 ∧ (vI w0 && true) = true ∧ csum r ≤ 8 ∧ aw g 103 0 [some (.ref a), some w0, none, none, none, none] [] σ (kt (aw g) 70 19 L r Q)) := (aw_eq g 70 16 _ _ _ _).trans (by rw [tq70_16]; exact rfl)
theorem tq70_19 : tT g 70 19 = s_store vRf 70 20 3 := rfl
theorem A70_19 {l0 : Option Value} {l1 : Option Value} {l2 : Option Value} {l3 : Option Value} {x : Value} {r : List Value} : aw g 70 19 [l0, l1, l2, l3] (x :: r) σ Q = (vRf x = true ∧ oc l2 = true ∧ aw g 70 20 [l0, l1, l2, some (x)] r σ Q) := (aw_eq g 70 19 _ _ _ _).trans (by rw [tq70_19]; exact (h_store (o := oc l2) rfl rfl rfl))
theorem tq70_20 : tT g 70 20 = s_load vRf 70 21 3 := rfl
theorem A70_20 {l0 : Option Value} {l1 : Option Value} {l2 : Option Value} {x : Value} {r : List Value} : aw g 70 20 [l0, l1, l2, some (x)] r σ Q = (vRf x = true ∧ aw g 70 21 [l0, l1, l2, some (x)] (x :: r) σ Q) := (aw_eq g 70 20 _ _ _ _).trans (by rw [tq70_20]; exact h_load rfl)
theorem tq70_21 : tT g 70 21 = s_ifnn 70 24 26 := rfl
theorem A70_21 {L : AL} {r : List Value} {a : Value} : aw g 70 21 L (a :: r) σ Q = (vRf a = true ∧ (a = .null → aw g 70 24 L r σ Q) ∧ (a ≠ .null → aw g 70 26 L r σ Q)) := (aw_eq g 70 21 _ _ _ _).trans (by rw [tq70_21]; exact rfl)
theorem tq70_24 : tT g 70 24 = s_const 70 25 (.int (-1)) := rfl
theorem A70_24 {L : AL} {r : List Value} : aw g 70 24 L r σ Q = aw g 70 25 L (.int (-1) :: r) σ Q := (aw_eq g 70 24 _ _ _ _).trans (by rw [tq70_24]; exact rfl)
theorem tq70_25 : tT g 70 25 = s_ret pI := rfl
theorem A70_25 {L : AL} {v : Value} : aw g 70 25 L [v] σ Q = (pI v ∧ Q (.inl (some v)) σ) := (aw_eq g 70 25 _ _ _ _).trans (by rw [tq70_25]; exact rfl)
theorem tq70_26 : tT g 70 26 = s_load vI 70 27 2 := rfl
theorem A70_26 {l0 : Option Value} {l1 : Option Value} {l3 : Option Value} {x : Int32} {r : List Value} : aw g 70 26 [l0, l1, some (.int x), l3] r σ Q = aw g 70 27 [l0, l1, some (.int x), l3] (.int x :: r) σ Q := (aw_eq g 70 26 _ _ _ _).trans (by rw [tq70_26]; exact (h_load rfl).trans (propext ⟨fun z => z.2, fun z => ⟨rfl, z⟩⟩))
theorem tq70_27 : tT g 70 27 = s_const 70 28 (.int (-1)) := rfl
theorem A70_27 {L : AL} {r : List Value} : aw g 70 27 L r σ Q = aw g 70 28 L (.int (-1) :: r) σ Q := (aw_eq g 70 27 _ _ _ _).trans (by rw [tq70_27]; exact rfl)
theorem tq70_28 : tT g 70 28 = s_icmp 70 38 31 (fun a b => a = b) := rfl
theorem A70_28 {L : AL} {r : List Value} {a b : Int32} : aw g 70 28 L (.int b :: .int a :: r) σ Q = ((a = b → aw g 70 31 L r σ Q) ∧ (¬ a = b → aw g 70 38 L r σ Q)) := (aw_eq g 70 28 _ _ _ _).trans (by rw [tq70_28]; exact rfl)
theorem tq70_31 : tT g 70 31 = s_load vRf 70 32 3 := rfl
theorem A70_31 {l0 : Option Value} {l1 : Option Value} {l2 : Option Value} {x : Value} {r : List Value} : aw g 70 31 [l0, l1, l2, some (x)] r σ Q = (vRf x = true ∧ aw g 70 32 [l0, l1, l2, some (x)] (x :: r) σ Q) := (aw_eq g 70 31 _ _ _ _).trans (by rw [tq70_31]; exact h_load rfl)
theorem tq70_32 : tT g 70 32 = s_getf 70 35 6 3 := rfl
theorem A70_32 {L : AL} {r : List Value} {a : Nat} : aw g 70 32 L (.ref a :: r) σ Q = (hty σ a = some 6 ∧ aw g 70 35 L (hv σ 6 a 3 :: r) σ Q) := (aw_eq g 70 32 _ _ _ _).trans (by rw [tq70_32]; exact rfl)
theorem tq70_35 : tT g 70 35 = s_goto 70 44 := rfl
theorem A70_35 {L : AL} {r : List Value} : aw g 70 35 L r σ Q = aw g 70 44 L r σ Q := (aw_eq g 70 35 _ _ _ _).trans (by rw [tq70_35]; exact rfl)
theorem tq70_38 : tT g 70 38 = s_load vRf 70 39 3 := rfl
theorem A70_38 {l0 : Option Value} {l1 : Option Value} {l2 : Option Value} {x : Value} {r : List Value} : aw g 70 38 [l0, l1, l2, some (x)] r σ Q = (vRf x = true ∧ aw g 70 39 [l0, l1, l2, some (x)] (x :: r) σ Q) := (aw_eq g 70 38 _ _ _ _).trans (by rw [tq70_38]; exact h_load rfl)
theorem tq70_39 : tT g 70 39 = s_getf 70 42 6 1 := rfl
theorem A70_39 {L : AL} {r : List Value} {a : Nat} : aw g 70 39 L (.ref a :: r) σ Q = (hty σ a = some 6 ∧ aw g 70 42 L (hv σ 6 a 1 :: r) σ Q) := (aw_eq g 70 39 _ _ _ _).trans (by rw [tq70_39]; exact rfl)
theorem tq70_42 : tT g 70 42 = s_load vI 70 43 2 := rfl
theorem A70_42 {l0 : Option Value} {l1 : Option Value} {l3 : Option Value} {x : Int32} {r : List Value} : aw g 70 42 [l0, l1, some (.int x), l3] r σ Q = aw g 70 43 [l0, l1, some (.int x), l3] (.int x :: r) σ Q := (aw_eq g 70 42 _ _ _ _).trans (by rw [tq70_42]; exact (h_load rfl).trans (propext ⟨fun z => z.2, fun z => ⟨rfl, z⟩⟩))
theorem tq70_43 : tT g 70 43 = s_ald 70 44 20 := rfl
theorem A70_43 {L : AL} {r : List Value} {a : Nat} {i : Int32} : aw g 70 43 L (.int i :: .ref a :: r) σ Q = (hty σ a = some 20 ∧ ¬ i < 0 ∧ i.toNatClampNeg < hln σ a ∧ aw g 70 44 L (hv σ 20 a i.toNatClampNeg :: r) σ Q) := (aw_eq g 70 43 _ _ _ _).trans (by rw [tq70_43]; exact rfl)
theorem tq70_44 : tT g 70 44 = s_ret pI := rfl
theorem A70_44 {L : AL} {v : Value} : aw g 70 44 L [v] σ Q = (pI v ∧ Q (.inl (some v)) σ) := (aw_eq g 70 44 _ _ _ _).trans (by rw [tq70_44]; exact rfl)
theorem tq71_0 : tT g 71 0 = s_load vRf 71 1 0 := rfl
theorem A71_0 {l1 : Option Value} {l2 : Option Value} {l3 : Option Value} {x : Value} {r : List Value} : aw g 71 0 [some (x), l1, l2, l3] r σ Q = (vRf x = true ∧ aw g 71 1 [some (x), l1, l2, l3] (x :: r) σ Q) := (aw_eq g 71 0 _ _ _ _).trans (by rw [tq71_0]; exact h_load rfl)
theorem tq71_1 : tT g 71 1 = s_getf 71 4 0 0 := rfl
theorem A71_1 {L : AL} {r : List Value} {a : Nat} : aw g 71 1 L (.ref a :: r) σ Q = (hty σ a = some 0 ∧ aw g 71 4 L (hv σ 0 a 0 :: r) σ Q) := (aw_eq g 71 1 _ _ _ _).trans (by rw [tq71_1]; exact rfl)
theorem tq71_4 : tT g 71 4 = s_callvk 71 7 112 1 [] 5 := rfl
theorem A71_4 {L : AL} {r : List Value} {a : Nat} : aw g 71 4 L (.ref a :: r) σ Q = (hty σ a = some 1 ∧ true = true ∧ csum r ≤ 8 ∧ aw g 112 0 [some (.ref a), none, none, none, none] [] σ (kt (aw g) 71 7 L r Q)) := (aw_eq g 71 4 _ _ _ _).trans (by rw [tq71_4]; exact rfl)
theorem tq71_7 : tT g 71 7 = s_store vRf 71 8 3 := rfl
theorem A71_7 {l0 : Option Value} {l1 : Option Value} {l2 : Option Value} {l3 : Option Value} {x : Value} {r : List Value} : aw g 71 7 [l0, l1, l2, l3] (x :: r) σ Q = (vRf x = true ∧ oc l2 = true ∧ aw g 71 8 [l0, l1, l2, some (x)] r σ Q) := (aw_eq g 71 7 _ _ _ _).trans (by rw [tq71_7]; exact (h_store (o := oc l2) rfl rfl rfl))
theorem tq71_8 : tT g 71 8 = s_load vRf 71 9 3 := rfl
theorem A71_8 {l0 : Option Value} {l1 : Option Value} {l2 : Option Value} {x : Value} {r : List Value} : aw g 71 8 [l0, l1, l2, some (x)] r σ Q = (vRf x = true ∧ aw g 71 9 [l0, l1, l2, some (x)] (x :: r) σ Q) := (aw_eq g 71 8 _ _ _ _).trans (by rw [tq71_8]; exact h_load rfl)
theorem tq71_9 : tT g 71 9 = s_load vI 71 10 2 := rfl
theorem A71_9 {l0 : Option Value} {l1 : Option Value} {l3 : Option Value} {x : Int32} {r : List Value} : aw g 71 9 [l0, l1, some (.int x), l3] r σ Q = aw g 71 10 [l0, l1, some (.int x), l3] (.int x :: r) σ Q := (aw_eq g 71 9 _ _ _ _).trans (by rw [tq71_9]; exact (h_load rfl).trans (propext ⟨fun z => z.2, fun z => ⟨rfl, z⟩⟩))
theorem tq71_10 : tT g 71 10 = s_callvk 71 13 113 1 [0] 4 := rfl
theorem A71_10 {L : AL} {r : List Value} {a : Nat} {w0 : Value} : aw g 71 10 L (w0 :: .ref a :: r) σ Q = (hty σ a = some 1 ∧ (vI w0 && true) = true ∧ csum r ≤ 8 ∧ aw g 113 0 [some (.ref a), some w0, none, none] [] σ (kt (aw g) 71 13 L r Q)) := (aw_eq g 71 10 _ _ _ _).trans (by rw [tq71_10]; exact rfl)
theorem tq71_13 : tT g 71 13 = s_pop 71 14 := rfl
theorem A71_13 {L : AL} {r : List Value} {v : Value} : aw g 71 13 L (v :: r) σ Q = (v.category = 1 ∧ aw g 71 14 L r σ Q) := (aw_eq g 71 13 _ _ _ _).trans (by rw [tq71_13]; exact rfl)
theorem tq71_14 : tT g 71 14 = s_load vRf 71 15 3 := rfl
theorem A71_14 {l0 : Option Value} {l1 : Option Value} {l2 : Option Value} {x : Value} {r : List Value} : aw g 71 14 [l0, l1, l2, some (x)] r σ Q = (vRf x = true ∧ aw g 71 15 [l0, l1, l2, some (x)] (x :: r) σ Q) := (aw_eq g 71 14 _ _ _ _).trans (by rw [tq71_14]; exact h_load rfl)
theorem tq71_15 : tT g 71 15 = s_getf 71 18 1 0 := rfl
theorem A71_15 {L : AL} {r : List Value} {a : Nat} : aw g 71 15 L (.ref a :: r) σ Q = (hty σ a = some 1 ∧ aw g 71 18 L (hv σ 1 a 0 :: r) σ Q) := (aw_eq g 71 15 _ _ _ _).trans (by rw [tq71_15]; exact rfl)
theorem tq71_18 : tT g 71 18 = s_load vI 71 19 1 := rfl
theorem A71_18 {l0 : Option Value} {l2 : Option Value} {l3 : Option Value} {x : Int32} {r : List Value} : aw g 71 18 [l0, some (.int x), l2, l3] r σ Q = aw g 71 19 [l0, some (.int x), l2, l3] (.int x :: r) σ Q := (aw_eq g 71 18 _ _ _ _).trans (by rw [tq71_18]; exact (h_load rfl).trans (propext ⟨fun z => z.2, fun z => ⟨rfl, z⟩⟩))
theorem tq71_19 : tT g 71 19 = s_callvk 71 22 25 10 [0] 2 := rfl
theorem A71_19 {L : AL} {r : List Value} {a : Nat} {w0 : Value} : aw g 71 19 L (w0 :: .ref a :: r) σ Q = (hty σ a = some 10 ∧ (vI w0 && true) = true ∧ csum r ≤ 8 ∧ aw g 25 0 [some (.ref a), some w0] [] σ (kt (aw g) 71 22 L r Q)) := (aw_eq g 71 19 _ _ _ _).trans (by rw [tq71_19]; exact rfl)
theorem tq71_22 : tT g 71 22 = s_cast 71 25 [5] := rfl
theorem A71_22 {L : AL} {r : List Value} : aw g 71 22 L (.null :: r) σ Q = aw g 71 25 L (.null :: r) σ Q := (aw_eq g 71 22 _ _ _ _).trans (by rw [tq71_22]; exact rfl)
theorem A71_22r {L : AL} {r : List Value} {a : Nat} : aw g 71 22 L (.ref a :: r) σ Q = (hty σ a = some 5 ∧ aw g 71 25 L (.ref a :: r) σ Q) := (aw_eq g 71 22 _ _ _ _).trans (by rw [tq71_22]; exact propext ⟨fun z => (by obtain ⟨⟨u, hu, hu2⟩, z2⟩ := z; rw [List.mem_singleton] at hu; subst hu; exact ⟨hu2, z2⟩), fun z => ⟨⟨_, List.mem_cons_self, z.1⟩, z.2⟩⟩)
theorem tq71_25 : tT g 71 25 = s_getf 71 28 5 10 := rfl
theorem A71_25 {L : AL} {r : List Value} {a : Nat} : aw g 71 25 L (.ref a :: r) σ Q = (hty σ a = some 5 ∧ aw g 71 28 L (hv σ 5 a 10 :: r) σ Q) := (aw_eq g 71 25 _ _ _ _).trans (by rw [tq71_25]; exact rfl)
theorem tq71_28 : tT g 71 28 = s_load vRf 71 29 0 := rfl
theorem A71_28 {l1 : Option Value} {l2 : Option Value} {l3 : Option Value} {x : Value} {r : List Value} : aw g 71 28 [some (x), l1, l2, l3] r σ Q = (vRf x = true ∧ aw g 71 29 [some (x), l1, l2, l3] (x :: r) σ Q) := (aw_eq g 71 28 _ _ _ _).trans (by rw [tq71_28]; exact h_load rfl)
theorem tq71_29 : tT g 71 29 = s_getf 71 32 0 0 := rfl
theorem A71_29 {L : AL} {r : List Value} {a : Nat} : aw g 71 29 L (.ref a :: r) σ Q = (hty σ a = some 0 ∧ aw g 71 32 L (hv σ 0 a 0 :: r) σ Q) := (aw_eq g 71 29 _ _ _ _).trans (by rw [tq71_29]; exact rfl)
theorem tq71_32 : tT g 71 32 = s_getf 71 35 1 0 := rfl
theorem A71_32 {L : AL} {r : List Value} {a : Nat} : aw g 71 32 L (.ref a :: r) σ Q = (hty σ a = some 1 ∧ aw g 71 35 L (hv σ 1 a 0 :: r) σ Q) := (aw_eq g 71 32 _ _ _ _).trans (by rw [tq71_32]; exact rfl)
theorem tq71_35 : tT g 71 35 = s_load vI 71 36 1 := rfl
theorem A71_35 {l0 : Option Value} {l2 : Option Value} {l3 : Option Value} {x : Int32} {r : List Value} : aw g 71 35 [l0, some (.int x), l2, l3] r σ Q = aw g 71 36 [l0, some (.int x), l2, l3] (.int x :: r) σ Q := (aw_eq g 71 35 _ _ _ _).trans (by rw [tq71_35]; exact (h_load rfl).trans (propext ⟨fun z => z.2, fun z => ⟨rfl, z⟩⟩))
theorem tq71_36 : tT g 71 36 = s_callvk 71 39 25 10 [0] 2 := rfl
theorem A71_36 {L : AL} {r : List Value} {a : Nat} {w0 : Value} : aw g 71 36 L (w0 :: .ref a :: r) σ Q = (hty σ a = some 10 ∧ (vI w0 && true) = true ∧ csum r ≤ 8 ∧ aw g 25 0 [some (.ref a), some w0] [] σ (kt (aw g) 71 39 L r Q)) := (aw_eq g 71 36 _ _ _ _).trans (by rw [tq71_36]; exact rfl)
theorem tq71_39 : tT g 71 39 = s_cast 71 42 [5] := rfl
theorem A71_39 {L : AL} {r : List Value} : aw g 71 39 L (.null :: r) σ Q = aw g 71 42 L (.null :: r) σ Q := (aw_eq g 71 39 _ _ _ _).trans (by rw [tq71_39]; exact rfl)
theorem A71_39r {L : AL} {r : List Value} {a : Nat} : aw g 71 39 L (.ref a :: r) σ Q = (hty σ a = some 5 ∧ aw g 71 42 L (.ref a :: r) σ Q) := (aw_eq g 71 39 _ _ _ _).trans (by rw [tq71_39]; exact propext ⟨fun z => (by obtain ⟨⟨u, hu, hu2⟩, z2⟩ := z; rw [List.mem_singleton] at hu; subst hu; exact ⟨hu2, z2⟩), fun z => ⟨⟨_, List.mem_cons_self, z.1⟩, z.2⟩⟩)
theorem tq71_42 : tT g 71 42 = s_getf 71 45 5 10 := rfl
theorem A71_42 {L : AL} {r : List Value} {a : Nat} : aw g 71 42 L (.ref a :: r) σ Q = (hty σ a = some 5 ∧ aw g 71 45 L (hv σ 5 a 10 :: r) σ Q) := (aw_eq g 71 42 _ _ _ _).trans (by rw [tq71_42]; exact rfl)
theorem tq71_45 : tT g 71 45 = s_bin 71 46 (fun a b => a - b) := rfl
theorem A71_45 {L : AL} {r : List Value} {a b : Int32} : aw g 71 45 L (.int b :: .int a :: r) σ Q = aw g 71 46 L (.int (a - b) :: r) σ Q := (aw_eq g 71 45 _ _ _ _).trans (by rw [tq71_45]; exact rfl)
theorem tq71_46 : tT g 71 46 = s_ret pI := rfl
theorem A71_46 {L : AL} {v : Value} : aw g 71 46 L [v] σ Q = (pI v ∧ Q (.inl (some v)) σ) := (aw_eq g 71 46 _ _ _ _).trans (by rw [tq71_46]; exact rfl)
theorem tq72_0 : tT g 72 0 = s_load vRf 72 1 0 := rfl
theorem A72_0  {x : Value} {r : List Value} : aw g 72 0 [some (x)] r σ Q = (vRf x = true ∧ aw g 72 1 [some (x)] (x :: r) σ Q) := (aw_eq g 72 0 _ _ _ _).trans (by rw [tq72_0]; exact h_load rfl)
theorem tq72_1 : tT g 72 1 = s_callvk 72 4 197 5 [] 1 := rfl
theorem A72_1 {L : AL} {r : List Value} {a : Nat} : aw g 72 1 L (.ref a :: r) σ Q = (hty σ a = some 5 ∧ true = true ∧ csum r ≤ 8 ∧ aw g 197 0 [some (.ref a)] [] σ (kt (aw g) 72 4 L r Q)) := (aw_eq g 72 1 _ _ _ _).trans (by rw [tq72_1]; exact rfl)
theorem tq72_4 : tT g 72 4 = s_if 72 18 7 (fun a => a = 0) := rfl
theorem A72_4 {L : AL} {r : List Value} {a : Int32} : aw g 72 4 L (.int a :: r) σ Q = ((a = 0 → aw g 72 7 L r σ Q) ∧ (¬ a = 0 → aw g 72 18 L r σ Q)) := (aw_eq g 72 4 _ _ _ _).trans (by rw [tq72_4]; exact rfl)
theorem tq72_7 : tT g 72 7 = s_load vRf 72 8 0 := rfl
theorem A72_7  {x : Value} {r : List Value} : aw g 72 7 [some (x)] r σ Q = (vRf x = true ∧ aw g 72 8 [some (x)] (x :: r) σ Q) := (aw_eq g 72 7 _ _ _ _).trans (by rw [tq72_7]; exact h_load rfl)
theorem tq72_8 : tT g 72 8 = s_callvk 72 11 194 5 [] 1 := rfl
theorem A72_8 {L : AL} {r : List Value} {a : Nat} : aw g 72 8 L (.ref a :: r) σ Q = (hty σ a = some 5 ∧ true = true ∧ csum r ≤ 8 ∧ aw g 194 0 [some (.ref a)] [] σ (kt (aw g) 72 11 L r Q)) := (aw_eq g 72 8 _ _ _ _).trans (by rw [tq72_8]; exact rfl)
theorem tq72_11 : tT g 72 11 = s_if 72 18 14 (fun a => a = 0) := rfl
theorem A72_11 {L : AL} {r : List Value} {a : Int32} : aw g 72 11 L (.int a :: r) σ Q = ((a = 0 → aw g 72 14 L r σ Q) ∧ (¬ a = 0 → aw g 72 18 L r σ Q)) := (aw_eq g 72 11 _ _ _ _).trans (by rw [tq72_11]; exact rfl)
theorem tq72_14 : tT g 72 14 = s_const 72 15 (.int 1) := rfl
theorem A72_14 {L : AL} {r : List Value} : aw g 72 14 L r σ Q = aw g 72 15 L (.int 1 :: r) σ Q := (aw_eq g 72 14 _ _ _ _).trans (by rw [tq72_14]; exact rfl)
theorem tq72_15 : tT g 72 15 = s_goto 72 19 := rfl
theorem A72_15 {L : AL} {r : List Value} : aw g 72 15 L r σ Q = aw g 72 19 L r σ Q := (aw_eq g 72 15 _ _ _ _).trans (by rw [tq72_15]; exact rfl)
theorem tq72_18 : tT g 72 18 = s_const 72 19 (.int 0) := rfl
theorem A72_18 {L : AL} {r : List Value} : aw g 72 18 L r σ Q = aw g 72 19 L (.int 0 :: r) σ Q := (aw_eq g 72 18 _ _ _ _).trans (by rw [tq72_18]; exact rfl)
theorem tq72_19 : tT g 72 19 = s_ret vZ := rfl
theorem A72_19 {L : AL} {v : Value} : aw g 72 19 L [v] σ Q = (vZ v ∧ Q (.inl (some v)) σ) := (aw_eq g 72 19 _ _ _ _).trans (by rw [tq72_19]; exact rfl)
theorem tq73_0 : tT g 73 0 = s_load vRf 73 1 0 := rfl
theorem A73_0 {l1 : Option Value} {l2 : Option Value} {l3 : Option Value} {l4 : Option Value} {l5 : Option Value} {x : Value} {r : List Value} : aw g 73 0 [some (x), l1, l2, l3, l4, l5] r σ Q = (vRf x = true ∧ aw g 73 1 [some (x), l1, l2, l3, l4, l5] (x :: r) σ Q) := (aw_eq g 73 0 _ _ _ _).trans (by rw [tq73_0]; exact h_load rfl)
theorem tq73_1 : tT g 73 1 = s_getf 73 4 0 0 := rfl
theorem A73_1 {L : AL} {r : List Value} {a : Nat} : aw g 73 1 L (.ref a :: r) σ Q = (hty σ a = some 0 ∧ aw g 73 4 L (hv σ 0 a 0 :: r) σ Q) := (aw_eq g 73 1 _ _ _ _).trans (by rw [tq73_1]; exact rfl)
theorem tq73_4 : tT g 73 4 = s_callvk 73 7 112 1 [] 5 := rfl
theorem A73_4 {L : AL} {r : List Value} {a : Nat} : aw g 73 4 L (.ref a :: r) σ Q = (hty σ a = some 1 ∧ true = true ∧ csum r ≤ 8 ∧ aw g 112 0 [some (.ref a), none, none, none, none] [] σ (kt (aw g) 73 7 L r Q)) := (aw_eq g 73 4 _ _ _ _).trans (by rw [tq73_4]; exact rfl)
theorem tq73_7 : tT g 73 7 = s_store vRf 73 8 3 := rfl
theorem A73_7 {l0 : Option Value} {l1 : Option Value} {l2 : Option Value} {l3 : Option Value} {l4 : Option Value} {l5 : Option Value} {x : Value} {r : List Value} : aw g 73 7 [l0, l1, l2, l3, l4, l5] (x :: r) σ Q = (vRf x = true ∧ oc l2 = true ∧ aw g 73 8 [l0, l1, l2, some (x), l4, l5] r σ Q) := (aw_eq g 73 7 _ _ _ _).trans (by rw [tq73_7]; exact (h_store (o := oc l2) rfl rfl rfl))
theorem tq73_8 : tT g 73 8 = s_load vRf 73 9 3 := rfl
theorem A73_8 {l0 : Option Value} {l1 : Option Value} {l2 : Option Value} {l4 : Option Value} {l5 : Option Value} {x : Value} {r : List Value} : aw g 73 8 [l0, l1, l2, some (x), l4, l5] r σ Q = (vRf x = true ∧ aw g 73 9 [l0, l1, l2, some (x), l4, l5] (x :: r) σ Q) := (aw_eq g 73 8 _ _ _ _).trans (by rw [tq73_8]; exact h_load rfl)
theorem tq73_9 : tT g 73 9 = s_getf 73 12 1 0 := rfl
theorem A73_9 {L : AL} {r : List Value} {a : Nat} : aw g 73 9 L (.ref a :: r) σ Q = (hty σ a = some 1 ∧ aw g 73 12 L (hv σ 1 a 0 :: r) σ Q) := (aw_eq g 73 9 _ _ _ _).trans (by rw [tq73_9]; exact rfl)
theorem tq73_12 : tT g 73 12 = s_load vI 73 13 1 := rfl
theorem A73_12 {l0 : Option Value} {l2 : Option Value} {l3 : Option Value} {l4 : Option Value} {l5 : Option Value} {x : Int32} {r : List Value} : aw g 73 12 [l0, some (.int x), l2, l3, l4, l5] r σ Q = aw g 73 13 [l0, some (.int x), l2, l3, l4, l5] (.int x :: r) σ Q := (aw_eq g 73 12 _ _ _ _).trans (by rw [tq73_12]; exact (h_load rfl).trans (propext ⟨fun z => z.2, fun z => ⟨rfl, z⟩⟩))
theorem tq73_13 : tT g 73 13 = s_callvk 73 16 25 10 [0] 2 := rfl
theorem A73_13 {L : AL} {r : List Value} {a : Nat} {w0 : Value} : aw g 73 13 L (w0 :: .ref a :: r) σ Q = (hty σ a = some 10 ∧ (vI w0 && true) = true ∧ csum r ≤ 8 ∧ aw g 25 0 [some (.ref a), some w0] [] σ (kt (aw g) 73 16 L r Q)) := (aw_eq g 73 13 _ _ _ _).trans (by rw [tq73_13]; exact rfl)
theorem tq73_16 : tT g 73 16 = s_cast 73 19 [5] := rfl
theorem A73_16 {L : AL} {r : List Value} : aw g 73 16 L (.null :: r) σ Q = aw g 73 19 L (.null :: r) σ Q := (aw_eq g 73 16 _ _ _ _).trans (by rw [tq73_16]; exact rfl)
theorem A73_16r {L : AL} {r : List Value} {a : Nat} : aw g 73 16 L (.ref a :: r) σ Q = (hty σ a = some 5 ∧ aw g 73 19 L (.ref a :: r) σ Q) := (aw_eq g 73 16 _ _ _ _).trans (by rw [tq73_16]; exact propext ⟨fun z => (by obtain ⟨⟨u, hu, hu2⟩, z2⟩ := z; rw [List.mem_singleton] at hu; subst hu; exact ⟨hu2, z2⟩), fun z => ⟨⟨_, List.mem_cons_self, z.1⟩, z.2⟩⟩)
theorem tq73_19 : tT g 73 19 = s_store vRf 73 21 4 := rfl
theorem A73_19 {l0 : Option Value} {l1 : Option Value} {l2 : Option Value} {l3 : Option Value} {l4 : Option Value} {l5 : Option Value} {x : Value} {r : List Value} : aw g 73 19 [l0, l1, l2, l3, l4, l5] (x :: r) σ Q = (vRf x = true ∧ oc l3 = true ∧ aw g 73 21 [l0, l1, l2, l3, some (x), l5] r σ Q) := (aw_eq g 73 19 _ _ _ _).trans (by rw [tq73_19]; exact (h_store (o := oc l3) rfl rfl rfl))
theorem tq73_21 : tT g 73 21 = s_load vRf 73 22 3 := rfl
theorem A73_21 {l0 : Option Value} {l1 : Option Value} {l2 : Option Value} {l4 : Option Value} {l5 : Option Value} {x : Value} {r : List Value} : aw g 73 21 [l0, l1, l2, some (x), l4, l5] r σ Q = (vRf x = true ∧ aw g 73 22 [l0, l1, l2, some (x), l4, l5] (x :: r) σ Q) := (aw_eq g 73 21 _ _ _ _).trans (by rw [tq73_21]; exact h_load rfl)
theorem tq73_22 : tT g 73 22 = s_load vRf 73 24 4 := rfl
theorem A73_22 {l0 : Option Value} {l1 : Option Value} {l2 : Option Value} {l3 : Option Value} {l5 : Option Value} {x : Value} {r : List Value} : aw g 73 22 [l0, l1, l2, l3, some (x), l5] r σ Q = (vRf x = true ∧ aw g 73 24 [l0, l1, l2, l3, some (x), l5] (x :: r) σ Q) := (aw_eq g 73 22 _ _ _ _).trans (by rw [tq73_22]; exact h_load rfl)
theorem tq73_24 : tT g 73 24 = s_load vI 73 25 2 := rfl
theorem A73_24 {l0 : Option Value} {l1 : Option Value} {l3 : Option Value} {l4 : Option Value} {l5 : Option Value} {x : Int32} {r : List Value} : aw g 73 24 [l0, l1, some (.int x), l3, l4, l5] r σ Q = aw g 73 25 [l0, l1, some (.int x), l3, l4, l5] (.int x :: r) σ Q := (aw_eq g 73 24 _ _ _ _).trans (by rw [tq73_24]; exact (h_load rfl).trans (propext ⟨fun z => z.2, fun z => ⟨rfl, z⟩⟩))
theorem tq73_25 : tT g 73 25 = s_callvk 73 28 131 1 [1, 0] 4 := rfl
theorem A73_25 {L : AL} {r : List Value} {a : Nat} {w0 w1 : Value} : aw g 73 25 L (w1 :: w0 :: .ref a :: r) σ Q = (hty σ a = some 1 ∧ (vRf w0 && (vI w1 && true)) = true ∧ csum r ≤ 8 ∧ aw g 131 0 [some (.ref a), some w0, some w1, none] [] σ (kt (aw g) 73 28 L r Q)) := (aw_eq g 73 25 _ _ _ _).trans (by rw [tq73_25]; exact rfl)
theorem tq73_28 : tT g 73 28 = s_pop 73 29 := rfl
theorem A73_28 {L : AL} {r : List Value} {v : Value} : aw g 73 28 L (v :: r) σ Q = (v.category = 1 ∧ aw g 73 29 L r σ Q) := (aw_eq g 73 28 _ _ _ _).trans (by rw [tq73_28]; exact rfl)
theorem tq73_29 : tT g 73 29 = s_const 73 30 (.int 1) := rfl
theorem A73_29 {L : AL} {r : List Value} : aw g 73 29 L r σ Q = aw g 73 30 L (.int 1 :: r) σ Q := (aw_eq g 73 29 _ _ _ _).trans (by rw [tq73_29]; exact rfl)
theorem tq73_30 : tT g 73 30 = s_store vI 73 32 5 := rfl
theorem A73_30 {l0 : Option Value} {l1 : Option Value} {l2 : Option Value} {l3 : Option Value} {l4 : Option Value} {l5 : Option Value} {x : Int32} {r : List Value} : aw g 73 30 [l0, l1, l2, l3, l4, l5] (.int x :: r) σ Q = (oc l4 = true ∧ aw g 73 32 [l0, l1, l2, l3, l4, some (.int x)] r σ Q) := (aw_eq g 73 30 _ _ _ _).trans (by rw [tq73_30]; exact (h_store (o := oc l4) rfl rfl rfl).trans (propext ⟨fun z => z.2, fun z => ⟨rfl, z⟩⟩))
theorem tq73_32 : tT g 73 32 = s_load vI 73 34 5 := rfl
theorem A73_32 {l0 : Option Value} {l1 : Option Value} {l2 : Option Value} {l3 : Option Value} {l4 : Option Value} {x : Int32} {r : List Value} : aw g 73 32 [l0, l1, l2, l3, l4, some (.int x)] r σ Q = aw g 73 34 [l0, l1, l2, l3, l4, some (.int x)] (.int x :: r) σ Q := (aw_eq g 73 32 _ _ _ _).trans (by rw [tq73_32]; exact (h_load rfl).trans (propext ⟨fun z => z.2, fun z => ⟨rfl, z⟩⟩))
theorem tq73_34 : tT g 73 34 = s_const 73 36 (.int 40) := rfl
theorem A73_34 {L : AL} {r : List Value} : aw g 73 34 L r σ Q = aw g 73 36 L (.int 40 :: r) σ Q := (aw_eq g 73 34 _ _ _ _).trans (by rw [tq73_34]; exact rfl)
theorem tq73_36 : tT g 73 36 = s_icmp 73 39 62 (fun a b => b < a) := rfl
theorem A73_36 {L : AL} {r : List Value} {a b : Int32} : aw g 73 36 L (.int b :: .int a :: r) σ Q = ((b < a → aw g 73 62 L r σ Q) ∧ (¬ b < a → aw g 73 39 L r σ Q)) := (aw_eq g 73 36 _ _ _ _).trans (by rw [tq73_36]; exact rfl)
theorem tq73_39 : tT g 73 39 = s_load vRf 73 40 3 := rfl
theorem A73_39 {l0 : Option Value} {l1 : Option Value} {l2 : Option Value} {l4 : Option Value} {l5 : Option Value} {x : Value} {r : List Value} : aw g 73 39 [l0, l1, l2, some (x), l4, l5] r σ Q = (vRf x = true ∧ aw g 73 40 [l0, l1, l2, some (x), l4, l5] (x :: r) σ Q) := (aw_eq g 73 39 _ _ _ _).trans (by rw [tq73_39]; exact h_load rfl)
theorem tq73_40 : tT g 73 40 = s_const 73 41 (.int 1) := rfl
theorem A73_40 {L : AL} {r : List Value} : aw g 73 40 L r σ Q = aw g 73 41 L (.int 1 :: r) σ Q := (aw_eq g 73 40 _ _ _ _).trans (by rw [tq73_40]; exact rfl)
theorem tq73_41 : tT g 73 41 = s_callvk 73 44 113 1 [0] 4 := rfl
theorem A73_41 {L : AL} {r : List Value} {a : Nat} {w0 : Value} : aw g 73 41 L (w0 :: .ref a :: r) σ Q = (hty σ a = some 1 ∧ (vI w0 && true) = true ∧ csum r ≤ 8 ∧ aw g 113 0 [some (.ref a), some w0, none, none] [] σ (kt (aw g) 73 44 L r Q)) := (aw_eq g 73 41 _ _ _ _).trans (by rw [tq73_41]; exact rfl)
theorem tq73_44 : tT g 73 44 = s_pop 73 45 := rfl
theorem A73_44 {L : AL} {r : List Value} {v : Value} : aw g 73 44 L (v :: r) σ Q = (v.category = 1 ∧ aw g 73 45 L r σ Q) := (aw_eq g 73 44 _ _ _ _).trans (by rw [tq73_44]; exact rfl)
theorem tq73_45 : tT g 73 45 = s_load vRf 73 47 4 := rfl
theorem A73_45 {l0 : Option Value} {l1 : Option Value} {l2 : Option Value} {l3 : Option Value} {l5 : Option Value} {x : Value} {r : List Value} : aw g 73 45 [l0, l1, l2, l3, some (x), l5] r σ Q = (vRf x = true ∧ aw g 73 47 [l0, l1, l2, l3, some (x), l5] (x :: r) σ Q) := (aw_eq g 73 45 _ _ _ _).trans (by rw [tq73_45]; exact h_load rfl)
theorem tq73_47 : tT g 73 47 = s_callvk 73 50 197 5 [] 1 := rfl
theorem A73_47 {L : AL} {r : List Value} {a : Nat} : aw g 73 47 L (.ref a :: r) σ Q = (hty σ a = some 5 ∧ true = true ∧ csum r ≤ 8 ∧ aw g 197 0 [some (.ref a)] [] σ (kt (aw g) 73 50 L r Q)) := (aw_eq g 73 47 _ _ _ _).trans (by rw [tq73_47]; exact rfl)
theorem tq73_50 : tT g 73 50 = s_if 73 53 56 (fun a => a = 0) := rfl
theorem A73_50 {L : AL} {r : List Value} {a : Int32} : aw g 73 50 L (.int a :: r) σ Q = ((a = 0 → aw g 73 56 L r σ Q) ∧ (¬ a = 0 → aw g 73 53 L r σ Q)) := (aw_eq g 73 50 _ _ _ _).trans (by rw [tq73_50]; exact rfl)
theorem tq73_53 : tT g 73 53 = s_load vI 73 55 5 := rfl
theorem A73_53 {l0 : Option Value} {l1 : Option Value} {l2 : Option Value} {l3 : Option Value} {l4 : Option Value} {x : Int32} {r : List Value} : aw g 73 53 [l0, l1, l2, l3, l4, some (.int x)] r σ Q = aw g 73 55 [l0, l1, l2, l3, l4, some (.int x)] (.int x :: r) σ Q := (aw_eq g 73 53 _ _ _ _).trans (by rw [tq73_53]; exact (h_load rfl).trans (propext ⟨fun z => z.2, fun z => ⟨rfl, z⟩⟩))
theorem tq73_55 : tT g 73 55 = s_ret pI := rfl
theorem A73_55 {L : AL} {v : Value} : aw g 73 55 L [v] σ Q = (pI v ∧ Q (.inl (some v)) σ) := (aw_eq g 73 55 _ _ _ _).trans (by rw [tq73_55]; exact rfl)
theorem tq73_56 : tT g 73 56 = s_iinc 73 59 5 1 := rfl
theorem A73_56 {l0 : Option Value} {l1 : Option Value} {l2 : Option Value} {l3 : Option Value} {l4 : Option Value} {x : Int32} {r : List Value} : aw g 73 56 [l0, l1, l2, l3, l4, some (.int x)] r σ Q = (oc l4 = true ∧ aw g 73 59 [l0, l1, l2, l3, l4, some (.int (x + 1))] r σ Q) := (aw_eq g 73 56 _ _ _ _).trans (by rw [tq73_56]; exact (h_iinc (o := oc l4) rfl rfl rfl))
theorem tq73_59 : tT g 73 59 = s_goto 73 32 := rfl
theorem A73_59 {L : AL} {r : List Value} : aw g 73 59 L r σ Q = aw g 73 32 L r σ Q := (aw_eq g 73 59 _ _ _ _).trans (by rw [tq73_59]; exact rfl)
theorem tq73_62 : tT g 73 62 = s_const 73 63 (.int (-1)) := rfl
theorem A73_62 {L : AL} {r : List Value} : aw g 73 62 L r σ Q = aw g 73 63 L (.int (-1) :: r) σ Q := (aw_eq g 73 62 _ _ _ _).trans (by rw [tq73_62]; exact rfl)
theorem tq73_63 : tT g 73 63 = s_ret pI := rfl
theorem A73_63 {L : AL} {v : Value} : aw g 73 63 L [v] σ Q = (pI v ∧ Q (.inl (some v)) σ) := (aw_eq g 73 63 _ _ _ _).trans (by rw [tq73_63]; exact rfl)
theorem tq74_0 : tT g 74 0 = s_load vI 74 1 1 := rfl
theorem A74_0 {l0 : Option Value} {x : Int32} {r : List Value} : aw g 74 0 [l0, some (.int x)] r σ Q = aw g 74 1 [l0, some (.int x)] (.int x :: r) σ Q := (aw_eq g 74 0 _ _ _ _).trans (by rw [tq74_0]; exact (h_load rfl).trans (propext ⟨fun z => z.2, fun z => ⟨rfl, z⟩⟩))
theorem tq74_1 : tT g 74 1 = s_if 74 25 4 (fun a => a = 0) := rfl
theorem A74_1 {L : AL} {r : List Value} {a : Int32} : aw g 74 1 L (.int a :: r) σ Q = ((a = 0 → aw g 74 4 L r σ Q) ∧ (¬ a = 0 → aw g 74 25 L r σ Q)) := (aw_eq g 74 1 _ _ _ _).trans (by rw [tq74_1]; exact rfl)
theorem tq74_4 : tT g 74 4 = s_load vRf 74 5 0 := rfl
theorem A74_4 {l1 : Option Value} {x : Value} {r : List Value} : aw g 74 4 [some (x), l1] r σ Q = (vRf x = true ∧ aw g 74 5 [some (x), l1] (x :: r) σ Q) := (aw_eq g 74 4 _ _ _ _).trans (by rw [tq74_4]; exact h_load rfl)
theorem tq74_5 : tT g 74 5 = s_getf 74 8 2 0 := rfl
theorem A74_5 {L : AL} {r : List Value} {a : Nat} : aw g 74 5 L (.ref a :: r) σ Q = (hty σ a = some 2 ∧ aw g 74 8 L (hv σ 2 a 0 :: r) σ Q) := (aw_eq g 74 5 _ _ _ _).trans (by rw [tq74_5]; exact rfl)
theorem tq74_8 : tT g 74 8 = s_ifnn 74 11 15 := rfl
theorem A74_8 {L : AL} {r : List Value} {a : Value} : aw g 74 8 L (a :: r) σ Q = (vRf a = true ∧ (a = .null → aw g 74 11 L r σ Q) ∧ (a ≠ .null → aw g 74 15 L r σ Q)) := (aw_eq g 74 8 _ _ _ _).trans (by rw [tq74_8]; exact rfl)
theorem tq74_11 : tT g 74 11 = s_const 74 12 (.int (-1)) := rfl
theorem A74_11 {L : AL} {r : List Value} : aw g 74 11 L r σ Q = aw g 74 12 L (.int (-1) :: r) σ Q := (aw_eq g 74 11 _ _ _ _).trans (by rw [tq74_11]; exact rfl)
theorem tq74_12 : tT g 74 12 = s_goto 74 41 := rfl
theorem A74_12 {L : AL} {r : List Value} : aw g 74 12 L r σ Q = aw g 74 41 L r σ Q := (aw_eq g 74 12 _ _ _ _).trans (by rw [tq74_12]; exact rfl)
theorem tq74_15 : tT g 74 15 = s_load vRf 74 16 0 := rfl
theorem A74_15 {l1 : Option Value} {x : Value} {r : List Value} : aw g 74 15 [some (x), l1] r σ Q = (vRf x = true ∧ aw g 74 16 [some (x), l1] (x :: r) σ Q) := (aw_eq g 74 15 _ _ _ _).trans (by rw [tq74_15]; exact h_load rfl)
theorem tq74_16 : tT g 74 16 = s_getf 74 19 2 0 := rfl
theorem A74_16 {L : AL} {r : List Value} {a : Nat} : aw g 74 16 L (.ref a :: r) σ Q = (hty σ a = some 2 ∧ aw g 74 19 L (hv σ 2 a 0 :: r) σ Q) := (aw_eq g 74 16 _ _ _ _).trans (by rw [tq74_16]; exact rfl)
theorem tq74_19 : tT g 74 19 = s_getf 74 22 5 0 := rfl
theorem A74_19 {L : AL} {r : List Value} {a : Nat} : aw g 74 19 L (.ref a :: r) σ Q = (hty σ a = some 5 ∧ aw g 74 22 L (hv σ 5 a 0 :: r) σ Q) := (aw_eq g 74 19 _ _ _ _).trans (by rw [tq74_19]; exact rfl)
theorem tq74_22 : tT g 74 22 = s_goto 74 41 := rfl
theorem A74_22 {L : AL} {r : List Value} : aw g 74 22 L r σ Q = aw g 74 41 L r σ Q := (aw_eq g 74 22 _ _ _ _).trans (by rw [tq74_22]; exact rfl)
theorem tq74_25 : tT g 74 25 = s_load vI 74 26 1 := rfl
theorem A74_25 {l0 : Option Value} {x : Int32} {r : List Value} : aw g 74 25 [l0, some (.int x)] r σ Q = aw g 74 26 [l0, some (.int x)] (.int x :: r) σ Q := (aw_eq g 74 25 _ _ _ _).trans (by rw [tq74_25]; exact (h_load rfl).trans (propext ⟨fun z => z.2, fun z => ⟨rfl, z⟩⟩))
theorem tq74_26 : tT g 74 26 = s_const 74 27 (.int 1) := rfl
theorem A74_26 {L : AL} {r : List Value} : aw g 74 26 L r σ Q = aw g 74 27 L (.int 1 :: r) σ Q := (aw_eq g 74 26 _ _ _ _).trans (by rw [tq74_26]; exact rfl)
theorem tq74_27 : tT g 74 27 = s_icmp 74 37 30 (fun a b => a = b) := rfl
theorem A74_27 {L : AL} {r : List Value} {a b : Int32} : aw g 74 27 L (.int b :: .int a :: r) σ Q = ((a = b → aw g 74 30 L r σ Q) ∧ (¬ a = b → aw g 74 37 L r σ Q)) := (aw_eq g 74 27 _ _ _ _).trans (by rw [tq74_27]; exact rfl)
theorem tq74_30 : tT g 74 30 = s_load vRf 74 31 0 := rfl
theorem A74_30 {l1 : Option Value} {x : Value} {r : List Value} : aw g 74 30 [some (x), l1] r σ Q = (vRf x = true ∧ aw g 74 31 [some (x), l1] (x :: r) σ Q) := (aw_eq g 74 30 _ _ _ _).trans (by rw [tq74_30]; exact h_load rfl)
theorem tq74_31 : tT g 74 31 = s_getf 74 34 2 1 := rfl
theorem A74_31 {L : AL} {r : List Value} {a : Nat} : aw g 74 31 L (.ref a :: r) σ Q = (hty σ a = some 2 ∧ aw g 74 34 L (hv σ 2 a 1 :: r) σ Q) := (aw_eq g 74 31 _ _ _ _).trans (by rw [tq74_31]; exact rfl)
theorem tq74_34 : tT g 74 34 = s_goto 74 41 := rfl
theorem A74_34 {L : AL} {r : List Value} : aw g 74 34 L r σ Q = aw g 74 41 L r σ Q := (aw_eq g 74 34 _ _ _ _).trans (by rw [tq74_34]; exact rfl)
theorem tq74_37 : tT g 74 37 = s_load vRf 74 38 0 := rfl
theorem A74_37 {l1 : Option Value} {x : Value} {r : List Value} : aw g 74 37 [some (x), l1] r σ Q = (vRf x = true ∧ aw g 74 38 [some (x), l1] (x :: r) σ Q) := (aw_eq g 74 37 _ _ _ _).trans (by rw [tq74_37]; exact h_load rfl)
theorem tq74_38 : tT g 74 38 = s_getf 74 41 2 2 := rfl
theorem A74_38 {L : AL} {r : List Value} {a : Nat} : aw g 74 38 L (.ref a :: r) σ Q = (hty σ a = some 2 ∧ aw g 74 41 L (hv σ 2 a 2 :: r) σ Q) := (aw_eq g 74 38 _ _ _ _).trans (by rw [tq74_38]; exact rfl)
theorem tq74_41 : tT g 74 41 = s_ret pI := rfl
theorem A74_41 {L : AL} {v : Value} : aw g 74 41 L [v] σ Q = (pI v ∧ Q (.inl (some v)) σ) := (aw_eq g 74 41 _ _ _ _).trans (by rw [tq74_41]; exact rfl)
theorem tq75_0 : tT g 75 0 = s_load vI 75 1 1 := rfl
theorem A75_0 {l0 : Option Value} {x : Int32} {r : List Value} : aw g 75 0 [l0, some (.int x)] r σ Q = aw g 75 1 [l0, some (.int x)] (.int x :: r) σ Q := (aw_eq g 75 0 _ _ _ _).trans (by rw [tq75_0]; exact (h_load rfl).trans (propext ⟨fun z => z.2, fun z => ⟨rfl, z⟩⟩))
theorem tq75_1 : tT g 75 1 = s_callk 75 4 76 [0] 1 := rfl
theorem A75_1 {L : AL} {r : List Value} {w0 : Value} : aw g 75 1 L (w0 :: r) σ Q = ((vI w0 && true) = true ∧ csum r ≤ 8 ∧ aw g 76 0 [some w0] [] σ (kt (aw g) 75 4 L r Q)) := (aw_eq g 75 1 _ _ _ _).trans (by rw [tq75_1]; exact rfl)
theorem tq75_4 : tT g 75 4 = s_load vRf 75 5 0 := rfl
theorem A75_4 {l1 : Option Value} {x : Value} {r : List Value} : aw g 75 4 [some (x), l1] r σ Q = (vRf x = true ∧ aw g 75 5 [some (x), l1] (x :: r) σ Q) := (aw_eq g 75 4 _ _ _ _).trans (by rw [tq75_4]; exact h_load rfl)
theorem tq75_5 : tT g 75 5 = s_getf 75 8 0 0 := rfl
theorem A75_5 {L : AL} {r : List Value} {a : Nat} : aw g 75 5 L (.ref a :: r) σ Q = (hty σ a = some 0 ∧ aw g 75 8 L (hv σ 0 a 0 :: r) σ Q) := (aw_eq g 75 5 _ _ _ _).trans (by rw [tq75_5]; exact rfl)
theorem tq75_8 : tT g 75 8 = s_getf 75 11 1 0 := rfl
theorem A75_8 {L : AL} {r : List Value} {a : Nat} : aw g 75 8 L (.ref a :: r) σ Q = (hty σ a = some 1 ∧ aw g 75 11 L (hv σ 1 a 0 :: r) σ Q) := (aw_eq g 75 8 _ _ _ _).trans (by rw [tq75_8]; exact rfl)
theorem tq75_11 : tT g 75 11 = s_callvk 75 14 15 10 [] 1 := rfl
theorem A75_11 {L : AL} {r : List Value} {a : Nat} : aw g 75 11 L (.ref a :: r) σ Q = (hty σ a = some 10 ∧ true = true ∧ csum r ≤ 8 ∧ aw g 15 0 [some (.ref a)] [] σ (kt (aw g) 75 14 L r Q)) := (aw_eq g 75 11 _ _ _ _).trans (by rw [tq75_11]; exact rfl)
theorem tq75_14 : tT g 75 14 = s_const 75 15 (.int 3) := rfl
theorem A75_14 {L : AL} {r : List Value} : aw g 75 14 L r σ Q = aw g 75 15 L (.int 3 :: r) σ Q := (aw_eq g 75 14 _ _ _ _).trans (by rw [tq75_14]; exact rfl)
theorem tq75_15 : tT g 75 15 = s_icmp 75 18 22 (fun a b => b ≤ a) := rfl
theorem A75_15 {L : AL} {r : List Value} {a b : Int32} : aw g 75 15 L (.int b :: .int a :: r) σ Q = ((b ≤ a → aw g 75 22 L r σ Q) ∧ (¬ b ≤ a → aw g 75 18 L r σ Q)) := (aw_eq g 75 15 _ _ _ _).trans (by rw [tq75_15]; exact rfl)
theorem tq75_18 : tT g 75 18 = s_const 75 19 (.int 1) := rfl
theorem A75_18 {L : AL} {r : List Value} : aw g 75 18 L r σ Q = aw g 75 19 L (.int 1 :: r) σ Q := (aw_eq g 75 18 _ _ _ _).trans (by rw [tq75_18]; exact rfl)
theorem tq75_19 : tT g 75 19 = s_goto 75 23 := rfl
theorem A75_19 {L : AL} {r : List Value} : aw g 75 19 L r σ Q = aw g 75 23 L r σ Q := (aw_eq g 75 19 _ _ _ _).trans (by rw [tq75_19]; exact rfl)
theorem tq75_22 : tT g 75 22 = s_const 75 23 (.int 0) := rfl
theorem A75_22 {L : AL} {r : List Value} : aw g 75 22 L r σ Q = aw g 75 23 L (.int 0 :: r) σ Q := (aw_eq g 75 22 _ _ _ _).trans (by rw [tq75_22]; exact rfl)
theorem tq75_23 : tT g 75 23 = s_callk 75 26 79 [0] 1 := rfl
theorem A75_23 {L : AL} {r : List Value} {w0 : Value} : aw g 75 23 L (w0 :: r) σ Q = ((vI w0 && true) = true ∧ csum r ≤ 8 ∧ aw g 79 0 [some w0] [] σ (kt (aw g) 75 26 L r Q)) := (aw_eq g 75 23 _ _ _ _).trans (by rw [tq75_23]; exact rfl)
theorem tq75_26 : tT g 75 26 = s_load vRf 75 27 0 := rfl
theorem A75_26 {l1 : Option Value} {x : Value} {r : List Value} : aw g 75 26 [some (x), l1] r σ Q = (vRf x = true ∧ aw g 75 27 [some (x), l1] (x :: r) σ Q) := (aw_eq g 75 26 _ _ _ _).trans (by rw [tq75_26]; exact h_load rfl)
theorem tq75_27 : tT g 75 27 = s_getf 75 30 0 0 := rfl
theorem A75_27 {L : AL} {r : List Value} {a : Nat} : aw g 75 27 L (.ref a :: r) σ Q = (hty σ a = some 0 ∧ aw g 75 30 L (hv σ 0 a 0 :: r) σ Q) := (aw_eq g 75 27 _ _ _ _).trans (by rw [tq75_27]; exact rfl)
theorem tq75_30 : tT g 75 30 = s_getf 75 33 1 0 := rfl
theorem A75_30 {L : AL} {r : List Value} {a : Nat} : aw g 75 30 L (.ref a :: r) σ Q = (hty σ a = some 1 ∧ aw g 75 33 L (hv σ 1 a 0 :: r) σ Q) := (aw_eq g 75 30 _ _ _ _).trans (by rw [tq75_30]; exact rfl)
theorem tq75_33 : tT g 75 33 = s_new g 75 36 5 22 (fun k => defaultValue (tyX6 k)) := rfl
theorem A75_33 {L : AL} {r : List Value} : aw g 75 33 L r σ Q = (hsz σ + 1 ≤ gC g ∧ hsl σ + 22 ≤ gS g ∧ aw g 75 36 L (.ref (hsz σ) :: r) (hnew σ 5 0 (fun k => defaultValue (tyX6 k)) 22) Q) := (aw_eq g 75 33 _ _ _ _).trans (by rw [tq75_33]; exact rfl)
theorem tq75_36 : tT g 75 36 = s_dup 75 37 := rfl
theorem A75_36 {L : AL} {r : List Value} {v : Value} : aw g 75 36 L (v :: r) σ Q = (v.category = 1 ∧ aw g 75 37 L (v :: v :: r) σ Q) := (aw_eq g 75 36 _ _ _ _).trans (by rw [tq75_36]; exact rfl)
theorem tq75_37 : tT g 75 37 = s_load vRf 75 38 0 := rfl
theorem A75_37 {l1 : Option Value} {x : Value} {r : List Value} : aw g 75 37 [some (x), l1] r σ Q = (vRf x = true ∧ aw g 75 38 [some (x), l1] (x :: r) σ Q) := (aw_eq g 75 37 _ _ _ _).trans (by rw [tq75_37]; exact h_load rfl)
theorem tq75_38 : tT g 75 38 = s_getf 75 41 0 0 := rfl
theorem A75_38 {L : AL} {r : List Value} {a : Nat} : aw g 75 38 L (.ref a :: r) σ Q = (hty σ a = some 0 ∧ aw g 75 41 L (hv σ 0 a 0 :: r) σ Q) := (aw_eq g 75 38 _ _ _ _).trans (by rw [tq75_38]; exact rfl)
theorem tq75_41 : tT g 75 41 = s_getf 75 44 1 0 := rfl
theorem A75_41 {L : AL} {r : List Value} {a : Nat} : aw g 75 41 L (.ref a :: r) σ Q = (hty σ a = some 1 ∧ aw g 75 44 L (hv σ 1 a 0 :: r) σ Q) := (aw_eq g 75 41 _ _ _ _).trans (by rw [tq75_41]; exact rfl)
theorem tq75_44 : tT g 75 44 = s_callvk 75 47 15 10 [] 1 := rfl
theorem A75_44 {L : AL} {r : List Value} {a : Nat} : aw g 75 44 L (.ref a :: r) σ Q = (hty σ a = some 10 ∧ true = true ∧ csum r ≤ 8 ∧ aw g 15 0 [some (.ref a)] [] σ (kt (aw g) 75 47 L r Q)) := (aw_eq g 75 44 _ _ _ _).trans (by rw [tq75_44]; exact rfl)
theorem tq75_47 : tT g 75 47 = s_load vI 75 48 1 := rfl
theorem A75_47 {l0 : Option Value} {x : Int32} {r : List Value} : aw g 75 47 [l0, some (.int x)] r σ Q = aw g 75 48 [l0, some (.int x)] (.int x :: r) σ Q := (aw_eq g 75 47 _ _ _ _).trans (by rw [tq75_47]; exact (h_load rfl).trans (propext ⟨fun z => z.2, fun z => ⟨rfl, z⟩⟩))
theorem tq75_48 : tT g 75 48 = s_callik 75 51 196 [0, 0] 3 := rfl
theorem A75_48 {L : AL} {r : List Value} {a : Nat} {w0 w1 : Value} : aw g 75 48 L (w1 :: w0 :: .ref a :: r) σ Q = ((vI w0 && (vI w1 && true)) = true ∧ csum r ≤ 8 ∧ aw g 196 0 [some (.ref a), some w0, some w1] [] σ (kt (aw g) 75 51 L r Q)) := (aw_eq g 75 48 _ _ _ _).trans (by rw [tq75_48]; exact rfl)
theorem tq75_51 : tT g 75 51 = s_callvk 75 54 18 10 [1] 2 := rfl
theorem A75_51 {L : AL} {r : List Value} {a : Nat} {w0 : Value} : aw g 75 51 L (w0 :: .ref a :: r) σ Q = (hty σ a = some 10 ∧ (vRf w0 && true) = true ∧ csum r ≤ 8 ∧ aw g 18 0 [some (.ref a), some w0] [] σ (kt (aw g) 75 54 L r Q)) := (aw_eq g 75 51 _ _ _ _).trans (by rw [tq75_51]; exact rfl)
theorem tq75_54 : tT g 75 54 = s_pop 75 55 := rfl
theorem A75_54 {L : AL} {r : List Value} {v : Value} : aw g 75 54 L (v :: r) σ Q = (v.category = 1 ∧ aw g 75 55 L r σ Q) := (aw_eq g 75 54 _ _ _ _).trans (by rw [tq75_54]; exact rfl)
theorem tq75_55 : tT g 75 55 = s_load vRf 75 56 0 := rfl
theorem A75_55 {l1 : Option Value} {x : Value} {r : List Value} : aw g 75 55 [some (x), l1] r σ Q = (vRf x = true ∧ aw g 75 56 [some (x), l1] (x :: r) σ Q) := (aw_eq g 75 55 _ _ _ _).trans (by rw [tq75_55]; exact h_load rfl)
theorem tq75_56 : tT g 75 56 = s_getf 75 59 0 0 := rfl
theorem A75_56 {L : AL} {r : List Value} {a : Nat} : aw g 75 56 L (.ref a :: r) σ Q = (hty σ a = some 0 ∧ aw g 75 59 L (hv σ 0 a 0 :: r) σ Q) := (aw_eq g 75 56 _ _ _ _).trans (by rw [tq75_56]; exact rfl)
theorem tq75_59 : tT g 75 59 = s_getf 75 62 1 0 := rfl
theorem A75_59 {L : AL} {r : List Value} {a : Nat} : aw g 75 59 L (.ref a :: r) σ Q = (hty σ a = some 1 ∧ aw g 75 62 L (hv σ 1 a 0 :: r) σ Q) := (aw_eq g 75 59 _ _ _ _).trans (by rw [tq75_59]; exact rfl)
theorem tq75_62 : tT g 75 62 = s_callvk 75 65 15 10 [] 1 := rfl
theorem A75_62 {L : AL} {r : List Value} {a : Nat} : aw g 75 62 L (.ref a :: r) σ Q = (hty σ a = some 10 ∧ true = true ∧ csum r ≤ 8 ∧ aw g 15 0 [some (.ref a)] [] σ (kt (aw g) 75 65 L r Q)) := (aw_eq g 75 62 _ _ _ _).trans (by rw [tq75_62]; exact rfl)
theorem tq75_65 : tT g 75 65 = s_const 75 66 (.int 1) := rfl
theorem A75_65 {L : AL} {r : List Value} : aw g 75 65 L r σ Q = aw g 75 66 L (.int 1 :: r) σ Q := (aw_eq g 75 65 _ _ _ _).trans (by rw [tq75_65]; exact rfl)
theorem tq75_66 : tT g 75 66 = s_bin 75 67 (fun a b => a - b) := rfl
theorem A75_66 {L : AL} {r : List Value} {a b : Int32} : aw g 75 66 L (.int b :: .int a :: r) σ Q = aw g 75 67 L (.int (a - b) :: r) σ Q := (aw_eq g 75 66 _ _ _ _).trans (by rw [tq75_66]; exact rfl)
theorem tq75_67 : tT g 75 67 = s_ret pI := rfl
theorem A75_67 {L : AL} {v : Value} : aw g 75 67 L [v] σ Q = (pI v ∧ Q (.inl (some v)) σ) := (aw_eq g 75 67 _ _ _ _).trans (by rw [tq75_67]; exact rfl)
theorem tq76_0 : tT g 76 0 = s_const 76 1 (.int 1) := rfl
theorem A76_0 {L : AL} {r : List Value} : aw g 76 0 L r σ Q = aw g 76 1 L (.int 1 :: r) σ Q := (aw_eq g 76 0 _ _ _ _).trans (by rw [tq76_0]; exact rfl)
theorem tq76_1 : tT g 76 1 = s_const 76 2 (.int 4) := rfl
theorem A76_1 {L : AL} {r : List Value} : aw g 76 1 L r σ Q = aw g 76 2 L (.int 4 :: r) σ Q := (aw_eq g 76 1 _ _ _ _).trans (by rw [tq76_1]; exact rfl)
theorem tq76_2 : tT g 76 2 = s_load vI 76 3 0 := rfl
theorem A76_2  {x : Int32} {r : List Value} : aw g 76 2 [some (.int x)] r σ Q = aw g 76 3 [some (.int x)] (.int x :: r) σ Q := (aw_eq g 76 2 _ _ _ _).trans (by rw [tq76_2]; exact (h_load rfl).trans (propext ⟨fun z => z.2, fun z => ⟨rfl, z⟩⟩))
theorem tq76_3 : tT g 76 3 = s_callk 76 6 77 [0, 0, 0] 3 := rfl
theorem A76_3 {L : AL} {r : List Value} {w0 w1 w2 : Value} : aw g 76 3 L (w2 :: w1 :: w0 :: r) σ Q = ((vI w0 && (vI w1 && (vI w2 && true))) = true ∧ csum r ≤ 8 ∧ aw g 77 0 [some w0, some w1, some w2] [] σ (kt (aw g) 76 6 L r Q)) := (aw_eq g 76 3 _ _ _ _).trans (by rw [tq76_3]; exact rfl)
theorem tq76_6 : tT g 76 6 = s_vret := rfl
theorem A76_6 {L : AL} : aw g 76 6 L [] σ Q = Q (.inl none) σ := (aw_eq g 76 6 _ _ _ _).trans (by rw [tq76_6]; exact rfl)
theorem tq77_0 : tT g 77 0 = s_load vI 77 1 2 := rfl
theorem A77_0 {l0 : Option Value} {l1 : Option Value} {x : Int32} {r : List Value} : aw g 77 0 [l0, l1, some (.int x)] r σ Q = aw g 77 1 [l0, l1, some (.int x)] (.int x :: r) σ Q := (aw_eq g 77 0 _ _ _ _).trans (by rw [tq77_0]; exact (h_load rfl).trans (propext ⟨fun z => z.2, fun z => ⟨rfl, z⟩⟩))
theorem tq77_1 : tT g 77 1 = s_load vI 77 2 0 := rfl
theorem A77_1 {l1 : Option Value} {l2 : Option Value} {x : Int32} {r : List Value} : aw g 77 1 [some (.int x), l1, l2] r σ Q = aw g 77 2 [some (.int x), l1, l2] (.int x :: r) σ Q := (aw_eq g 77 1 _ _ _ _).trans (by rw [tq77_1]; exact (h_load rfl).trans (propext ⟨fun z => z.2, fun z => ⟨rfl, z⟩⟩))
theorem tq77_2 : tT g 77 2 = s_icmp 77 5 14 (fun a b => a < b) := rfl
theorem A77_2 {L : AL} {r : List Value} {a b : Int32} : aw g 77 2 L (.int b :: .int a :: r) σ Q = ((a < b → aw g 77 14 L r σ Q) ∧ (¬ a < b → aw g 77 5 L r σ Q)) := (aw_eq g 77 2 _ _ _ _).trans (by rw [tq77_2]; exact rfl)
theorem tq77_5 : tT g 77 5 = s_load vI 77 6 2 := rfl
theorem A77_5 {l0 : Option Value} {l1 : Option Value} {x : Int32} {r : List Value} : aw g 77 5 [l0, l1, some (.int x)] r σ Q = aw g 77 6 [l0, l1, some (.int x)] (.int x :: r) σ Q := (aw_eq g 77 5 _ _ _ _).trans (by rw [tq77_5]; exact (h_load rfl).trans (propext ⟨fun z => z.2, fun z => ⟨rfl, z⟩⟩))
theorem tq77_6 : tT g 77 6 = s_load vI 77 7 1 := rfl
theorem A77_6 {l0 : Option Value} {l2 : Option Value} {x : Int32} {r : List Value} : aw g 77 6 [l0, some (.int x), l2] r σ Q = aw g 77 7 [l0, some (.int x), l2] (.int x :: r) σ Q := (aw_eq g 77 6 _ _ _ _).trans (by rw [tq77_6]; exact (h_load rfl).trans (propext ⟨fun z => z.2, fun z => ⟨rfl, z⟩⟩))
theorem tq77_7 : tT g 77 7 = s_icmp 77 10 14 (fun a b => b < a) := rfl
theorem A77_7 {L : AL} {r : List Value} {a b : Int32} : aw g 77 7 L (.int b :: .int a :: r) σ Q = ((b < a → aw g 77 14 L r σ Q) ∧ (¬ b < a → aw g 77 10 L r σ Q)) := (aw_eq g 77 7 _ _ _ _).trans (by rw [tq77_7]; exact rfl)
theorem tq77_10 : tT g 77 10 = s_const 77 11 (.int 1) := rfl
theorem A77_10 {L : AL} {r : List Value} : aw g 77 10 L r σ Q = aw g 77 11 L (.int 1 :: r) σ Q := (aw_eq g 77 10 _ _ _ _).trans (by rw [tq77_10]; exact rfl)
theorem tq77_11 : tT g 77 11 = s_goto 77 15 := rfl
theorem A77_11 {L : AL} {r : List Value} : aw g 77 11 L r σ Q = aw g 77 15 L r σ Q := (aw_eq g 77 11 _ _ _ _).trans (by rw [tq77_11]; exact rfl)
theorem tq77_14 : tT g 77 14 = s_const 77 15 (.int 0) := rfl
theorem A77_14 {L : AL} {r : List Value} : aw g 77 14 L r σ Q = aw g 77 15 L (.int 0 :: r) σ Q := (aw_eq g 77 14 _ _ _ _).trans (by rw [tq77_14]; exact rfl)
theorem tq77_15 : tT g 77 15 = s_callk 77 18 78 [0] 1 := rfl
theorem A77_15 {L : AL} {r : List Value} {w0 : Value} : aw g 77 15 L (w0 :: r) σ Q = ((vI w0 && true) = true ∧ csum r ≤ 8 ∧ aw g 78 0 [some w0] [] σ (kt (aw g) 77 18 L r Q)) := (aw_eq g 77 15 _ _ _ _).trans (by rw [tq77_15]; exact rfl)
theorem tq77_18 : tT g 77 18 = s_vret := rfl
theorem A77_18 {L : AL} : aw g 77 18 L [] σ Q = Q (.inl none) σ := (aw_eq g 77 18 _ _ _ _).trans (by rw [tq77_18]; exact rfl)
theorem tq78_0 : tT g 78 0 = s_load vI 78 1 0 := rfl
theorem A78_0  {x : Int32} {r : List Value} : aw g 78 0 [some (.int x)] r σ Q = aw g 78 1 [some (.int x)] (.int x :: r) σ Q := (aw_eq g 78 0 _ _ _ _).trans (by rw [tq78_0]; exact (h_load rfl).trans (propext ⟨fun z => z.2, fun z => ⟨rfl, z⟩⟩))
theorem tq78_1 : tT g 78 1 = s_if 78 12 4 (fun a => a = 0) := rfl
theorem A78_1 {L : AL} {r : List Value} {a : Int32} : aw g 78 1 L (.int a :: r) σ Q = ((a = 0 → aw g 78 4 L r σ Q) ∧ (¬ a = 0 → aw g 78 12 L r σ Q)) := (aw_eq g 78 1 _ _ _ _).trans (by rw [tq78_1]; exact rfl)
theorem tq78_4 : tT g 78 4 = s_throw g 0 := rfl
theorem A78_4 {L : AL} {r : List Value} : aw g 78 4 L r σ Q = (csum r ≤ 8 ∧ hsz σ + 1 ≤ gC g ∧ hsl σ + 6 ≤ gS g ∧ ∀ i j : Nat, i ≤ 1 → j ≤ 6 → Q (.inr 0) (hopq σ i j)) := (aw_eq g 78 4 _ _ _ _).trans (by rw [tq78_4]; exact rfl)
theorem tq78_7 : tT g 78 7 = s_dup 78 8 := rfl
theorem A78_7 {L : AL} {r : List Value} {v : Value} : aw g 78 7 L (v :: r) σ Q = (v.category = 1 ∧ aw g 78 8 L (v :: v :: r) σ Q) := (aw_eq g 78 7 _ _ _ _).trans (by rw [tq78_7]; exact rfl)
theorem tq78_12 : tT g 78 12 = s_vret := rfl
theorem A78_12 {L : AL} : aw g 78 12 L [] σ Q = Q (.inl none) σ := (aw_eq g 78 12 _ _ _ _).trans (by rw [tq78_12]; exact rfl)
theorem tq79_0 : tT g 79 0 = s_load vI 79 1 0 := rfl
theorem A79_0  {x : Int32} {r : List Value} : aw g 79 0 [some (.int x)] r σ Q = aw g 79 1 [some (.int x)] (.int x :: r) σ Q := (aw_eq g 79 0 _ _ _ _).trans (by rw [tq79_0]; exact (h_load rfl).trans (propext ⟨fun z => z.2, fun z => ⟨rfl, z⟩⟩))
theorem tq79_1 : tT g 79 1 = s_if 79 12 4 (fun a => a = 0) := rfl
theorem A79_1 {L : AL} {r : List Value} {a : Int32} : aw g 79 1 L (.int a :: r) σ Q = ((a = 0 → aw g 79 4 L r σ Q) ∧ (¬ a = 0 → aw g 79 12 L r σ Q)) := (aw_eq g 79 1 _ _ _ _).trans (by rw [tq79_1]; exact rfl)
theorem tq79_4 : tT g 79 4 = s_throw g 1 := rfl
theorem A79_4 {L : AL} {r : List Value} : aw g 79 4 L r σ Q = (csum r ≤ 8 ∧ hsz σ + 1 ≤ gC g ∧ hsl σ + 6 ≤ gS g ∧ ∀ i j : Nat, i ≤ 1 → j ≤ 6 → Q (.inr 1) (hopq σ i j)) := (aw_eq g 79 4 _ _ _ _).trans (by rw [tq79_4]; exact rfl)
theorem tq79_7 : tT g 79 7 = s_dup 79 8 := rfl
theorem A79_7 {L : AL} {r : List Value} {v : Value} : aw g 79 7 L (v :: r) σ Q = (v.category = 1 ∧ aw g 79 8 L (v :: v :: r) σ Q) := (aw_eq g 79 7 _ _ _ _).trans (by rw [tq79_7]; exact rfl)
theorem tq79_12 : tT g 79 12 = s_vret := rfl
theorem A79_12 {L : AL} : aw g 79 12 L [] σ Q = Q (.inl none) σ := (aw_eq g 79 12 _ _ _ _).trans (by rw [tq79_12]; exact rfl)
theorem tq80_0 : tT g 80 0 = s_load vRf 80 1 0 := rfl
theorem A80_0 {l1 : Option Value} {l2 : Option Value} {l3 : Option Value} {l4 : Option Value} {x : Value} {r : List Value} : aw g 80 0 [some (x), l1, l2, l3, l4] r σ Q = (vRf x = true ∧ aw g 80 1 [some (x), l1, l2, l3, l4] (x :: r) σ Q) := (aw_eq g 80 0 _ _ _ _).trans (by rw [tq80_0]; exact h_load rfl)
theorem tq80_1 : tT g 80 1 = s_load vI 80 2 1 := rfl
theorem A80_1 {l0 : Option Value} {l2 : Option Value} {l3 : Option Value} {l4 : Option Value} {x : Int32} {r : List Value} : aw g 80 1 [l0, some (.int x), l2, l3, l4] r σ Q = aw g 80 2 [l0, some (.int x), l2, l3, l4] (.int x :: r) σ Q := (aw_eq g 80 1 _ _ _ _).trans (by rw [tq80_1]; exact (h_load rfl).trans (propext ⟨fun z => z.2, fun z => ⟨rfl, z⟩⟩))
theorem tq80_2 : tT g 80 2 = s_callvk 80 5 81 0 [0] 2 := rfl
theorem A80_2 {L : AL} {r : List Value} {a : Nat} {w0 : Value} : aw g 80 2 L (w0 :: .ref a :: r) σ Q = (hty σ a = some 0 ∧ (vI w0 && true) = true ∧ csum r ≤ 8 ∧ aw g 81 0 [some (.ref a), some w0] [] σ (kt (aw g) 80 5 L r Q)) := (aw_eq g 80 2 _ _ _ _).trans (by rw [tq80_2]; exact rfl)
theorem tq80_5 : tT g 80 5 = s_store vRf 80 7 4 := rfl
theorem A80_5 {l0 : Option Value} {l1 : Option Value} {l2 : Option Value} {l3 : Option Value} {l4 : Option Value} {x : Value} {r : List Value} : aw g 80 5 [l0, l1, l2, l3, l4] (x :: r) σ Q = (vRf x = true ∧ oc l3 = true ∧ aw g 80 7 [l0, l1, l2, l3, some (x)] r σ Q) := (aw_eq g 80 5 _ _ _ _).trans (by rw [tq80_5]; exact (h_store (o := oc l3) rfl rfl rfl))
theorem tq80_7 : tT g 80 7 = s_const 80 8 (.int 0) := rfl
theorem A80_7 {L : AL} {r : List Value} : aw g 80 7 L r σ Q = aw g 80 8 L (.int 0 :: r) σ Q := (aw_eq g 80 7 _ _ _ _).trans (by rw [tq80_7]; exact rfl)
theorem tq80_8 : tT g 80 8 = s_const 80 10 (.int 6) := rfl
theorem A80_8 {L : AL} {r : List Value} : aw g 80 8 L r σ Q = aw g 80 10 L (.int 6 :: r) σ Q := (aw_eq g 80 8 _ _ _ _).trans (by rw [tq80_8]; exact rfl)
theorem tq80_10 : tT g 80 10 = s_load vI 80 11 2 := rfl
theorem A80_10 {l0 : Option Value} {l1 : Option Value} {l3 : Option Value} {l4 : Option Value} {x : Int32} {r : List Value} : aw g 80 10 [l0, l1, some (.int x), l3, l4] r σ Q = aw g 80 11 [l0, l1, some (.int x), l3, l4] (.int x :: r) σ Q := (aw_eq g 80 10 _ _ _ _).trans (by rw [tq80_10]; exact (h_load rfl).trans (propext ⟨fun z => z.2, fun z => ⟨rfl, z⟩⟩))
theorem tq80_11 : tT g 80 11 = s_callk 80 14 77 [0, 0, 0] 3 := rfl
theorem A80_11 {L : AL} {r : List Value} {w0 w1 w2 : Value} : aw g 80 11 L (w2 :: w1 :: w0 :: r) σ Q = ((vI w0 && (vI w1 && (vI w2 && true))) = true ∧ csum r ≤ 8 ∧ aw g 77 0 [some w0, some w1, some w2] [] σ (kt (aw g) 80 14 L r Q)) := (aw_eq g 80 11 _ _ _ _).trans (by rw [tq80_11]; exact rfl)
theorem tq80_14 : tT g 80 14 = s_const 80 15 (.int 0) := rfl
theorem A80_14 {L : AL} {r : List Value} : aw g 80 14 L r σ Q = aw g 80 15 L (.int 0 :: r) σ Q := (aw_eq g 80 14 _ _ _ _).trans (by rw [tq80_14]; exact rfl)
theorem tq80_15 : tT g 80 15 = s_load vI 80 16 2 := rfl
theorem A80_15 {l0 : Option Value} {l1 : Option Value} {l3 : Option Value} {l4 : Option Value} {x : Int32} {r : List Value} : aw g 80 15 [l0, l1, some (.int x), l3, l4] r σ Q = aw g 80 16 [l0, l1, some (.int x), l3, l4] (.int x :: r) σ Q := (aw_eq g 80 15 _ _ _ _).trans (by rw [tq80_15]; exact (h_load rfl).trans (propext ⟨fun z => z.2, fun z => ⟨rfl, z⟩⟩))
theorem tq80_16 : tT g 80 16 = s_const 80 17 (.int 1) := rfl
theorem A80_16 {L : AL} {r : List Value} : aw g 80 16 L r σ Q = aw g 80 17 L (.int 1 :: r) σ Q := (aw_eq g 80 16 _ _ _ _).trans (by rw [tq80_16]; exact rfl)
theorem tq80_17 : tT g 80 17 = s_icmp 80 20 25 (fun a b => a = b) := rfl
theorem A80_17 {L : AL} {r : List Value} {a b : Int32} : aw g 80 17 L (.int b :: .int a :: r) σ Q = ((a = b → aw g 80 25 L r σ Q) ∧ (¬ a = b → aw g 80 20 L r σ Q)) := (aw_eq g 80 17 _ _ _ _).trans (by rw [tq80_17]; exact rfl)
theorem tq80_20 : tT g 80 20 = s_load vI 80 21 2 := rfl
theorem A80_20 {l0 : Option Value} {l1 : Option Value} {l3 : Option Value} {l4 : Option Value} {x : Int32} {r : List Value} : aw g 80 20 [l0, l1, some (.int x), l3, l4] r σ Q = aw g 80 21 [l0, l1, some (.int x), l3, l4] (.int x :: r) σ Q := (aw_eq g 80 20 _ _ _ _).trans (by rw [tq80_20]; exact (h_load rfl).trans (propext ⟨fun z => z.2, fun z => ⟨rfl, z⟩⟩))
theorem tq80_21 : tT g 80 21 = s_const 80 22 (.int 2) := rfl
theorem A80_21 {L : AL} {r : List Value} : aw g 80 21 L r σ Q = aw g 80 22 L (.int 2 :: r) σ Q := (aw_eq g 80 21 _ _ _ _).trans (by rw [tq80_21]; exact rfl)
theorem tq80_22 : tT g 80 22 = s_icmp 80 29 25 (fun a b => a = b) := rfl
theorem A80_22 {L : AL} {r : List Value} {a b : Int32} : aw g 80 22 L (.int b :: .int a :: r) σ Q = ((a = b → aw g 80 25 L r σ Q) ∧ (¬ a = b → aw g 80 29 L r σ Q)) := (aw_eq g 80 22 _ _ _ _).trans (by rw [tq80_22]; exact rfl)
theorem tq80_25 : tT g 80 25 = s_const 80 26 (.int 5) := rfl
theorem A80_25 {L : AL} {r : List Value} : aw g 80 25 L r σ Q = aw g 80 26 L (.int 5 :: r) σ Q := (aw_eq g 80 25 _ _ _ _).trans (by rw [tq80_25]; exact rfl)
theorem tq80_26 : tT g 80 26 = s_goto 80 30 := rfl
theorem A80_26 {L : AL} {r : List Value} : aw g 80 26 L r σ Q = aw g 80 30 L r σ Q := (aw_eq g 80 26 _ _ _ _).trans (by rw [tq80_26]; exact rfl)
theorem tq80_29 : tT g 80 29 = s_const 80 30 (.int 0) := rfl
theorem A80_29 {L : AL} {r : List Value} : aw g 80 29 L r σ Q = aw g 80 30 L (.int 0 :: r) σ Q := (aw_eq g 80 29 _ _ _ _).trans (by rw [tq80_29]; exact rfl)
theorem tq80_30 : tT g 80 30 = s_load vI 80 31 3 := rfl
theorem A80_30 {l0 : Option Value} {l1 : Option Value} {l2 : Option Value} {l4 : Option Value} {x : Int32} {r : List Value} : aw g 80 30 [l0, l1, l2, some (.int x), l4] r σ Q = aw g 80 31 [l0, l1, l2, some (.int x), l4] (.int x :: r) σ Q := (aw_eq g 80 30 _ _ _ _).trans (by rw [tq80_30]; exact (h_load rfl).trans (propext ⟨fun z => z.2, fun z => ⟨rfl, z⟩⟩))
theorem tq80_31 : tT g 80 31 = s_callk 80 34 77 [0, 0, 0] 3 := rfl
theorem A80_31 {L : AL} {r : List Value} {w0 w1 w2 : Value} : aw g 80 31 L (w2 :: w1 :: w0 :: r) σ Q = ((vI w0 && (vI w1 && (vI w2 && true))) = true ∧ csum r ≤ 8 ∧ aw g 77 0 [some w0, some w1, some w2] [] σ (kt (aw g) 80 34 L r Q)) := (aw_eq g 80 31 _ _ _ _).trans (by rw [tq80_31]; exact rfl)
theorem tq80_34 : tT g 80 34 = s_load vRf 80 36 4 := rfl
theorem A80_34 {l0 : Option Value} {l1 : Option Value} {l2 : Option Value} {l3 : Option Value} {x : Value} {r : List Value} : aw g 80 34 [l0, l1, l2, l3, some (x)] r σ Q = (vRf x = true ∧ aw g 80 36 [l0, l1, l2, l3, some (x)] (x :: r) σ Q) := (aw_eq g 80 34 _ _ _ _).trans (by rw [tq80_34]; exact h_load rfl)
theorem tq80_36 : tT g 80 36 = s_getf 80 39 5 2 := rfl
theorem A80_36 {L : AL} {r : List Value} {a : Nat} : aw g 80 36 L (.ref a :: r) σ Q = (hty σ a = some 5 ∧ aw g 80 39 L (hv σ 5 a 2 :: r) σ Q) := (aw_eq g 80 36 _ _ _ _).trans (by rw [tq80_36]; exact rfl)
theorem tq80_39 : tT g 80 39 = s_getf 80 42 6 0 := rfl
theorem A80_39 {L : AL} {r : List Value} {a : Nat} : aw g 80 39 L (.ref a :: r) σ Q = (hty σ a = some 6 ∧ aw g 80 42 L (hv σ 6 a 0 :: r) σ Q) := (aw_eq g 80 39 _ _ _ _).trans (by rw [tq80_39]; exact rfl)
theorem tq80_42 : tT g 80 42 = s_callvk 80 45 15 10 [] 1 := rfl
theorem A80_42 {L : AL} {r : List Value} {a : Nat} : aw g 80 42 L (.ref a :: r) σ Q = (hty σ a = some 10 ∧ true = true ∧ csum r ≤ 8 ∧ aw g 15 0 [some (.ref a)] [] σ (kt (aw g) 80 45 L r Q)) := (aw_eq g 80 42 _ _ _ _).trans (by rw [tq80_42]; exact rfl)
theorem tq80_45 : tT g 80 45 = s_const 80 47 (.int 12) := rfl
theorem A80_45 {L : AL} {r : List Value} : aw g 80 45 L r σ Q = aw g 80 47 L (.int 12 :: r) σ Q := (aw_eq g 80 45 _ _ _ _).trans (by rw [tq80_45]; exact rfl)
theorem tq80_47 : tT g 80 47 = s_icmp 80 50 62 (fun a b => b ≤ a) := rfl
theorem A80_47 {L : AL} {r : List Value} {a b : Int32} : aw g 80 47 L (.int b :: .int a :: r) σ Q = ((b ≤ a → aw g 80 62 L r σ Q) ∧ (¬ b ≤ a → aw g 80 50 L r σ Q)) := (aw_eq g 80 47 _ _ _ _).trans (by rw [tq80_47]; exact rfl)
theorem tq80_50 : tT g 80 50 = s_load vRf 80 52 4 := rfl
theorem A80_50 {l0 : Option Value} {l1 : Option Value} {l2 : Option Value} {l3 : Option Value} {x : Value} {r : List Value} : aw g 80 50 [l0, l1, l2, l3, some (x)] r σ Q = (vRf x = true ∧ aw g 80 52 [l0, l1, l2, l3, some (x)] (x :: r) σ Q) := (aw_eq g 80 50 _ _ _ _).trans (by rw [tq80_50]; exact h_load rfl)
theorem tq80_52 : tT g 80 52 = s_callvk 80 55 197 5 [] 1 := rfl
theorem A80_52 {L : AL} {r : List Value} {a : Nat} : aw g 80 52 L (.ref a :: r) σ Q = (hty σ a = some 5 ∧ true = true ∧ csum r ≤ 8 ∧ aw g 197 0 [some (.ref a)] [] σ (kt (aw g) 80 55 L r Q)) := (aw_eq g 80 52 _ _ _ _).trans (by rw [tq80_52]; exact rfl)
theorem tq80_55 : tT g 80 55 = s_if 80 62 58 (fun a => a = 0) := rfl
theorem A80_55 {L : AL} {r : List Value} {a : Int32} : aw g 80 55 L (.int a :: r) σ Q = ((a = 0 → aw g 80 58 L r σ Q) ∧ (¬ a = 0 → aw g 80 62 L r σ Q)) := (aw_eq g 80 55 _ _ _ _).trans (by rw [tq80_55]; exact rfl)
theorem tq80_58 : tT g 80 58 = s_const 80 59 (.int 1) := rfl
theorem A80_58 {L : AL} {r : List Value} : aw g 80 58 L r σ Q = aw g 80 59 L (.int 1 :: r) σ Q := (aw_eq g 80 58 _ _ _ _).trans (by rw [tq80_58]; exact rfl)
theorem tq80_59 : tT g 80 59 = s_goto 80 63 := rfl
theorem A80_59 {L : AL} {r : List Value} : aw g 80 59 L r σ Q = aw g 80 63 L r σ Q := (aw_eq g 80 59 _ _ _ _).trans (by rw [tq80_59]; exact rfl)
theorem tq80_62 : tT g 80 62 = s_const 80 63 (.int 0) := rfl
theorem A80_62 {L : AL} {r : List Value} : aw g 80 62 L r σ Q = aw g 80 63 L (.int 0 :: r) σ Q := (aw_eq g 80 62 _ _ _ _).trans (by rw [tq80_62]; exact rfl)
theorem tq80_63 : tT g 80 63 = s_callk 80 66 79 [0] 1 := rfl
theorem A80_63 {L : AL} {r : List Value} {w0 : Value} : aw g 80 63 L (w0 :: r) σ Q = ((vI w0 && true) = true ∧ csum r ≤ 8 ∧ aw g 79 0 [some w0] [] σ (kt (aw g) 80 66 L r Q)) := (aw_eq g 80 63 _ _ _ _).trans (by rw [tq80_63]; exact rfl)
theorem tq80_66 : tT g 80 66 = s_load vRf 80 68 4 := rfl
theorem A80_66 {l0 : Option Value} {l1 : Option Value} {l2 : Option Value} {l3 : Option Value} {x : Value} {r : List Value} : aw g 80 66 [l0, l1, l2, l3, some (x)] r σ Q = (vRf x = true ∧ aw g 80 68 [l0, l1, l2, l3, some (x)] (x :: r) σ Q) := (aw_eq g 80 66 _ _ _ _).trans (by rw [tq80_66]; exact h_load rfl)
theorem tq80_68 : tT g 80 68 = s_getf 80 71 5 2 := rfl
theorem A80_68 {L : AL} {r : List Value} {a : Nat} : aw g 80 68 L (.ref a :: r) σ Q = (hty σ a = some 5 ∧ aw g 80 71 L (hv σ 5 a 2 :: r) σ Q) := (aw_eq g 80 68 _ _ _ _).trans (by rw [tq80_68]; exact rfl)
theorem tq80_71 : tT g 80 71 = s_getf 80 74 6 0 := rfl
theorem A80_71 {L : AL} {r : List Value} {a : Nat} : aw g 80 71 L (.ref a :: r) σ Q = (hty σ a = some 6 ∧ aw g 80 74 L (hv σ 6 a 0 :: r) σ Q) := (aw_eq g 80 71 _ _ _ _).trans (by rw [tq80_71]; exact rfl)
theorem tq80_74 : tT g 80 74 = s_new g 80 77 8 2 (fun k => defaultValue (tyX9 k)) := rfl
theorem A80_74 {L : AL} {r : List Value} : aw g 80 74 L r σ Q = (hsz σ + 1 ≤ gC g ∧ hsl σ + 2 ≤ gS g ∧ aw g 80 77 L (.ref (hsz σ) :: r) (hnew σ 8 0 (fun k => defaultValue (tyX9 k)) 2) Q) := (aw_eq g 80 74 _ _ _ _).trans (by rw [tq80_74]; exact rfl)
theorem tq80_77 : tT g 80 77 = s_dup 80 78 := rfl
theorem A80_77 {L : AL} {r : List Value} {v : Value} : aw g 80 77 L (v :: r) σ Q = (v.category = 1 ∧ aw g 80 78 L (v :: v :: r) σ Q) := (aw_eq g 80 77 _ _ _ _).trans (by rw [tq80_77]; exact rfl)
theorem tq80_78 : tT g 80 78 = s_load vI 80 79 2 := rfl
theorem A80_78 {l0 : Option Value} {l1 : Option Value} {l3 : Option Value} {l4 : Option Value} {x : Int32} {r : List Value} : aw g 80 78 [l0, l1, some (.int x), l3, l4] r σ Q = aw g 80 79 [l0, l1, some (.int x), l3, l4] (.int x :: r) σ Q := (aw_eq g 80 78 _ _ _ _).trans (by rw [tq80_78]; exact (h_load rfl).trans (propext ⟨fun z => z.2, fun z => ⟨rfl, z⟩⟩))
theorem tq80_79 : tT g 80 79 = s_load vI 80 80 3 := rfl
theorem A80_79 {l0 : Option Value} {l1 : Option Value} {l2 : Option Value} {l4 : Option Value} {x : Int32} {r : List Value} : aw g 80 79 [l0, l1, l2, some (.int x), l4] r σ Q = aw g 80 80 [l0, l1, l2, some (.int x), l4] (.int x :: r) σ Q := (aw_eq g 80 79 _ _ _ _).trans (by rw [tq80_79]; exact (h_load rfl).trans (propext ⟨fun z => z.2, fun z => ⟨rfl, z⟩⟩))
theorem tq80_80 : tT g 80 80 = s_callik 80 83 211 [0, 0] 3 := rfl
theorem A80_80 {L : AL} {r : List Value} {a : Nat} {w0 w1 : Value} : aw g 80 80 L (w1 :: w0 :: .ref a :: r) σ Q = ((vI w0 && (vI w1 && true)) = true ∧ csum r ≤ 8 ∧ aw g 211 0 [some (.ref a), some w0, some w1] [] σ (kt (aw g) 80 83 L r Q)) := (aw_eq g 80 80 _ _ _ _).trans (by rw [tq80_80]; exact rfl)
theorem tq80_83 : tT g 80 83 = s_callvk 80 86 18 10 [1] 2 := rfl
theorem A80_83 {L : AL} {r : List Value} {a : Nat} {w0 : Value} : aw g 80 83 L (w0 :: .ref a :: r) σ Q = (hty σ a = some 10 ∧ (vRf w0 && true) = true ∧ csum r ≤ 8 ∧ aw g 18 0 [some (.ref a), some w0] [] σ (kt (aw g) 80 86 L r Q)) := (aw_eq g 80 83 _ _ _ _).trans (by rw [tq80_83]; exact rfl)
theorem tq80_86 : tT g 80 86 = s_pop 80 87 := rfl
theorem A80_86 {L : AL} {r : List Value} {v : Value} : aw g 80 86 L (v :: r) σ Q = (v.category = 1 ∧ aw g 80 87 L r σ Q) := (aw_eq g 80 86 _ _ _ _).trans (by rw [tq80_86]; exact rfl)
theorem tq80_87 : tT g 80 87 = s_load vRf 80 89 4 := rfl
theorem A80_87 {l0 : Option Value} {l1 : Option Value} {l2 : Option Value} {l3 : Option Value} {x : Value} {r : List Value} : aw g 80 87 [l0, l1, l2, l3, some (x)] r σ Q = (vRf x = true ∧ aw g 80 89 [l0, l1, l2, l3, some (x)] (x :: r) σ Q) := (aw_eq g 80 87 _ _ _ _).trans (by rw [tq80_87]; exact h_load rfl)
theorem tq80_89 : tT g 80 89 = s_const 80 90 .null := rfl
theorem A80_89 {L : AL} {r : List Value} : aw g 80 89 L r σ Q = aw g 80 90 L (.null :: r) σ Q := (aw_eq g 80 89 _ _ _ _).trans (by rw [tq80_89]; exact rfl)
theorem tq80_90 : tT g 80 90 = s_putf g pR 80 93 5 21 := rfl
theorem A80_90 {L : AL} {r : List Value} {a : Nat} {v : Value} : aw g 80 90 L (v :: .ref a :: r) σ Q = (hty σ a = some 5 ∧ gB g ≤ a ∧ pR v ∧ aw g 80 93 L r (hput σ 5 a 21 v) Q) := (aw_eq g 80 90 _ _ _ _).trans (by rw [tq80_90]; exact rfl)
theorem tq80_93 : tT g 80 93 = s_load vRf 80 95 4 := rfl
theorem A80_93 {l0 : Option Value} {l1 : Option Value} {l2 : Option Value} {l3 : Option Value} {x : Value} {r : List Value} : aw g 80 93 [l0, l1, l2, l3, some (x)] r σ Q = (vRf x = true ∧ aw g 80 95 [l0, l1, l2, l3, some (x)] (x :: r) σ Q) := (aw_eq g 80 93 _ _ _ _).trans (by rw [tq80_93]; exact h_load rfl)
theorem tq80_95 : tT g 80 95 = s_getf 80 98 5 3 := rfl
theorem A80_95 {L : AL} {r : List Value} {a : Nat} : aw g 80 95 L (.ref a :: r) σ Q = (hty σ a = some 5 ∧ aw g 80 98 L (hv σ 5 a 3 :: r) σ Q) := (aw_eq g 80 95 _ _ _ _).trans (by rw [tq80_95]; exact rfl)
theorem tq80_98 : tT g 80 98 = s_const 80 99 (.int 5) := rfl
theorem A80_98 {L : AL} {r : List Value} : aw g 80 98 L r σ Q = aw g 80 99 L (.int 5 :: r) σ Q := (aw_eq g 80 98 _ _ _ _).trans (by rw [tq80_98]; exact rfl)
theorem tq80_99 : tT g 80 99 = s_icmp 80 108 102 (fun a b => a = b) := rfl
theorem A80_99 {L : AL} {r : List Value} {a b : Int32} : aw g 80 99 L (.int b :: .int a :: r) σ Q = ((a = b → aw g 80 102 L r σ Q) ∧ (¬ a = b → aw g 80 108 L r σ Q)) := (aw_eq g 80 99 _ _ _ _).trans (by rw [tq80_99]; exact rfl)
theorem tq80_102 : tT g 80 102 = s_load vRf 80 104 4 := rfl
theorem A80_102 {l0 : Option Value} {l1 : Option Value} {l2 : Option Value} {l3 : Option Value} {x : Value} {r : List Value} : aw g 80 102 [l0, l1, l2, l3, some (x)] r σ Q = (vRf x = true ∧ aw g 80 104 [l0, l1, l2, l3, some (x)] (x :: r) σ Q) := (aw_eq g 80 102 _ _ _ _).trans (by rw [tq80_102]; exact h_load rfl)
theorem tq80_104 : tT g 80 104 = s_const 80 105 (.int 0) := rfl
theorem A80_104 {L : AL} {r : List Value} : aw g 80 104 L r σ Q = aw g 80 105 L (.int 0 :: r) σ Q := (aw_eq g 80 104 _ _ _ _).trans (by rw [tq80_104]; exact rfl)
theorem tq80_105 : tT g 80 105 = s_putf g pI 80 108 5 3 := rfl
theorem A80_105 {L : AL} {r : List Value} {a : Nat} {v : Value} : aw g 80 105 L (v :: .ref a :: r) σ Q = (hty σ a = some 5 ∧ gB g ≤ a ∧ pI v ∧ aw g 80 108 L r (hput σ 5 a 3 v) Q) := (aw_eq g 80 105 _ _ _ _).trans (by rw [tq80_105]; exact rfl)
theorem tq80_108 : tT g 80 108 = s_load vRf 80 110 4 := rfl
theorem A80_108 {l0 : Option Value} {l1 : Option Value} {l2 : Option Value} {l3 : Option Value} {x : Value} {r : List Value} : aw g 80 108 [l0, l1, l2, l3, some (x)] r σ Q = (vRf x = true ∧ aw g 80 110 [l0, l1, l2, l3, some (x)] (x :: r) σ Q) := (aw_eq g 80 108 _ _ _ _).trans (by rw [tq80_108]; exact h_load rfl)
theorem tq80_110 : tT g 80 110 = s_getf 80 113 5 4 := rfl
theorem A80_110 {L : AL} {r : List Value} {a : Nat} : aw g 80 110 L (.ref a :: r) σ Q = (hty σ a = some 5 ∧ aw g 80 113 L (hv σ 5 a 4 :: r) σ Q) := (aw_eq g 80 110 _ _ _ _).trans (by rw [tq80_110]; exact rfl)
theorem tq80_113 : tT g 80 113 = s_const 80 114 (.int 5) := rfl
theorem A80_113 {L : AL} {r : List Value} : aw g 80 113 L r σ Q = aw g 80 114 L (.int 5 :: r) σ Q := (aw_eq g 80 113 _ _ _ _).trans (by rw [tq80_113]; exact rfl)
theorem tq80_114 : tT g 80 114 = s_icmp 80 123 117 (fun a b => a = b) := rfl
theorem A80_114 {L : AL} {r : List Value} {a b : Int32} : aw g 80 114 L (.int b :: .int a :: r) σ Q = ((a = b → aw g 80 117 L r σ Q) ∧ (¬ a = b → aw g 80 123 L r σ Q)) := (aw_eq g 80 114 _ _ _ _).trans (by rw [tq80_114]; exact rfl)
theorem tq80_117 : tT g 80 117 = s_load vRf 80 119 4 := rfl
theorem A80_117 {l0 : Option Value} {l1 : Option Value} {l2 : Option Value} {l3 : Option Value} {x : Value} {r : List Value} : aw g 80 117 [l0, l1, l2, l3, some (x)] r σ Q = (vRf x = true ∧ aw g 80 119 [l0, l1, l2, l3, some (x)] (x :: r) σ Q) := (aw_eq g 80 117 _ _ _ _).trans (by rw [tq80_117]; exact h_load rfl)
theorem tq80_119 : tT g 80 119 = s_const 80 120 (.int 0) := rfl
theorem A80_119 {L : AL} {r : List Value} : aw g 80 119 L r σ Q = aw g 80 120 L (.int 0 :: r) σ Q := (aw_eq g 80 119 _ _ _ _).trans (by rw [tq80_119]; exact rfl)
theorem tq80_120 : tT g 80 120 = s_putf g pI 80 123 5 4 := rfl
theorem A80_120 {L : AL} {r : List Value} {a : Nat} {v : Value} : aw g 80 120 L (v :: .ref a :: r) σ Q = (hty σ a = some 5 ∧ gB g ≤ a ∧ pI v ∧ aw g 80 123 L r (hput σ 5 a 4 v) Q) := (aw_eq g 80 120 _ _ _ _).trans (by rw [tq80_120]; exact rfl)
theorem tq80_123 : tT g 80 123 = s_load vRf 80 125 4 := rfl
theorem A80_123 {l0 : Option Value} {l1 : Option Value} {l2 : Option Value} {l3 : Option Value} {x : Value} {r : List Value} : aw g 80 123 [l0, l1, l2, l3, some (x)] r σ Q = (vRf x = true ∧ aw g 80 125 [l0, l1, l2, l3, some (x)] (x :: r) σ Q) := (aw_eq g 80 123 _ _ _ _).trans (by rw [tq80_123]; exact h_load rfl)
theorem tq80_125 : tT g 80 125 = s_getf 80 128 5 2 := rfl
theorem A80_125 {L : AL} {r : List Value} {a : Nat} : aw g 80 125 L (.ref a :: r) σ Q = (hty σ a = some 5 ∧ aw g 80 128 L (hv σ 5 a 2 :: r) σ Q) := (aw_eq g 80 125 _ _ _ _).trans (by rw [tq80_125]; exact rfl)
theorem tq80_128 : tT g 80 128 = s_getf 80 131 6 0 := rfl
theorem A80_128 {L : AL} {r : List Value} {a : Nat} : aw g 80 128 L (.ref a :: r) σ Q = (hty σ a = some 6 ∧ aw g 80 131 L (hv σ 6 a 0 :: r) σ Q) := (aw_eq g 80 128 _ _ _ _).trans (by rw [tq80_128]; exact rfl)
theorem tq80_131 : tT g 80 131 = s_callvk 80 134 15 10 [] 1 := rfl
theorem A80_131 {L : AL} {r : List Value} {a : Nat} : aw g 80 131 L (.ref a :: r) σ Q = (hty σ a = some 10 ∧ true = true ∧ csum r ≤ 8 ∧ aw g 15 0 [some (.ref a)] [] σ (kt (aw g) 80 134 L r Q)) := (aw_eq g 80 131 _ _ _ _).trans (by rw [tq80_131]; exact rfl)
theorem tq80_134 : tT g 80 134 = s_ret pI := rfl
theorem A80_134 {L : AL} {v : Value} : aw g 80 134 L [v] σ Q = (pI v ∧ Q (.inl (some v)) σ) := (aw_eq g 80 134 _ _ _ _).trans (by rw [tq80_134]; exact rfl)
theorem tq81_0 : tT g 81 0 = s_load vRf 81 1 0 := rfl
theorem A81_0 {l1 : Option Value} {x : Value} {r : List Value} : aw g 81 0 [some (x), l1] r σ Q = (vRf x = true ∧ aw g 81 1 [some (x), l1] (x :: r) σ Q) := (aw_eq g 81 0 _ _ _ _).trans (by rw [tq81_0]; exact h_load rfl)
theorem tq81_1 : tT g 81 1 = s_getf 81 4 0 0 := rfl
theorem A81_1 {L : AL} {r : List Value} {a : Nat} : aw g 81 1 L (.ref a :: r) σ Q = (hty σ a = some 0 ∧ aw g 81 4 L (hv σ 0 a 0 :: r) σ Q) := (aw_eq g 81 1 _ _ _ _).trans (by rw [tq81_1]; exact rfl)
theorem tq81_4 : tT g 81 4 = s_getf 81 7 1 0 := rfl
theorem A81_4 {L : AL} {r : List Value} {a : Nat} : aw g 81 4 L (.ref a :: r) σ Q = (hty σ a = some 1 ∧ aw g 81 7 L (hv σ 1 a 0 :: r) σ Q) := (aw_eq g 81 4 _ _ _ _).trans (by rw [tq81_4]; exact rfl)
theorem tq81_7 : tT g 81 7 = s_load vI 81 8 1 := rfl
theorem A81_7 {l0 : Option Value} {x : Int32} {r : List Value} : aw g 81 7 [l0, some (.int x)] r σ Q = aw g 81 8 [l0, some (.int x)] (.int x :: r) σ Q := (aw_eq g 81 7 _ _ _ _).trans (by rw [tq81_7]; exact (h_load rfl).trans (propext ⟨fun z => z.2, fun z => ⟨rfl, z⟩⟩))
theorem tq81_8 : tT g 81 8 = s_callk 81 11 82 [1, 0] 2 := rfl
theorem A81_8 {L : AL} {r : List Value} {w0 w1 : Value} : aw g 81 8 L (w1 :: w0 :: r) σ Q = ((vRf w0 && (vI w1 && true)) = true ∧ csum r ≤ 8 ∧ aw g 82 0 [some w0, some w1] [] σ (kt (aw g) 81 11 L r Q)) := (aw_eq g 81 8 _ _ _ _).trans (by rw [tq81_8]; exact rfl)
theorem tq81_11 : tT g 81 11 = s_cast 81 14 [5] := rfl
theorem A81_11 {L : AL} {r : List Value} : aw g 81 11 L (.null :: r) σ Q = aw g 81 14 L (.null :: r) σ Q := (aw_eq g 81 11 _ _ _ _).trans (by rw [tq81_11]; exact rfl)
theorem A81_11r {L : AL} {r : List Value} {a : Nat} : aw g 81 11 L (.ref a :: r) σ Q = (hty σ a = some 5 ∧ aw g 81 14 L (.ref a :: r) σ Q) := (aw_eq g 81 11 _ _ _ _).trans (by rw [tq81_11]; exact propext ⟨fun z => (by obtain ⟨⟨u, hu, hu2⟩, z2⟩ := z; rw [List.mem_singleton] at hu; subst hu; exact ⟨hu2, z2⟩), fun z => ⟨⟨_, List.mem_cons_self, z.1⟩, z.2⟩⟩)
theorem tq81_14 : tT g 81 14 = s_ret pR := rfl
theorem A81_14 {L : AL} {v : Value} : aw g 81 14 L [v] σ Q = (pR v ∧ Q (.inl (some v)) σ) := (aw_eq g 81 14 _ _ _ _).trans (by rw [tq81_14]; exact rfl)
theorem tq82_0 : tT g 82 0 = s_load vI 82 1 1 := rfl
theorem A82_0 {l0 : Option Value} {x : Int32} {r : List Value} : aw g 82 0 [l0, some (.int x)] r σ Q = aw g 82 1 [l0, some (.int x)] (.int x :: r) σ Q := (aw_eq g 82 0 _ _ _ _).trans (by rw [tq82_0]; exact (h_load rfl).trans (propext ⟨fun z => z.2, fun z => ⟨rfl, z⟩⟩))
theorem tq82_1 : tT g 82 1 = s_load vRf 82 2 0 := rfl
theorem A82_1 {l1 : Option Value} {x : Value} {r : List Value} : aw g 82 1 [some (x), l1] r σ Q = (vRf x = true ∧ aw g 82 2 [some (x), l1] (x :: r) σ Q) := (aw_eq g 82 1 _ _ _ _).trans (by rw [tq82_1]; exact h_load rfl)
theorem tq82_2 : tT g 82 2 = s_callvk 82 7 15 10 [] 1 := rfl
theorem A82_2 {L : AL} {r : List Value} {a : Nat} : aw g 82 2 L (.ref a :: r) σ Q = (hty σ a = some 10 ∧ true = true ∧ csum r ≤ 8 ∧ aw g 15 0 [some (.ref a)] [] σ (kt (aw g) 82 7 L r Q)) := (aw_eq g 82 2 _ _ _ _).trans (by rw [tq82_2]; exact rfl)
theorem tq82_7 : tT g 82 7 = s_callk 82 10 83 [0, 0] 2 := rfl
theorem A82_7 {L : AL} {r : List Value} {w0 w1 : Value} : aw g 82 7 L (w1 :: w0 :: r) σ Q = ((vI w0 && (vI w1 && true)) = true ∧ csum r ≤ 8 ∧ aw g 83 0 [some w0, some w1] [] σ (kt (aw g) 82 10 L r Q)) := (aw_eq g 82 7 _ _ _ _).trans (by rw [tq82_7]; exact rfl)
theorem tq82_10 : tT g 82 10 = s_load vRf 82 11 0 := rfl
theorem A82_10 {l1 : Option Value} {x : Value} {r : List Value} : aw g 82 10 [some (x), l1] r σ Q = (vRf x = true ∧ aw g 82 11 [some (x), l1] (x :: r) σ Q) := (aw_eq g 82 10 _ _ _ _).trans (by rw [tq82_10]; exact h_load rfl)
theorem tq82_11 : tT g 82 11 = s_load vI 82 12 1 := rfl
theorem A82_11 {l0 : Option Value} {x : Int32} {r : List Value} : aw g 82 11 [l0, some (.int x)] r σ Q = aw g 82 12 [l0, some (.int x)] (.int x :: r) σ Q := (aw_eq g 82 11 _ _ _ _).trans (by rw [tq82_11]; exact (h_load rfl).trans (propext ⟨fun z => z.2, fun z => ⟨rfl, z⟩⟩))
theorem tq82_12 : tT g 82 12 = s_callvk 82 17 25 10 [0] 2 := rfl
theorem A82_12 {L : AL} {r : List Value} {a : Nat} {w0 : Value} : aw g 82 12 L (w0 :: .ref a :: r) σ Q = (hty σ a = some 10 ∧ (vI w0 && true) = true ∧ csum r ≤ 8 ∧ aw g 25 0 [some (.ref a), some w0] [] σ (kt (aw g) 82 17 L r Q)) := (aw_eq g 82 12 _ _ _ _).trans (by rw [tq82_12]; exact rfl)
theorem tq82_17 : tT g 82 17 = s_ret pR := rfl
theorem A82_17 {L : AL} {v : Value} : aw g 82 17 L [v] σ Q = (pR v ∧ Q (.inl (some v)) σ) := (aw_eq g 82 17 _ _ _ _).trans (by rw [tq82_17]; exact rfl)
theorem tq83_0 : tT g 83 0 = s_load vI 83 1 0 := rfl
theorem A83_0 {l1 : Option Value} {x : Int32} {r : List Value} : aw g 83 0 [some (.int x), l1] r σ Q = aw g 83 1 [some (.int x), l1] (.int x :: r) σ Q := (aw_eq g 83 0 _ _ _ _).trans (by rw [tq83_0]; exact (h_load rfl).trans (propext ⟨fun z => z.2, fun z => ⟨rfl, z⟩⟩))
theorem tq83_1 : tT g 83 1 = s_if 83 4 9 (fun a => a < 0) := rfl
theorem A83_1 {L : AL} {r : List Value} {a : Int32} : aw g 83 1 L (.int a :: r) σ Q = ((a < 0 → aw g 83 9 L r σ Q) ∧ (¬ a < 0 → aw g 83 4 L r σ Q)) := (aw_eq g 83 1 _ _ _ _).trans (by rw [tq83_1]; exact rfl)
theorem tq83_4 : tT g 83 4 = s_load vI 83 5 0 := rfl
theorem A83_4 {l1 : Option Value} {x : Int32} {r : List Value} : aw g 83 4 [some (.int x), l1] r σ Q = aw g 83 5 [some (.int x), l1] (.int x :: r) σ Q := (aw_eq g 83 4 _ _ _ _).trans (by rw [tq83_4]; exact (h_load rfl).trans (propext ⟨fun z => z.2, fun z => ⟨rfl, z⟩⟩))
theorem tq83_5 : tT g 83 5 = s_load vI 83 6 1 := rfl
theorem A83_5 {l0 : Option Value} {x : Int32} {r : List Value} : aw g 83 5 [l0, some (.int x)] r σ Q = aw g 83 6 [l0, some (.int x)] (.int x :: r) σ Q := (aw_eq g 83 5 _ _ _ _).trans (by rw [tq83_5]; exact (h_load rfl).trans (propext ⟨fun z => z.2, fun z => ⟨rfl, z⟩⟩))
theorem tq83_6 : tT g 83 6 = s_icmp 83 9 17 (fun a b => a < b) := rfl
theorem A83_6 {L : AL} {r : List Value} {a b : Int32} : aw g 83 6 L (.int b :: .int a :: r) σ Q = ((a < b → aw g 83 17 L r σ Q) ∧ (¬ a < b → aw g 83 9 L r σ Q)) := (aw_eq g 83 6 _ _ _ _).trans (by rw [tq83_6]; exact rfl)
theorem tq83_9 : tT g 83 9 = s_throw g 2 := rfl
theorem A83_9 {L : AL} {r : List Value} : aw g 83 9 L r σ Q = (csum r ≤ 8 ∧ hsz σ + 1 ≤ gC g ∧ hsl σ + 6 ≤ gS g ∧ ∀ i j : Nat, i ≤ 1 → j ≤ 6 → Q (.inr 2) (hopq σ i j)) := (aw_eq g 83 9 _ _ _ _).trans (by rw [tq83_9]; exact rfl)
theorem tq83_12 : tT g 83 12 = s_dup 83 13 := rfl
theorem A83_12 {L : AL} {r : List Value} {v : Value} : aw g 83 12 L (v :: r) σ Q = (v.category = 1 ∧ aw g 83 13 L (v :: v :: r) σ Q) := (aw_eq g 83 12 _ _ _ _).trans (by rw [tq83_12]; exact rfl)
theorem tq83_17 : tT g 83 17 = s_vret := rfl
theorem A83_17 {L : AL} : aw g 83 17 L [] σ Q = Q (.inl none) σ := (aw_eq g 83 17 _ _ _ _).trans (by rw [tq83_17]; exact rfl)
theorem tq84_0 : tT g 84 0 = s_load vRf 84 1 0 := rfl
theorem A84_0 {l1 : Option Value} {l2 : Option Value} {l3 : Option Value} {l4 : Option Value} {x : Value} {r : List Value} : aw g 84 0 [some (x), l1, l2, l3, l4] r σ Q = (vRf x = true ∧ aw g 84 1 [some (x), l1, l2, l3, l4] (x :: r) σ Q) := (aw_eq g 84 0 _ _ _ _).trans (by rw [tq84_0]; exact h_load rfl)
theorem tq84_1 : tT g 84 1 = s_load vI 84 2 1 := rfl
theorem A84_1 {l0 : Option Value} {l2 : Option Value} {l3 : Option Value} {l4 : Option Value} {x : Int32} {r : List Value} : aw g 84 1 [l0, some (.int x), l2, l3, l4] r σ Q = aw g 84 2 [l0, some (.int x), l2, l3, l4] (.int x :: r) σ Q := (aw_eq g 84 1 _ _ _ _).trans (by rw [tq84_1]; exact (h_load rfl).trans (propext ⟨fun z => z.2, fun z => ⟨rfl, z⟩⟩))
theorem tq84_2 : tT g 84 2 = s_callvk 84 5 81 0 [0] 2 := rfl
theorem A84_2 {L : AL} {r : List Value} {a : Nat} {w0 : Value} : aw g 84 2 L (w0 :: .ref a :: r) σ Q = (hty σ a = some 0 ∧ (vI w0 && true) = true ∧ csum r ≤ 8 ∧ aw g 81 0 [some (.ref a), some w0] [] σ (kt (aw g) 84 5 L r Q)) := (aw_eq g 84 2 _ _ _ _).trans (by rw [tq84_2]; exact rfl)
theorem tq84_5 : tT g 84 5 = s_store vRf 84 6 3 := rfl
theorem A84_5 {l0 : Option Value} {l1 : Option Value} {l2 : Option Value} {l3 : Option Value} {l4 : Option Value} {x : Value} {r : List Value} : aw g 84 5 [l0, l1, l2, l3, l4] (x :: r) σ Q = (vRf x = true ∧ oc l2 = true ∧ aw g 84 6 [l0, l1, l2, some (x), l4] r σ Q) := (aw_eq g 84 5 _ _ _ _).trans (by rw [tq84_5]; exact (h_store (o := oc l2) rfl rfl rfl))
theorem tq84_6 : tT g 84 6 = s_load vI 84 7 2 := rfl
theorem A84_6 {l0 : Option Value} {l1 : Option Value} {l3 : Option Value} {l4 : Option Value} {x : Int32} {r : List Value} : aw g 84 6 [l0, l1, some (.int x), l3, l4] r σ Q = aw g 84 7 [l0, l1, some (.int x), l3, l4] (.int x :: r) σ Q := (aw_eq g 84 6 _ _ _ _).trans (by rw [tq84_6]; exact (h_load rfl).trans (propext ⟨fun z => z.2, fun z => ⟨rfl, z⟩⟩))
theorem tq84_7 : tT g 84 7 = s_callk 84 10 76 [0] 1 := rfl
theorem A84_7 {L : AL} {r : List Value} {w0 : Value} : aw g 84 7 L (w0 :: r) σ Q = ((vI w0 && true) = true ∧ csum r ≤ 8 ∧ aw g 76 0 [some w0] [] σ (kt (aw g) 84 10 L r Q)) := (aw_eq g 84 7 _ _ _ _).trans (by rw [tq84_7]; exact rfl)
theorem tq84_10 : tT g 84 10 = s_load vRf 84 11 3 := rfl
theorem A84_10 {l0 : Option Value} {l1 : Option Value} {l2 : Option Value} {l4 : Option Value} {x : Value} {r : List Value} : aw g 84 10 [l0, l1, l2, some (x), l4] r σ Q = (vRf x = true ∧ aw g 84 11 [l0, l1, l2, some (x), l4] (x :: r) σ Q) := (aw_eq g 84 10 _ _ _ _).trans (by rw [tq84_10]; exact h_load rfl)
theorem tq84_11 : tT g 84 11 = s_getf 84 14 5 1 := rfl
theorem A84_11 {L : AL} {r : List Value} {a : Nat} : aw g 84 11 L (.ref a :: r) σ Q = (hty σ a = some 5 ∧ aw g 84 14 L (hv σ 5 a 1 :: r) σ Q) := (aw_eq g 84 11 _ _ _ _).trans (by rw [tq84_11]; exact rfl)
theorem tq84_14 : tT g 84 14 = s_store vI 84 16 4 := rfl
theorem A84_14 {l0 : Option Value} {l1 : Option Value} {l2 : Option Value} {l3 : Option Value} {l4 : Option Value} {x : Int32} {r : List Value} : aw g 84 14 [l0, l1, l2, l3, l4] (.int x :: r) σ Q = (oc l3 = true ∧ aw g 84 16 [l0, l1, l2, l3, some (.int x)] r σ Q) := (aw_eq g 84 14 _ _ _ _).trans (by rw [tq84_14]; exact (h_store (o := oc l3) rfl rfl rfl).trans (propext ⟨fun z => z.2, fun z => ⟨rfl, z⟩⟩))
theorem tq84_16 : tT g 84 16 = s_load vRf 84 17 3 := rfl
theorem A84_16 {l0 : Option Value} {l1 : Option Value} {l2 : Option Value} {l4 : Option Value} {x : Value} {r : List Value} : aw g 84 16 [l0, l1, l2, some (x), l4] r σ Q = (vRf x = true ∧ aw g 84 17 [l0, l1, l2, some (x), l4] (x :: r) σ Q) := (aw_eq g 84 16 _ _ _ _).trans (by rw [tq84_16]; exact h_load rfl)
theorem tq84_17 : tT g 84 17 = s_load vI 84 18 2 := rfl
theorem A84_17 {l0 : Option Value} {l1 : Option Value} {l3 : Option Value} {l4 : Option Value} {x : Int32} {r : List Value} : aw g 84 17 [l0, l1, some (.int x), l3, l4] r σ Q = aw g 84 18 [l0, l1, some (.int x), l3, l4] (.int x :: r) σ Q := (aw_eq g 84 17 _ _ _ _).trans (by rw [tq84_17]; exact (h_load rfl).trans (propext ⟨fun z => z.2, fun z => ⟨rfl, z⟩⟩))
theorem tq84_18 : tT g 84 18 = s_putf g pI 84 21 5 1 := rfl
theorem A84_18 {L : AL} {r : List Value} {a : Nat} {v : Value} : aw g 84 18 L (v :: .ref a :: r) σ Q = (hty σ a = some 5 ∧ gB g ≤ a ∧ pI v ∧ aw g 84 21 L r (hput σ 5 a 1 v) Q) := (aw_eq g 84 18 _ _ _ _).trans (by rw [tq84_18]; exact rfl)
theorem tq84_21 : tT g 84 21 = s_load vI 84 23 4 := rfl
theorem A84_21 {l0 : Option Value} {l1 : Option Value} {l2 : Option Value} {l3 : Option Value} {x : Int32} {r : List Value} : aw g 84 21 [l0, l1, l2, l3, some (.int x)] r σ Q = aw g 84 23 [l0, l1, l2, l3, some (.int x)] (.int x :: r) σ Q := (aw_eq g 84 21 _ _ _ _).trans (by rw [tq84_21]; exact (h_load rfl).trans (propext ⟨fun z => z.2, fun z => ⟨rfl, z⟩⟩))
theorem tq84_23 : tT g 84 23 = s_ret pI := rfl
theorem A84_23 {L : AL} {v : Value} : aw g 84 23 L [v] σ Q = (pI v ∧ Q (.inl (some v)) σ) := (aw_eq g 84 23 _ _ _ _).trans (by rw [tq84_23]; exact rfl)
theorem tq85_0 : tT g 85 0 = s_load vRf 85 1 0 := rfl
theorem A85_0 {l1 : Option Value} {l2 : Option Value} {l3 : Option Value} {l4 : Option Value} {x : Value} {r : List Value} : aw g 85 0 [some (x), l1, l2, l3, l4] r σ Q = (vRf x = true ∧ aw g 85 1 [some (x), l1, l2, l3, l4] (x :: r) σ Q) := (aw_eq g 85 0 _ _ _ _).trans (by rw [tq85_0]; exact h_load rfl)
theorem tq85_1 : tT g 85 1 = s_load vI 85 2 1 := rfl
theorem A85_1 {l0 : Option Value} {l2 : Option Value} {l3 : Option Value} {l4 : Option Value} {x : Int32} {r : List Value} : aw g 85 1 [l0, some (.int x), l2, l3, l4] r σ Q = aw g 85 2 [l0, some (.int x), l2, l3, l4] (.int x :: r) σ Q := (aw_eq g 85 1 _ _ _ _).trans (by rw [tq85_1]; exact (h_load rfl).trans (propext ⟨fun z => z.2, fun z => ⟨rfl, z⟩⟩))
theorem tq85_2 : tT g 85 2 = s_callvk 85 5 81 0 [0] 2 := rfl
theorem A85_2 {L : AL} {r : List Value} {a : Nat} {w0 : Value} : aw g 85 2 L (w0 :: .ref a :: r) σ Q = (hty σ a = some 0 ∧ (vI w0 && true) = true ∧ csum r ≤ 8 ∧ aw g 81 0 [some (.ref a), some w0] [] σ (kt (aw g) 85 5 L r Q)) := (aw_eq g 85 2 _ _ _ _).trans (by rw [tq85_2]; exact rfl)
theorem tq85_5 : tT g 85 5 = s_store vRf 85 6 3 := rfl
theorem A85_5 {l0 : Option Value} {l1 : Option Value} {l2 : Option Value} {l3 : Option Value} {l4 : Option Value} {x : Value} {r : List Value} : aw g 85 5 [l0, l1, l2, l3, l4] (x :: r) σ Q = (vRf x = true ∧ oc l2 = true ∧ aw g 85 6 [l0, l1, l2, some (x), l4] r σ Q) := (aw_eq g 85 5 _ _ _ _).trans (by rw [tq85_5]; exact (h_store (o := oc l2) rfl rfl rfl))
theorem tq85_6 : tT g 85 6 = s_load vRf 85 7 3 := rfl
theorem A85_6 {l0 : Option Value} {l1 : Option Value} {l2 : Option Value} {l4 : Option Value} {x : Value} {r : List Value} : aw g 85 6 [l0, l1, l2, some (x), l4] r σ Q = (vRf x = true ∧ aw g 85 7 [l0, l1, l2, some (x), l4] (x :: r) σ Q) := (aw_eq g 85 6 _ _ _ _).trans (by rw [tq85_6]; exact h_load rfl)
theorem tq85_7 : tT g 85 7 = s_getf 85 10 5 3 := rfl
theorem A85_7 {L : AL} {r : List Value} {a : Nat} : aw g 85 7 L (.ref a :: r) σ Q = (hty σ a = some 5 ∧ aw g 85 10 L (hv σ 5 a 3 :: r) σ Q) := (aw_eq g 85 7 _ _ _ _).trans (by rw [tq85_7]; exact rfl)
theorem tq85_10 : tT g 85 10 = s_const 85 11 (.int 3) := rfl
theorem A85_10 {L : AL} {r : List Value} : aw g 85 10 L r σ Q = aw g 85 11 L (.int 3 :: r) σ Q := (aw_eq g 85 10 _ _ _ _).trans (by rw [tq85_10]; exact rfl)
theorem tq85_11 : tT g 85 11 = s_icmp 85 18 14 (fun a b => a = b) := rfl
theorem A85_11 {L : AL} {r : List Value} {a b : Int32} : aw g 85 11 L (.int b :: .int a :: r) σ Q = ((a = b → aw g 85 14 L r σ Q) ∧ (¬ a = b → aw g 85 18 L r σ Q)) := (aw_eq g 85 11 _ _ _ _).trans (by rw [tq85_11]; exact rfl)
theorem tq85_14 : tT g 85 14 = s_const 85 15 (.int 1) := rfl
theorem A85_14 {L : AL} {r : List Value} : aw g 85 14 L r σ Q = aw g 85 15 L (.int 1 :: r) σ Q := (aw_eq g 85 14 _ _ _ _).trans (by rw [tq85_14]; exact rfl)
theorem tq85_15 : tT g 85 15 = s_goto 85 19 := rfl
theorem A85_15 {L : AL} {r : List Value} : aw g 85 15 L r σ Q = aw g 85 19 L r σ Q := (aw_eq g 85 15 _ _ _ _).trans (by rw [tq85_15]; exact rfl)
theorem tq85_18 : tT g 85 18 = s_const 85 19 (.int 0) := rfl
theorem A85_18 {L : AL} {r : List Value} : aw g 85 18 L r σ Q = aw g 85 19 L (.int 0 :: r) σ Q := (aw_eq g 85 18 _ _ _ _).trans (by rw [tq85_18]; exact rfl)
theorem tq85_19 : tT g 85 19 = s_store vI 85 21 4 := rfl
theorem A85_19 {l0 : Option Value} {l1 : Option Value} {l2 : Option Value} {l3 : Option Value} {l4 : Option Value} {x : Int32} {r : List Value} : aw g 85 19 [l0, l1, l2, l3, l4] (.int x :: r) σ Q = (oc l3 = true ∧ aw g 85 21 [l0, l1, l2, l3, some (.int x)] r σ Q) := (aw_eq g 85 19 _ _ _ _).trans (by rw [tq85_19]; exact (h_store (o := oc l3) rfl rfl rfl).trans (propext ⟨fun z => z.2, fun z => ⟨rfl, z⟩⟩))
theorem tq85_21 : tT g 85 21 = s_load vRf 85 22 3 := rfl
theorem A85_21 {l0 : Option Value} {l1 : Option Value} {l2 : Option Value} {l4 : Option Value} {x : Value} {r : List Value} : aw g 85 21 [l0, l1, l2, some (x), l4] r σ Q = (vRf x = true ∧ aw g 85 22 [l0, l1, l2, some (x), l4] (x :: r) σ Q) := (aw_eq g 85 21 _ _ _ _).trans (by rw [tq85_21]; exact h_load rfl)
theorem tq85_22 : tT g 85 22 = s_callvk 85 25 197 5 [] 1 := rfl
theorem A85_22 {L : AL} {r : List Value} {a : Nat} : aw g 85 22 L (.ref a :: r) σ Q = (hty σ a = some 5 ∧ true = true ∧ csum r ≤ 8 ∧ aw g 197 0 [some (.ref a)] [] σ (kt (aw g) 85 25 L r Q)) := (aw_eq g 85 22 _ _ _ _).trans (by rw [tq85_22]; exact rfl)
theorem tq85_25 : tT g 85 25 = s_if 85 48 28 (fun a => a = 0) := rfl
theorem A85_25 {L : AL} {r : List Value} {a : Int32} : aw g 85 25 L (.int a :: r) σ Q = ((a = 0 → aw g 85 28 L r σ Q) ∧ (¬ a = 0 → aw g 85 48 L r σ Q)) := (aw_eq g 85 25 _ _ _ _).trans (by rw [tq85_25]; exact rfl)
theorem tq85_28 : tT g 85 28 = s_load vI 85 29 2 := rfl
theorem A85_28 {l0 : Option Value} {l1 : Option Value} {l3 : Option Value} {l4 : Option Value} {x : Int32} {r : List Value} : aw g 85 28 [l0, l1, some (.int x), l3, l4] r σ Q = aw g 85 29 [l0, l1, some (.int x), l3, l4] (.int x :: r) σ Q := (aw_eq g 85 28 _ _ _ _).trans (by rw [tq85_28]; exact (h_load rfl).trans (propext ⟨fun z => z.2, fun z => ⟨rfl, z⟩⟩))
theorem tq85_29 : tT g 85 29 = s_if 85 44 32 (fun a => a = 0) := rfl
theorem A85_29 {L : AL} {r : List Value} {a : Int32} : aw g 85 29 L (.int a :: r) σ Q = ((a = 0 → aw g 85 32 L r σ Q) ∧ (¬ a = 0 → aw g 85 44 L r σ Q)) := (aw_eq g 85 29 _ _ _ _).trans (by rw [tq85_29]; exact rfl)
theorem tq85_32 : tT g 85 32 = s_load vI 85 34 4 := rfl
theorem A85_32 {l0 : Option Value} {l1 : Option Value} {l2 : Option Value} {l3 : Option Value} {x : Int32} {r : List Value} : aw g 85 32 [l0, l1, l2, l3, some (.int x)] r σ Q = aw g 85 34 [l0, l1, l2, l3, some (.int x)] (.int x :: r) σ Q := (aw_eq g 85 32 _ _ _ _).trans (by rw [tq85_32]; exact (h_load rfl).trans (propext ⟨fun z => z.2, fun z => ⟨rfl, z⟩⟩))
theorem tq85_34 : tT g 85 34 = s_if 85 37 44 (fun a => a = 0) := rfl
theorem A85_34 {L : AL} {r : List Value} {a : Int32} : aw g 85 34 L (.int a :: r) σ Q = ((a = 0 → aw g 85 44 L r σ Q) ∧ (¬ a = 0 → aw g 85 37 L r σ Q)) := (aw_eq g 85 34 _ _ _ _).trans (by rw [tq85_34]; exact rfl)
theorem tq85_37 : tT g 85 37 = s_load vRf 85 38 3 := rfl
theorem A85_37 {l0 : Option Value} {l1 : Option Value} {l2 : Option Value} {l4 : Option Value} {x : Value} {r : List Value} : aw g 85 37 [l0, l1, l2, some (x), l4] r σ Q = (vRf x = true ∧ aw g 85 38 [l0, l1, l2, some (x), l4] (x :: r) σ Q) := (aw_eq g 85 37 _ _ _ _).trans (by rw [tq85_37]; exact h_load rfl)
theorem tq85_38 : tT g 85 38 = s_getf 85 41 5 5 := rfl
theorem A85_38 {L : AL} {r : List Value} {a : Nat} : aw g 85 38 L (.ref a :: r) σ Q = (hty σ a = some 5 ∧ aw g 85 41 L (hv σ 5 a 5 :: r) σ Q) := (aw_eq g 85 38 _ _ _ _).trans (by rw [tq85_38]; exact rfl)
theorem tq85_41 : tT g 85 41 = s_if 85 48 44 (fun a => a = 0) := rfl
theorem A85_41 {L : AL} {r : List Value} {a : Int32} : aw g 85 41 L (.int a :: r) σ Q = ((a = 0 → aw g 85 44 L r σ Q) ∧ (¬ a = 0 → aw g 85 48 L r σ Q)) := (aw_eq g 85 41 _ _ _ _).trans (by rw [tq85_41]; exact rfl)
theorem tq85_44 : tT g 85 44 = s_const 85 45 (.int 1) := rfl
theorem A85_44 {L : AL} {r : List Value} : aw g 85 44 L r σ Q = aw g 85 45 L (.int 1 :: r) σ Q := (aw_eq g 85 44 _ _ _ _).trans (by rw [tq85_44]; exact rfl)
theorem tq85_45 : tT g 85 45 = s_goto 85 49 := rfl
theorem A85_45 {L : AL} {r : List Value} : aw g 85 45 L r σ Q = aw g 85 49 L r σ Q := (aw_eq g 85 45 _ _ _ _).trans (by rw [tq85_45]; exact rfl)
theorem tq85_48 : tT g 85 48 = s_const 85 49 (.int 0) := rfl
theorem A85_48 {L : AL} {r : List Value} : aw g 85 48 L r σ Q = aw g 85 49 L (.int 0 :: r) σ Q := (aw_eq g 85 48 _ _ _ _).trans (by rw [tq85_48]; exact rfl)
theorem tq85_49 : tT g 85 49 = s_callk 85 52 79 [0] 1 := rfl
theorem A85_49 {L : AL} {r : List Value} {w0 : Value} : aw g 85 49 L (w0 :: r) σ Q = ((vI w0 && true) = true ∧ csum r ≤ 8 ∧ aw g 79 0 [some w0] [] σ (kt (aw g) 85 52 L r Q)) := (aw_eq g 85 49 _ _ _ _).trans (by rw [tq85_49]; exact rfl)
theorem tq85_52 : tT g 85 52 = s_load vI 85 53 2 := rfl
theorem A85_52 {l0 : Option Value} {l1 : Option Value} {l3 : Option Value} {l4 : Option Value} {x : Int32} {r : List Value} : aw g 85 52 [l0, l1, some (.int x), l3, l4] r σ Q = aw g 85 53 [l0, l1, some (.int x), l3, l4] (.int x :: r) σ Q := (aw_eq g 85 52 _ _ _ _).trans (by rw [tq85_52]; exact (h_load rfl).trans (propext ⟨fun z => z.2, fun z => ⟨rfl, z⟩⟩))
theorem tq85_53 : tT g 85 53 = s_if 85 56 65 (fun a => a = 0) := rfl
theorem A85_53 {L : AL} {r : List Value} {a : Int32} : aw g 85 53 L (.int a :: r) σ Q = ((a = 0 → aw g 85 65 L r σ Q) ∧ (¬ a = 0 → aw g 85 56 L r σ Q)) := (aw_eq g 85 53 _ _ _ _).trans (by rw [tq85_53]; exact rfl)
theorem tq85_56 : tT g 85 56 = s_load vI 85 58 4 := rfl
theorem A85_56 {l0 : Option Value} {l1 : Option Value} {l2 : Option Value} {l3 : Option Value} {x : Int32} {r : List Value} : aw g 85 56 [l0, l1, l2, l3, some (.int x)] r σ Q = aw g 85 58 [l0, l1, l2, l3, some (.int x)] (.int x :: r) σ Q := (aw_eq g 85 56 _ _ _ _).trans (by rw [tq85_56]; exact (h_load rfl).trans (propext ⟨fun z => z.2, fun z => ⟨rfl, z⟩⟩))
theorem tq85_58 : tT g 85 58 = s_if 85 65 61 (fun a => a = 0) := rfl
theorem A85_58 {L : AL} {r : List Value} {a : Int32} : aw g 85 58 L (.int a :: r) σ Q = ((a = 0 → aw g 85 61 L r σ Q) ∧ (¬ a = 0 → aw g 85 65 L r σ Q)) := (aw_eq g 85 58 _ _ _ _).trans (by rw [tq85_58]; exact rfl)
theorem tq85_61 : tT g 85 61 = s_load vRf 85 62 3 := rfl
theorem A85_61 {l0 : Option Value} {l1 : Option Value} {l2 : Option Value} {l4 : Option Value} {x : Value} {r : List Value} : aw g 85 61 [l0, l1, l2, some (x), l4] r σ Q = (vRf x = true ∧ aw g 85 62 [l0, l1, l2, some (x), l4] (x :: r) σ Q) := (aw_eq g 85 61 _ _ _ _).trans (by rw [tq85_61]; exact h_load rfl)
theorem tq85_62 : tT g 85 62 = s_callvk 85 65 199 5 [] 1 := rfl
theorem A85_62 {L : AL} {r : List Value} {a : Nat} : aw g 85 62 L (.ref a :: r) σ Q = (hty σ a = some 5 ∧ true = true ∧ csum r ≤ 8 ∧ aw g 199 0 [some (.ref a)] [] σ (kt (aw g) 85 65 L r Q)) := (aw_eq g 85 62 _ _ _ _).trans (by rw [tq85_62]; exact rfl)
theorem tq85_65 : tT g 85 65 = s_load vI 85 66 2 := rfl
theorem A85_65 {l0 : Option Value} {l1 : Option Value} {l3 : Option Value} {l4 : Option Value} {x : Int32} {r : List Value} : aw g 85 65 [l0, l1, some (.int x), l3, l4] r σ Q = aw g 85 66 [l0, l1, some (.int x), l3, l4] (.int x :: r) σ Q := (aw_eq g 85 65 _ _ _ _).trans (by rw [tq85_65]; exact (h_load rfl).trans (propext ⟨fun z => z.2, fun z => ⟨rfl, z⟩⟩))
theorem tq85_66 : tT g 85 66 = s_if 85 85 69 (fun a => a = 0) := rfl
theorem A85_66 {L : AL} {r : List Value} {a : Int32} : aw g 85 66 L (.int a :: r) σ Q = ((a = 0 → aw g 85 69 L r σ Q) ∧ (¬ a = 0 → aw g 85 85 L r σ Q)) := (aw_eq g 85 66 _ _ _ _).trans (by rw [tq85_66]; exact rfl)
theorem tq85_69 : tT g 85 69 = s_load vI 85 71 4 := rfl
theorem A85_69 {l0 : Option Value} {l1 : Option Value} {l2 : Option Value} {l3 : Option Value} {x : Int32} {r : List Value} : aw g 85 69 [l0, l1, l2, l3, some (.int x)] r σ Q = aw g 85 71 [l0, l1, l2, l3, some (.int x)] (.int x :: r) σ Q := (aw_eq g 85 69 _ _ _ _).trans (by rw [tq85_69]; exact (h_load rfl).trans (propext ⟨fun z => z.2, fun z => ⟨rfl, z⟩⟩))
theorem tq85_71 : tT g 85 71 = s_if 85 74 85 (fun a => a = 0) := rfl
theorem A85_71 {L : AL} {r : List Value} {a : Int32} : aw g 85 71 L (.int a :: r) σ Q = ((a = 0 → aw g 85 85 L r σ Q) ∧ (¬ a = 0 → aw g 85 74 L r σ Q)) := (aw_eq g 85 71 _ _ _ _).trans (by rw [tq85_71]; exact rfl)
theorem tq85_74 : tT g 85 74 = s_load vRf 85 75 3 := rfl
theorem A85_74 {l0 : Option Value} {l1 : Option Value} {l2 : Option Value} {l4 : Option Value} {x : Value} {r : List Value} : aw g 85 74 [l0, l1, l2, some (x), l4] r σ Q = (vRf x = true ∧ aw g 85 75 [l0, l1, l2, some (x), l4] (x :: r) σ Q) := (aw_eq g 85 74 _ _ _ _).trans (by rw [tq85_74]; exact h_load rfl)
theorem tq85_75 : tT g 85 75 = s_load vRf 85 76 0 := rfl
theorem A85_75 {l1 : Option Value} {l2 : Option Value} {l3 : Option Value} {l4 : Option Value} {x : Value} {r : List Value} : aw g 85 75 [some (x), l1, l2, l3, l4] r σ Q = (vRf x = true ∧ aw g 85 76 [some (x), l1, l2, l3, l4] (x :: r) σ Q) := (aw_eq g 85 75 _ _ _ _).trans (by rw [tq85_75]; exact h_load rfl)
theorem tq85_76 : tT g 85 76 = s_getf 85 79 0 0 := rfl
theorem A85_76 {L : AL} {r : List Value} {a : Nat} : aw g 85 76 L (.ref a :: r) σ Q = (hty σ a = some 0 ∧ aw g 85 79 L (hv σ 0 a 0 :: r) σ Q) := (aw_eq g 85 76 _ _ _ _).trans (by rw [tq85_76]; exact rfl)
theorem tq85_79 : tT g 85 79 = s_getf 85 82 1 2 := rfl
theorem A85_79 {L : AL} {r : List Value} {a : Nat} : aw g 85 79 L (.ref a :: r) σ Q = (hty σ a = some 1 ∧ aw g 85 82 L (hv σ 1 a 2 :: r) σ Q) := (aw_eq g 85 79 _ _ _ _).trans (by rw [tq85_79]; exact rfl)
theorem tq85_82 : tT g 85 82 = s_callvk 85 85 200 5 [0] 2 := rfl
theorem A85_82 {L : AL} {r : List Value} {a : Nat} {w0 : Value} : aw g 85 82 L (w0 :: .ref a :: r) σ Q = (hty σ a = some 5 ∧ (vI w0 && true) = true ∧ csum r ≤ 8 ∧ aw g 200 0 [some (.ref a), some w0] [] σ (kt (aw g) 85 85 L r Q)) := (aw_eq g 85 82 _ _ _ _).trans (by rw [tq85_82]; exact rfl)
theorem tq85_85 : tT g 85 85 = s_load vI 85 87 4 := rfl
theorem A85_85 {l0 : Option Value} {l1 : Option Value} {l2 : Option Value} {l3 : Option Value} {x : Int32} {r : List Value} : aw g 85 85 [l0, l1, l2, l3, some (.int x)] r σ Q = aw g 85 87 [l0, l1, l2, l3, some (.int x)] (.int x :: r) σ Q := (aw_eq g 85 85 _ _ _ _).trans (by rw [tq85_85]; exact (h_load rfl).trans (propext ⟨fun z => z.2, fun z => ⟨rfl, z⟩⟩))
theorem tq85_87 : tT g 85 87 = s_ret vZ := rfl
theorem A85_87 {L : AL} {v : Value} : aw g 85 87 L [v] σ Q = (vZ v ∧ Q (.inl (some v)) σ) := (aw_eq g 85 87 _ _ _ _).trans (by rw [tq85_87]; exact rfl)
theorem tq86_0 : tT g 86 0 = s_const 86 1 (.int 1) := rfl
theorem A86_0 {L : AL} {r : List Value} : aw g 86 0 L r σ Q = aw g 86 1 L (.int 1 :: r) σ Q := (aw_eq g 86 0 _ _ _ _).trans (by rw [tq86_0]; exact rfl)
theorem tq86_1 : tT g 86 1 = s_const 86 3 (.int 10) := rfl
theorem A86_1 {L : AL} {r : List Value} : aw g 86 1 L r σ Q = aw g 86 3 L (.int 10 :: r) σ Q := (aw_eq g 86 1 _ _ _ _).trans (by rw [tq86_1]; exact rfl)
theorem tq86_3 : tT g 86 3 = s_load vI 86 4 1 := rfl
theorem A86_3 {l0 : Option Value} {x : Int32} {r : List Value} : aw g 86 3 [l0, some (.int x)] r σ Q = aw g 86 4 [l0, some (.int x)] (.int x :: r) σ Q := (aw_eq g 86 3 _ _ _ _).trans (by rw [tq86_3]; exact (h_load rfl).trans (propext ⟨fun z => z.2, fun z => ⟨rfl, z⟩⟩))
theorem tq86_4 : tT g 86 4 = s_callk 86 7 77 [0, 0, 0] 3 := rfl
theorem A86_4 {L : AL} {r : List Value} {w0 w1 w2 : Value} : aw g 86 4 L (w2 :: w1 :: w0 :: r) σ Q = ((vI w0 && (vI w1 && (vI w2 && true))) = true ∧ csum r ≤ 8 ∧ aw g 77 0 [some w0, some w1, some w2] [] σ (kt (aw g) 86 7 L r Q)) := (aw_eq g 86 4 _ _ _ _).trans (by rw [tq86_4]; exact rfl)
theorem tq86_7 : tT g 86 7 = s_load vRf 86 8 0 := rfl
theorem A86_7 {l1 : Option Value} {x : Value} {r : List Value} : aw g 86 7 [some (x), l1] r σ Q = (vRf x = true ∧ aw g 86 8 [some (x), l1] (x :: r) σ Q) := (aw_eq g 86 7 _ _ _ _).trans (by rw [tq86_7]; exact h_load rfl)
theorem tq86_8 : tT g 86 8 = s_getf 86 11 0 0 := rfl
theorem A86_8 {L : AL} {r : List Value} {a : Nat} : aw g 86 8 L (.ref a :: r) σ Q = (hty σ a = some 0 ∧ aw g 86 11 L (hv σ 0 a 0 :: r) σ Q) := (aw_eq g 86 8 _ _ _ _).trans (by rw [tq86_8]; exact rfl)
theorem tq86_11 : tT g 86 11 = s_load vI 86 12 1 := rfl
theorem A86_11 {l0 : Option Value} {x : Int32} {r : List Value} : aw g 86 11 [l0, some (.int x)] r σ Q = aw g 86 12 [l0, some (.int x)] (.int x :: r) σ Q := (aw_eq g 86 11 _ _ _ _).trans (by rw [tq86_11]; exact (h_load rfl).trans (propext ⟨fun z => z.2, fun z => ⟨rfl, z⟩⟩))
theorem tq86_12 : tT g 86 12 = s_callvk 86 15 109 1 [0] 4 := rfl
theorem A86_12 {L : AL} {r : List Value} {a : Nat} {w0 : Value} : aw g 86 12 L (w0 :: .ref a :: r) σ Q = (hty σ a = some 1 ∧ (vI w0 && true) = true ∧ csum r ≤ 8 ∧ aw g 109 0 [some (.ref a), some w0, none, none] [] σ (kt (aw g) 86 15 L r Q)) := (aw_eq g 86 12 _ _ _ _).trans (by rw [tq86_12]; exact rfl)
theorem tq86_15 : tT g 86 15 = s_ret pI := rfl
theorem A86_15 {L : AL} {v : Value} : aw g 86 15 L [v] σ Q = (pI v ∧ Q (.inl (some v)) σ) := (aw_eq g 86 15 _ _ _ _).trans (by rw [tq86_15]; exact rfl)
theorem tq87_0 : tT g 87 0 = s_load vRf 87 1 0 := rfl
theorem A87_0 {l1 : Option Value} {l2 : Option Value} {l3 : Option Value} {x : Value} {r : List Value} : aw g 87 0 [some (x), l1, l2, l3] r σ Q = (vRf x = true ∧ aw g 87 1 [some (x), l1, l2, l3] (x :: r) σ Q) := (aw_eq g 87 0 _ _ _ _).trans (by rw [tq87_0]; exact h_load rfl)
theorem tq87_1 : tT g 87 1 = s_load vI 87 2 1 := rfl
theorem A87_1 {l0 : Option Value} {l2 : Option Value} {l3 : Option Value} {x : Int32} {r : List Value} : aw g 87 1 [l0, some (.int x), l2, l3] r σ Q = aw g 87 2 [l0, some (.int x), l2, l3] (.int x :: r) σ Q := (aw_eq g 87 1 _ _ _ _).trans (by rw [tq87_1]; exact (h_load rfl).trans (propext ⟨fun z => z.2, fun z => ⟨rfl, z⟩⟩))
theorem tq87_2 : tT g 87 2 = s_callvk 87 5 81 0 [0] 2 := rfl
theorem A87_2 {L : AL} {r : List Value} {a : Nat} {w0 : Value} : aw g 87 2 L (w0 :: .ref a :: r) σ Q = (hty σ a = some 0 ∧ (vI w0 && true) = true ∧ csum r ≤ 8 ∧ aw g 81 0 [some (.ref a), some w0] [] σ (kt (aw g) 87 5 L r Q)) := (aw_eq g 87 2 _ _ _ _).trans (by rw [tq87_2]; exact rfl)
theorem tq87_5 : tT g 87 5 = s_store vRf 87 6 3 := rfl
theorem A87_5 {l0 : Option Value} {l1 : Option Value} {l2 : Option Value} {l3 : Option Value} {x : Value} {r : List Value} : aw g 87 5 [l0, l1, l2, l3] (x :: r) σ Q = (vRf x = true ∧ oc l2 = true ∧ aw g 87 6 [l0, l1, l2, some (x)] r σ Q) := (aw_eq g 87 5 _ _ _ _).trans (by rw [tq87_5]; exact (h_store (o := oc l2) rfl rfl rfl))
theorem tq87_6 : tT g 87 6 = s_const 87 7 (.int 1) := rfl
theorem A87_6 {L : AL} {r : List Value} : aw g 87 6 L r σ Q = aw g 87 7 L (.int 1 :: r) σ Q := (aw_eq g 87 6 _ _ _ _).trans (by rw [tq87_6]; exact rfl)
theorem tq87_7 : tT g 87 7 = s_const 87 9 (.int 6) := rfl
theorem A87_7 {L : AL} {r : List Value} : aw g 87 7 L r σ Q = aw g 87 9 L (.int 6 :: r) σ Q := (aw_eq g 87 7 _ _ _ _).trans (by rw [tq87_7]; exact rfl)
theorem tq87_9 : tT g 87 9 = s_load vI 87 10 2 := rfl
theorem A87_9 {l0 : Option Value} {l1 : Option Value} {l3 : Option Value} {x : Int32} {r : List Value} : aw g 87 9 [l0, l1, some (.int x), l3] r σ Q = aw g 87 10 [l0, l1, some (.int x), l3] (.int x :: r) σ Q := (aw_eq g 87 9 _ _ _ _).trans (by rw [tq87_9]; exact (h_load rfl).trans (propext ⟨fun z => z.2, fun z => ⟨rfl, z⟩⟩))
theorem tq87_10 : tT g 87 10 = s_callk 87 13 77 [0, 0, 0] 3 := rfl
theorem A87_10 {L : AL} {r : List Value} {w0 w1 w2 : Value} : aw g 87 10 L (w2 :: w1 :: w0 :: r) σ Q = ((vI w0 && (vI w1 && (vI w2 && true))) = true ∧ csum r ≤ 8 ∧ aw g 77 0 [some w0, some w1, some w2] [] σ (kt (aw g) 87 13 L r Q)) := (aw_eq g 87 10 _ _ _ _).trans (by rw [tq87_10]; exact rfl)
theorem tq87_13 : tT g 87 13 = s_load vRf 87 14 3 := rfl
theorem A87_13 {l0 : Option Value} {l1 : Option Value} {l2 : Option Value} {x : Value} {r : List Value} : aw g 87 13 [l0, l1, l2, some (x)] r σ Q = (vRf x = true ∧ aw g 87 14 [l0, l1, l2, some (x)] (x :: r) σ Q) := (aw_eq g 87 13 _ _ _ _).trans (by rw [tq87_13]; exact h_load rfl)
theorem tq87_14 : tT g 87 14 = s_callvk 87 17 197 5 [] 1 := rfl
theorem A87_14 {L : AL} {r : List Value} {a : Nat} : aw g 87 14 L (.ref a :: r) σ Q = (hty σ a = some 5 ∧ true = true ∧ csum r ≤ 8 ∧ aw g 197 0 [some (.ref a)] [] σ (kt (aw g) 87 17 L r Q)) := (aw_eq g 87 14 _ _ _ _).trans (by rw [tq87_14]; exact rfl)
theorem tq87_17 : tT g 87 17 = s_if 87 24 20 (fun a => a = 0) := rfl
theorem A87_17 {L : AL} {r : List Value} {a : Int32} : aw g 87 17 L (.int a :: r) σ Q = ((a = 0 → aw g 87 20 L r σ Q) ∧ (¬ a = 0 → aw g 87 24 L r σ Q)) := (aw_eq g 87 17 _ _ _ _).trans (by rw [tq87_17]; exact rfl)
theorem tq87_20 : tT g 87 20 = s_const 87 21 (.int 1) := rfl
theorem A87_20 {L : AL} {r : List Value} : aw g 87 20 L r σ Q = aw g 87 21 L (.int 1 :: r) σ Q := (aw_eq g 87 20 _ _ _ _).trans (by rw [tq87_20]; exact rfl)
theorem tq87_21 : tT g 87 21 = s_goto 87 25 := rfl
theorem A87_21 {L : AL} {r : List Value} : aw g 87 21 L r σ Q = aw g 87 25 L r σ Q := (aw_eq g 87 21 _ _ _ _).trans (by rw [tq87_21]; exact rfl)
theorem tq87_24 : tT g 87 24 = s_const 87 25 (.int 0) := rfl
theorem A87_24 {L : AL} {r : List Value} : aw g 87 24 L r σ Q = aw g 87 25 L (.int 0 :: r) σ Q := (aw_eq g 87 24 _ _ _ _).trans (by rw [tq87_24]; exact rfl)
theorem tq87_25 : tT g 87 25 = s_callk 87 28 79 [0] 1 := rfl
theorem A87_25 {L : AL} {r : List Value} {w0 : Value} : aw g 87 25 L (w0 :: r) σ Q = ((vI w0 && true) = true ∧ csum r ≤ 8 ∧ aw g 79 0 [some w0] [] σ (kt (aw g) 87 28 L r Q)) := (aw_eq g 87 25 _ _ _ _).trans (by rw [tq87_25]; exact rfl)
theorem tq87_28 : tT g 87 28 = s_load vRf 87 29 0 := rfl
theorem A87_28 {l1 : Option Value} {l2 : Option Value} {l3 : Option Value} {x : Value} {r : List Value} : aw g 87 28 [some (x), l1, l2, l3] r σ Q = (vRf x = true ∧ aw g 87 29 [some (x), l1, l2, l3] (x :: r) σ Q) := (aw_eq g 87 28 _ _ _ _).trans (by rw [tq87_28]; exact h_load rfl)
theorem tq87_29 : tT g 87 29 = s_getf 87 32 0 0 := rfl
theorem A87_29 {L : AL} {r : List Value} {a : Nat} : aw g 87 29 L (.ref a :: r) σ Q = (hty σ a = some 0 ∧ aw g 87 32 L (hv σ 0 a 0 :: r) σ Q) := (aw_eq g 87 29 _ _ _ _).trans (by rw [tq87_29]; exact rfl)
theorem tq87_32 : tT g 87 32 = s_load vRf 87 33 3 := rfl
theorem A87_32 {l0 : Option Value} {l1 : Option Value} {l2 : Option Value} {x : Value} {r : List Value} : aw g 87 32 [l0, l1, l2, some (x)] r σ Q = (vRf x = true ∧ aw g 87 33 [l0, l1, l2, some (x)] (x :: r) σ Q) := (aw_eq g 87 32 _ _ _ _).trans (by rw [tq87_32]; exact h_load rfl)
theorem tq87_33 : tT g 87 33 = s_load vI 87 34 2 := rfl
theorem A87_33 {l0 : Option Value} {l1 : Option Value} {l3 : Option Value} {x : Int32} {r : List Value} : aw g 87 33 [l0, l1, some (.int x), l3] r σ Q = aw g 87 34 [l0, l1, some (.int x), l3] (.int x :: r) σ Q := (aw_eq g 87 33 _ _ _ _).trans (by rw [tq87_33]; exact (h_load rfl).trans (propext ⟨fun z => z.2, fun z => ⟨rfl, z⟩⟩))
theorem tq87_34 : tT g 87 34 = s_callvk 87 37 132 1 [1, 0] 8 := rfl
theorem A87_34 {L : AL} {r : List Value} {a : Nat} {w0 w1 : Value} : aw g 87 34 L (w1 :: w0 :: .ref a :: r) σ Q = (hty σ a = some 1 ∧ (vRf w0 && (vI w1 && true)) = true ∧ csum r ≤ 8 ∧ aw g 132 0 [some (.ref a), some w0, some w1, none, none, none, none, none] [] σ (kt (aw g) 87 37 L r Q)) := (aw_eq g 87 34 _ _ _ _).trans (by rw [tq87_34]; exact rfl)
theorem tq87_37 : tT g 87 37 = s_ret pI := rfl
theorem A87_37 {L : AL} {v : Value} : aw g 87 37 L [v] σ Q = (pI v ∧ Q (.inl (some v)) σ) := (aw_eq g 87 37 _ _ _ _).trans (by rw [tq87_37]; exact rfl)
theorem tq88_0 : tT g 88 0 = s_load vRf 88 1 0 := rfl
theorem A88_0 {l1 : Option Value} {l2 : Option Value} {l3 : Option Value} {x : Value} {r : List Value} : aw g 88 0 [some (x), l1, l2, l3] r σ Q = (vRf x = true ∧ aw g 88 1 [some (x), l1, l2, l3] (x :: r) σ Q) := (aw_eq g 88 0 _ _ _ _).trans (by rw [tq88_0]; exact h_load rfl)
theorem tq88_1 : tT g 88 1 = s_load vI 88 2 1 := rfl
theorem A88_1 {l0 : Option Value} {l2 : Option Value} {l3 : Option Value} {x : Int32} {r : List Value} : aw g 88 1 [l0, some (.int x), l2, l3] r σ Q = aw g 88 2 [l0, some (.int x), l2, l3] (.int x :: r) σ Q := (aw_eq g 88 1 _ _ _ _).trans (by rw [tq88_1]; exact (h_load rfl).trans (propext ⟨fun z => z.2, fun z => ⟨rfl, z⟩⟩))
theorem tq88_2 : tT g 88 2 = s_callvk 88 5 81 0 [0] 2 := rfl
theorem A88_2 {L : AL} {r : List Value} {a : Nat} {w0 : Value} : aw g 88 2 L (w0 :: .ref a :: r) σ Q = (hty σ a = some 0 ∧ (vI w0 && true) = true ∧ csum r ≤ 8 ∧ aw g 81 0 [some (.ref a), some w0] [] σ (kt (aw g) 88 5 L r Q)) := (aw_eq g 88 2 _ _ _ _).trans (by rw [tq88_2]; exact rfl)
theorem tq88_5 : tT g 88 5 = s_store vRf 88 6 3 := rfl
theorem A88_5 {l0 : Option Value} {l1 : Option Value} {l2 : Option Value} {l3 : Option Value} {x : Value} {r : List Value} : aw g 88 5 [l0, l1, l2, l3] (x :: r) σ Q = (vRf x = true ∧ oc l2 = true ∧ aw g 88 6 [l0, l1, l2, some (x)] r σ Q) := (aw_eq g 88 5 _ _ _ _).trans (by rw [tq88_5]; exact (h_store (o := oc l2) rfl rfl rfl))
theorem tq88_6 : tT g 88 6 = s_load vI 88 7 2 := rfl
theorem A88_6 {l0 : Option Value} {l1 : Option Value} {l3 : Option Value} {x : Int32} {r : List Value} : aw g 88 6 [l0, l1, some (.int x), l3] r σ Q = aw g 88 7 [l0, l1, some (.int x), l3] (.int x :: r) σ Q := (aw_eq g 88 6 _ _ _ _).trans (by rw [tq88_6]; exact (h_load rfl).trans (propext ⟨fun z => z.2, fun z => ⟨rfl, z⟩⟩))
theorem tq88_7 : tT g 88 7 = s_callk 88 10 89 [0] 1 := rfl
theorem A88_7 {L : AL} {r : List Value} {w0 : Value} : aw g 88 7 L (w0 :: r) σ Q = ((vI w0 && true) = true ∧ csum r ≤ 8 ∧ aw g 89 0 [some w0] [] σ (kt (aw g) 88 10 L r Q)) := (aw_eq g 88 7 _ _ _ _).trans (by rw [tq88_7]; exact rfl)
theorem tq88_10 : tT g 88 10 = s_load vRf 88 11 3 := rfl
theorem A88_10 {l0 : Option Value} {l1 : Option Value} {l2 : Option Value} {x : Value} {r : List Value} : aw g 88 10 [l0, l1, l2, some (x)] r σ Q = (vRf x = true ∧ aw g 88 11 [l0, l1, l2, some (x)] (x :: r) σ Q) := (aw_eq g 88 10 _ _ _ _).trans (by rw [tq88_10]; exact h_load rfl)
theorem tq88_11 : tT g 88 11 = s_callk 88 14 72 [1] 1 := rfl
theorem A88_11 {L : AL} {r : List Value} {w0 : Value} : aw g 88 11 L (w0 :: r) σ Q = ((vRf w0 && true) = true ∧ csum r ≤ 8 ∧ aw g 72 0 [some w0] [] σ (kt (aw g) 88 14 L r Q)) := (aw_eq g 88 11 _ _ _ _).trans (by rw [tq88_11]; exact rfl)
theorem tq88_14 : tT g 88 14 = s_callk 88 17 79 [0] 1 := rfl
theorem A88_14 {L : AL} {r : List Value} {w0 : Value} : aw g 88 14 L (w0 :: r) σ Q = ((vI w0 && true) = true ∧ csum r ≤ 8 ∧ aw g 79 0 [some w0] [] σ (kt (aw g) 88 17 L r Q)) := (aw_eq g 88 14 _ _ _ _).trans (by rw [tq88_14]; exact rfl)
theorem tq88_17 : tT g 88 17 = s_load vRf 88 18 0 := rfl
theorem A88_17 {l1 : Option Value} {l2 : Option Value} {l3 : Option Value} {x : Value} {r : List Value} : aw g 88 17 [some (x), l1, l2, l3] r σ Q = (vRf x = true ∧ aw g 88 18 [some (x), l1, l2, l3] (x :: r) σ Q) := (aw_eq g 88 17 _ _ _ _).trans (by rw [tq88_17]; exact h_load rfl)
theorem tq88_18 : tT g 88 18 = s_getf 88 21 0 0 := rfl
theorem A88_18 {L : AL} {r : List Value} {a : Nat} : aw g 88 18 L (.ref a :: r) σ Q = (hty σ a = some 0 ∧ aw g 88 21 L (hv σ 0 a 0 :: r) σ Q) := (aw_eq g 88 18 _ _ _ _).trans (by rw [tq88_18]; exact rfl)
theorem tq88_21 : tT g 88 21 = s_load vRf 88 22 3 := rfl
theorem A88_21 {l0 : Option Value} {l1 : Option Value} {l2 : Option Value} {x : Value} {r : List Value} : aw g 88 21 [l0, l1, l2, some (x)] r σ Q = (vRf x = true ∧ aw g 88 22 [l0, l1, l2, some (x)] (x :: r) σ Q) := (aw_eq g 88 21 _ _ _ _).trans (by rw [tq88_21]; exact h_load rfl)
theorem tq88_22 : tT g 88 22 = s_load vI 88 23 2 := rfl
theorem A88_22 {l0 : Option Value} {l1 : Option Value} {l3 : Option Value} {x : Int32} {r : List Value} : aw g 88 22 [l0, l1, some (.int x), l3] r σ Q = aw g 88 23 [l0, l1, some (.int x), l3] (.int x :: r) σ Q := (aw_eq g 88 22 _ _ _ _).trans (by rw [tq88_22]; exact (h_load rfl).trans (propext ⟨fun z => z.2, fun z => ⟨rfl, z⟩⟩))
theorem tq88_23 : tT g 88 23 = s_callvk 88 26 131 1 [1, 0] 4 := rfl
theorem A88_23 {L : AL} {r : List Value} {a : Nat} {w0 w1 : Value} : aw g 88 23 L (w1 :: w0 :: .ref a :: r) σ Q = (hty σ a = some 1 ∧ (vRf w0 && (vI w1 && true)) = true ∧ csum r ≤ 8 ∧ aw g 131 0 [some (.ref a), some w0, some w1, none] [] σ (kt (aw g) 88 26 L r Q)) := (aw_eq g 88 23 _ _ _ _).trans (by rw [tq88_23]; exact rfl)
theorem tq88_26 : tT g 88 26 = s_ret pI := rfl
theorem A88_26 {L : AL} {v : Value} : aw g 88 26 L [v] σ Q = (pI v ∧ Q (.inl (some v)) σ) := (aw_eq g 88 26 _ _ _ _).trans (by rw [tq88_26]; exact rfl)
theorem tq89_0 : tT g 89 0 = s_const 89 1 (.int 1) := rfl
theorem A89_0 {L : AL} {r : List Value} : aw g 89 0 L r σ Q = aw g 89 1 L (.int 1 :: r) σ Q := (aw_eq g 89 0 _ _ _ _).trans (by rw [tq89_0]; exact rfl)
theorem tq89_1 : tT g 89 1 = s_const 89 2 (.int 3) := rfl
theorem A89_1 {L : AL} {r : List Value} : aw g 89 1 L r σ Q = aw g 89 2 L (.int 3 :: r) σ Q := (aw_eq g 89 1 _ _ _ _).trans (by rw [tq89_1]; exact rfl)
theorem tq89_2 : tT g 89 2 = s_load vI 89 3 0 := rfl
theorem A89_2  {x : Int32} {r : List Value} : aw g 89 2 [some (.int x)] r σ Q = aw g 89 3 [some (.int x)] (.int x :: r) σ Q := (aw_eq g 89 2 _ _ _ _).trans (by rw [tq89_2]; exact (h_load rfl).trans (propext ⟨fun z => z.2, fun z => ⟨rfl, z⟩⟩))
theorem tq89_3 : tT g 89 3 = s_callk 89 6 77 [0, 0, 0] 3 := rfl
theorem A89_3 {L : AL} {r : List Value} {w0 w1 w2 : Value} : aw g 89 3 L (w2 :: w1 :: w0 :: r) σ Q = ((vI w0 && (vI w1 && (vI w2 && true))) = true ∧ csum r ≤ 8 ∧ aw g 77 0 [some w0, some w1, some w2] [] σ (kt (aw g) 89 6 L r Q)) := (aw_eq g 89 3 _ _ _ _).trans (by rw [tq89_3]; exact rfl)
theorem tq89_6 : tT g 89 6 = s_vret := rfl
theorem A89_6 {L : AL} : aw g 89 6 L [] σ Q = Q (.inl none) σ := (aw_eq g 89 6 _ _ _ _).trans (by rw [tq89_6]; exact rfl)
theorem tq90_0 : tT g 90 0 = s_load vRf 90 1 0 := rfl
theorem A90_0 {l1 : Option Value} {l2 : Option Value} {l3 : Option Value} {x : Value} {r : List Value} : aw g 90 0 [some (x), l1, l2, l3] r σ Q = (vRf x = true ∧ aw g 90 1 [some (x), l1, l2, l3] (x :: r) σ Q) := (aw_eq g 90 0 _ _ _ _).trans (by rw [tq90_0]; exact h_load rfl)
theorem tq90_1 : tT g 90 1 = s_load vI 90 2 1 := rfl
theorem A90_1 {l0 : Option Value} {l2 : Option Value} {l3 : Option Value} {x : Int32} {r : List Value} : aw g 90 1 [l0, some (.int x), l2, l3] r σ Q = aw g 90 2 [l0, some (.int x), l2, l3] (.int x :: r) σ Q := (aw_eq g 90 1 _ _ _ _).trans (by rw [tq90_1]; exact (h_load rfl).trans (propext ⟨fun z => z.2, fun z => ⟨rfl, z⟩⟩))
theorem tq90_2 : tT g 90 2 = s_callvk 90 5 81 0 [0] 2 := rfl
theorem A90_2 {L : AL} {r : List Value} {a : Nat} {w0 : Value} : aw g 90 2 L (w0 :: .ref a :: r) σ Q = (hty σ a = some 0 ∧ (vI w0 && true) = true ∧ csum r ≤ 8 ∧ aw g 81 0 [some (.ref a), some w0] [] σ (kt (aw g) 90 5 L r Q)) := (aw_eq g 90 2 _ _ _ _).trans (by rw [tq90_2]; exact rfl)
theorem tq90_5 : tT g 90 5 = s_store vRf 90 6 2 := rfl
theorem A90_5 {l0 : Option Value} {l1 : Option Value} {l2 : Option Value} {l3 : Option Value} {x : Value} {r : List Value} : aw g 90 5 [l0, l1, l2, l3] (x :: r) σ Q = (vRf x = true ∧ oc l1 = true ∧ aw g 90 6 [l0, l1, some (x), l3] r σ Q) := (aw_eq g 90 5 _ _ _ _).trans (by rw [tq90_5]; exact (h_store (o := oc l1) rfl rfl rfl))
theorem tq90_6 : tT g 90 6 = s_load vRf 90 7 2 := rfl
theorem A90_6 {l0 : Option Value} {l1 : Option Value} {l3 : Option Value} {x : Value} {r : List Value} : aw g 90 6 [l0, l1, some (x), l3] r σ Q = (vRf x = true ∧ aw g 90 7 [l0, l1, some (x), l3] (x :: r) σ Q) := (aw_eq g 90 6 _ _ _ _).trans (by rw [tq90_6]; exact h_load rfl)
theorem tq90_7 : tT g 90 7 = s_callvk 90 10 197 5 [] 1 := rfl
theorem A90_7 {L : AL} {r : List Value} {a : Nat} : aw g 90 7 L (.ref a :: r) σ Q = (hty σ a = some 5 ∧ true = true ∧ csum r ≤ 8 ∧ aw g 197 0 [some (.ref a)] [] σ (kt (aw g) 90 10 L r Q)) := (aw_eq g 90 7 _ _ _ _).trans (by rw [tq90_7]; exact rfl)
theorem tq90_10 : tT g 90 10 = s_if 90 17 13 (fun a => a = 0) := rfl
theorem A90_10 {L : AL} {r : List Value} {a : Int32} : aw g 90 10 L (.int a :: r) σ Q = ((a = 0 → aw g 90 13 L r σ Q) ∧ (¬ a = 0 → aw g 90 17 L r σ Q)) := (aw_eq g 90 10 _ _ _ _).trans (by rw [tq90_10]; exact rfl)
theorem tq90_13 : tT g 90 13 = s_const 90 14 (.int 1) := rfl
theorem A90_13 {L : AL} {r : List Value} : aw g 90 13 L r σ Q = aw g 90 14 L (.int 1 :: r) σ Q := (aw_eq g 90 13 _ _ _ _).trans (by rw [tq90_13]; exact rfl)
theorem tq90_14 : tT g 90 14 = s_goto 90 18 := rfl
theorem A90_14 {L : AL} {r : List Value} : aw g 90 14 L r σ Q = aw g 90 18 L r σ Q := (aw_eq g 90 14 _ _ _ _).trans (by rw [tq90_14]; exact rfl)
theorem tq90_17 : tT g 90 17 = s_const 90 18 (.int 0) := rfl
theorem A90_17 {L : AL} {r : List Value} : aw g 90 17 L r σ Q = aw g 90 18 L (.int 0 :: r) σ Q := (aw_eq g 90 17 _ _ _ _).trans (by rw [tq90_17]; exact rfl)
theorem tq90_18 : tT g 90 18 = s_callk 90 21 79 [0] 1 := rfl
theorem A90_18 {L : AL} {r : List Value} {w0 : Value} : aw g 90 18 L (w0 :: r) σ Q = ((vI w0 && true) = true ∧ csum r ≤ 8 ∧ aw g 79 0 [some w0] [] σ (kt (aw g) 90 21 L r Q)) := (aw_eq g 90 18 _ _ _ _).trans (by rw [tq90_18]; exact rfl)
theorem tq90_21 : tT g 90 21 = s_load vRf 90 22 2 := rfl
theorem A90_21 {l0 : Option Value} {l1 : Option Value} {l3 : Option Value} {x : Value} {r : List Value} : aw g 90 21 [l0, l1, some (x), l3] r σ Q = (vRf x = true ∧ aw g 90 22 [l0, l1, some (x), l3] (x :: r) σ Q) := (aw_eq g 90 21 _ _ _ _).trans (by rw [tq90_21]; exact h_load rfl)
theorem tq90_22 : tT g 90 22 = s_getf 90 25 5 21 := rfl
theorem A90_22 {L : AL} {r : List Value} {a : Nat} : aw g 90 22 L (.ref a :: r) σ Q = (hty σ a = some 5 ∧ aw g 90 25 L (hv σ 5 a 21 :: r) σ Q) := (aw_eq g 90 22 _ _ _ _).trans (by rw [tq90_22]; exact rfl)
theorem tq90_25 : tT g 90 25 = s_ifnn 90 28 32 := rfl
theorem A90_25 {L : AL} {r : List Value} {a : Value} : aw g 90 25 L (a :: r) σ Q = (vRf a = true ∧ (a = .null → aw g 90 28 L r σ Q) ∧ (a ≠ .null → aw g 90 32 L r σ Q)) := (aw_eq g 90 25 _ _ _ _).trans (by rw [tq90_25]; exact rfl)
theorem tq90_28 : tT g 90 28 = s_const 90 29 (.int 0) := rfl
theorem A90_28 {L : AL} {r : List Value} : aw g 90 28 L r σ Q = aw g 90 29 L (.int 0 :: r) σ Q := (aw_eq g 90 28 _ _ _ _).trans (by rw [tq90_28]; exact rfl)
theorem tq90_29 : tT g 90 29 = s_goto 90 42 := rfl
theorem A90_29 {L : AL} {r : List Value} : aw g 90 29 L r σ Q = aw g 90 42 L r σ Q := (aw_eq g 90 29 _ _ _ _).trans (by rw [tq90_29]; exact rfl)
theorem tq90_32 : tT g 90 32 = s_load vRf 90 33 2 := rfl
theorem A90_32 {l0 : Option Value} {l1 : Option Value} {l3 : Option Value} {x : Value} {r : List Value} : aw g 90 32 [l0, l1, some (x), l3] r σ Q = (vRf x = true ∧ aw g 90 33 [l0, l1, some (x), l3] (x :: r) σ Q) := (aw_eq g 90 32 _ _ _ _).trans (by rw [tq90_32]; exact h_load rfl)
theorem tq90_33 : tT g 90 33 = s_getf 90 36 5 21 := rfl
theorem A90_33 {L : AL} {r : List Value} {a : Nat} : aw g 90 33 L (.ref a :: r) σ Q = (hty σ a = some 5 ∧ aw g 90 36 L (hv σ 5 a 21 :: r) σ Q) := (aw_eq g 90 33 _ _ _ _).trans (by rw [tq90_33]; exact rfl)
theorem tq90_36 : tT g 90 36 = s_getf 90 39 9 1 := rfl
theorem A90_36 {L : AL} {r : List Value} {a : Nat} : aw g 90 36 L (.ref a :: r) σ Q = (hty σ a = some 9 ∧ aw g 90 39 L (hv σ 9 a 1 :: r) σ Q) := (aw_eq g 90 36 _ _ _ _).trans (by rw [tq90_36]; exact rfl)
theorem tq90_39 : tT g 90 39 = s_callvk 90 42 15 10 [] 1 := rfl
theorem A90_39 {L : AL} {r : List Value} {a : Nat} : aw g 90 39 L (.ref a :: r) σ Q = (hty σ a = some 10 ∧ true = true ∧ csum r ≤ 8 ∧ aw g 15 0 [some (.ref a)] [] σ (kt (aw g) 90 42 L r Q)) := (aw_eq g 90 39 _ _ _ _).trans (by rw [tq90_39]; exact rfl)
theorem tq90_42 : tT g 90 42 = s_store vI 90 43 3 := rfl
theorem A90_42 {l0 : Option Value} {l1 : Option Value} {l2 : Option Value} {l3 : Option Value} {x : Int32} {r : List Value} : aw g 90 42 [l0, l1, l2, l3] (.int x :: r) σ Q = (oc l2 = true ∧ aw g 90 43 [l0, l1, l2, some (.int x)] r σ Q) := (aw_eq g 90 42 _ _ _ _).trans (by rw [tq90_42]; exact (h_store (o := oc l2) rfl rfl rfl).trans (propext ⟨fun z => z.2, fun z => ⟨rfl, z⟩⟩))
theorem tq90_43 : tT g 90 43 = s_load vRf 90 44 2 := rfl
theorem A90_43 {l0 : Option Value} {l1 : Option Value} {l3 : Option Value} {x : Value} {r : List Value} : aw g 90 43 [l0, l1, some (x), l3] r σ Q = (vRf x = true ∧ aw g 90 44 [l0, l1, some (x), l3] (x :: r) σ Q) := (aw_eq g 90 43 _ _ _ _).trans (by rw [tq90_43]; exact h_load rfl)
theorem tq90_44 : tT g 90 44 = s_new g 90 47 9 5 (fun k => defaultValue (tyX10 k)) := rfl
theorem A90_44 {L : AL} {r : List Value} : aw g 90 44 L r σ Q = (hsz σ + 1 ≤ gC g ∧ hsl σ + 5 ≤ gS g ∧ aw g 90 47 L (.ref (hsz σ) :: r) (hnew σ 9 0 (fun k => defaultValue (tyX10 k)) 5) Q) := (aw_eq g 90 44 _ _ _ _).trans (by rw [tq90_44]; exact rfl)
theorem tq90_47 : tT g 90 47 = s_dup 90 48 := rfl
theorem A90_47 {L : AL} {r : List Value} {v : Value} : aw g 90 47 L (v :: r) σ Q = (v.category = 1 ∧ aw g 90 48 L (v :: v :: r) σ Q) := (aw_eq g 90 47 _ _ _ _).trans (by rw [tq90_47]; exact rfl)
theorem tq90_48 : tT g 90 48 = s_load vRf 90 49 2 := rfl
theorem A90_48 {l0 : Option Value} {l1 : Option Value} {l3 : Option Value} {x : Value} {r : List Value} : aw g 90 48 [l0, l1, some (x), l3] r σ Q = (vRf x = true ∧ aw g 90 49 [l0, l1, some (x), l3] (x :: r) σ Q) := (aw_eq g 90 48 _ _ _ _).trans (by rw [tq90_48]; exact h_load rfl)
theorem tq90_49 : tT g 90 49 = s_getf 90 52 5 2 := rfl
theorem A90_49 {L : AL} {r : List Value} {a : Nat} : aw g 90 49 L (.ref a :: r) σ Q = (hty σ a = some 5 ∧ aw g 90 52 L (hv σ 5 a 2 :: r) σ Q) := (aw_eq g 90 49 _ _ _ _).trans (by rw [tq90_49]; exact rfl)
theorem tq90_52 : tT g 90 52 = s_callvk 90 55 201 6 [] 2 := rfl
theorem A90_52 {L : AL} {r : List Value} {a : Nat} : aw g 90 52 L (.ref a :: r) σ Q = (hty σ a = some 6 ∧ true = true ∧ csum r ≤ 8 ∧ aw g 201 0 [some (.ref a), none] [] σ (kt (aw g) 90 55 L r Q)) := (aw_eq g 90 52 _ _ _ _).trans (by rw [tq90_52]; exact rfl)
theorem tq90_55 : tT g 90 55 = s_callik 90 58 106 [1] 2 := rfl
theorem A90_55 {L : AL} {r : List Value} {a : Nat} {w0 : Value} : aw g 90 55 L (w0 :: .ref a :: r) σ Q = ((vRf w0 && true) = true ∧ csum r ≤ 8 ∧ aw g 106 0 [some (.ref a), some w0] [] σ (kt (aw g) 90 58 L r Q)) := (aw_eq g 90 55 _ _ _ _).trans (by rw [tq90_55]; exact rfl)
theorem tq90_58 : tT g 90 58 = s_putf g pR 90 61 5 21 := rfl
theorem A90_58 {L : AL} {r : List Value} {a : Nat} {v : Value} : aw g 90 58 L (v :: .ref a :: r) σ Q = (hty σ a = some 5 ∧ gB g ≤ a ∧ pR v ∧ aw g 90 61 L r (hput σ 5 a 21 v) Q) := (aw_eq g 90 58 _ _ _ _).trans (by rw [tq90_58]; exact rfl)
theorem tq90_61 : tT g 90 61 = s_load vI 90 62 3 := rfl
theorem A90_61 {l0 : Option Value} {l1 : Option Value} {l2 : Option Value} {x : Int32} {r : List Value} : aw g 90 61 [l0, l1, l2, some (.int x)] r σ Q = aw g 90 62 [l0, l1, l2, some (.int x)] (.int x :: r) σ Q := (aw_eq g 90 61 _ _ _ _).trans (by rw [tq90_61]; exact (h_load rfl).trans (propext ⟨fun z => z.2, fun z => ⟨rfl, z⟩⟩))
theorem tq90_62 : tT g 90 62 = s_ret pI := rfl
theorem A90_62 {L : AL} {v : Value} : aw g 90 62 L [v] σ Q = (pI v ∧ Q (.inl (some v)) σ) := (aw_eq g 90 62 _ _ _ _).trans (by rw [tq90_62]; exact rfl)
theorem tq91_0 : tT g 91 0 = s_load vI 91 1 1 := rfl
theorem A91_0 {l0 : Option Value} {x : Int32} {r : List Value} : aw g 91 0 [l0, some (.int x)] r σ Q = aw g 91 1 [l0, some (.int x)] (.int x :: r) σ Q := (aw_eq g 91 0 _ _ _ _).trans (by rw [tq91_0]; exact (h_load rfl).trans (propext ⟨fun z => z.2, fun z => ⟨rfl, z⟩⟩))
theorem tq91_1 : tT g 91 1 = s_callk 91 4 92 [0] 1 := rfl
theorem A91_1 {L : AL} {r : List Value} {w0 : Value} : aw g 91 1 L (w0 :: r) σ Q = ((vI w0 && true) = true ∧ csum r ≤ 8 ∧ aw g 92 0 [some w0] [] σ (kt (aw g) 91 4 L r Q)) := (aw_eq g 91 1 _ _ _ _).trans (by rw [tq91_1]; exact rfl)
theorem tq91_4 : tT g 91 4 = s_load vRf 91 5 0 := rfl
theorem A91_4 {l1 : Option Value} {x : Value} {r : List Value} : aw g 91 4 [some (x), l1] r σ Q = (vRf x = true ∧ aw g 91 5 [some (x), l1] (x :: r) σ Q) := (aw_eq g 91 4 _ _ _ _).trans (by rw [tq91_4]; exact h_load rfl)
theorem tq91_5 : tT g 91 5 = s_getf 91 8 0 0 := rfl
theorem A91_5 {L : AL} {r : List Value} {a : Nat} : aw g 91 5 L (.ref a :: r) σ Q = (hty σ a = some 0 ∧ aw g 91 8 L (hv σ 0 a 0 :: r) σ Q) := (aw_eq g 91 5 _ _ _ _).trans (by rw [tq91_5]; exact rfl)
theorem tq91_8 : tT g 91 8 = s_load vI 91 9 1 := rfl
theorem A91_8 {l0 : Option Value} {x : Int32} {r : List Value} : aw g 91 8 [l0, some (.int x)] r σ Q = aw g 91 9 [l0, some (.int x)] (.int x :: r) σ Q := (aw_eq g 91 8 _ _ _ _).trans (by rw [tq91_8]; exact (h_load rfl).trans (propext ⟨fun z => z.2, fun z => ⟨rfl, z⟩⟩))
theorem tq91_9 : tT g 91 9 = s_callvk 91 12 113 1 [0] 4 := rfl
theorem A91_9 {L : AL} {r : List Value} {a : Nat} {w0 : Value} : aw g 91 9 L (w0 :: .ref a :: r) σ Q = (hty σ a = some 1 ∧ (vI w0 && true) = true ∧ csum r ≤ 8 ∧ aw g 113 0 [some (.ref a), some w0, none, none] [] σ (kt (aw g) 91 12 L r Q)) := (aw_eq g 91 9 _ _ _ _).trans (by rw [tq91_9]; exact rfl)
theorem tq91_12 : tT g 91 12 = s_ret pI := rfl
theorem A91_12 {L : AL} {v : Value} : aw g 91 12 L [v] σ Q = (pI v ∧ Q (.inl (some v)) σ) := (aw_eq g 91 12 _ _ _ _).trans (by rw [tq91_12]; exact rfl)
theorem tq92_0 : tT g 92 0 = s_const 92 1 (.int 1) := rfl
theorem A92_0 {L : AL} {r : List Value} : aw g 92 0 L r σ Q = aw g 92 1 L (.int 1 :: r) σ Q := (aw_eq g 92 0 _ _ _ _).trans (by rw [tq92_0]; exact rfl)
theorem tq92_1 : tT g 92 1 = s_const 92 3 (.int 60) := rfl
theorem A92_1 {L : AL} {r : List Value} : aw g 92 1 L r σ Q = aw g 92 3 L (.int 60 :: r) σ Q := (aw_eq g 92 1 _ _ _ _).trans (by rw [tq92_1]; exact rfl)
theorem tq92_3 : tT g 92 3 = s_load vI 92 4 0 := rfl
theorem A92_3  {x : Int32} {r : List Value} : aw g 92 3 [some (.int x)] r σ Q = aw g 92 4 [some (.int x)] (.int x :: r) σ Q := (aw_eq g 92 3 _ _ _ _).trans (by rw [tq92_3]; exact (h_load rfl).trans (propext ⟨fun z => z.2, fun z => ⟨rfl, z⟩⟩))
theorem tq92_4 : tT g 92 4 = s_callk 92 7 77 [0, 0, 0] 3 := rfl
theorem A92_4 {L : AL} {r : List Value} {w0 w1 w2 : Value} : aw g 92 4 L (w2 :: w1 :: w0 :: r) σ Q = ((vI w0 && (vI w1 && (vI w2 && true))) = true ∧ csum r ≤ 8 ∧ aw g 77 0 [some w0, some w1, some w2] [] σ (kt (aw g) 92 7 L r Q)) := (aw_eq g 92 4 _ _ _ _).trans (by rw [tq92_4]; exact rfl)
theorem tq92_7 : tT g 92 7 = s_vret := rfl
theorem A92_7 {L : AL} : aw g 92 7 L [] σ Q = Q (.inl none) σ := (aw_eq g 92 7 _ _ _ _).trans (by rw [tq92_7]; exact rfl)
theorem tq93_0 : tT g 93 0 = s_load vRf 93 1 0 := rfl
theorem A93_0 {l1 : Option Value} {l2 : Option Value} {l3 : Option Value} {x : Value} {r : List Value} : aw g 93 0 [some (x), l1, l2, l3] r σ Q = (vRf x = true ∧ aw g 93 1 [some (x), l1, l2, l3] (x :: r) σ Q) := (aw_eq g 93 0 _ _ _ _).trans (by rw [tq93_0]; exact h_load rfl)
theorem tq93_1 : tT g 93 1 = s_load vI 93 2 1 := rfl
theorem A93_1 {l0 : Option Value} {l2 : Option Value} {l3 : Option Value} {x : Int32} {r : List Value} : aw g 93 1 [l0, some (.int x), l2, l3] r σ Q = aw g 93 2 [l0, some (.int x), l2, l3] (.int x :: r) σ Q := (aw_eq g 93 1 _ _ _ _).trans (by rw [tq93_1]; exact (h_load rfl).trans (propext ⟨fun z => z.2, fun z => ⟨rfl, z⟩⟩))
theorem tq93_2 : tT g 93 2 = s_callvk 93 5 81 0 [0] 2 := rfl
theorem A93_2 {L : AL} {r : List Value} {a : Nat} {w0 : Value} : aw g 93 2 L (w0 :: .ref a :: r) σ Q = (hty σ a = some 0 ∧ (vI w0 && true) = true ∧ csum r ≤ 8 ∧ aw g 81 0 [some (.ref a), some w0] [] σ (kt (aw g) 93 5 L r Q)) := (aw_eq g 93 2 _ _ _ _).trans (by rw [tq93_2]; exact rfl)
theorem tq93_5 : tT g 93 5 = s_store vRf 93 6 3 := rfl
theorem A93_5 {l0 : Option Value} {l1 : Option Value} {l2 : Option Value} {l3 : Option Value} {x : Value} {r : List Value} : aw g 93 5 [l0, l1, l2, l3] (x :: r) σ Q = (vRf x = true ∧ oc l2 = true ∧ aw g 93 6 [l0, l1, l2, some (x)] r σ Q) := (aw_eq g 93 5 _ _ _ _).trans (by rw [tq93_5]; exact (h_store (o := oc l2) rfl rfl rfl))
theorem tq93_6 : tT g 93 6 = s_const 93 7 (.int 0) := rfl
theorem A93_6 {L : AL} {r : List Value} : aw g 93 6 L r σ Q = aw g 93 7 L (.int 0 :: r) σ Q := (aw_eq g 93 6 _ _ _ _).trans (by rw [tq93_6]; exact rfl)
theorem tq93_7 : tT g 93 7 = s_const 93 9 (.int 15) := rfl
theorem A93_7 {L : AL} {r : List Value} : aw g 93 7 L r σ Q = aw g 93 9 L (.int 15 :: r) σ Q := (aw_eq g 93 7 _ _ _ _).trans (by rw [tq93_7]; exact rfl)
theorem tq93_9 : tT g 93 9 = s_load vI 93 10 2 := rfl
theorem A93_9 {l0 : Option Value} {l1 : Option Value} {l3 : Option Value} {x : Int32} {r : List Value} : aw g 93 9 [l0, l1, some (.int x), l3] r σ Q = aw g 93 10 [l0, l1, some (.int x), l3] (.int x :: r) σ Q := (aw_eq g 93 9 _ _ _ _).trans (by rw [tq93_9]; exact (h_load rfl).trans (propext ⟨fun z => z.2, fun z => ⟨rfl, z⟩⟩))
theorem tq93_10 : tT g 93 10 = s_callk 93 13 77 [0, 0, 0] 3 := rfl
theorem A93_10 {L : AL} {r : List Value} {w0 w1 w2 : Value} : aw g 93 10 L (w2 :: w1 :: w0 :: r) σ Q = ((vI w0 && (vI w1 && (vI w2 && true))) = true ∧ csum r ≤ 8 ∧ aw g 77 0 [some w0, some w1, some w2] [] σ (kt (aw g) 93 13 L r Q)) := (aw_eq g 93 10 _ _ _ _).trans (by rw [tq93_10]; exact rfl)
theorem tq93_13 : tT g 93 13 = s_load vRf 93 14 0 := rfl
theorem A93_13 {l1 : Option Value} {l2 : Option Value} {l3 : Option Value} {x : Value} {r : List Value} : aw g 93 13 [some (x), l1, l2, l3] r σ Q = (vRf x = true ∧ aw g 93 14 [some (x), l1, l2, l3] (x :: r) σ Q) := (aw_eq g 93 13 _ _ _ _).trans (by rw [tq93_13]; exact h_load rfl)
theorem tq93_14 : tT g 93 14 = s_load vRf 93 15 3 := rfl
theorem A93_14 {l0 : Option Value} {l1 : Option Value} {l2 : Option Value} {x : Value} {r : List Value} : aw g 93 14 [l0, l1, l2, some (x)] r σ Q = (vRf x = true ∧ aw g 93 15 [l0, l1, l2, some (x)] (x :: r) σ Q) := (aw_eq g 93 14 _ _ _ _).trans (by rw [tq93_14]; exact h_load rfl)
theorem tq93_15 : tT g 93 15 = s_load vI 93 16 2 := rfl
theorem A93_15 {l0 : Option Value} {l1 : Option Value} {l3 : Option Value} {x : Int32} {r : List Value} : aw g 93 15 [l0, l1, some (.int x), l3] r σ Q = aw g 93 16 [l0, l1, some (.int x), l3] (.int x :: r) σ Q := (aw_eq g 93 15 _ _ _ _).trans (by rw [tq93_15]; exact (h_load rfl).trans (propext ⟨fun z => z.2, fun z => ⟨rfl, z⟩⟩))
theorem tq93_16 : tT g 93 16 = s_callvk 93 19 65 0 [1, 0] 4 := rfl
theorem A93_16 {L : AL} {r : List Value} {a : Nat} {w0 w1 : Value} : aw g 93 16 L (w1 :: w0 :: .ref a :: r) σ Q = (hty σ a = some 0 ∧ (vRf w0 && (vI w1 && true)) = true ∧ csum r ≤ 8 ∧ aw g 65 0 [some (.ref a), some w0, some w1, none] [] σ (kt (aw g) 93 19 L r Q)) := (aw_eq g 93 16 _ _ _ _).trans (by rw [tq93_16]; exact rfl)
theorem tq93_19 : tT g 93 19 = s_ret pI := rfl
theorem A93_19 {L : AL} {v : Value} : aw g 93 19 L [v] σ Q = (pI v ∧ Q (.inl (some v)) σ) := (aw_eq g 93 19 _ _ _ _).trans (by rw [tq93_19]; exact rfl)
theorem tq94_0 : tT g 94 0 = s_load vRf 94 1 0 := rfl
theorem A94_0 {l1 : Option Value} {l2 : Option Value} {l3 : Option Value} {x : Value} {r : List Value} : aw g 94 0 [some (x), l1, l2, l3] r σ Q = (vRf x = true ∧ aw g 94 1 [some (x), l1, l2, l3] (x :: r) σ Q) := (aw_eq g 94 0 _ _ _ _).trans (by rw [tq94_0]; exact h_load rfl)
theorem tq94_1 : tT g 94 1 = s_load vI 94 2 1 := rfl
theorem A94_1 {l0 : Option Value} {l2 : Option Value} {l3 : Option Value} {x : Int32} {r : List Value} : aw g 94 1 [l0, some (.int x), l2, l3] r σ Q = aw g 94 2 [l0, some (.int x), l2, l3] (.int x :: r) σ Q := (aw_eq g 94 1 _ _ _ _).trans (by rw [tq94_1]; exact (h_load rfl).trans (propext ⟨fun z => z.2, fun z => ⟨rfl, z⟩⟩))
theorem tq94_2 : tT g 94 2 = s_callvk 94 5 81 0 [0] 2 := rfl
theorem A94_2 {L : AL} {r : List Value} {a : Nat} {w0 : Value} : aw g 94 2 L (w0 :: .ref a :: r) σ Q = (hty σ a = some 0 ∧ (vI w0 && true) = true ∧ csum r ≤ 8 ∧ aw g 81 0 [some (.ref a), some w0] [] σ (kt (aw g) 94 5 L r Q)) := (aw_eq g 94 2 _ _ _ _).trans (by rw [tq94_2]; exact rfl)
theorem tq94_5 : tT g 94 5 = s_store vRf 94 6 3 := rfl
theorem A94_5 {l0 : Option Value} {l1 : Option Value} {l2 : Option Value} {l3 : Option Value} {x : Value} {r : List Value} : aw g 94 5 [l0, l1, l2, l3] (x :: r) σ Q = (vRf x = true ∧ oc l2 = true ∧ aw g 94 6 [l0, l1, l2, some (x)] r σ Q) := (aw_eq g 94 5 _ _ _ _).trans (by rw [tq94_5]; exact (h_store (o := oc l2) rfl rfl rfl))
theorem tq94_6 : tT g 94 6 = s_const 94 7 (.int 0) := rfl
theorem A94_6 {L : AL} {r : List Value} : aw g 94 6 L r σ Q = aw g 94 7 L (.int 0 :: r) σ Q := (aw_eq g 94 6 _ _ _ _).trans (by rw [tq94_6]; exact rfl)
theorem tq94_7 : tT g 94 7 = s_const 94 8 (.int 4) := rfl
theorem A94_7 {L : AL} {r : List Value} : aw g 94 7 L r σ Q = aw g 94 8 L (.int 4 :: r) σ Q := (aw_eq g 94 7 _ _ _ _).trans (by rw [tq94_7]; exact rfl)
theorem tq94_8 : tT g 94 8 = s_load vI 94 9 2 := rfl
theorem A94_8 {l0 : Option Value} {l1 : Option Value} {l3 : Option Value} {x : Int32} {r : List Value} : aw g 94 8 [l0, l1, some (.int x), l3] r σ Q = aw g 94 9 [l0, l1, some (.int x), l3] (.int x :: r) σ Q := (aw_eq g 94 8 _ _ _ _).trans (by rw [tq94_8]; exact (h_load rfl).trans (propext ⟨fun z => z.2, fun z => ⟨rfl, z⟩⟩))
theorem tq94_9 : tT g 94 9 = s_callk 94 12 77 [0, 0, 0] 3 := rfl
theorem A94_9 {L : AL} {r : List Value} {w0 w1 w2 : Value} : aw g 94 9 L (w2 :: w1 :: w0 :: r) σ Q = ((vI w0 && (vI w1 && (vI w2 && true))) = true ∧ csum r ≤ 8 ∧ aw g 77 0 [some w0, some w1, some w2] [] σ (kt (aw g) 94 12 L r Q)) := (aw_eq g 94 9 _ _ _ _).trans (by rw [tq94_9]; exact rfl)
theorem tq94_12 : tT g 94 12 = s_load vRf 94 13 3 := rfl
theorem A94_12 {l0 : Option Value} {l1 : Option Value} {l2 : Option Value} {x : Value} {r : List Value} : aw g 94 12 [l0, l1, l2, some (x)] r σ Q = (vRf x = true ∧ aw g 94 13 [l0, l1, l2, some (x)] (x :: r) σ Q) := (aw_eq g 94 12 _ _ _ _).trans (by rw [tq94_12]; exact h_load rfl)
theorem tq94_13 : tT g 94 13 = s_getf 94 16 5 13 := rfl
theorem A94_13 {L : AL} {r : List Value} {a : Nat} : aw g 94 13 L (.ref a :: r) σ Q = (hty σ a = some 5 ∧ aw g 94 16 L (hv σ 5 a 13 :: r) σ Q) := (aw_eq g 94 13 _ _ _ _).trans (by rw [tq94_13]; exact rfl)
theorem tq94_16 : tT g 94 16 = s_load vI 94 17 2 := rfl
theorem A94_16 {l0 : Option Value} {l1 : Option Value} {l3 : Option Value} {x : Int32} {r : List Value} : aw g 94 16 [l0, l1, some (.int x), l3] r σ Q = aw g 94 17 [l0, l1, some (.int x), l3] (.int x :: r) σ Q := (aw_eq g 94 16 _ _ _ _).trans (by rw [tq94_16]; exact (h_load rfl).trans (propext ⟨fun z => z.2, fun z => ⟨rfl, z⟩⟩))
theorem tq94_17 : tT g 94 17 = s_ald 94 18 20 := rfl
theorem A94_17 {L : AL} {r : List Value} {a : Nat} {i : Int32} : aw g 94 17 L (.int i :: .ref a :: r) σ Q = (hty σ a = some 20 ∧ ¬ i < 0 ∧ i.toNatClampNeg < hln σ a ∧ aw g 94 18 L (hv σ 20 a i.toNatClampNeg :: r) σ Q) := (aw_eq g 94 17 _ _ _ _).trans (by rw [tq94_17]; exact rfl)
theorem tq94_18 : tT g 94 18 = s_ret pI := rfl
theorem A94_18 {L : AL} {v : Value} : aw g 94 18 L [v] σ Q = (pI v ∧ Q (.inl (some v)) σ) := (aw_eq g 94 18 _ _ _ _).trans (by rw [tq94_18]; exact rfl)
theorem tq95_0 : tT g 95 0 = s_load vRf 95 1 0 := rfl
theorem A95_0 {l1 : Option Value} {l2 : Option Value} {l3 : Option Value} {l4 : Option Value} {x : Value} {r : List Value} : aw g 95 0 [some (x), l1, l2, l3, l4] r σ Q = (vRf x = true ∧ aw g 95 1 [some (x), l1, l2, l3, l4] (x :: r) σ Q) := (aw_eq g 95 0 _ _ _ _).trans (by rw [tq95_0]; exact h_load rfl)
theorem tq95_1 : tT g 95 1 = s_load vI 95 2 1 := rfl
theorem A95_1 {l0 : Option Value} {l2 : Option Value} {l3 : Option Value} {l4 : Option Value} {x : Int32} {r : List Value} : aw g 95 1 [l0, some (.int x), l2, l3, l4] r σ Q = aw g 95 2 [l0, some (.int x), l2, l3, l4] (.int x :: r) σ Q := (aw_eq g 95 1 _ _ _ _).trans (by rw [tq95_1]; exact (h_load rfl).trans (propext ⟨fun z => z.2, fun z => ⟨rfl, z⟩⟩))
theorem tq95_2 : tT g 95 2 = s_callvk 95 5 81 0 [0] 2 := rfl
theorem A95_2 {L : AL} {r : List Value} {a : Nat} {w0 : Value} : aw g 95 2 L (w0 :: .ref a :: r) σ Q = (hty σ a = some 0 ∧ (vI w0 && true) = true ∧ csum r ≤ 8 ∧ aw g 81 0 [some (.ref a), some w0] [] σ (kt (aw g) 95 5 L r Q)) := (aw_eq g 95 2 _ _ _ _).trans (by rw [tq95_2]; exact rfl)
theorem tq95_5 : tT g 95 5 = s_store vRf 95 7 4 := rfl
theorem A95_5 {l0 : Option Value} {l1 : Option Value} {l2 : Option Value} {l3 : Option Value} {l4 : Option Value} {x : Value} {r : List Value} : aw g 95 5 [l0, l1, l2, l3, l4] (x :: r) σ Q = (vRf x = true ∧ oc l3 = true ∧ aw g 95 7 [l0, l1, l2, l3, some (x)] r σ Q) := (aw_eq g 95 5 _ _ _ _).trans (by rw [tq95_5]; exact (h_store (o := oc l3) rfl rfl rfl))
theorem tq95_7 : tT g 95 7 = s_load vI 95 8 2 := rfl
theorem A95_7 {l0 : Option Value} {l1 : Option Value} {l3 : Option Value} {l4 : Option Value} {x : Int32} {r : List Value} : aw g 95 7 [l0, l1, some (.int x), l3, l4] r σ Q = aw g 95 8 [l0, l1, some (.int x), l3, l4] (.int x :: r) σ Q := (aw_eq g 95 7 _ _ _ _).trans (by rw [tq95_7]; exact (h_load rfl).trans (propext ⟨fun z => z.2, fun z => ⟨rfl, z⟩⟩))
theorem tq95_8 : tT g 95 8 = s_const 95 10 (.int 6) := rfl
theorem A95_8 {L : AL} {r : List Value} : aw g 95 8 L r σ Q = aw g 95 10 L (.int 6 :: r) σ Q := (aw_eq g 95 8 _ _ _ _).trans (by rw [tq95_8]; exact rfl)
theorem tq95_10 : tT g 95 10 = s_callk 95 13 83 [0, 0] 2 := rfl
theorem A95_10 {L : AL} {r : List Value} {w0 w1 : Value} : aw g 95 10 L (w1 :: w0 :: r) σ Q = ((vI w0 && (vI w1 && true)) = true ∧ csum r ≤ 8 ∧ aw g 83 0 [some w0, some w1] [] σ (kt (aw g) 95 13 L r Q)) := (aw_eq g 95 10 _ _ _ _).trans (by rw [tq95_10]; exact rfl)
theorem tq95_13 : tT g 95 13 = s_const 95 14 (.int 0) := rfl
theorem A95_13 {L : AL} {r : List Value} : aw g 95 13 L r σ Q = aw g 95 14 L (.int 0 :: r) σ Q := (aw_eq g 95 13 _ _ _ _).trans (by rw [tq95_13]; exact rfl)
theorem tq95_14 : tT g 95 14 = s_const 95 15 (.int 3) := rfl
theorem A95_14 {L : AL} {r : List Value} : aw g 95 14 L r σ Q = aw g 95 15 L (.int 3 :: r) σ Q := (aw_eq g 95 14 _ _ _ _).trans (by rw [tq95_14]; exact rfl)
theorem tq95_15 : tT g 95 15 = s_load vI 95 16 3 := rfl
theorem A95_15 {l0 : Option Value} {l1 : Option Value} {l2 : Option Value} {l4 : Option Value} {x : Int32} {r : List Value} : aw g 95 15 [l0, l1, l2, some (.int x), l4] r σ Q = aw g 95 16 [l0, l1, l2, some (.int x), l4] (.int x :: r) σ Q := (aw_eq g 95 15 _ _ _ _).trans (by rw [tq95_15]; exact (h_load rfl).trans (propext ⟨fun z => z.2, fun z => ⟨rfl, z⟩⟩))
theorem tq95_16 : tT g 95 16 = s_callk 95 19 77 [0, 0, 0] 3 := rfl
theorem A95_16 {L : AL} {r : List Value} {w0 w1 w2 : Value} : aw g 95 16 L (w2 :: w1 :: w0 :: r) σ Q = ((vI w0 && (vI w1 && (vI w2 && true))) = true ∧ csum r ≤ 8 ∧ aw g 77 0 [some w0, some w1, some w2] [] σ (kt (aw g) 95 19 L r Q)) := (aw_eq g 95 16 _ _ _ _).trans (by rw [tq95_16]; exact rfl)
theorem tq95_19 : tT g 95 19 = s_load vRf 95 20 0 := rfl
theorem A95_19 {l1 : Option Value} {l2 : Option Value} {l3 : Option Value} {l4 : Option Value} {x : Value} {r : List Value} : aw g 95 19 [some (x), l1, l2, l3, l4] r σ Q = (vRf x = true ∧ aw g 95 20 [some (x), l1, l2, l3, l4] (x :: r) σ Q) := (aw_eq g 95 19 _ _ _ _).trans (by rw [tq95_19]; exact h_load rfl)
theorem tq95_20 : tT g 95 20 = s_load vRf 95 22 4 := rfl
theorem A95_20 {l0 : Option Value} {l1 : Option Value} {l2 : Option Value} {l3 : Option Value} {x : Value} {r : List Value} : aw g 95 20 [l0, l1, l2, l3, some (x)] r σ Q = (vRf x = true ∧ aw g 95 22 [l0, l1, l2, l3, some (x)] (x :: r) σ Q) := (aw_eq g 95 20 _ _ _ _).trans (by rw [tq95_20]; exact h_load rfl)
theorem tq95_22 : tT g 95 22 = s_load vI 95 23 2 := rfl
theorem A95_22 {l0 : Option Value} {l1 : Option Value} {l3 : Option Value} {l4 : Option Value} {x : Int32} {r : List Value} : aw g 95 22 [l0, l1, some (.int x), l3, l4] r σ Q = aw g 95 23 [l0, l1, some (.int x), l3, l4] (.int x :: r) σ Q := (aw_eq g 95 22 _ _ _ _).trans (by rw [tq95_22]; exact (h_load rfl).trans (propext ⟨fun z => z.2, fun z => ⟨rfl, z⟩⟩))
theorem tq95_23 : tT g 95 23 = s_load vI 95 24 3 := rfl
theorem A95_23 {l0 : Option Value} {l1 : Option Value} {l2 : Option Value} {l4 : Option Value} {x : Int32} {r : List Value} : aw g 95 23 [l0, l1, l2, some (.int x), l4] r σ Q = aw g 95 24 [l0, l1, l2, some (.int x), l4] (.int x :: r) σ Q := (aw_eq g 95 23 _ _ _ _).trans (by rw [tq95_23]; exact (h_load rfl).trans (propext ⟨fun z => z.2, fun z => ⟨rfl, z⟩⟩))
theorem tq95_24 : tT g 95 24 = s_callvk 95 27 68 0 [1, 0, 0] 4 := rfl
theorem A95_24 {L : AL} {r : List Value} {a : Nat} {w0 w1 w2 : Value} : aw g 95 24 L (w2 :: w1 :: w0 :: .ref a :: r) σ Q = (hty σ a = some 0 ∧ (vRf w0 && (vI w1 && (vI w2 && true))) = true ∧ csum r ≤ 8 ∧ aw g 68 0 [some (.ref a), some w0, some w1, some w2] [] σ (kt (aw g) 95 27 L r Q)) := (aw_eq g 95 24 _ _ _ _).trans (by rw [tq95_24]; exact rfl)
theorem tq95_27 : tT g 95 27 = s_ret pI := rfl
theorem A95_27 {L : AL} {v : Value} : aw g 95 27 L [v] σ Q = (pI v ∧ Q (.inl (some v)) σ) := (aw_eq g 95 27 _ _ _ _).trans (by rw [tq95_27]; exact rfl)
theorem tq96_0 : tT g 96 0 = s_load vRf 96 1 0 := rfl
theorem A96_0 {l1 : Option Value} {l2 : Option Value} {l3 : Option Value} {x : Value} {r : List Value} : aw g 96 0 [some (x), l1, l2, l3] r σ Q = (vRf x = true ∧ aw g 96 1 [some (x), l1, l2, l3] (x :: r) σ Q) := (aw_eq g 96 0 _ _ _ _).trans (by rw [tq96_0]; exact h_load rfl)
theorem tq96_1 : tT g 96 1 = s_getf 96 4 0 0 := rfl
theorem A96_1 {L : AL} {r : List Value} {a : Nat} : aw g 96 1 L (.ref a :: r) σ Q = (hty σ a = some 0 ∧ aw g 96 4 L (hv σ 0 a 0 :: r) σ Q) := (aw_eq g 96 1 _ _ _ _).trans (by rw [tq96_1]; exact rfl)
theorem tq96_4 : tT g 96 4 = s_getf 96 7 1 1 := rfl
theorem A96_4 {L : AL} {r : List Value} {a : Nat} : aw g 96 4 L (.ref a :: r) σ Q = (hty σ a = some 1 ∧ aw g 96 7 L (hv σ 1 a 1 :: r) σ Q) := (aw_eq g 96 4 _ _ _ _).trans (by rw [tq96_4]; exact rfl)
theorem tq96_7 : tT g 96 7 = s_load vI 96 8 1 := rfl
theorem A96_7 {l0 : Option Value} {l2 : Option Value} {l3 : Option Value} {x : Int32} {r : List Value} : aw g 96 7 [l0, some (.int x), l2, l3] r σ Q = aw g 96 8 [l0, some (.int x), l2, l3] (.int x :: r) σ Q := (aw_eq g 96 7 _ _ _ _).trans (by rw [tq96_7]; exact (h_load rfl).trans (propext ⟨fun z => z.2, fun z => ⟨rfl, z⟩⟩))
theorem tq96_8 : tT g 96 8 = s_callk 96 11 82 [1, 0] 2 := rfl
theorem A96_8 {L : AL} {r : List Value} {w0 w1 : Value} : aw g 96 8 L (w1 :: w0 :: r) σ Q = ((vRf w0 && (vI w1 && true)) = true ∧ csum r ≤ 8 ∧ aw g 82 0 [some w0, some w1] [] σ (kt (aw g) 96 11 L r Q)) := (aw_eq g 96 8 _ _ _ _).trans (by rw [tq96_8]; exact rfl)
theorem tq96_11 : tT g 96 11 = s_cast 96 14 [2] := rfl
theorem A96_11 {L : AL} {r : List Value} : aw g 96 11 L (.null :: r) σ Q = aw g 96 14 L (.null :: r) σ Q := (aw_eq g 96 11 _ _ _ _).trans (by rw [tq96_11]; exact rfl)
theorem A96_11r {L : AL} {r : List Value} {a : Nat} : aw g 96 11 L (.ref a :: r) σ Q = (hty σ a = some 2 ∧ aw g 96 14 L (.ref a :: r) σ Q) := (aw_eq g 96 11 _ _ _ _).trans (by rw [tq96_11]; exact propext ⟨fun z => (by obtain ⟨⟨u, hu, hu2⟩, z2⟩ := z; rw [List.mem_singleton] at hu; subst hu; exact ⟨hu2, z2⟩), fun z => ⟨⟨_, List.mem_cons_self, z.1⟩, z.2⟩⟩)
theorem tq96_14 : tT g 96 14 = s_store vRf 96 15 3 := rfl
theorem A96_14 {l0 : Option Value} {l1 : Option Value} {l2 : Option Value} {l3 : Option Value} {x : Value} {r : List Value} : aw g 96 14 [l0, l1, l2, l3] (x :: r) σ Q = (vRf x = true ∧ oc l2 = true ∧ aw g 96 15 [l0, l1, l2, some (x)] r σ Q) := (aw_eq g 96 14 _ _ _ _).trans (by rw [tq96_14]; exact (h_store (o := oc l2) rfl rfl rfl))
theorem tq96_15 : tT g 96 15 = s_const 96 16 (.int 0) := rfl
theorem A96_15 {L : AL} {r : List Value} : aw g 96 15 L r σ Q = aw g 96 16 L (.int 0 :: r) σ Q := (aw_eq g 96 15 _ _ _ _).trans (by rw [tq96_15]; exact rfl)
theorem tq96_16 : tT g 96 16 = s_const 96 17 (.int 2) := rfl
theorem A96_16 {L : AL} {r : List Value} : aw g 96 16 L r σ Q = aw g 96 17 L (.int 2 :: r) σ Q := (aw_eq g 96 16 _ _ _ _).trans (by rw [tq96_16]; exact rfl)
theorem tq96_17 : tT g 96 17 = s_load vI 96 18 2 := rfl
theorem A96_17 {l0 : Option Value} {l1 : Option Value} {l3 : Option Value} {x : Int32} {r : List Value} : aw g 96 17 [l0, l1, some (.int x), l3] r σ Q = aw g 96 18 [l0, l1, some (.int x), l3] (.int x :: r) σ Q := (aw_eq g 96 17 _ _ _ _).trans (by rw [tq96_17]; exact (h_load rfl).trans (propext ⟨fun z => z.2, fun z => ⟨rfl, z⟩⟩))
theorem tq96_18 : tT g 96 18 = s_callk 96 21 77 [0, 0, 0] 3 := rfl
theorem A96_18 {L : AL} {r : List Value} {w0 w1 w2 : Value} : aw g 96 18 L (w2 :: w1 :: w0 :: r) σ Q = ((vI w0 && (vI w1 && (vI w2 && true))) = true ∧ csum r ≤ 8 ∧ aw g 77 0 [some w0, some w1, some w2] [] σ (kt (aw g) 96 21 L r Q)) := (aw_eq g 96 18 _ _ _ _).trans (by rw [tq96_18]; exact rfl)
theorem tq96_21 : tT g 96 21 = s_load vRf 96 22 3 := rfl
theorem A96_21 {l0 : Option Value} {l1 : Option Value} {l2 : Option Value} {x : Value} {r : List Value} : aw g 96 21 [l0, l1, l2, some (x)] r σ Q = (vRf x = true ∧ aw g 96 22 [l0, l1, l2, some (x)] (x :: r) σ Q) := (aw_eq g 96 21 _ _ _ _).trans (by rw [tq96_21]; exact h_load rfl)
theorem tq96_22 : tT g 96 22 = s_load vI 96 23 2 := rfl
theorem A96_22 {l0 : Option Value} {l1 : Option Value} {l3 : Option Value} {x : Int32} {r : List Value} : aw g 96 22 [l0, l1, some (.int x), l3] r σ Q = aw g 96 23 [l0, l1, some (.int x), l3] (.int x :: r) σ Q := (aw_eq g 96 22 _ _ _ _).trans (by rw [tq96_22]; exact (h_load rfl).trans (propext ⟨fun z => z.2, fun z => ⟨rfl, z⟩⟩))
theorem tq96_23 : tT g 96 23 = s_callk 96 26 74 [1, 0] 2 := rfl
theorem A96_23 {L : AL} {r : List Value} {w0 w1 : Value} : aw g 96 23 L (w1 :: w0 :: r) σ Q = ((vRf w0 && (vI w1 && true)) = true ∧ csum r ≤ 8 ∧ aw g 74 0 [some w0, some w1] [] σ (kt (aw g) 96 26 L r Q)) := (aw_eq g 96 23 _ _ _ _).trans (by rw [tq96_23]; exact rfl)
theorem tq96_26 : tT g 96 26 = s_ret pI := rfl
theorem A96_26 {L : AL} {v : Value} : aw g 96 26 L [v] σ Q = (pI v ∧ Q (.inl (some v)) σ) := (aw_eq g 96 26 _ _ _ _).trans (by rw [tq96_26]; exact rfl)
theorem tq97_0 : tT g 97 0 = s_load vRf 97 1 0 := rfl
theorem A97_0 {l1 : Option Value} {l2 : Option Value} {l3 : Option Value} {x : Value} {r : List Value} : aw g 97 0 [some (x), l1, l2, l3] r σ Q = (vRf x = true ∧ aw g 97 1 [some (x), l1, l2, l3] (x :: r) σ Q) := (aw_eq g 97 0 _ _ _ _).trans (by rw [tq97_0]; exact h_load rfl)
theorem tq97_1 : tT g 97 1 = s_load vI 97 2 1 := rfl
theorem A97_1 {l0 : Option Value} {l2 : Option Value} {l3 : Option Value} {x : Int32} {r : List Value} : aw g 97 1 [l0, some (.int x), l2, l3] r σ Q = aw g 97 2 [l0, some (.int x), l2, l3] (.int x :: r) σ Q := (aw_eq g 97 1 _ _ _ _).trans (by rw [tq97_1]; exact (h_load rfl).trans (propext ⟨fun z => z.2, fun z => ⟨rfl, z⟩⟩))
theorem tq97_2 : tT g 97 2 = s_callvk 97 5 81 0 [0] 2 := rfl
theorem A97_2 {L : AL} {r : List Value} {a : Nat} {w0 : Value} : aw g 97 2 L (w0 :: .ref a :: r) σ Q = (hty σ a = some 0 ∧ (vI w0 && true) = true ∧ csum r ≤ 8 ∧ aw g 81 0 [some (.ref a), some w0] [] σ (kt (aw g) 97 5 L r Q)) := (aw_eq g 97 2 _ _ _ _).trans (by rw [tq97_2]; exact rfl)
theorem tq97_5 : tT g 97 5 = s_store vRf 97 6 3 := rfl
theorem A97_5 {l0 : Option Value} {l1 : Option Value} {l2 : Option Value} {l3 : Option Value} {x : Value} {r : List Value} : aw g 97 5 [l0, l1, l2, l3] (x :: r) σ Q = (vRf x = true ∧ oc l2 = true ∧ aw g 97 6 [l0, l1, l2, some (x)] r σ Q) := (aw_eq g 97 5 _ _ _ _).trans (by rw [tq97_5]; exact (h_store (o := oc l2) rfl rfl rfl))
theorem tq97_6 : tT g 97 6 = s_load vI 97 7 2 := rfl
theorem A97_6 {l0 : Option Value} {l1 : Option Value} {l3 : Option Value} {x : Int32} {r : List Value} : aw g 97 6 [l0, l1, some (.int x), l3] r σ Q = aw g 97 7 [l0, l1, some (.int x), l3] (.int x :: r) σ Q := (aw_eq g 97 6 _ _ _ _).trans (by rw [tq97_6]; exact (h_load rfl).trans (propext ⟨fun z => z.2, fun z => ⟨rfl, z⟩⟩))
theorem tq97_7 : tT g 97 7 = s_if 97 10 14 (fun a => a < 0) := rfl
theorem A97_7 {L : AL} {r : List Value} {a : Int32} : aw g 97 7 L (.int a :: r) σ Q = ((a < 0 → aw g 97 14 L r σ Q) ∧ (¬ a < 0 → aw g 97 10 L r σ Q)) := (aw_eq g 97 7 _ _ _ _).trans (by rw [tq97_7]; exact rfl)
theorem tq97_10 : tT g 97 10 = s_const 97 11 (.int 1) := rfl
theorem A97_10 {L : AL} {r : List Value} : aw g 97 10 L r σ Q = aw g 97 11 L (.int 1 :: r) σ Q := (aw_eq g 97 10 _ _ _ _).trans (by rw [tq97_10]; exact rfl)
theorem tq97_11 : tT g 97 11 = s_goto 97 15 := rfl
theorem A97_11 {L : AL} {r : List Value} : aw g 97 11 L r σ Q = aw g 97 15 L r σ Q := (aw_eq g 97 11 _ _ _ _).trans (by rw [tq97_11]; exact rfl)
theorem tq97_14 : tT g 97 14 = s_const 97 15 (.int 0) := rfl
theorem A97_14 {L : AL} {r : List Value} : aw g 97 14 L r σ Q = aw g 97 15 L (.int 0 :: r) σ Q := (aw_eq g 97 14 _ _ _ _).trans (by rw [tq97_14]; exact rfl)
theorem tq97_15 : tT g 97 15 = s_callk 97 18 78 [0] 1 := rfl
theorem A97_15 {L : AL} {r : List Value} {w0 : Value} : aw g 97 15 L (w0 :: r) σ Q = ((vI w0 && true) = true ∧ csum r ≤ 8 ∧ aw g 78 0 [some w0] [] σ (kt (aw g) 97 18 L r Q)) := (aw_eq g 97 15 _ _ _ _).trans (by rw [tq97_15]; exact rfl)
theorem tq97_18 : tT g 97 18 = s_load vRf 97 19 3 := rfl
theorem A97_18 {l0 : Option Value} {l1 : Option Value} {l2 : Option Value} {x : Value} {r : List Value} : aw g 97 18 [l0, l1, l2, some (x)] r σ Q = (vRf x = true ∧ aw g 97 19 [l0, l1, l2, some (x)] (x :: r) σ Q) := (aw_eq g 97 18 _ _ _ _).trans (by rw [tq97_18]; exact h_load rfl)
theorem tq97_19 : tT g 97 19 = s_load vI 97 20 2 := rfl
theorem A97_19 {l0 : Option Value} {l1 : Option Value} {l3 : Option Value} {x : Int32} {r : List Value} : aw g 97 19 [l0, l1, some (.int x), l3] r σ Q = aw g 97 20 [l0, l1, some (.int x), l3] (.int x :: r) σ Q := (aw_eq g 97 19 _ _ _ _).trans (by rw [tq97_19]; exact (h_load rfl).trans (propext ⟨fun z => z.2, fun z => ⟨rfl, z⟩⟩))
theorem tq97_20 : tT g 97 20 = s_callk 97 23 69 [1, 0] 2 := rfl
theorem A97_20 {L : AL} {r : List Value} {w0 w1 : Value} : aw g 97 20 L (w1 :: w0 :: r) σ Q = ((vRf w0 && (vI w1 && true)) = true ∧ csum r ≤ 8 ∧ aw g 69 0 [some w0, some w1] [] σ (kt (aw g) 97 23 L r Q)) := (aw_eq g 97 20 _ _ _ _).trans (by rw [tq97_20]; exact rfl)
theorem tq97_23 : tT g 97 23 = s_ret pI := rfl
theorem A97_23 {L : AL} {v : Value} : aw g 97 23 L [v] σ Q = (pI v ∧ Q (.inl (some v)) σ) := (aw_eq g 97 23 _ _ _ _).trans (by rw [tq97_23]; exact rfl)
theorem tq98_0 : tT g 98 0 = s_const 98 1 (.int 0) := rfl
theorem A98_0 {L : AL} {r : List Value} : aw g 98 0 L r σ Q = aw g 98 1 L (.int 0 :: r) σ Q := (aw_eq g 98 0 _ _ _ _).trans (by rw [tq98_0]; exact rfl)
theorem tq98_1 : tT g 98 1 = s_const 98 3 (.int 10) := rfl
theorem A98_1 {L : AL} {r : List Value} : aw g 98 1 L r σ Q = aw g 98 3 L (.int 10 :: r) σ Q := (aw_eq g 98 1 _ _ _ _).trans (by rw [tq98_1]; exact rfl)
theorem tq98_3 : tT g 98 3 = s_load vI 98 4 1 := rfl
theorem A98_3 {l0 : Option Value} {x : Int32} {r : List Value} : aw g 98 3 [l0, some (.int x)] r σ Q = aw g 98 4 [l0, some (.int x)] (.int x :: r) σ Q := (aw_eq g 98 3 _ _ _ _).trans (by rw [tq98_3]; exact (h_load rfl).trans (propext ⟨fun z => z.2, fun z => ⟨rfl, z⟩⟩))
theorem tq98_4 : tT g 98 4 = s_callk 98 7 77 [0, 0, 0] 3 := rfl
theorem A98_4 {L : AL} {r : List Value} {w0 w1 w2 : Value} : aw g 98 4 L (w2 :: w1 :: w0 :: r) σ Q = ((vI w0 && (vI w1 && (vI w2 && true))) = true ∧ csum r ≤ 8 ∧ aw g 77 0 [some w0, some w1, some w2] [] σ (kt (aw g) 98 7 L r Q)) := (aw_eq g 98 4 _ _ _ _).trans (by rw [tq98_4]; exact rfl)
theorem tq98_7 : tT g 98 7 = s_load vRf 98 8 0 := rfl
theorem A98_7 {l1 : Option Value} {x : Value} {r : List Value} : aw g 98 7 [some (x), l1] r σ Q = (vRf x = true ∧ aw g 98 8 [some (x), l1] (x :: r) σ Q) := (aw_eq g 98 7 _ _ _ _).trans (by rw [tq98_7]; exact h_load rfl)
theorem tq98_8 : tT g 98 8 = s_load vI 98 9 1 := rfl
theorem A98_8 {l0 : Option Value} {x : Int32} {r : List Value} : aw g 98 8 [l0, some (.int x)] r σ Q = aw g 98 9 [l0, some (.int x)] (.int x :: r) σ Q := (aw_eq g 98 8 _ _ _ _).trans (by rw [tq98_8]; exact (h_load rfl).trans (propext ⟨fun z => z.2, fun z => ⟨rfl, z⟩⟩))
theorem tq98_9 : tT g 98 9 = s_callvk 98 12 60 0 [0] 10 := rfl
theorem A98_9 {L : AL} {r : List Value} {a : Nat} {w0 : Value} : aw g 98 9 L (w0 :: .ref a :: r) σ Q = (hty σ a = some 0 ∧ (vI w0 && true) = true ∧ csum r ≤ 8 ∧ aw g 60 0 [some (.ref a), some w0, none, none, none, none, none, none, none, none] [] σ (kt (aw g) 98 12 L r Q)) := (aw_eq g 98 9 _ _ _ _).trans (by rw [tq98_9]; exact rfl)
theorem tq98_12 : tT g 98 12 = s_ret pI := rfl
theorem A98_12 {L : AL} {v : Value} : aw g 98 12 L [v] σ Q = (pI v ∧ Q (.inl (some v)) σ) := (aw_eq g 98 12 _ _ _ _).trans (by rw [tq98_12]; exact rfl)
theorem tq99_0 : tT g 99 0 = s_load vRf 99 1 0 := rfl
theorem A99_0 {l1 : Option Value} {l2 : Option Value} {x : Value} {r : List Value} : aw g 99 0 [some (x), l1, l2] r σ Q = (vRf x = true ∧ aw g 99 1 [some (x), l1, l2] (x :: r) σ Q) := (aw_eq g 99 0 _ _ _ _).trans (by rw [tq99_0]; exact h_load rfl)
theorem tq99_1 : tT g 99 1 = s_load vI 99 2 1 := rfl
theorem A99_1 {l0 : Option Value} {l2 : Option Value} {x : Int32} {r : List Value} : aw g 99 1 [l0, some (.int x), l2] r σ Q = aw g 99 2 [l0, some (.int x), l2] (.int x :: r) σ Q := (aw_eq g 99 1 _ _ _ _).trans (by rw [tq99_1]; exact (h_load rfl).trans (propext ⟨fun z => z.2, fun z => ⟨rfl, z⟩⟩))
theorem tq99_2 : tT g 99 2 = s_callvk 99 5 81 0 [0] 2 := rfl
theorem A99_2 {L : AL} {r : List Value} {a : Nat} {w0 : Value} : aw g 99 2 L (w0 :: .ref a :: r) σ Q = (hty σ a = some 0 ∧ (vI w0 && true) = true ∧ csum r ≤ 8 ∧ aw g 81 0 [some (.ref a), some w0] [] σ (kt (aw g) 99 5 L r Q)) := (aw_eq g 99 2 _ _ _ _).trans (by rw [tq99_2]; exact rfl)
theorem tq99_5 : tT g 99 5 = s_store vRf 99 6 2 := rfl
theorem A99_5 {l0 : Option Value} {l1 : Option Value} {l2 : Option Value} {x : Value} {r : List Value} : aw g 99 5 [l0, l1, l2] (x :: r) σ Q = (vRf x = true ∧ oc l1 = true ∧ aw g 99 6 [l0, l1, some (x)] r σ Q) := (aw_eq g 99 5 _ _ _ _).trans (by rw [tq99_5]; exact (h_store (o := oc l1) rfl rfl rfl))
theorem tq99_6 : tT g 99 6 = s_load vRf 99 7 2 := rfl
theorem A99_6 {l0 : Option Value} {l1 : Option Value} {x : Value} {r : List Value} : aw g 99 6 [l0, l1, some (x)] r σ Q = (vRf x = true ∧ aw g 99 7 [l0, l1, some (x)] (x :: r) σ Q) := (aw_eq g 99 6 _ _ _ _).trans (by rw [tq99_6]; exact h_load rfl)
theorem tq99_7 : tT g 99 7 = s_getf 99 10 5 7 := rfl
theorem A99_7 {L : AL} {r : List Value} {a : Nat} : aw g 99 7 L (.ref a :: r) σ Q = (hty σ a = some 5 ∧ aw g 99 10 L (hv σ 5 a 7 :: r) σ Q) := (aw_eq g 99 7 _ _ _ _).trans (by rw [tq99_7]; exact rfl)
theorem tq99_10 : tT g 99 10 = s_if 99 17 13 (fun a => a = 0) := rfl
theorem A99_10 {L : AL} {r : List Value} {a : Int32} : aw g 99 10 L (.int a :: r) σ Q = ((a = 0 → aw g 99 13 L r σ Q) ∧ (¬ a = 0 → aw g 99 17 L r σ Q)) := (aw_eq g 99 10 _ _ _ _).trans (by rw [tq99_10]; exact rfl)
theorem tq99_13 : tT g 99 13 = s_const 99 14 (.double FP.dconst0) := rfl
theorem A99_13 {L : AL} {r : List Value} : aw g 99 13 L r σ Q = aw g 99 14 L (.double FP.dconst0 :: r) σ Q := (aw_eq g 99 13 _ _ _ _).trans (by rw [tq99_13]; exact rfl)
theorem tq99_14 : tT g 99 14 = s_goto 99 28 := rfl
theorem A99_14 {L : AL} {r : List Value} : aw g 99 14 L r σ Q = aw g 99 28 L r σ Q := (aw_eq g 99 14 _ _ _ _).trans (by rw [tq99_14]; exact rfl)
theorem tq99_17 : tT g 99 17 = s_load vRf 99 18 2 := rfl
theorem A99_17 {l0 : Option Value} {l1 : Option Value} {x : Value} {r : List Value} : aw g 99 17 [l0, l1, some (x)] r σ Q = (vRf x = true ∧ aw g 99 18 [l0, l1, some (x)] (x :: r) σ Q) := (aw_eq g 99 17 _ _ _ _).trans (by rw [tq99_17]; exact h_load rfl)
theorem tq99_18 : tT g 99 18 = s_getf 99 21 5 10 := rfl
theorem A99_18 {L : AL} {r : List Value} {a : Nat} : aw g 99 18 L (.ref a :: r) σ Q = (hty σ a = some 5 ∧ aw g 99 21 L (hv σ 5 a 10 :: r) σ Q) := (aw_eq g 99 18 _ _ _ _).trans (by rw [tq99_18]; exact rfl)
theorem tq99_21 : tT g 99 21 = s_i2 99 22 (fun a => .double (FP.i2d a)) := rfl
theorem A99_21 {L : AL} {r : List Value} {a : Int32} : aw g 99 21 L (.int a :: r) σ Q = aw g 99 22 L (.double (FP.i2d a) :: r) σ Q := (aw_eq g 99 21 _ _ _ _).trans (by rw [tq99_21]; exact rfl)
theorem tq99_22 : tT g 99 22 = s_load vRf 99 23 2 := rfl
theorem A99_22 {l0 : Option Value} {l1 : Option Value} {x : Value} {r : List Value} : aw g 99 22 [l0, l1, some (x)] r σ Q = (vRf x = true ∧ aw g 99 23 [l0, l1, some (x)] (x :: r) σ Q) := (aw_eq g 99 22 _ _ _ _).trans (by rw [tq99_22]; exact h_load rfl)
theorem tq99_23 : tT g 99 23 = s_getf 99 26 5 7 := rfl
theorem A99_23 {L : AL} {r : List Value} {a : Nat} : aw g 99 23 L (.ref a :: r) σ Q = (hty σ a = some 5 ∧ aw g 99 26 L (hv σ 5 a 7 :: r) σ Q) := (aw_eq g 99 23 _ _ _ _).trans (by rw [tq99_23]; exact rfl)
theorem tq99_26 : tT g 99 26 = s_i2 99 27 (fun a => .double (FP.i2d a)) := rfl
theorem A99_26 {L : AL} {r : List Value} {a : Int32} : aw g 99 26 L (.int a :: r) σ Q = aw g 99 27 L (.double (FP.i2d a) :: r) σ Q := (aw_eq g 99 26 _ _ _ _).trans (by rw [tq99_26]; exact rfl)
theorem tq99_27 : tT g 99 27 = s_ddiv 99 28 := rfl
theorem A99_27 {L : AL} {r : List Value} {a b : UInt64} : aw g 99 27 L (.double b :: .double a :: r) σ Q = (vf_n64 (FP.ddiv a b) ∧ aw g 99 28 L (.double (FP.ddiv a b) :: r) σ Q) := (aw_eq g 99 27 _ _ _ _).trans (by rw [tq99_27]; exact rfl)
theorem tq99_28 : tT g 99 28 = s_ret pD := rfl
theorem A99_28 {L : AL} {v : Value} : aw g 99 28 L [v] σ Q = (pD v ∧ Q (.inl (some v)) σ) := (aw_eq g 99 28 _ _ _ _).trans (by rw [tq99_28]; exact rfl)
theorem tq100_0 : tT g 100 0 = s_load vRf 100 1 0 := rfl
theorem A100_0 {l1 : Option Value} {l2 : Option Value} {l3 : Option Value} {l4 : Option Value} {x : Value} {r : List Value} : aw g 100 0 [some (x), l1, l2, l3, l4] r σ Q = (vRf x = true ∧ aw g 100 1 [some (x), l1, l2, l3, l4] (x :: r) σ Q) := (aw_eq g 100 0 _ _ _ _).trans (by rw [tq100_0]; exact h_load rfl)
theorem tq100_1 : tT g 100 1 = s_load vI 100 2 1 := rfl
theorem A100_1 {l0 : Option Value} {l2 : Option Value} {l3 : Option Value} {l4 : Option Value} {x : Int32} {r : List Value} : aw g 100 1 [l0, some (.int x), l2, l3, l4] r σ Q = aw g 100 2 [l0, some (.int x), l2, l3, l4] (.int x :: r) σ Q := (aw_eq g 100 1 _ _ _ _).trans (by rw [tq100_1]; exact (h_load rfl).trans (propext ⟨fun z => z.2, fun z => ⟨rfl, z⟩⟩))
theorem tq100_2 : tT g 100 2 = s_callvk 100 5 81 0 [0] 2 := rfl
theorem A100_2 {L : AL} {r : List Value} {a : Nat} {w0 : Value} : aw g 100 2 L (w0 :: .ref a :: r) σ Q = (hty σ a = some 0 ∧ (vI w0 && true) = true ∧ csum r ≤ 8 ∧ aw g 81 0 [some (.ref a), some w0] [] σ (kt (aw g) 100 5 L r Q)) := (aw_eq g 100 2 _ _ _ _).trans (by rw [tq100_2]; exact rfl)
theorem tq100_5 : tT g 100 5 = s_store vRf 100 7 4 := rfl
theorem A100_5 {l0 : Option Value} {l1 : Option Value} {l2 : Option Value} {l3 : Option Value} {l4 : Option Value} {x : Value} {r : List Value} : aw g 100 5 [l0, l1, l2, l3, l4] (x :: r) σ Q = (vRf x = true ∧ oc l3 = true ∧ aw g 100 7 [l0, l1, l2, l3, some (x)] r σ Q) := (aw_eq g 100 5 _ _ _ _).trans (by rw [tq100_5]; exact (h_store (o := oc l3) rfl rfl rfl))
theorem tq100_7 : tT g 100 7 = s_load vI 100 8 3 := rfl
theorem A100_7 {l0 : Option Value} {l1 : Option Value} {l2 : Option Value} {l4 : Option Value} {x : Int32} {r : List Value} : aw g 100 7 [l0, l1, l2, some (.int x), l4] r σ Q = aw g 100 8 [l0, l1, l2, some (.int x), l4] (.int x :: r) σ Q := (aw_eq g 100 7 _ _ _ _).trans (by rw [tq100_7]; exact (h_load rfl).trans (propext ⟨fun z => z.2, fun z => ⟨rfl, z⟩⟩))
theorem tq100_8 : tT g 100 8 = s_const 100 9 (.int 1) := rfl
theorem A100_8 {L : AL} {r : List Value} : aw g 100 8 L r σ Q = aw g 100 9 L (.int 1 :: r) σ Q := (aw_eq g 100 8 _ _ _ _).trans (by rw [tq100_8]; exact rfl)
theorem tq100_9 : tT g 100 9 = s_bin 100 10 (fun a b => a + b) := rfl
theorem A100_9 {L : AL} {r : List Value} {a b : Int32} : aw g 100 9 L (.int b :: .int a :: r) σ Q = aw g 100 10 L (.int (a + b) :: r) σ Q := (aw_eq g 100 9 _ _ _ _).trans (by rw [tq100_9]; exact rfl)
theorem tq100_10 : tT g 100 10 = s_const 100 12 (.int 7) := rfl
theorem A100_10 {L : AL} {r : List Value} : aw g 100 10 L r σ Q = aw g 100 12 L (.int 7 :: r) σ Q := (aw_eq g 100 10 _ _ _ _).trans (by rw [tq100_10]; exact rfl)
theorem tq100_12 : tT g 100 12 = s_callk 100 15 83 [0, 0] 2 := rfl
theorem A100_12 {L : AL} {r : List Value} {w0 w1 : Value} : aw g 100 12 L (w1 :: w0 :: r) σ Q = ((vI w0 && (vI w1 && true)) = true ∧ csum r ≤ 8 ∧ aw g 83 0 [some w0, some w1] [] σ (kt (aw g) 100 15 L r Q)) := (aw_eq g 100 12 _ _ _ _).trans (by rw [tq100_12]; exact rfl)
theorem tq100_15 : tT g 100 15 = s_const 100 16 (.int 0) := rfl
theorem A100_15 {L : AL} {r : List Value} : aw g 100 15 L r σ Q = aw g 100 16 L (.int 0 :: r) σ Q := (aw_eq g 100 15 _ _ _ _).trans (by rw [tq100_15]; exact rfl)
theorem tq100_16 : tT g 100 16 = s_const 100 19 (.int 200) := rfl
theorem A100_16 {L : AL} {r : List Value} : aw g 100 16 L r σ Q = aw g 100 19 L (.int 200 :: r) σ Q := (aw_eq g 100 16 _ _ _ _).trans (by rw [tq100_16]; exact rfl)
theorem tq100_19 : tT g 100 19 = s_load vI 100 20 2 := rfl
theorem A100_19 {l0 : Option Value} {l1 : Option Value} {l3 : Option Value} {l4 : Option Value} {x : Int32} {r : List Value} : aw g 100 19 [l0, l1, some (.int x), l3, l4] r σ Q = aw g 100 20 [l0, l1, some (.int x), l3, l4] (.int x :: r) σ Q := (aw_eq g 100 19 _ _ _ _).trans (by rw [tq100_19]; exact (h_load rfl).trans (propext ⟨fun z => z.2, fun z => ⟨rfl, z⟩⟩))
theorem tq100_20 : tT g 100 20 = s_callk 100 23 77 [0, 0, 0] 3 := rfl
theorem A100_20 {L : AL} {r : List Value} {w0 w1 w2 : Value} : aw g 100 20 L (w2 :: w1 :: w0 :: r) σ Q = ((vI w0 && (vI w1 && (vI w2 && true))) = true ∧ csum r ≤ 8 ∧ aw g 77 0 [some w0, some w1, some w2] [] σ (kt (aw g) 100 23 L r Q)) := (aw_eq g 100 20 _ _ _ _).trans (by rw [tq100_20]; exact rfl)
theorem tq100_23 : tT g 100 23 = s_load vRf 100 25 4 := rfl
theorem A100_23 {l0 : Option Value} {l1 : Option Value} {l2 : Option Value} {l3 : Option Value} {x : Value} {r : List Value} : aw g 100 23 [l0, l1, l2, l3, some (x)] r σ Q = (vRf x = true ∧ aw g 100 25 [l0, l1, l2, l3, some (x)] (x :: r) σ Q) := (aw_eq g 100 23 _ _ _ _).trans (by rw [tq100_23]; exact h_load rfl)
theorem tq100_25 : tT g 100 25 = s_load vI 100 26 2 := rfl
theorem A100_25 {l0 : Option Value} {l1 : Option Value} {l3 : Option Value} {l4 : Option Value} {x : Int32} {r : List Value} : aw g 100 25 [l0, l1, some (.int x), l3, l4] r σ Q = aw g 100 26 [l0, l1, some (.int x), l3, l4] (.int x :: r) σ Q := (aw_eq g 100 25 _ _ _ _).trans (by rw [tq100_25]; exact (h_load rfl).trans (propext ⟨fun z => z.2, fun z => ⟨rfl, z⟩⟩))
theorem tq100_26 : tT g 100 26 = s_load vI 100 27 3 := rfl
theorem A100_26 {l0 : Option Value} {l1 : Option Value} {l2 : Option Value} {l4 : Option Value} {x : Int32} {r : List Value} : aw g 100 26 [l0, l1, l2, some (.int x), l4] r σ Q = aw g 100 27 [l0, l1, l2, some (.int x), l4] (.int x :: r) σ Q := (aw_eq g 100 26 _ _ _ _).trans (by rw [tq100_26]; exact (h_load rfl).trans (propext ⟨fun z => z.2, fun z => ⟨rfl, z⟩⟩))
theorem tq100_27 : tT g 100 27 = s_callk 100 30 70 [1, 0, 0] 4 := rfl
theorem A100_27 {L : AL} {r : List Value} {w0 w1 w2 : Value} : aw g 100 27 L (w2 :: w1 :: w0 :: r) σ Q = ((vRf w0 && (vI w1 && (vI w2 && true))) = true ∧ csum r ≤ 8 ∧ aw g 70 0 [some w0, some w1, some w2, none] [] σ (kt (aw g) 100 30 L r Q)) := (aw_eq g 100 27 _ _ _ _).trans (by rw [tq100_27]; exact rfl)
theorem tq100_30 : tT g 100 30 = s_ret pI := rfl
theorem A100_30 {L : AL} {v : Value} : aw g 100 30 L [v] σ Q = (pI v ∧ Q (.inl (some v)) σ) := (aw_eq g 100 30 _ _ _ _).trans (by rw [tq100_30]; exact rfl)
theorem tq101_0 : tT g 101 0 = s_load vRf 101 1 0 := rfl
theorem A101_0 {l1 : Option Value} {l2 : Option Value} {x : Value} {r : List Value} : aw g 101 0 [some (x), l1, l2] r σ Q = (vRf x = true ∧ aw g 101 1 [some (x), l1, l2] (x :: r) σ Q) := (aw_eq g 101 0 _ _ _ _).trans (by rw [tq101_0]; exact h_load rfl)
theorem tq101_1 : tT g 101 1 = s_load vI 101 2 1 := rfl
theorem A101_1 {l0 : Option Value} {l2 : Option Value} {x : Int32} {r : List Value} : aw g 101 1 [l0, some (.int x), l2] r σ Q = aw g 101 2 [l0, some (.int x), l2] (.int x :: r) σ Q := (aw_eq g 101 1 _ _ _ _).trans (by rw [tq101_1]; exact (h_load rfl).trans (propext ⟨fun z => z.2, fun z => ⟨rfl, z⟩⟩))
theorem tq101_2 : tT g 101 2 = s_callvk 101 5 81 0 [0] 2 := rfl
theorem A101_2 {L : AL} {r : List Value} {a : Nat} {w0 : Value} : aw g 101 2 L (w0 :: .ref a :: r) σ Q = (hty σ a = some 0 ∧ (vI w0 && true) = true ∧ csum r ≤ 8 ∧ aw g 81 0 [some (.ref a), some w0] [] σ (kt (aw g) 101 5 L r Q)) := (aw_eq g 101 2 _ _ _ _).trans (by rw [tq101_2]; exact rfl)
theorem tq101_5 : tT g 101 5 = s_pop 101 6 := rfl
theorem A101_5 {L : AL} {r : List Value} {v : Value} : aw g 101 5 L (v :: r) σ Q = (v.category = 1 ∧ aw g 101 6 L r σ Q) := (aw_eq g 101 5 _ _ _ _).trans (by rw [tq101_5]; exact rfl)
theorem tq101_6 : tT g 101 6 = s_load vI 101 7 2 := rfl
theorem A101_6 {l0 : Option Value} {l1 : Option Value} {x : Int32} {r : List Value} : aw g 101 6 [l0, l1, some (.int x)] r σ Q = aw g 101 7 [l0, l1, some (.int x)] (.int x :: r) σ Q := (aw_eq g 101 6 _ _ _ _).trans (by rw [tq101_6]; exact (h_load rfl).trans (propext ⟨fun z => z.2, fun z => ⟨rfl, z⟩⟩))
theorem tq101_7 : tT g 101 7 = s_callk 101 10 92 [0] 1 := rfl
theorem A101_7 {L : AL} {r : List Value} {w0 : Value} : aw g 101 7 L (w0 :: r) σ Q = ((vI w0 && true) = true ∧ csum r ≤ 8 ∧ aw g 92 0 [some w0] [] σ (kt (aw g) 101 10 L r Q)) := (aw_eq g 101 7 _ _ _ _).trans (by rw [tq101_7]; exact rfl)
theorem tq101_10 : tT g 101 10 = s_load vRf 101 11 0 := rfl
theorem A101_10 {l1 : Option Value} {l2 : Option Value} {x : Value} {r : List Value} : aw g 101 10 [some (x), l1, l2] r σ Q = (vRf x = true ∧ aw g 101 11 [some (x), l1, l2] (x :: r) σ Q) := (aw_eq g 101 10 _ _ _ _).trans (by rw [tq101_10]; exact h_load rfl)
theorem tq101_11 : tT g 101 11 = s_load vI 101 12 1 := rfl
theorem A101_11 {l0 : Option Value} {l2 : Option Value} {x : Int32} {r : List Value} : aw g 101 11 [l0, some (.int x), l2] r σ Q = aw g 101 12 [l0, some (.int x), l2] (.int x :: r) σ Q := (aw_eq g 101 11 _ _ _ _).trans (by rw [tq101_11]; exact (h_load rfl).trans (propext ⟨fun z => z.2, fun z => ⟨rfl, z⟩⟩))
theorem tq101_12 : tT g 101 12 = s_load vI 101 13 2 := rfl
theorem A101_12 {l0 : Option Value} {l1 : Option Value} {x : Int32} {r : List Value} : aw g 101 12 [l0, l1, some (.int x)] r σ Q = aw g 101 13 [l0, l1, some (.int x)] (.int x :: r) σ Q := (aw_eq g 101 12 _ _ _ _).trans (by rw [tq101_12]; exact (h_load rfl).trans (propext ⟨fun z => z.2, fun z => ⟨rfl, z⟩⟩))
theorem tq101_13 : tT g 101 13 = s_callvk 101 16 71 0 [0, 0] 4 := rfl
theorem A101_13 {L : AL} {r : List Value} {a : Nat} {w0 w1 : Value} : aw g 101 13 L (w1 :: w0 :: .ref a :: r) σ Q = (hty σ a = some 0 ∧ (vI w0 && (vI w1 && true)) = true ∧ csum r ≤ 8 ∧ aw g 71 0 [some (.ref a), some w0, some w1, none] [] σ (kt (aw g) 101 16 L r Q)) := (aw_eq g 101 13 _ _ _ _).trans (by rw [tq101_13]; exact rfl)
theorem tq101_16 : tT g 101 16 = s_ret pI := rfl
theorem A101_16 {L : AL} {v : Value} : aw g 101 16 L [v] σ Q = (pI v ∧ Q (.inl (some v)) σ) := (aw_eq g 101 16 _ _ _ _).trans (by rw [tq101_16]; exact rfl)
theorem tq102_0 : tT g 102 0 = s_load vRf 102 1 0 := rfl
theorem A102_0 {l1 : Option Value} {l2 : Option Value} {l3 : Option Value} {x : Value} {r : List Value} : aw g 102 0 [some (x), l1, l2, l3] r σ Q = (vRf x = true ∧ aw g 102 1 [some (x), l1, l2, l3] (x :: r) σ Q) := (aw_eq g 102 0 _ _ _ _).trans (by rw [tq102_0]; exact h_load rfl)
theorem tq102_1 : tT g 102 1 = s_load vI 102 2 1 := rfl
theorem A102_1 {l0 : Option Value} {l2 : Option Value} {l3 : Option Value} {x : Int32} {r : List Value} : aw g 102 1 [l0, some (.int x), l2, l3] r σ Q = aw g 102 2 [l0, some (.int x), l2, l3] (.int x :: r) σ Q := (aw_eq g 102 1 _ _ _ _).trans (by rw [tq102_1]; exact (h_load rfl).trans (propext ⟨fun z => z.2, fun z => ⟨rfl, z⟩⟩))
theorem tq102_2 : tT g 102 2 = s_callvk 102 5 81 0 [0] 2 := rfl
theorem A102_2 {L : AL} {r : List Value} {a : Nat} {w0 : Value} : aw g 102 2 L (w0 :: .ref a :: r) σ Q = (hty σ a = some 0 ∧ (vI w0 && true) = true ∧ csum r ≤ 8 ∧ aw g 81 0 [some (.ref a), some w0] [] σ (kt (aw g) 102 5 L r Q)) := (aw_eq g 102 2 _ _ _ _).trans (by rw [tq102_2]; exact rfl)
theorem tq102_5 : tT g 102 5 = s_store vRf 102 6 3 := rfl
theorem A102_5 {l0 : Option Value} {l1 : Option Value} {l2 : Option Value} {l3 : Option Value} {x : Value} {r : List Value} : aw g 102 5 [l0, l1, l2, l3] (x :: r) σ Q = (vRf x = true ∧ oc l2 = true ∧ aw g 102 6 [l0, l1, l2, some (x)] r σ Q) := (aw_eq g 102 5 _ _ _ _).trans (by rw [tq102_5]; exact (h_store (o := oc l2) rfl rfl rfl))
theorem tq102_6 : tT g 102 6 = s_load vI 102 7 2 := rfl
theorem A102_6 {l0 : Option Value} {l1 : Option Value} {l3 : Option Value} {x : Int32} {r : List Value} : aw g 102 6 [l0, l1, some (.int x), l3] r σ Q = aw g 102 7 [l0, l1, some (.int x), l3] (.int x :: r) σ Q := (aw_eq g 102 6 _ _ _ _).trans (by rw [tq102_6]; exact (h_load rfl).trans (propext ⟨fun z => z.2, fun z => ⟨rfl, z⟩⟩))
theorem tq102_7 : tT g 102 7 = s_callk 102 10 89 [0] 1 := rfl
theorem A102_7 {L : AL} {r : List Value} {w0 : Value} : aw g 102 7 L (w0 :: r) σ Q = ((vI w0 && true) = true ∧ csum r ≤ 8 ∧ aw g 89 0 [some w0] [] σ (kt (aw g) 102 10 L r Q)) := (aw_eq g 102 7 _ _ _ _).trans (by rw [tq102_7]; exact rfl)
theorem tq102_10 : tT g 102 10 = s_load vRf 102 11 3 := rfl
theorem A102_10 {l0 : Option Value} {l1 : Option Value} {l2 : Option Value} {x : Value} {r : List Value} : aw g 102 10 [l0, l1, l2, some (x)] r σ Q = (vRf x = true ∧ aw g 102 11 [l0, l1, l2, some (x)] (x :: r) σ Q) := (aw_eq g 102 10 _ _ _ _).trans (by rw [tq102_10]; exact h_load rfl)
theorem tq102_11 : tT g 102 11 = s_callk 102 14 72 [1] 1 := rfl
theorem A102_11 {L : AL} {r : List Value} {w0 : Value} : aw g 102 11 L (w0 :: r) σ Q = ((vRf w0 && true) = true ∧ csum r ≤ 8 ∧ aw g 72 0 [some w0] [] σ (kt (aw g) 102 14 L r Q)) := (aw_eq g 102 11 _ _ _ _).trans (by rw [tq102_11]; exact rfl)
theorem tq102_14 : tT g 102 14 = s_callk 102 17 79 [0] 1 := rfl
theorem A102_14 {L : AL} {r : List Value} {w0 : Value} : aw g 102 14 L (w0 :: r) σ Q = ((vI w0 && true) = true ∧ csum r ≤ 8 ∧ aw g 79 0 [some w0] [] σ (kt (aw g) 102 17 L r Q)) := (aw_eq g 102 14 _ _ _ _).trans (by rw [tq102_14]; exact rfl)
theorem tq102_17 : tT g 102 17 = s_load vRf 102 18 0 := rfl
theorem A102_17 {l1 : Option Value} {l2 : Option Value} {l3 : Option Value} {x : Value} {r : List Value} : aw g 102 17 [some (x), l1, l2, l3] r σ Q = (vRf x = true ∧ aw g 102 18 [some (x), l1, l2, l3] (x :: r) σ Q) := (aw_eq g 102 17 _ _ _ _).trans (by rw [tq102_17]; exact h_load rfl)
theorem tq102_18 : tT g 102 18 = s_load vI 102 19 1 := rfl
theorem A102_18 {l0 : Option Value} {l2 : Option Value} {l3 : Option Value} {x : Int32} {r : List Value} : aw g 102 18 [l0, some (.int x), l2, l3] r σ Q = aw g 102 19 [l0, some (.int x), l2, l3] (.int x :: r) σ Q := (aw_eq g 102 18 _ _ _ _).trans (by rw [tq102_18]; exact (h_load rfl).trans (propext ⟨fun z => z.2, fun z => ⟨rfl, z⟩⟩))
theorem tq102_19 : tT g 102 19 = s_load vI 102 20 2 := rfl
theorem A102_19 {l0 : Option Value} {l1 : Option Value} {l3 : Option Value} {x : Int32} {r : List Value} : aw g 102 19 [l0, l1, some (.int x), l3] r σ Q = aw g 102 20 [l0, l1, some (.int x), l3] (.int x :: r) σ Q := (aw_eq g 102 19 _ _ _ _).trans (by rw [tq102_19]; exact (h_load rfl).trans (propext ⟨fun z => z.2, fun z => ⟨rfl, z⟩⟩))
theorem tq102_20 : tT g 102 20 = s_callvk 102 23 73 0 [0, 0] 6 := rfl
theorem A102_20 {L : AL} {r : List Value} {a : Nat} {w0 w1 : Value} : aw g 102 20 L (w1 :: w0 :: .ref a :: r) σ Q = (hty σ a = some 0 ∧ (vI w0 && (vI w1 && true)) = true ∧ csum r ≤ 8 ∧ aw g 73 0 [some (.ref a), some w0, some w1, none, none, none] [] σ (kt (aw g) 102 23 L r Q)) := (aw_eq g 102 20 _ _ _ _).trans (by rw [tq102_20]; exact rfl)
theorem tq102_23 : tT g 102 23 = s_ret pI := rfl
theorem A102_23 {L : AL} {v : Value} : aw g 102 23 L [v] σ Q = (pI v ∧ Q (.inl (some v)) σ) := (aw_eq g 102 23 _ _ _ _).trans (by rw [tq102_23]; exact rfl)
end STEPS
