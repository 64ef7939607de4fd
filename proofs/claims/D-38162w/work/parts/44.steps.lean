/-! one step of an abstract run, as an equation: printed by gen.py -/
section STEPS
variable {g : GC} {σ : AH} {Q : AQ}
theorem tq177_0 : tT g 177 0 = s_load vRf 177 1 0 := rfl
theorem A177_0  {x : Value} {r : List Value} : aw g 177 0 [some (x)] r σ Q = (vRf x = true ∧ aw g 177 1 [some (x)] (x :: r) σ Q) := (aw_eq g 177 0 _ _ _ _).trans (by rw [tq177_0]; exact h_load rfl)
theorem tq177_1 : tT g 177 1 = s_oinit 177 4 := rfl
theorem A177_1 {L : AL} {r : List Value} {a : Nat} : aw g 177 1 L (.ref a :: r) σ Q = (csum r ≤ 8 ∧ aw g 177 4 L r σ Q) := (aw_eq g 177 1 _ _ _ _).trans (by rw [tq177_1]; exact rfl)
theorem tq177_4 : tT g 177 4 = s_load vRf 177 5 0 := rfl
theorem A177_4  {x : Value} {r : List Value} : aw g 177 4 [some (x)] r σ Q = (vRf x = true ∧ aw g 177 5 [some (x)] (x :: r) σ Q) := (aw_eq g 177 4 _ _ _ _).trans (by rw [tq177_4]; exact h_load rfl)
theorem tq177_5 : tT g 177 5 = s_new g 177 8 10 3 (fun k => defaultValue (tyJ2 k)) := rfl
theorem A177_5 {L : AL} {r : List Value} : aw g 177 5 L r σ Q = (hsz σ + 1 ≤ gC g ∧ hsl σ + 3 ≤ gS g ∧ aw g 177 8 L (.ref (hsz σ) :: r) (hnew σ 10 0 (fun k => defaultValue (tyJ2 k)) 3) Q) := (aw_eq g 177 5 _ _ _ _).trans (by rw [tq177_5]; exact rfl)
theorem tq177_8 : tT g 177 8 = s_dup 177 9 := rfl
theorem A177_8 {L : AL} {r : List Value} {v : Value} : aw g 177 8 L (v :: r) σ Q = (v.category = 1 ∧ aw g 177 9 L (v :: v :: r) σ Q) := (aw_eq g 177 8 _ _ _ _).trans (by rw [tq177_8]; exact rfl)
theorem tq177_9 : tT g 177 9 = s_callik 177 12 14 [] 1 := rfl
theorem A177_9 {L : AL} {r : List Value} {a : Nat} : aw g 177 9 L (.ref a :: r) σ Q = (true = true ∧ csum r ≤ 8 ∧ aw g 14 0 [some (.ref a)] [] σ (kt (aw g) 177 12 L r Q)) := (aw_eq g 177 9 _ _ _ _).trans (by rw [tq177_9]; exact rfl)
theorem tq177_12 : tT g 177 12 = s_putf g pR 177 15 4 0 := rfl
theorem A177_12 {L : AL} {r : List Value} {a : Nat} {v : Value} : aw g 177 12 L (v :: .ref a :: r) σ Q = (hty σ a = some 4 ∧ gB g ≤ a ∧ pR v ∧ aw g 177 15 L r (hput σ 4 a 0 v) Q) := (aw_eq g 177 12 _ _ _ _).trans (by rw [tq177_12]; exact rfl)
theorem tq177_15 : tT g 177 15 = s_load vRf 177 16 0 := rfl
theorem A177_15  {x : Value} {r : List Value} : aw g 177 15 [some (x)] r σ Q = (vRf x = true ∧ aw g 177 16 [some (x)] (x :: r) σ Q) := (aw_eq g 177 15 _ _ _ _).trans (by rw [tq177_15]; exact h_load rfl)
theorem tq177_16 : tT g 177 16 = s_const 177 17 (.int 4) := rfl
theorem A177_16 {L : AL} {r : List Value} : aw g 177 16 L r σ Q = aw g 177 17 L (.int 4 :: r) σ Q := (aw_eq g 177 16 _ _ _ _).trans (by rw [tq177_16]; exact rfl)
theorem tq177_17 : tT g 177 17 = s_putf g pI 177 20 4 2 := rfl
theorem A177_17 {L : AL} {r : List Value} {a : Nat} {v : Value} : aw g 177 17 L (v :: .ref a :: r) σ Q = (hty σ a = some 4 ∧ gB g ≤ a ∧ pI v ∧ aw g 177 20 L r (hput σ 4 a 2 v) Q) := (aw_eq g 177 17 _ _ _ _).trans (by rw [tq177_17]; exact rfl)
theorem tq177_20 : tT g 177 20 = s_load vRf 177 21 0 := rfl
theorem A177_20  {x : Value} {r : List Value} : aw g 177 20 [some (x)] r σ Q = (vRf x = true ∧ aw g 177 21 [some (x)] (x :: r) σ Q) := (aw_eq g 177 20 _ _ _ _).trans (by rw [tq177_20]; exact h_load rfl)
theorem tq177_21 : tT g 177 21 = s_const 177 22 (.int (-1)) := rfl
theorem A177_21 {L : AL} {r : List Value} : aw g 177 21 L r σ Q = aw g 177 22 L (.int (-1) :: r) σ Q := (aw_eq g 177 21 _ _ _ _).trans (by rw [tq177_21]; exact rfl)
theorem tq177_22 : tT g 177 22 = s_putf g pI 177 25 4 3 := rfl
theorem A177_22 {L : AL} {r : List Value} {a : Nat} {v : Value} : aw g 177 22 L (v :: .ref a :: r) σ Q = (hty σ a = some 4 ∧ gB g ≤ a ∧ pI v ∧ aw g 177 25 L r (hput σ 4 a 3 v) Q) := (aw_eq g 177 22 _ _ _ _).trans (by rw [tq177_22]; exact rfl)
theorem tq177_25 : tT g 177 25 = s_load vRf 177 26 0 := rfl
theorem A177_25  {x : Value} {r : List Value} : aw g 177 25 [some (x)] r σ Q = (vRf x = true ∧ aw g 177 26 [some (x)] (x :: r) σ Q) := (aw_eq g 177 25 _ _ _ _).trans (by rw [tq177_25]; exact h_load rfl)
theorem tq177_26 : tT g 177 26 = s_const 177 27 (.int (-1)) := rfl
theorem A177_26 {L : AL} {r : List Value} : aw g 177 26 L r σ Q = aw g 177 27 L (.int (-1) :: r) σ Q := (aw_eq g 177 26 _ _ _ _).trans (by rw [tq177_26]; exact rfl)
theorem tq177_27 : tT g 177 27 = s_putf g pI 177 30 4 4 := rfl
theorem A177_27 {L : AL} {r : List Value} {a : Nat} {v : Value} : aw g 177 27 L (v :: .ref a :: r) σ Q = (hty σ a = some 4 ∧ gB g ≤ a ∧ pI v ∧ aw g 177 30 L r (hput σ 4 a 4 v) Q) := (aw_eq g 177 27 _ _ _ _).trans (by rw [tq177_27]; exact rfl)
theorem tq177_30 : tT g 177 30 = s_load vRf 177 31 0 := rfl
theorem A177_30  {x : Value} {r : List Value} : aw g 177 30 [some (x)] r σ Q = (vRf x = true ∧ aw g 177 31 [some (x)] (x :: r) σ Q) := (aw_eq g 177 30 _ _ _ _).trans (by rw [tq177_30]; exact h_load rfl)
theorem tq177_31 : tT g 177 31 = s_const 177 32 (.int 2) := rfl
theorem A177_31 {L : AL} {r : List Value} : aw g 177 31 L r σ Q = aw g 177 32 L (.int 2 :: r) σ Q := (aw_eq g 177 31 _ _ _ _).trans (by rw [tq177_31]; exact rfl)
theorem tq177_32 : tT g 177 32 = s_putf g pI 177 35 4 6 := rfl
theorem A177_32 {L : AL} {r : List Value} {a : Nat} {v : Value} : aw g 177 32 L (v :: .ref a :: r) σ Q = (hty σ a = some 4 ∧ gB g ≤ a ∧ pI v ∧ aw g 177 35 L r (hput σ 4 a 6 v) Q) := (aw_eq g 177 32 _ _ _ _).trans (by rw [tq177_32]; exact rfl)
theorem tq177_35 : tT g 177 35 = s_vret := rfl
theorem A177_35 {L : AL} : aw g 177 35 L [] σ Q = Q (.inl none) σ := (aw_eq g 177 35 _ _ _ _).trans (by rw [tq177_35]; exact rfl)
theorem tq178_0 : tT g 178 0 = s_load vRf 178 1 1 := rfl
theorem A178_0 {l0 : Option Value} {x : Value} {r : List Value} : aw g 178 0 [l0, some (x)] r σ Q = (vRf x = true ∧ aw g 178 1 [l0, some (x)] (x :: r) σ Q) := (aw_eq g 178 0 _ _ _ _).trans (by rw [tq178_0]; exact h_load rfl)
theorem tq178_1 : tT g 178 1 = s_getf 178 4 7 6 := rfl
theorem A178_1 {L : AL} {r : List Value} {a : Nat} : aw g 178 1 L (.ref a :: r) σ Q = (hty σ a = some 7 ∧ aw g 178 4 L (hv σ 7 a 6 :: r) σ Q) := (aw_eq g 178 1 _ _ _ _).trans (by rw [tq178_1]; exact rfl)
theorem tq178_4 : tT g 178 4 = s_const 178 5 (.int 3) := rfl
theorem A178_4 {L : AL} {r : List Value} : aw g 178 4 L r σ Q = aw g 178 5 L (.int 3 :: r) σ Q := (aw_eq g 178 4 _ _ _ _).trans (by rw [tq178_4]; exact rfl)
theorem tq178_5 : tT g 178 5 = s_icmp 178 9 8 (fun a b => a = b) := rfl
theorem A178_5 {L : AL} {r : List Value} {a b : Int32} : aw g 178 5 L (.int b :: .int a :: r) σ Q = ((a = b → aw g 178 8 L r σ Q) ∧ (¬ a = b → aw g 178 9 L r σ Q)) := (aw_eq g 178 5 _ _ _ _).trans (by rw [tq178_5]; exact rfl)
theorem tq178_8 : tT g 178 8 = s_vret := rfl
theorem A178_8 {L : AL} : aw g 178 8 L [] σ Q = Q (.inl none) σ := (aw_eq g 178 8 _ _ _ _).trans (by rw [tq178_8]; exact rfl)
theorem tq178_9 : tT g 178 9 = s_load vRf 178 10 1 := rfl
theorem A178_9 {l0 : Option Value} {x : Value} {r : List Value} : aw g 178 9 [l0, some (x)] r σ Q = (vRf x = true ∧ aw g 178 10 [l0, some (x)] (x :: r) σ Q) := (aw_eq g 178 9 _ _ _ _).trans (by rw [tq178_9]; exact h_load rfl)
theorem tq178_10 : tT g 178 10 = s_load vRf 178 11 1 := rfl
theorem A178_10 {l0 : Option Value} {x : Value} {r : List Value} : aw g 178 10 [l0, some (x)] r σ Q = (vRf x = true ∧ aw g 178 11 [l0, some (x)] (x :: r) σ Q) := (aw_eq g 178 10 _ _ _ _).trans (by rw [tq178_10]; exact h_load rfl)
theorem tq178_11 : tT g 178 11 = s_getf 178 14 7 6 := rfl
theorem A178_11 {L : AL} {r : List Value} {a : Nat} : aw g 178 11 L (.ref a :: r) σ Q = (hty σ a = some 7 ∧ aw g 178 14 L (hv σ 7 a 6 :: r) σ Q) := (aw_eq g 178 11 _ _ _ _).trans (by rw [tq178_11]; exact rfl)
theorem tq178_14 : tT g 178 14 = s_putf g pI 178 17 7 7 := rfl
theorem A178_14 {L : AL} {r : List Value} {a : Nat} {v : Value} : aw g 178 14 L (v :: .ref a :: r) σ Q = (hty σ a = some 7 ∧ gB g ≤ a ∧ pI v ∧ aw g 178 17 L r (hput σ 7 a 7 v) Q) := (aw_eq g 178 14 _ _ _ _).trans (by rw [tq178_14]; exact rfl)
theorem tq178_17 : tT g 178 17 = s_load vRf 178 18 1 := rfl
theorem A178_17 {l0 : Option Value} {x : Value} {r : List Value} : aw g 178 17 [l0, some (x)] r σ Q = (vRf x = true ∧ aw g 178 18 [l0, some (x)] (x :: r) σ Q) := (aw_eq g 178 17 _ _ _ _).trans (by rw [tq178_17]; exact h_load rfl)
theorem tq178_18 : tT g 178 18 = s_const 178 19 (.int 3) := rfl
theorem A178_18 {L : AL} {r : List Value} : aw g 178 18 L r σ Q = aw g 178 19 L (.int 3 :: r) σ Q := (aw_eq g 178 18 _ _ _ _).trans (by rw [tq178_18]; exact rfl)
theorem tq178_19 : tT g 178 19 = s_putf g pI 178 22 7 6 := rfl
theorem A178_19 {L : AL} {r : List Value} {a : Nat} {v : Value} : aw g 178 19 L (v :: .ref a :: r) σ Q = (hty σ a = some 7 ∧ gB g ≤ a ∧ pI v ∧ aw g 178 22 L r (hput σ 7 a 6 v) Q) := (aw_eq g 178 19 _ _ _ _).trans (by rw [tq178_19]; exact rfl)
theorem tq178_22 : tT g 178 22 = s_vret := rfl
theorem A178_22 {L : AL} : aw g 178 22 L [] σ Q = Q (.inl none) σ := (aw_eq g 178 22 _ _ _ _).trans (by rw [tq178_22]; exact rfl)
theorem tq179_0 : tT g 179 0 = s_load vRf 179 1 0 := rfl
theorem A179_0 {l1 : Option Value} {l2 : Option Value} {x : Value} {r : List Value} : aw g 179 0 [some (x), l1, l2] r σ Q = (vRf x = true ∧ aw g 179 1 [some (x), l1, l2] (x :: r) σ Q) := (aw_eq g 179 0 _ _ _ _).trans (by rw [tq179_0]; exact h_load rfl)
theorem tq179_1 : tT g 179 1 = s_load vI 179 2 1 := rfl
theorem A179_1 {l0 : Option Value} {l2 : Option Value} {x : Int32} {r : List Value} : aw g 179 1 [l0, some (.int x), l2] r σ Q = aw g 179 2 [l0, some (.int x), l2] (.int x :: r) σ Q := (aw_eq g 179 1 _ _ _ _).trans (by rw [tq179_1]; exact (h_load rfl).trans (propext ⟨fun z => z.2, fun z => ⟨rfl, z⟩⟩))
theorem tq179_2 : tT g 179 2 = s_callvk 179 5 180 4 [0] 4 := rfl
theorem A179_2 {L : AL} {r : List Value} {a : Nat} {w0 : Value} : aw g 179 2 L (w0 :: .ref a :: r) σ Q = (hty σ a = some 4 ∧ (vI w0 && true) = true ∧ csum r ≤ 8 ∧ aw g 180 0 [some (.ref a), some w0, none, none] [] σ (kt (aw g) 179 5 L r Q)) := (aw_eq g 179 2 _ _ _ _).trans (by rw [tq179_2]; exact rfl)
theorem tq179_5 : tT g 179 5 = s_store vI 179 6 2 := rfl
theorem A179_5 {l0 : Option Value} {l1 : Option Value} {l2 : Option Value} {x : Int32} {r : List Value} : aw g 179 5 [l0, l1, l2] (.int x :: r) σ Q = (oc l1 = true ∧ aw g 179 6 [l0, l1, some (.int x)] r σ Q) := (aw_eq g 179 5 _ _ _ _).trans (by rw [tq179_5]; exact (h_store (o := oc l1) rfl rfl rfl).trans (propext ⟨fun z => z.2, fun z => ⟨rfl, z⟩⟩))
theorem tq179_6 : tT g 179 6 = s_load vI 179 7 2 := rfl
theorem A179_6 {l0 : Option Value} {l1 : Option Value} {x : Int32} {r : List Value} : aw g 179 6 [l0, l1, some (.int x)] r σ Q = aw g 179 7 [l0, l1, some (.int x)] (.int x :: r) σ Q := (aw_eq g 179 6 _ _ _ _).trans (by rw [tq179_6]; exact (h_load rfl).trans (propext ⟨fun z => z.2, fun z => ⟨rfl, z⟩⟩))
theorem tq179_7 : tT g 179 7 = s_const 179 8 (.int (-1)) := rfl
theorem A179_7 {L : AL} {r : List Value} : aw g 179 7 L r σ Q = aw g 179 8 L (.int (-1) :: r) σ Q := (aw_eq g 179 7 _ _ _ _).trans (by rw [tq179_7]; exact rfl)
theorem tq179_8 : tT g 179 8 = s_icmp 179 13 11 (fun a b => a = b) := rfl
theorem A179_8 {L : AL} {r : List Value} {a b : Int32} : aw g 179 8 L (.int b :: .int a :: r) σ Q = ((a = b → aw g 179 11 L r σ Q) ∧ (¬ a = b → aw g 179 13 L r σ Q)) := (aw_eq g 179 8 _ _ _ _).trans (by rw [tq179_8]; exact rfl)
theorem tq179_11 : tT g 179 11 = s_const 179 12 (.int 0) := rfl
theorem A179_11 {L : AL} {r : List Value} : aw g 179 11 L r σ Q = aw g 179 12 L (.int 0 :: r) σ Q := (aw_eq g 179 11 _ _ _ _).trans (by rw [tq179_11]; exact rfl)
theorem tq179_12 : tT g 179 12 = s_ret vZ := rfl
theorem A179_12 {L : AL} {v : Value} : aw g 179 12 L [v] σ Q = (vZ v ∧ Q (.inl (some v)) σ) := (aw_eq g 179 12 _ _ _ _).trans (by rw [tq179_12]; exact rfl)
theorem tq179_13 : tT g 179 13 = s_load vRf 179 14 0 := rfl
theorem A179_13 {l1 : Option Value} {l2 : Option Value} {x : Value} {r : List Value} : aw g 179 13 [some (x), l1, l2] r σ Q = (vRf x = true ∧ aw g 179 14 [some (x), l1, l2] (x :: r) σ Q) := (aw_eq g 179 13 _ _ _ _).trans (by rw [tq179_13]; exact h_load rfl)
theorem tq179_14 : tT g 179 14 = s_getf 179 17 4 0 := rfl
theorem A179_14 {L : AL} {r : List Value} {a : Nat} : aw g 179 14 L (.ref a :: r) σ Q = (hty σ a = some 4 ∧ aw g 179 17 L (hv σ 4 a 0 :: r) σ Q) := (aw_eq g 179 14 _ _ _ _).trans (by rw [tq179_14]; exact rfl)
theorem tq179_17 : tT g 179 17 = s_load vI 179 18 2 := rfl
theorem A179_17 {l0 : Option Value} {l1 : Option Value} {x : Int32} {r : List Value} : aw g 179 17 [l0, l1, some (.int x)] r σ Q = aw g 179 18 [l0, l1, some (.int x)] (.int x :: r) σ Q := (aw_eq g 179 17 _ _ _ _).trans (by rw [tq179_17]; exact (h_load rfl).trans (propext ⟨fun z => z.2, fun z => ⟨rfl, z⟩⟩))
theorem tq179_18 : tT g 179 18 = s_const 179 20 (.int 8) := rfl
theorem A179_18 {L : AL} {r : List Value} : aw g 179 18 L r σ Q = aw g 179 20 L (.int 8 :: r) σ Q := (aw_eq g 179 18 _ _ _ _).trans (by rw [tq179_18]; exact rfl)
theorem tq179_20 : tT g 179 20 = s_div 179 21 (fun a b => a / b) := rfl
theorem A179_20 {L : AL} {r : List Value} {a b : Int32} : aw g 179 20 L (.int b :: .int a :: r) σ Q = (b ≠ 0 ∧ aw g 179 21 L (.int (a / b) :: r) σ Q) := (aw_eq g 179 20 _ _ _ _).trans (by rw [tq179_20]; exact rfl)
theorem tq179_21 : tT g 179 21 = s_callvk 179 24 25 10 [0] 2 := rfl
theorem A179_21 {L : AL} {r : List Value} {a : Nat} {w0 : Value} : aw g 179 21 L (w0 :: .ref a :: r) σ Q = (hty σ a = some 10 ∧ (vI w0 && true) = true ∧ csum r ≤ 8 ∧ aw g 25 0 [some (.ref a), some w0] [] σ (kt (aw g) 179 24 L r Q)) := (aw_eq g 179 21 _ _ _ _).trans (by rw [tq179_21]; exact rfl)
theorem tq179_24 : tT g 179 24 = s_cast 179 27 [7] := rfl
theorem A179_24 {L : AL} {r : List Value} : aw g 179 24 L (.null :: r) σ Q = aw g 179 27 L (.null :: r) σ Q := (aw_eq g 179 24 _ _ _ _).trans (by rw [tq179_24]; exact rfl)
theorem A179_24r {L : AL} {r : List Value} {a : Nat} : aw g 179 24 L (.ref a :: r) σ Q = (hty σ a = some 7 ∧ aw g 179 27 L (.ref a :: r) σ Q) := (aw_eq g 179 24 _ _ _ _).trans (by rw [tq179_24]; exact propext ⟨fun z => (by obtain ⟨⟨u, hu, hu2⟩, z2⟩ := z; rw [List.mem_singleton] at hu; subst hu; exact ⟨hu2, z2⟩), fun z => ⟨⟨_, List.mem_cons_self, z.1⟩, z.2⟩⟩)
theorem tq179_27 : tT g 179 27 = s_getf 179 30 7 14 := rfl
theorem A179_27 {L : AL} {r : List Value} {a : Nat} : aw g 179 27 L (.ref a :: r) σ Q = (hty σ a = some 7 ∧ aw g 179 30 L (hv σ 7 a 14 :: r) σ Q) := (aw_eq g 179 27 _ _ _ _).trans (by rw [tq179_27]; exact rfl)
theorem tq179_30 : tT g 179 30 = s_load vI 179 31 2 := rfl
theorem A179_30 {l0 : Option Value} {l1 : Option Value} {x : Int32} {r : List Value} : aw g 179 30 [l0, l1, some (.int x)] r σ Q = aw g 179 31 [l0, l1, some (.int x)] (.int x :: r) σ Q := (aw_eq g 179 30 _ _ _ _).trans (by rw [tq179_30]; exact (h_load rfl).trans (propext ⟨fun z => z.2, fun z => ⟨rfl, z⟩⟩))
theorem tq179_31 : tT g 179 31 = s_const 179 33 (.int 8) := rfl
theorem A179_31 {L : AL} {r : List Value} : aw g 179 31 L r σ Q = aw g 179 33 L (.int 8 :: r) σ Q := (aw_eq g 179 31 _ _ _ _).trans (by rw [tq179_31]; exact rfl)
theorem tq179_33 : tT g 179 33 = s_div 179 34 (fun a b => a - a / b * b) := rfl
theorem A179_33 {L : AL} {r : List Value} {a b : Int32} : aw g 179 33 L (.int b :: .int a :: r) σ Q = (b ≠ 0 ∧ aw g 179 34 L (.int (a - a / b * b) :: r) σ Q) := (aw_eq g 179 33 _ _ _ _).trans (by rw [tq179_33]; exact rfl)
theorem tq179_34 : tT g 179 34 = s_const 179 35 (.int 1) := rfl
theorem A179_34 {L : AL} {r : List Value} : aw g 179 34 L r σ Q = aw g 179 35 L (.int 1 :: r) σ Q := (aw_eq g 179 34 _ _ _ _).trans (by rw [tq179_34]; exact rfl)
theorem tq179_35 : tT g 179 35 = s_ast g (fun _ v => vI v = true) 179 36 20 := rfl
theorem A179_35 {L : AL} {r : List Value} {a : Nat} {i : Int32} {v : Value} : aw g 179 35 L (v :: .int i :: .ref a :: r) σ Q = (hty σ a = some 20 ∧ gB g ≤ a ∧ ¬ i < 0 ∧ i.toNatClampNeg < hln σ a ∧ vI v = true ∧ aw g 179 36 L r (hput σ 20 a i.toNatClampNeg v) Q) := (aw_eq g 179 35 _ _ _ _).trans (by rw [tq179_35]; exact rfl)
theorem tq179_36 : tT g 179 36 = s_load vRf 179 37 0 := rfl
theorem A179_36 {l1 : Option Value} {l2 : Option Value} {x : Value} {r : List Value} : aw g 179 36 [some (x), l1, l2] r σ Q = (vRf x = true ∧ aw g 179 37 [some (x), l1, l2] (x :: r) σ Q) := (aw_eq g 179 36 _ _ _ _).trans (by rw [tq179_36]; exact h_load rfl)
theorem tq179_37 : tT g 179 37 = s_dup 179 38 := rfl
theorem A179_37 {L : AL} {r : List Value} {v : Value} : aw g 179 37 L (v :: r) σ Q = (v.category = 1 ∧ aw g 179 38 L (v :: v :: r) σ Q) := (aw_eq g 179 37 _ _ _ _).trans (by rw [tq179_37]; exact rfl)
theorem tq179_38 : tT g 179 38 = s_getf 179 41 4 8 := rfl
theorem A179_38 {L : AL} {r : List Value} {a : Nat} : aw g 179 38 L (.ref a :: r) σ Q = (hty σ a = some 4 ∧ aw g 179 41 L (hv σ 4 a 8 :: r) σ Q) := (aw_eq g 179 38 _ _ _ _).trans (by rw [tq179_38]; exact rfl)
theorem tq179_41 : tT g 179 41 = s_const 179 42 (.int 1) := rfl
theorem A179_41 {L : AL} {r : List Value} : aw g 179 41 L r σ Q = aw g 179 42 L (.int 1 :: r) σ Q := (aw_eq g 179 41 _ _ _ _).trans (by rw [tq179_41]; exact rfl)
theorem tq179_42 : tT g 179 42 = s_bin 179 43 (fun a b => a + b) := rfl
theorem A179_42 {L : AL} {r : List Value} {a b : Int32} : aw g 179 42 L (.int b :: .int a :: r) σ Q = aw g 179 43 L (.int (a + b) :: r) σ Q := (aw_eq g 179 42 _ _ _ _).trans (by rw [tq179_42]; exact rfl)
theorem tq179_43 : tT g 179 43 = s_putf g pI 179 46 4 8 := rfl
theorem A179_43 {L : AL} {r : List Value} {a : Nat} {v : Value} : aw g 179 43 L (v :: .ref a :: r) σ Q = (hty σ a = some 4 ∧ gB g ≤ a ∧ pI v ∧ aw g 179 46 L r (hput σ 4 a 8 v) Q) := (aw_eq g 179 43 _ _ _ _).trans (by rw [tq179_43]; exact rfl)
theorem tq179_46 : tT g 179 46 = s_const 179 47 (.int 1) := rfl
theorem A179_46 {L : AL} {r : List Value} : aw g 179 46 L r σ Q = aw g 179 47 L (.int 1 :: r) σ Q := (aw_eq g 179 46 _ _ _ _).trans (by rw [tq179_46]; exact rfl)
theorem tq179_47 : tT g 179 47 = s_ret vZ := rfl
theorem A179_47 {L : AL} {v : Value} : aw g 179 47 L [v] σ Q = (vZ v ∧ Q (.inl (some v)) σ) := (aw_eq g 179 47 _ _ _ _).trans (by rw [tq179_47]; exact rfl)
theorem tq180_0 : tT g 180 0 = s_const 180 1 (.int 0) := rfl
theorem A180_0 {L : AL} {r : List Value} : aw g 180 0 L r σ Q = aw g 180 1 L (.int 0 :: r) σ Q := (aw_eq g 180 0 _ _ _ _).trans (by rw [tq180_0]; exact rfl)
theorem tq180_1 : tT g 180 1 = s_store vI 180 2 2 := rfl
theorem A180_1 {l0 : Option Value} {l1 : Option Value} {l2 : Option Value} {l3 : Option Value} {x : Int32} {r : List Value} : aw g 180 1 [l0, l1, l2, l3] (.int x :: r) σ Q = (oc l1 = true ∧ aw g 180 2 [l0, l1, some (.int x), l3] r σ Q) := (aw_eq g 180 1 _ _ _ _).trans (by rw [tq180_1]; exact (h_store (o := oc l1) rfl rfl rfl).trans (propext ⟨fun z => z.2, fun z => ⟨rfl, z⟩⟩))
theorem tq180_2 : tT g 180 2 = s_load vI 180 3 2 := rfl
theorem A180_2 {l0 : Option Value} {l1 : Option Value} {l3 : Option Value} {x : Int32} {r : List Value} : aw g 180 2 [l0, l1, some (.int x), l3] r σ Q = aw g 180 3 [l0, l1, some (.int x), l3] (.int x :: r) σ Q := (aw_eq g 180 2 _ _ _ _).trans (by rw [tq180_2]; exact (h_load rfl).trans (propext ⟨fun z => z.2, fun z => ⟨rfl, z⟩⟩))
theorem tq180_3 : tT g 180 3 = s_load vRf 180 4 0 := rfl
theorem A180_3 {l1 : Option Value} {l2 : Option Value} {l3 : Option Value} {x : Value} {r : List Value} : aw g 180 3 [some (x), l1, l2, l3] r σ Q = (vRf x = true ∧ aw g 180 4 [some (x), l1, l2, l3] (x :: r) σ Q) := (aw_eq g 180 3 _ _ _ _).trans (by rw [tq180_3]; exact h_load rfl)
theorem tq180_4 : tT g 180 4 = s_getf 180 7 4 0 := rfl
theorem A180_4 {L : AL} {r : List Value} {a : Nat} : aw g 180 4 L (.ref a :: r) σ Q = (hty σ a = some 4 ∧ aw g 180 7 L (hv σ 4 a 0 :: r) σ Q) := (aw_eq g 180 4 _ _ _ _).trans (by rw [tq180_4]; exact rfl)
theorem tq180_7 : tT g 180 7 = s_callvk 180 10 15 10 [] 1 := rfl
theorem A180_7 {L : AL} {r : List Value} {a : Nat} : aw g 180 7 L (.ref a :: r) σ Q = (hty σ a = some 10 ∧ true = true ∧ csum r ≤ 8 ∧ aw g 15 0 [some (.ref a)] [] σ (kt (aw g) 180 10 L r Q)) := (aw_eq g 180 7 _ _ _ _).trans (by rw [tq180_7]; exact rfl)
theorem tq180_10 : tT g 180 10 = s_icmp 180 13 79 (fun a b => b ≤ a) := rfl
theorem A180_10 {L : AL} {r : List Value} {a b : Int32} : aw g 180 10 L (.int b :: .int a :: r) σ Q = ((b ≤ a → aw g 180 79 L r σ Q) ∧ (¬ b ≤ a → aw g 180 13 L r σ Q)) := (aw_eq g 180 10 _ _ _ _).trans (by rw [tq180_10]; exact rfl)
theorem tq180_13 : tT g 180 13 = s_const 180 14 (.int 0) := rfl
theorem A180_13 {L : AL} {r : List Value} : aw g 180 13 L r σ Q = aw g 180 14 L (.int 0 :: r) σ Q := (aw_eq g 180 13 _ _ _ _).trans (by rw [tq180_13]; exact rfl)
theorem tq180_14 : tT g 180 14 = s_store vI 180 15 3 := rfl
theorem A180_14 {l0 : Option Value} {l1 : Option Value} {l2 : Option Value} {l3 : Option Value} {x : Int32} {r : List Value} : aw g 180 14 [l0, l1, l2, l3] (.int x :: r) σ Q = (oc l2 = true ∧ aw g 180 15 [l0, l1, l2, some (.int x)] r σ Q) := (aw_eq g 180 14 _ _ _ _).trans (by rw [tq180_14]; exact (h_store (o := oc l2) rfl rfl rfl).trans (propext ⟨fun z => z.2, fun z => ⟨rfl, z⟩⟩))
theorem tq180_15 : tT g 180 15 = s_load vI 180 16 3 := rfl
theorem A180_15 {l0 : Option Value} {l1 : Option Value} {l2 : Option Value} {x : Int32} {r : List Value} : aw g 180 15 [l0, l1, l2, some (.int x)] r σ Q = aw g 180 16 [l0, l1, l2, some (.int x)] (.int x :: r) σ Q := (aw_eq g 180 15 _ _ _ _).trans (by rw [tq180_15]; exact (h_load rfl).trans (propext ⟨fun z => z.2, fun z => ⟨rfl, z⟩⟩))
theorem tq180_16 : tT g 180 16 = s_const 180 18 (.int 6) := rfl
theorem A180_16 {L : AL} {r : List Value} : aw g 180 16 L r σ Q = aw g 180 18 L (.int 6 :: r) σ Q := (aw_eq g 180 16 _ _ _ _).trans (by rw [tq180_16]; exact rfl)
theorem tq180_18 : tT g 180 18 = s_icmp 180 21 73 (fun a b => b ≤ a) := rfl
theorem A180_18 {L : AL} {r : List Value} {a b : Int32} : aw g 180 18 L (.int b :: .int a :: r) σ Q = ((b ≤ a → aw g 180 73 L r σ Q) ∧ (¬ b ≤ a → aw g 180 21 L r σ Q)) := (aw_eq g 180 18 _ _ _ _).trans (by rw [tq180_18]; exact rfl)
theorem tq180_21 : tT g 180 21 = s_load vRf 180 22 0 := rfl
theorem A180_21 {l1 : Option Value} {l2 : Option Value} {l3 : Option Value} {x : Value} {r : List Value} : aw g 180 21 [some (x), l1, l2, l3] r σ Q = (vRf x = true ∧ aw g 180 22 [some (x), l1, l2, l3] (x :: r) σ Q) := (aw_eq g 180 21 _ _ _ _).trans (by rw [tq180_21]; exact h_load rfl)
theorem tq180_22 : tT g 180 22 = s_getf 180 25 4 0 := rfl
theorem A180_22 {L : AL} {r : List Value} {a : Nat} : aw g 180 22 L (.ref a :: r) σ Q = (hty σ a = some 4 ∧ aw g 180 25 L (hv σ 4 a 0 :: r) σ Q) := (aw_eq g 180 22 _ _ _ _).trans (by rw [tq180_22]; exact rfl)
theorem tq180_25 : tT g 180 25 = s_load vI 180 26 2 := rfl
theorem A180_25 {l0 : Option Value} {l1 : Option Value} {l3 : Option Value} {x : Int32} {r : List Value} : aw g 180 25 [l0, l1, some (.int x), l3] r σ Q = aw g 180 26 [l0, l1, some (.int x), l3] (.int x :: r) σ Q := (aw_eq g 180 25 _ _ _ _).trans (by rw [tq180_25]; exact (h_load rfl).trans (propext ⟨fun z => z.2, fun z => ⟨rfl, z⟩⟩))
theorem tq180_26 : tT g 180 26 = s_callvk 180 29 25 10 [0] 2 := rfl
theorem A180_26 {L : AL} {r : List Value} {a : Nat} {w0 : Value} : aw g 180 26 L (w0 :: .ref a :: r) σ Q = (hty σ a = some 10 ∧ (vI w0 && true) = true ∧ csum r ≤ 8 ∧ aw g 25 0 [some (.ref a), some w0] [] σ (kt (aw g) 180 29 L r Q)) := (aw_eq g 180 26 _ _ _ _).trans (by rw [tq180_26]; exact rfl)
theorem tq180_29 : tT g 180 29 = s_cast 180 32 [7] := rfl
theorem A180_29 {L : AL} {r : List Value} : aw g 180 29 L (.null :: r) σ Q = aw g 180 32 L (.null :: r) σ Q := (aw_eq g 180 29 _ _ _ _).trans (by rw [tq180_29]; exact rfl)
theorem A180_29r {L : AL} {r : List Value} {a : Nat} : aw g 180 29 L (.ref a :: r) σ Q = (hty σ a = some 7 ∧ aw g 180 32 L (.ref a :: r) σ Q) := (aw_eq g 180 29 _ _ _ _).trans (by rw [tq180_29]; exact propext ⟨fun z => (by obtain ⟨⟨u, hu, hu2⟩, z2⟩ := z; rw [List.mem_singleton] at hu; subst hu; exact ⟨hu2, z2⟩), fun z => ⟨⟨_, List.mem_cons_self, z.1⟩, z.2⟩⟩)
theorem tq180_32 : tT g 180 32 = s_getf 180 35 7 14 := rfl
theorem A180_32 {L : AL} {r : List Value} {a : Nat} : aw g 180 32 L (.ref a :: r) σ Q = (hty σ a = some 7 ∧ aw g 180 35 L (hv σ 7 a 14 :: r) σ Q) := (aw_eq g 180 32 _ _ _ _).trans (by rw [tq180_32]; exact rfl)
theorem tq180_35 : tT g 180 35 = s_load vI 180 36 3 := rfl
theorem A180_35 {l0 : Option Value} {l1 : Option Value} {l2 : Option Value} {x : Int32} {r : List Value} : aw g 180 35 [l0, l1, l2, some (.int x)] r σ Q = aw g 180 36 [l0, l1, l2, some (.int x)] (.int x :: r) σ Q := (aw_eq g 180 35 _ _ _ _).trans (by rw [tq180_35]; exact (h_load rfl).trans (propext ⟨fun z => z.2, fun z => ⟨rfl, z⟩⟩))
theorem tq180_36 : tT g 180 36 = s_ald 180 37 20 := rfl
theorem A180_36 {L : AL} {r : List Value} {a : Nat} {i : Int32} : aw g 180 36 L (.int i :: .ref a :: r) σ Q = (hty σ a = some 20 ∧ ¬ i < 0 ∧ i.toNatClampNeg < hln σ a ∧ aw g 180 37 L (hv σ 20 a i.toNatClampNeg :: r) σ Q) := (aw_eq g 180 36 _ _ _ _).trans (by rw [tq180_36]; exact rfl)
theorem tq180_37 : tT g 180 37 = s_if 180 67 40 (fun a => a = 0) := rfl
theorem A180_37 {L : AL} {r : List Value} {a : Int32} : aw g 180 37 L (.int a :: r) σ Q = ((a = 0 → aw g 180 40 L r σ Q) ∧ (¬ a = 0 → aw g 180 67 L r σ Q)) := (aw_eq g 180 37 _ _ _ _).trans (by rw [tq180_37]; exact rfl)
theorem tq180_40 : tT g 180 40 = s_load vRf 180 41 0 := rfl
theorem A180_40 {l1 : Option Value} {l2 : Option Value} {l3 : Option Value} {x : Value} {r : List Value} : aw g 180 40 [some (x), l1, l2, l3] r σ Q = (vRf x = true ∧ aw g 180 41 [some (x), l1, l2, l3] (x :: r) σ Q) := (aw_eq g 180 40 _ _ _ _).trans (by rw [tq180_40]; exact h_load rfl)
theorem tq180_41 : tT g 180 41 = s_getf 180 44 4 0 := rfl
theorem A180_41 {L : AL} {r : List Value} {a : Nat} : aw g 180 41 L (.ref a :: r) σ Q = (hty σ a = some 4 ∧ aw g 180 44 L (hv σ 4 a 0 :: r) σ Q) := (aw_eq g 180 41 _ _ _ _).trans (by rw [tq180_41]; exact rfl)
theorem tq180_44 : tT g 180 44 = s_load vI 180 45 2 := rfl
theorem A180_44 {l0 : Option Value} {l1 : Option Value} {l3 : Option Value} {x : Int32} {r : List Value} : aw g 180 44 [l0, l1, some (.int x), l3] r σ Q = aw g 180 45 [l0, l1, some (.int x), l3] (.int x :: r) σ Q := (aw_eq g 180 44 _ _ _ _).trans (by rw [tq180_44]; exact (h_load rfl).trans (propext ⟨fun z => z.2, fun z => ⟨rfl, z⟩⟩))
theorem tq180_45 : tT g 180 45 = s_callvk 180 48 25 10 [0] 2 := rfl
theorem A180_45 {L : AL} {r : List Value} {a : Nat} {w0 : Value} : aw g 180 45 L (w0 :: .ref a :: r) σ Q = (hty σ a = some 10 ∧ (vI w0 && true) = true ∧ csum r ≤ 8 ∧ aw g 25 0 [some (.ref a), some w0] [] σ (kt (aw g) 180 48 L r Q)) := (aw_eq g 180 45 _ _ _ _).trans (by rw [tq180_45]; exact rfl)
theorem tq180_48 : tT g 180 48 = s_cast 180 51 [7] := rfl
theorem A180_48 {L : AL} {r : List Value} : aw g 180 48 L (.null :: r) σ Q = aw g 180 51 L (.null :: r) σ Q := (aw_eq g 180 48 _ _ _ _).trans (by rw [tq180_48]; exact rfl)
theorem A180_48r {L : AL} {r : List Value} {a : Nat} : aw g 180 48 L (.ref a :: r) σ Q = (hty σ a = some 7 ∧ aw g 180 51 L (.ref a :: r) σ Q) := (aw_eq g 180 48 _ _ _ _).trans (by rw [tq180_48]; exact propext ⟨fun z => (by obtain ⟨⟨u, hu, hu2⟩, z2⟩ := z; rw [List.mem_singleton] at hu; subst hu; exact ⟨hu2, z2⟩), fun z => ⟨⟨_, List.mem_cons_self, z.1⟩, z.2⟩⟩)
theorem tq180_51 : tT g 180 51 = s_getf 180 54 7 15 := rfl
theorem A180_51 {L : AL} {r : List Value} {a : Nat} : aw g 180 51 L (.ref a :: r) σ Q = (hty σ a = some 7 ∧ aw g 180 54 L (hv σ 7 a 15 :: r) σ Q) := (aw_eq g 180 51 _ _ _ _).trans (by rw [tq180_51]; exact rfl)
theorem tq180_54 : tT g 180 54 = s_load vI 180 55 3 := rfl
theorem A180_54 {l0 : Option Value} {l1 : Option Value} {l2 : Option Value} {x : Int32} {r : List Value} : aw g 180 54 [l0, l1, l2, some (.int x)] r σ Q = aw g 180 55 [l0, l1, l2, some (.int x)] (.int x :: r) σ Q := (aw_eq g 180 54 _ _ _ _).trans (by rw [tq180_54]; exact (h_load rfl).trans (propext ⟨fun z => z.2, fun z => ⟨rfl, z⟩⟩))
theorem tq180_55 : tT g 180 55 = s_ald 180 56 20 := rfl
theorem A180_55 {L : AL} {r : List Value} {a : Nat} {i : Int32} : aw g 180 55 L (.int i :: .ref a :: r) σ Q = (hty σ a = some 20 ∧ ¬ i < 0 ∧ i.toNatClampNeg < hln σ a ∧ aw g 180 56 L (hv σ 20 a i.toNatClampNeg :: r) σ Q) := (aw_eq g 180 55 _ _ _ _).trans (by rw [tq180_55]; exact rfl)
theorem tq180_56 : tT g 180 56 = s_load vI 180 57 1 := rfl
theorem A180_56 {l0 : Option Value} {l2 : Option Value} {l3 : Option Value} {x : Int32} {r : List Value} : aw g 180 56 [l0, some (.int x), l2, l3] r σ Q = aw g 180 57 [l0, some (.int x), l2, l3] (.int x :: r) σ Q := (aw_eq g 180 56 _ _ _ _).trans (by rw [tq180_56]; exact (h_load rfl).trans (propext ⟨fun z => z.2, fun z => ⟨rfl, z⟩⟩))
theorem tq180_57 : tT g 180 57 = s_icmp 180 67 60 (fun a b => a = b) := rfl
theorem A180_57 {L : AL} {r : List Value} {a b : Int32} : aw g 180 57 L (.int b :: .int a :: r) σ Q = ((a = b → aw g 180 60 L r σ Q) ∧ (¬ a = b → aw g 180 67 L r σ Q)) := (aw_eq g 180 57 _ _ _ _).trans (by rw [tq180_57]; exact rfl)
theorem tq180_60 : tT g 180 60 = s_const 180 62 (.int 8) := rfl
theorem A180_60 {L : AL} {r : List Value} : aw g 180 60 L r σ Q = aw g 180 62 L (.int 8 :: r) σ Q := (aw_eq g 180 60 _ _ _ _).trans (by rw [tq180_60]; exact rfl)
theorem tq180_62 : tT g 180 62 = s_load vI 180 63 2 := rfl
theorem A180_62 {l0 : Option Value} {l1 : Option Value} {l3 : Option Value} {x : Int32} {r : List Value} : aw g 180 62 [l0, l1, some (.int x), l3] r σ Q = aw g 180 63 [l0, l1, some (.int x), l3] (.int x :: r) σ Q := (aw_eq g 180 62 _ _ _ _).trans (by rw [tq180_62]; exact (h_load rfl).trans (propext ⟨fun z => z.2, fun z => ⟨rfl, z⟩⟩))
theorem tq180_63 : tT g 180 63 = s_bin 180 64 (fun a b => a * b) := rfl
theorem A180_63 {L : AL} {r : List Value} {a b : Int32} : aw g 180 63 L (.int b :: .int a :: r) σ Q = aw g 180 64 L (.int (a * b) :: r) σ Q := (aw_eq g 180 63 _ _ _ _).trans (by rw [tq180_63]; exact rfl)
theorem tq180_64 : tT g 180 64 = s_load vI 180 65 3 := rfl
theorem A180_64 {l0 : Option Value} {l1 : Option Value} {l2 : Option Value} {x : Int32} {r : List Value} : aw g 180 64 [l0, l1, l2, some (.int x)] r σ Q = aw g 180 65 [l0, l1, l2, some (.int x)] (.int x :: r) σ Q := (aw_eq g 180 64 _ _ _ _).trans (by rw [tq180_64]; exact (h_load rfl).trans (propext ⟨fun z => z.2, fun z => ⟨rfl, z⟩⟩))
theorem tq180_65 : tT g 180 65 = s_bin 180 66 (fun a b => a + b) := rfl
theorem A180_65 {L : AL} {r : List Value} {a b : Int32} : aw g 180 65 L (.int b :: .int a :: r) σ Q = aw g 180 66 L (.int (a + b) :: r) σ Q := (aw_eq g 180 65 _ _ _ _).trans (by rw [tq180_65]; exact rfl)
theorem tq180_66 : tT g 180 66 = s_ret pI := rfl
theorem A180_66 {L : AL} {v : Value} : aw g 180 66 L [v] σ Q = (pI v ∧ Q (.inl (some v)) σ) := (aw_eq g 180 66 _ _ _ _).trans (by rw [tq180_66]; exact rfl)
theorem tq180_67 : tT g 180 67 = s_iinc 180 70 3 1 := rfl
theorem A180_67 {l0 : Option Value} {l1 : Option Value} {l2 : Option Value} {x : Int32} {r : List Value} : aw g 180 67 [l0, l1, l2, some (.int x)] r σ Q = (oc l2 = true ∧ aw g 180 70 [l0, l1, l2, some (.int (x + 1))] r σ Q) := (aw_eq g 180 67 _ _ _ _).trans (by rw [tq180_67]; exact (h_iinc (o := oc l2) rfl rfl rfl))
theorem tq180_70 : tT g 180 70 = s_goto 180 15 := rfl
theorem A180_70 {L : AL} {r : List Value} : aw g 180 70 L r σ Q = aw g 180 15 L r σ Q := (aw_eq g 180 70 _ _ _ _).trans (by rw [tq180_70]; exact rfl)
theorem tq180_73 : tT g 180 73 = s_iinc 180 76 2 1 := rfl
theorem A180_73 {l0 : Option Value} {l1 : Option Value} {l3 : Option Value} {x : Int32} {r : List Value} : aw g 180 73 [l0, l1, some (.int x), l3] r σ Q = (oc l1 = true ∧ aw g 180 76 [l0, l1, some (.int (x + 1)), l3] r σ Q) := (aw_eq g 180 73 _ _ _ _).trans (by rw [tq180_73]; exact (h_iinc (o := oc l1) rfl rfl rfl))
theorem tq180_76 : tT g 180 76 = s_goto 180 2 := rfl
theorem A180_76 {L : AL} {r : List Value} : aw g 180 76 L r σ Q = aw g 180 2 L r σ Q := (aw_eq g 180 76 _ _ _ _).trans (by rw [tq180_76]; exact rfl)
theorem tq180_79 : tT g 180 79 = s_const 180 80 (.int (-1)) := rfl
theorem A180_79 {L : AL} {r : List Value} : aw g 180 79 L r σ Q = aw g 180 80 L (.int (-1) :: r) σ Q := (aw_eq g 180 79 _ _ _ _).trans (by rw [tq180_79]; exact rfl)
theorem tq180_80 : tT g 180 80 = s_ret pI := rfl
theorem A180_80 {L : AL} {v : Value} : aw g 180 80 L [v] σ Q = (pI v ∧ Q (.inl (some v)) σ) := (aw_eq g 180 80 _ _ _ _).trans (by rw [tq180_80]; exact rfl)
theorem tq181_0 : tT g 181 0 = s_load vRf 181 1 0 := rfl
theorem A181_0 {l1 : Option Value} {l2 : Option Value} {l3 : Option Value} {l4 : Option Value} {x : Value} {r : List Value} : aw g 181 0 [some (x), l1, l2, l3, l4] r σ Q = (vRf x = true ∧ aw g 181 1 [some (x), l1, l2, l3, l4] (x :: r) σ Q) := (aw_eq g 181 0 _ _ _ _).trans (by rw [tq181_0]; exact h_load rfl)
theorem tq181_1 : tT g 181 1 = s_getf 181 4 4 0 := rfl
theorem A181_1 {L : AL} {r : List Value} {a : Nat} : aw g 181 1 L (.ref a :: r) σ Q = (hty σ a = some 4 ∧ aw g 181 4 L (hv σ 4 a 0 :: r) σ Q) := (aw_eq g 181 1 _ _ _ _).trans (by rw [tq181_1]; exact rfl)
theorem tq181_4 : tT g 181 4 = s_load vI 181 5 1 := rfl
theorem A181_4 {l0 : Option Value} {l2 : Option Value} {l3 : Option Value} {l4 : Option Value} {x : Int32} {r : List Value} : aw g 181 4 [l0, some (.int x), l2, l3, l4] r σ Q = aw g 181 5 [l0, some (.int x), l2, l3, l4] (.int x :: r) σ Q := (aw_eq g 181 4 _ _ _ _).trans (by rw [tq181_4]; exact (h_load rfl).trans (propext ⟨fun z => z.2, fun z => ⟨rfl, z⟩⟩))
theorem tq181_5 : tT g 181 5 = s_callvk 181 8 25 10 [0] 2 := rfl
theorem A181_5 {L : AL} {r : List Value} {a : Nat} {w0 : Value} : aw g 181 5 L (w0 :: .ref a :: r) σ Q = (hty σ a = some 10 ∧ (vI w0 && true) = true ∧ csum r ≤ 8 ∧ aw g 25 0 [some (.ref a), some w0] [] σ (kt (aw g) 181 8 L r Q)) := (aw_eq g 181 5 _ _ _ _).trans (by rw [tq181_5]; exact rfl)
theorem tq181_8 : tT g 181 8 = s_cast 181 11 [7] := rfl
theorem A181_8 {L : AL} {r : List Value} : aw g 181 8 L (.null :: r) σ Q = aw g 181 11 L (.null :: r) σ Q := (aw_eq g 181 8 _ _ _ _).trans (by rw [tq181_8]; exact rfl)
theorem A181_8r {L : AL} {r : List Value} {a : Nat} : aw g 181 8 L (.ref a :: r) σ Q = (hty σ a = some 7 ∧ aw g 181 11 L (.ref a :: r) σ Q) := (aw_eq g 181 8 _ _ _ _).trans (by rw [tq181_8]; exact propext ⟨fun z => (by obtain ⟨⟨u, hu, hu2⟩, z2⟩ := z; rw [List.mem_singleton] at hu; subst hu; exact ⟨hu2, z2⟩), fun z => ⟨⟨_, List.mem_cons_self, z.1⟩, z.2⟩⟩)
theorem tq181_11 : tT g 181 11 = s_store vRf 181 12 3 := rfl
theorem A181_11 {l0 : Option Value} {l1 : Option Value} {l2 : Option Value} {l3 : Option Value} {l4 : Option Value} {x : Value} {r : List Value} : aw g 181 11 [l0, l1, l2, l3, l4] (x :: r) σ Q = (vRf x = true ∧ oc l2 = true ∧ aw g 181 12 [l0, l1, l2, some (x), l4] r σ Q) := (aw_eq g 181 11 _ _ _ _).trans (by rw [tq181_11]; exact (h_store (o := oc l2) rfl rfl rfl))
theorem tq181_12 : tT g 181 12 = s_load vRf 181 13 3 := rfl
theorem A181_12 {l0 : Option Value} {l1 : Option Value} {l2 : Option Value} {l4 : Option Value} {x : Value} {r : List Value} : aw g 181 12 [l0, l1, l2, some (x), l4] r σ Q = (vRf x = true ∧ aw g 181 13 [l0, l1, l2, some (x), l4] (x :: r) σ Q) := (aw_eq g 181 12 _ _ _ _).trans (by rw [tq181_12]; exact h_load rfl)
theorem tq181_13 : tT g 181 13 = s_const 181 14 (.int 1) := rfl
theorem A181_13 {L : AL} {r : List Value} : aw g 181 13 L r σ Q = aw g 181 14 L (.int 1 :: r) σ Q := (aw_eq g 181 13 _ _ _ _).trans (by rw [tq181_13]; exact rfl)
theorem tq181_14 : tT g 181 14 = s_putf g vZ 181 17 7 18 := rfl
theorem A181_14 {L : AL} {r : List Value} {a : Nat} {v : Value} : aw g 181 14 L (v :: .ref a :: r) σ Q = (hty σ a = some 7 ∧ gB g ≤ a ∧ vZ v ∧ aw g 181 17 L r (hput σ 7 a 18 v) Q) := (aw_eq g 181 14 _ _ _ _).trans (by rw [tq181_14]; exact rfl)
theorem tq181_17 : tT g 181 17 = s_load vRf 181 18 3 := rfl
theorem A181_17 {l0 : Option Value} {l1 : Option Value} {l2 : Option Value} {l4 : Option Value} {x : Value} {r : List Value} : aw g 181 17 [l0, l1, l2, some (x), l4] r σ Q = (vRf x = true ∧ aw g 181 18 [l0, l1, l2, some (x), l4] (x :: r) σ Q) := (aw_eq g 181 17 _ _ _ _).trans (by rw [tq181_17]; exact h_load rfl)
theorem tq181_18 : tT g 181 18 = s_load vI 181 19 2 := rfl
theorem A181_18 {l0 : Option Value} {l1 : Option Value} {l3 : Option Value} {l4 : Option Value} {x : Int32} {r : List Value} : aw g 181 18 [l0, l1, some (.int x), l3, l4] r σ Q = aw g 181 19 [l0, l1, some (.int x), l3, l4] (.int x :: r) σ Q := (aw_eq g 181 18 _ _ _ _).trans (by rw [tq181_18]; exact (h_load rfl).trans (propext ⟨fun z => z.2, fun z => ⟨rfl, z⟩⟩))
theorem tq181_19 : tT g 181 19 = s_putf g pI 181 22 7 21 := rfl
theorem A181_19 {L : AL} {r : List Value} {a : Nat} {v : Value} : aw g 181 19 L (v :: .ref a :: r) σ Q = (hty σ a = some 7 ∧ gB g ≤ a ∧ pI v ∧ aw g 181 22 L r (hput σ 7 a 21 v) Q) := (aw_eq g 181 19 _ _ _ _).trans (by rw [tq181_19]; exact rfl)
theorem tq181_22 : tT g 181 22 = s_load vRf 181 23 3 := rfl
theorem A181_22 {l0 : Option Value} {l1 : Option Value} {l2 : Option Value} {l4 : Option Value} {x : Value} {r : List Value} : aw g 181 22 [l0, l1, l2, some (x), l4] r σ Q = (vRf x = true ∧ aw g 181 23 [l0, l1, l2, some (x), l4] (x :: r) σ Q) := (aw_eq g 181 22 _ _ _ _).trans (by rw [tq181_22]; exact h_load rfl)
theorem tq181_23 : tT g 181 23 = s_load vRf 181 24 0 := rfl
theorem A181_23 {l1 : Option Value} {l2 : Option Value} {l3 : Option Value} {l4 : Option Value} {x : Value} {r : List Value} : aw g 181 23 [some (x), l1, l2, l3, l4] r σ Q = (vRf x = true ∧ aw g 181 24 [some (x), l1, l2, l3, l4] (x :: r) σ Q) := (aw_eq g 181 23 _ _ _ _).trans (by rw [tq181_23]; exact h_load rfl)
theorem tq181_24 : tT g 181 24 = s_getf 181 27 4 1 := rfl
theorem A181_24 {L : AL} {r : List Value} {a : Nat} : aw g 181 24 L (.ref a :: r) σ Q = (hty σ a = some 4 ∧ aw g 181 27 L (hv σ 4 a 1 :: r) σ Q) := (aw_eq g 181 24 _ _ _ _).trans (by rw [tq181_24]; exact rfl)
theorem tq181_27 : tT g 181 27 = s_putf g pI 181 30 7 23 := rfl
theorem A181_27 {L : AL} {r : List Value} {a : Nat} {v : Value} : aw g 181 27 L (v :: .ref a :: r) σ Q = (hty σ a = some 7 ∧ gB g ≤ a ∧ pI v ∧ aw g 181 30 L r (hput σ 7 a 23 v) Q) := (aw_eq g 181 27 _ _ _ _).trans (by rw [tq181_27]; exact rfl)
theorem tq181_30 : tT g 181 30 = s_load vRf 181 31 3 := rfl
theorem A181_30 {l0 : Option Value} {l1 : Option Value} {l2 : Option Value} {l4 : Option Value} {x : Value} {r : List Value} : aw g 181 30 [l0, l1, l2, some (x), l4] r σ Q = (vRf x = true ∧ aw g 181 31 [l0, l1, l2, some (x), l4] (x :: r) σ Q) := (aw_eq g 181 30 _ _ _ _).trans (by rw [tq181_30]; exact h_load rfl)
theorem tq181_31 : tT g 181 31 = s_const 181 32 (.int 0) := rfl
theorem A181_31 {L : AL} {r : List Value} : aw g 181 31 L r σ Q = aw g 181 32 L (.int 0 :: r) σ Q := (aw_eq g 181 31 _ _ _ _).trans (by rw [tq181_31]; exact rfl)
theorem tq181_32 : tT g 181 32 = s_putf g pI 181 35 7 22 := rfl
theorem A181_32 {L : AL} {r : List Value} {a : Nat} {v : Value} : aw g 181 32 L (v :: .ref a :: r) σ Q = (hty σ a = some 7 ∧ gB g ≤ a ∧ pI v ∧ aw g 181 35 L r (hput σ 7 a 22 v) Q) := (aw_eq g 181 32 _ _ _ _).trans (by rw [tq181_32]; exact rfl)
theorem tq181_35 : tT g 181 35 = s_const 181 36 (.int 0) := rfl
theorem A181_35 {L : AL} {r : List Value} : aw g 181 35 L r σ Q = aw g 181 36 L (.int 0 :: r) σ Q := (aw_eq g 181 35 _ _ _ _).trans (by rw [tq181_35]; exact rfl)
theorem tq181_36 : tT g 181 36 = s_store vI 181 38 4 := rfl
theorem A181_36 {l0 : Option Value} {l1 : Option Value} {l2 : Option Value} {l3 : Option Value} {l4 : Option Value} {x : Int32} {r : List Value} : aw g 181 36 [l0, l1, l2, l3, l4] (.int x :: r) σ Q = (oc l3 = true ∧ aw g 181 38 [l0, l1, l2, l3, some (.int x)] r σ Q) := (aw_eq g 181 36 _ _ _ _).trans (by rw [tq181_36]; exact (h_store (o := oc l3) rfl rfl rfl).trans (propext ⟨fun z => z.2, fun z => ⟨rfl, z⟩⟩))
theorem tq181_38 : tT g 181 38 = s_load vI 181 40 4 := rfl
theorem A181_38 {l0 : Option Value} {l1 : Option Value} {l2 : Option Value} {l3 : Option Value} {x : Int32} {r : List Value} : aw g 181 38 [l0, l1, l2, l3, some (.int x)] r σ Q = aw g 181 40 [l0, l1, l2, l3, some (.int x)] (.int x :: r) σ Q := (aw_eq g 181 38 _ _ _ _).trans (by rw [tq181_38]; exact (h_load rfl).trans (propext ⟨fun z => z.2, fun z => ⟨rfl, z⟩⟩))
theorem tq181_40 : tT g 181 40 = s_const 181 42 (.int 6) := rfl
theorem A181_40 {L : AL} {r : List Value} : aw g 181 40 L r σ Q = aw g 181 42 L (.int 6 :: r) σ Q := (aw_eq g 181 40 _ _ _ _).trans (by rw [tq181_40]; exact rfl)
theorem tq181_42 : tT g 181 42 = s_icmp 181 45 89 (fun a b => b ≤ a) := rfl
theorem A181_42 {L : AL} {r : List Value} {a b : Int32} : aw g 181 42 L (.int b :: .int a :: r) σ Q = ((b ≤ a → aw g 181 89 L r σ Q) ∧ (¬ b ≤ a → aw g 181 45 L r σ Q)) := (aw_eq g 181 42 _ _ _ _).trans (by rw [tq181_42]; exact rfl)
theorem tq181_45 : tT g 181 45 = s_load vRf 181 46 3 := rfl
theorem A181_45 {l0 : Option Value} {l1 : Option Value} {l2 : Option Value} {l4 : Option Value} {x : Value} {r : List Value} : aw g 181 45 [l0, l1, l2, some (x), l4] r σ Q = (vRf x = true ∧ aw g 181 46 [l0, l1, l2, some (x), l4] (x :: r) σ Q) := (aw_eq g 181 45 _ _ _ _).trans (by rw [tq181_45]; exact h_load rfl)
theorem tq181_46 : tT g 181 46 = s_dup 181 47 := rfl
theorem A181_46 {L : AL} {r : List Value} {v : Value} : aw g 181 46 L (v :: r) σ Q = (v.category = 1 ∧ aw g 181 47 L (v :: v :: r) σ Q) := (aw_eq g 181 46 _ _ _ _).trans (by rw [tq181_46]; exact rfl)
theorem tq181_47 : tT g 181 47 = s_getf 181 50 7 22 := rfl
theorem A181_47 {L : AL} {r : List Value} {a : Nat} : aw g 181 47 L (.ref a :: r) σ Q = (hty σ a = some 7 ∧ aw g 181 50 L (hv σ 7 a 22 :: r) σ Q) := (aw_eq g 181 47 _ _ _ _).trans (by rw [tq181_47]; exact rfl)
theorem tq181_50 : tT g 181 50 = s_load vRf 181 51 3 := rfl
theorem A181_50 {l0 : Option Value} {l1 : Option Value} {l2 : Option Value} {l4 : Option Value} {x : Value} {r : List Value} : aw g 181 50 [l0, l1, l2, some (x), l4] r σ Q = (vRf x = true ∧ aw g 181 51 [l0, l1, l2, some (x), l4] (x :: r) σ Q) := (aw_eq g 181 50 _ _ _ _).trans (by rw [tq181_50]; exact h_load rfl)
theorem tq181_51 : tT g 181 51 = s_getf 181 54 7 14 := rfl
theorem A181_51 {L : AL} {r : List Value} {a : Nat} : aw g 181 51 L (.ref a :: r) σ Q = (hty σ a = some 7 ∧ aw g 181 54 L (hv σ 7 a 14 :: r) σ Q) := (aw_eq g 181 51 _ _ _ _).trans (by rw [tq181_51]; exact rfl)
theorem tq181_54 : tT g 181 54 = s_load vI 181 56 4 := rfl
theorem A181_54 {l0 : Option Value} {l1 : Option Value} {l2 : Option Value} {l3 : Option Value} {x : Int32} {r : List Value} : aw g 181 54 [l0, l1, l2, l3, some (.int x)] r σ Q = aw g 181 56 [l0, l1, l2, l3, some (.int x)] (.int x :: r) σ Q := (aw_eq g 181 54 _ _ _ _).trans (by rw [tq181_54]; exact (h_load rfl).trans (propext ⟨fun z => z.2, fun z => ⟨rfl, z⟩⟩))
theorem tq181_56 : tT g 181 56 = s_ald 181 57 20 := rfl
theorem A181_56 {L : AL} {r : List Value} {a : Nat} {i : Int32} : aw g 181 56 L (.int i :: .ref a :: r) σ Q = (hty σ a = some 20 ∧ ¬ i < 0 ∧ i.toNatClampNeg < hln σ a ∧ aw g 181 57 L (hv σ 20 a i.toNatClampNeg :: r) σ Q) := (aw_eq g 181 56 _ _ _ _).trans (by rw [tq181_56]; exact rfl)
theorem tq181_57 : tT g 181 57 = s_if 181 60 71 (fun a => a = 0) := rfl
theorem A181_57 {L : AL} {r : List Value} {a : Int32} : aw g 181 57 L (.int a :: r) σ Q = ((a = 0 → aw g 181 71 L r σ Q) ∧ (¬ a = 0 → aw g 181 60 L r σ Q)) := (aw_eq g 181 57 _ _ _ _).trans (by rw [tq181_57]; exact rfl)
theorem tq181_60 : tT g 181 60 = s_load vRf 181 61 3 := rfl
theorem A181_60 {l0 : Option Value} {l1 : Option Value} {l2 : Option Value} {l4 : Option Value} {x : Value} {r : List Value} : aw g 181 60 [l0, l1, l2, some (x), l4] r σ Q = (vRf x = true ∧ aw g 181 61 [l0, l1, l2, some (x), l4] (x :: r) σ Q) := (aw_eq g 181 60 _ _ _ _).trans (by rw [tq181_60]; exact h_load rfl)
theorem tq181_61 : tT g 181 61 = s_getf 181 64 7 14 := rfl
theorem A181_61 {L : AL} {r : List Value} {a : Nat} : aw g 181 61 L (.ref a :: r) σ Q = (hty σ a = some 7 ∧ aw g 181 64 L (hv σ 7 a 14 :: r) σ Q) := (aw_eq g 181 61 _ _ _ _).trans (by rw [tq181_61]; exact rfl)
theorem tq181_64 : tT g 181 64 = s_load vI 181 66 4 := rfl
theorem A181_64 {l0 : Option Value} {l1 : Option Value} {l2 : Option Value} {l3 : Option Value} {x : Int32} {r : List Value} : aw g 181 64 [l0, l1, l2, l3, some (.int x)] r σ Q = aw g 181 66 [l0, l1, l2, l3, some (.int x)] (.int x :: r) σ Q := (aw_eq g 181 64 _ _ _ _).trans (by rw [tq181_64]; exact (h_load rfl).trans (propext ⟨fun z => z.2, fun z => ⟨rfl, z⟩⟩))
theorem tq181_66 : tT g 181 66 = s_ald 181 67 20 := rfl
theorem A181_66 {L : AL} {r : List Value} {a : Nat} {i : Int32} : aw g 181 66 L (.int i :: .ref a :: r) σ Q = (hty σ a = some 20 ∧ ¬ i < 0 ∧ i.toNatClampNeg < hln σ a ∧ aw g 181 67 L (hv σ 20 a i.toNatClampNeg :: r) σ Q) := (aw_eq g 181 66 _ _ _ _).trans (by rw [tq181_66]; exact rfl)
theorem tq181_67 : tT g 181 67 = s_const 181 68 (.int 1) := rfl
theorem A181_67 {L : AL} {r : List Value} : aw g 181 67 L r σ Q = aw g 181 68 L (.int 1 :: r) σ Q := (aw_eq g 181 67 _ _ _ _).trans (by rw [tq181_67]; exact rfl)
theorem tq181_68 : tT g 181 68 = s_icmp 181 78 71 (fun a b => a = b) := rfl
theorem A181_68 {L : AL} {r : List Value} {a b : Int32} : aw g 181 68 L (.int b :: .int a :: r) σ Q = ((a = b → aw g 181 71 L r σ Q) ∧ (¬ a = b → aw g 181 78 L r σ Q)) := (aw_eq g 181 68 _ _ _ _).trans (by rw [tq181_68]; exact rfl)
theorem tq181_71 : tT g 181 71 = s_const 181 72 (.int 1) := rfl
theorem A181_71 {L : AL} {r : List Value} : aw g 181 71 L r σ Q = aw g 181 72 L (.int 1 :: r) σ Q := (aw_eq g 181 71 _ _ _ _).trans (by rw [tq181_71]; exact rfl)
theorem tq181_72 : tT g 181 72 = s_load vI 181 74 4 := rfl
theorem A181_72 {l0 : Option Value} {l1 : Option Value} {l2 : Option Value} {l3 : Option Value} {x : Int32} {r : List Value} : aw g 181 72 [l0, l1, l2, l3, some (.int x)] r σ Q = aw g 181 74 [l0, l1, l2, l3, some (.int x)] (.int x :: r) σ Q := (aw_eq g 181 72 _ _ _ _).trans (by rw [tq181_72]; exact (h_load rfl).trans (propext ⟨fun z => z.2, fun z => ⟨rfl, z⟩⟩))
theorem tq181_74 : tT g 181 74 = s_bin 181 75 (fun a b => a <<< (b &&& 31)) := rfl
theorem A181_74 {L : AL} {r : List Value} {a b : Int32} : aw g 181 74 L (.int b :: .int a :: r) σ Q = aw g 181 75 L (.int (a <<< (b &&& 31)) :: r) σ Q := (aw_eq g 181 74 _ _ _ _).trans (by rw [tq181_74]; exact rfl)
theorem tq181_75 : tT g 181 75 = s_goto 181 79 := rfl
theorem A181_75 {L : AL} {r : List Value} : aw g 181 75 L r σ Q = aw g 181 79 L r σ Q := (aw_eq g 181 75 _ _ _ _).trans (by rw [tq181_75]; exact rfl)
theorem tq181_78 : tT g 181 78 = s_const 181 79 (.int 0) := rfl
theorem A181_78 {L : AL} {r : List Value} : aw g 181 78 L r σ Q = aw g 181 79 L (.int 0 :: r) σ Q := (aw_eq g 181 78 _ _ _ _).trans (by rw [tq181_78]; exact rfl)
theorem tq181_79 : tT g 181 79 = s_bin 181 80 (fun a b => a ||| b) := rfl
theorem A181_79 {L : AL} {r : List Value} {a b : Int32} : aw g 181 79 L (.int b :: .int a :: r) σ Q = aw g 181 80 L (.int (a ||| b) :: r) σ Q := (aw_eq g 181 79 _ _ _ _).trans (by rw [tq181_79]; exact rfl)
theorem tq181_80 : tT g 181 80 = s_putf g pI 181 83 7 22 := rfl
theorem A181_80 {L : AL} {r : List Value} {a : Nat} {v : Value} : aw g 181 80 L (v :: .ref a :: r) σ Q = (hty σ a = some 7 ∧ gB g ≤ a ∧ pI v ∧ aw g 181 83 L r (hput σ 7 a 22 v) Q) := (aw_eq g 181 80 _ _ _ _).trans (by rw [tq181_80]; exact rfl)
theorem tq181_83 : tT g 181 83 = s_iinc 181 86 4 1 := rfl
theorem A181_83 {l0 : Option Value} {l1 : Option Value} {l2 : Option Value} {l3 : Option Value} {x : Int32} {r : List Value} : aw g 181 83 [l0, l1, l2, l3, some (.int x)] r σ Q = (oc l3 = true ∧ aw g 181 86 [l0, l1, l2, l3, some (.int (x + 1))] r σ Q) := (aw_eq g 181 83 _ _ _ _).trans (by rw [tq181_83]; exact (h_iinc (o := oc l3) rfl rfl rfl))
theorem tq181_86 : tT g 181 86 = s_goto 181 38 := rfl
theorem A181_86 {L : AL} {r : List Value} : aw g 181 86 L r σ Q = aw g 181 38 L r σ Q := (aw_eq g 181 86 _ _ _ _).trans (by rw [tq181_86]; exact rfl)
theorem tq181_89 : tT g 181 89 = s_load vRf 181 90 3 := rfl
theorem A181_89 {l0 : Option Value} {l1 : Option Value} {l2 : Option Value} {l4 : Option Value} {x : Value} {r : List Value} : aw g 181 89 [l0, l1, l2, some (x), l4] r σ Q = (vRf x = true ∧ aw g 181 90 [l0, l1, l2, some (x), l4] (x :: r) σ Q) := (aw_eq g 181 89 _ _ _ _).trans (by rw [tq181_89]; exact h_load rfl)
theorem tq181_90 : tT g 181 90 = s_getf 181 93 7 22 := rfl
theorem A181_90 {L : AL} {r : List Value} {a : Nat} : aw g 181 90 L (.ref a :: r) σ Q = (hty σ a = some 7 ∧ aw g 181 93 L (hv σ 7 a 22 :: r) σ Q) := (aw_eq g 181 90 _ _ _ _).trans (by rw [tq181_90]; exact rfl)
theorem tq181_93 : tT g 181 93 = s_callk 181 96 11 [0] 1 := rfl
theorem A181_93 {L : AL} {r : List Value} {w0 : Value} : aw g 181 93 L (w0 :: r) σ Q = ((vI w0 && true) = true ∧ csum r ≤ 8 ∧ aw g 11 0 [some w0] [] σ (kt (aw g) 181 96 L r Q)) := (aw_eq g 181 93 _ _ _ _).trans (by rw [tq181_93]; exact rfl)
theorem tq181_96 : tT g 181 96 = s_ret pI := rfl
theorem A181_96 {L : AL} {v : Value} : aw g 181 96 L [v] σ Q = (pI v ∧ Q (.inl (some v)) σ) := (aw_eq g 181 96 _ _ _ _).trans (by rw [tq181_96]; exact rfl)
theorem tq182_0 : tT g 182 0 = s_const 182 1 (.int 0) := rfl
theorem A182_0 {L : AL} {r : List Value} : aw g 182 0 L r σ Q = aw g 182 1 L (.int 0 :: r) σ Q := (aw_eq g 182 0 _ _ _ _).trans (by rw [tq182_0]; exact rfl)
theorem tq182_1 : tT g 182 1 = s_store vI 182 2 1 := rfl
theorem A182_1 {l0 : Option Value} {l1 : Option Value} {l2 : Option Value} {l3 : Option Value} {x : Int32} {r : List Value} : aw g 182 1 [l0, l1, l2, l3] (.int x :: r) σ Q = (oc l0 = true ∧ aw g 182 2 [l0, some (.int x), l2, l3] r σ Q) := (aw_eq g 182 1 _ _ _ _).trans (by rw [tq182_1]; exact (h_store (o := oc l0) rfl rfl rfl).trans (propext ⟨fun z => z.2, fun z => ⟨rfl, z⟩⟩))
theorem tq182_2 : tT g 182 2 = s_load vRf 182 3 0 := rfl
theorem A182_2 {l1 : Option Value} {l2 : Option Value} {l3 : Option Value} {x : Value} {r : List Value} : aw g 182 2 [some (x), l1, l2, l3] r σ Q = (vRf x = true ∧ aw g 182 3 [some (x), l1, l2, l3] (x :: r) σ Q) := (aw_eq g 182 2 _ _ _ _).trans (by rw [tq182_2]; exact h_load rfl)
theorem tq182_3 : tT g 182 3 = s_getf 182 6 4 0 := rfl
theorem A182_3 {L : AL} {r : List Value} {a : Nat} : aw g 182 3 L (.ref a :: r) σ Q = (hty σ a = some 4 ∧ aw g 182 6 L (hv σ 4 a 0 :: r) σ Q) := (aw_eq g 182 3 _ _ _ _).trans (by rw [tq182_3]; exact rfl)
theorem tq182_6 : tT g 182 6 = s_callvk 182 9 22 10 [] 1 := rfl
theorem A182_6 {L : AL} {r : List Value} {a : Nat} : aw g 182 6 L (.ref a :: r) σ Q = (hty σ a = some 10 ∧ true = true ∧ csum r ≤ 8 ∧ aw g 22 0 [some (.ref a)] [] σ (kt (aw g) 182 9 L r Q)) := (aw_eq g 182 6 _ _ _ _).trans (by rw [tq182_6]; exact rfl)
theorem tq182_9 : tT g 182 9 = s_store vRf 182 10 2 := rfl
theorem A182_9 {l0 : Option Value} {l1 : Option Value} {l2 : Option Value} {l3 : Option Value} {x : Value} {r : List Value} : aw g 182 9 [l0, l1, l2, l3] (x :: r) σ Q = (vRf x = true ∧ oc l1 = true ∧ aw g 182 10 [l0, l1, some (x), l3] r σ Q) := (aw_eq g 182 9 _ _ _ _).trans (by rw [tq182_9]; exact (h_store (o := oc l1) rfl rfl rfl))
theorem tq182_10 : tT g 182 10 = s_load vRf 182 11 2 := rfl
theorem A182_10 {l0 : Option Value} {l1 : Option Value} {l3 : Option Value} {x : Value} {r : List Value} : aw g 182 10 [l0, l1, some (x), l3] r σ Q = (vRf x = true ∧ aw g 182 11 [l0, l1, some (x), l3] (x :: r) σ Q) := (aw_eq g 182 10 _ _ _ _).trans (by rw [tq182_10]; exact h_load rfl)
theorem tq182_11 : tT g 182 11 = s_callvk 182 16 3 11 [] 1 := rfl
theorem A182_11 {L : AL} {r : List Value} {a : Nat} : aw g 182 11 L (.ref a :: r) σ Q = (hty σ a = some 11 ∧ true = true ∧ csum r ≤ 8 ∧ aw g 3 0 [some (.ref a)] [] σ (kt (aw g) 182 16 L r Q)) := (aw_eq g 182 11 _ _ _ _).trans (by rw [tq182_11]; exact rfl)
theorem tq182_16 : tT g 182 16 = s_if 182 19 39 (fun a => a = 0) := rfl
theorem A182_16 {L : AL} {r : List Value} {a : Int32} : aw g 182 16 L (.int a :: r) σ Q = ((a = 0 → aw g 182 39 L r σ Q) ∧ (¬ a = 0 → aw g 182 19 L r σ Q)) := (aw_eq g 182 16 _ _ _ _).trans (by rw [tq182_16]; exact rfl)
theorem tq182_19 : tT g 182 19 = s_load vRf 182 20 2 := rfl
theorem A182_19 {l0 : Option Value} {l1 : Option Value} {l3 : Option Value} {x : Value} {r : List Value} : aw g 182 19 [l0, l1, some (x), l3] r σ Q = (vRf x = true ∧ aw g 182 20 [l0, l1, some (x), l3] (x :: r) σ Q) := (aw_eq g 182 19 _ _ _ _).trans (by rw [tq182_19]; exact h_load rfl)
theorem tq182_20 : tT g 182 20 = s_callvk 182 25 4 11 [] 3 := rfl
theorem A182_20 {L : AL} {r : List Value} {a : Nat} : aw g 182 20 L (.ref a :: r) σ Q = (hty σ a = some 11 ∧ true = true ∧ csum r ≤ 8 ∧ aw g 4 0 [some (.ref a), none, none] [] σ (kt (aw g) 182 25 L r Q)) := (aw_eq g 182 20 _ _ _ _).trans (by rw [tq182_20]; exact rfl)
theorem tq182_25 : tT g 182 25 = s_cast 182 28 [7] := rfl
theorem A182_25 {L : AL} {r : List Value} : aw g 182 25 L (.null :: r) σ Q = aw g 182 28 L (.null :: r) σ Q := (aw_eq g 182 25 _ _ _ _).trans (by rw [tq182_25]; exact rfl)
theorem A182_25r {L : AL} {r : List Value} {a : Nat} : aw g 182 25 L (.ref a :: r) σ Q = (hty σ a = some 7 ∧ aw g 182 28 L (.ref a :: r) σ Q) := (aw_eq g 182 25 _ _ _ _).trans (by rw [tq182_25]; exact propext ⟨fun z => (by obtain ⟨⟨u, hu, hu2⟩, z2⟩ := z; rw [List.mem_singleton] at hu; subst hu; exact ⟨hu2, z2⟩), fun z => ⟨⟨_, List.mem_cons_self, z.1⟩, z.2⟩⟩)
theorem tq182_28 : tT g 182 28 = s_store vRf 182 29 3 := rfl
theorem A182_28 {l0 : Option Value} {l1 : Option Value} {l2 : Option Value} {l3 : Option Value} {x : Value} {r : List Value} : aw g 182 28 [l0, l1, l2, l3] (x :: r) σ Q = (vRf x = true ∧ oc l2 = true ∧ aw g 182 29 [l0, l1, l2, some (x)] r σ Q) := (aw_eq g 182 28 _ _ _ _).trans (by rw [tq182_28]; exact (h_store (o := oc l2) rfl rfl rfl))
theorem tq182_29 : tT g 182 29 = s_load vI 182 30 1 := rfl
theorem A182_29 {l0 : Option Value} {l2 : Option Value} {l3 : Option Value} {x : Int32} {r : List Value} : aw g 182 29 [l0, some (.int x), l2, l3] r σ Q = aw g 182 30 [l0, some (.int x), l2, l3] (.int x :: r) σ Q := (aw_eq g 182 29 _ _ _ _).trans (by rw [tq182_29]; exact (h_load rfl).trans (propext ⟨fun z => z.2, fun z => ⟨rfl, z⟩⟩))
theorem tq182_30 : tT g 182 30 = s_load vRf 182 31 3 := rfl
theorem A182_30 {l0 : Option Value} {l1 : Option Value} {l2 : Option Value} {x : Value} {r : List Value} : aw g 182 30 [l0, l1, l2, some (x)] r σ Q = (vRf x = true ∧ aw g 182 31 [l0, l1, l2, some (x)] (x :: r) σ Q) := (aw_eq g 182 30 _ _ _ _).trans (by rw [tq182_30]; exact h_load rfl)
theorem tq182_31 : tT g 182 31 = s_getf 182 34 7 10 := rfl
theorem A182_31 {L : AL} {r : List Value} {a : Nat} : aw g 182 31 L (.ref a :: r) σ Q = (hty σ a = some 7 ∧ aw g 182 34 L (hv σ 7 a 10 :: r) σ Q) := (aw_eq g 182 31 _ _ _ _).trans (by rw [tq182_31]; exact rfl)
theorem tq182_34 : tT g 182 34 = s_bin 182 35 (fun a b => a + b) := rfl
theorem A182_34 {L : AL} {r : List Value} {a b : Int32} : aw g 182 34 L (.int b :: .int a :: r) σ Q = aw g 182 35 L (.int (a + b) :: r) σ Q := (aw_eq g 182 34 _ _ _ _).trans (by rw [tq182_34]; exact rfl)
theorem tq182_35 : tT g 182 35 = s_store vI 182 36 1 := rfl
theorem A182_35 {l0 : Option Value} {l1 : Option Value} {l2 : Option Value} {l3 : Option Value} {x : Int32} {r : List Value} : aw g 182 35 [l0, l1, l2, l3] (.int x :: r) σ Q = (oc l0 = true ∧ aw g 182 36 [l0, some (.int x), l2, l3] r σ Q) := (aw_eq g 182 35 _ _ _ _).trans (by rw [tq182_35]; exact (h_store (o := oc l0) rfl rfl rfl).trans (propext ⟨fun z => z.2, fun z => ⟨rfl, z⟩⟩))
theorem tq182_36 : tT g 182 36 = s_goto 182 10 := rfl
theorem A182_36 {L : AL} {r : List Value} : aw g 182 36 L r σ Q = aw g 182 10 L r σ Q := (aw_eq g 182 36 _ _ _ _).trans (by rw [tq182_36]; exact rfl)
theorem tq182_39 : tT g 182 39 = s_load vI 182 40 1 := rfl
theorem A182_39 {l0 : Option Value} {l2 : Option Value} {l3 : Option Value} {x : Int32} {r : List Value} : aw g 182 39 [l0, some (.int x), l2, l3] r σ Q = aw g 182 40 [l0, some (.int x), l2, l3] (.int x :: r) σ Q := (aw_eq g 182 39 _ _ _ _).trans (by rw [tq182_39]; exact (h_load rfl).trans (propext ⟨fun z => z.2, fun z => ⟨rfl, z⟩⟩))
theorem tq182_40 : tT g 182 40 = s_ret pI := rfl
theorem A182_40 {L : AL} {v : Value} : aw g 182 40 L [v] σ Q = (pI v ∧ Q (.inl (some v)) σ) := (aw_eq g 182 40 _ _ _ _).trans (by rw [tq182_40]; exact rfl)
theorem tq183_0 : tT g 183 0 = s_load vRf 183 1 0 := rfl
theorem A183_0 {l1 : Option Value} {l2 : Option Value} {x : Value} {r : List Value} : aw g 183 0 [some (x), l1, l2] r σ Q = (vRf x = true ∧ aw g 183 1 [some (x), l1, l2] (x :: r) σ Q) := (aw_eq g 183 0 _ _ _ _).trans (by rw [tq183_0]; exact h_load rfl)
theorem tq183_1 : tT g 183 1 = s_dup 183 2 := rfl
theorem A183_1 {L : AL} {r : List Value} {v : Value} : aw g 183 1 L (v :: r) σ Q = (v.category = 1 ∧ aw g 183 2 L (v :: v :: r) σ Q) := (aw_eq g 183 1 _ _ _ _).trans (by rw [tq183_1]; exact rfl)
theorem tq183_2 : tT g 183 2 = s_getf 183 5 4 1 := rfl
theorem A183_2 {L : AL} {r : List Value} {a : Nat} : aw g 183 2 L (.ref a :: r) σ Q = (hty σ a = some 4 ∧ aw g 183 5 L (hv σ 4 a 1 :: r) σ Q) := (aw_eq g 183 2 _ _ _ _).trans (by rw [tq183_2]; exact rfl)
theorem tq183_5 : tT g 183 5 = s_const 183 6 (.int 1) := rfl
theorem A183_5 {L : AL} {r : List Value} : aw g 183 5 L r σ Q = aw g 183 6 L (.int 1 :: r) σ Q := (aw_eq g 183 5 _ _ _ _).trans (by rw [tq183_5]; exact rfl)
theorem tq183_6 : tT g 183 6 = s_bin 183 7 (fun a b => a + b) := rfl
theorem A183_6 {L : AL} {r : List Value} {a b : Int32} : aw g 183 6 L (.int b :: .int a :: r) σ Q = aw g 183 7 L (.int (a + b) :: r) σ Q := (aw_eq g 183 6 _ _ _ _).trans (by rw [tq183_6]; exact rfl)
theorem tq183_7 : tT g 183 7 = s_putf g pI 183 10 4 1 := rfl
theorem A183_7 {L : AL} {r : List Value} {a : Nat} {v : Value} : aw g 183 7 L (v :: .ref a :: r) σ Q = (hty σ a = some 4 ∧ gB g ≤ a ∧ pI v ∧ aw g 183 10 L r (hput σ 4 a 1 v) Q) := (aw_eq g 183 7 _ _ _ _).trans (by rw [tq183_7]; exact rfl)
theorem tq183_10 : tT g 183 10 = s_load vRf 183 11 0 := rfl
theorem A183_10 {l1 : Option Value} {l2 : Option Value} {x : Value} {r : List Value} : aw g 183 10 [some (x), l1, l2] r σ Q = (vRf x = true ∧ aw g 183 11 [some (x), l1, l2] (x :: r) σ Q) := (aw_eq g 183 10 _ _ _ _).trans (by rw [tq183_10]; exact h_load rfl)
theorem tq183_11 : tT g 183 11 = s_getf 183 14 4 0 := rfl
theorem A183_11 {L : AL} {r : List Value} {a : Nat} : aw g 183 11 L (.ref a :: r) σ Q = (hty σ a = some 4 ∧ aw g 183 14 L (hv σ 4 a 0 :: r) σ Q) := (aw_eq g 183 11 _ _ _ _).trans (by rw [tq183_11]; exact rfl)
theorem tq183_14 : tT g 183 14 = s_callvk 183 17 22 10 [] 1 := rfl
theorem A183_14 {L : AL} {r : List Value} {a : Nat} : aw g 183 14 L (.ref a :: r) σ Q = (hty σ a = some 10 ∧ true = true ∧ csum r ≤ 8 ∧ aw g 22 0 [some (.ref a)] [] σ (kt (aw g) 183 17 L r Q)) := (aw_eq g 183 14 _ _ _ _).trans (by rw [tq183_14]; exact rfl)
theorem tq183_17 : tT g 183 17 = s_store vRf 183 18 1 := rfl
theorem A183_17 {l0 : Option Value} {l1 : Option Value} {l2 : Option Value} {x : Value} {r : List Value} : aw g 183 17 [l0, l1, l2] (x :: r) σ Q = (vRf x = true ∧ oc l0 = true ∧ aw g 183 18 [l0, some (x), l2] r σ Q) := (aw_eq g 183 17 _ _ _ _).trans (by rw [tq183_17]; exact (h_store (o := oc l0) rfl rfl rfl))
theorem tq183_18 : tT g 183 18 = s_load vRf 183 19 1 := rfl
theorem A183_18 {l0 : Option Value} {l2 : Option Value} {x : Value} {r : List Value} : aw g 183 18 [l0, some (x), l2] r σ Q = (vRf x = true ∧ aw g 183 19 [l0, some (x), l2] (x :: r) σ Q) := (aw_eq g 183 18 _ _ _ _).trans (by rw [tq183_18]; exact h_load rfl)
theorem tq183_19 : tT g 183 19 = s_callvk 183 24 3 11 [] 1 := rfl
theorem A183_19 {L : AL} {r : List Value} {a : Nat} : aw g 183 19 L (.ref a :: r) σ Q = (hty σ a = some 11 ∧ true = true ∧ csum r ≤ 8 ∧ aw g 3 0 [some (.ref a)] [] σ (kt (aw g) 183 24 L r Q)) := (aw_eq g 183 19 _ _ _ _).trans (by rw [tq183_19]; exact rfl)
theorem tq183_24 : tT g 183 24 = s_if 183 27 90 (fun a => a = 0) := rfl
theorem A183_24 {L : AL} {r : List Value} {a : Int32} : aw g 183 24 L (.int a :: r) σ Q = ((a = 0 → aw g 183 90 L r σ Q) ∧ (¬ a = 0 → aw g 183 27 L r σ Q)) := (aw_eq g 183 24 _ _ _ _).trans (by rw [tq183_24]; exact rfl)
theorem tq183_27 : tT g 183 27 = s_load vRf 183 28 1 := rfl
theorem A183_27 {l0 : Option Value} {l2 : Option Value} {x : Value} {r : List Value} : aw g 183 27 [l0, some (x), l2] r σ Q = (vRf x = true ∧ aw g 183 28 [l0, some (x), l2] (x :: r) σ Q) := (aw_eq g 183 27 _ _ _ _).trans (by rw [tq183_27]; exact h_load rfl)
theorem tq183_28 : tT g 183 28 = s_callvk 183 33 4 11 [] 3 := rfl
theorem A183_28 {L : AL} {r : List Value} {a : Nat} : aw g 183 28 L (.ref a :: r) σ Q = (hty σ a = some 11 ∧ true = true ∧ csum r ≤ 8 ∧ aw g 4 0 [some (.ref a), none, none] [] σ (kt (aw g) 183 33 L r Q)) := (aw_eq g 183 28 _ _ _ _).trans (by rw [tq183_28]; exact rfl)
theorem tq183_33 : tT g 183 33 = s_cast 183 36 [7] := rfl
theorem A183_33 {L : AL} {r : List Value} : aw g 183 33 L (.null :: r) σ Q = aw g 183 36 L (.null :: r) σ Q := (aw_eq g 183 33 _ _ _ _).trans (by rw [tq183_33]; exact rfl)
theorem A183_33r {L : AL} {r : List Value} {a : Nat} : aw g 183 33 L (.ref a :: r) σ Q = (hty σ a = some 7 ∧ aw g 183 36 L (.ref a :: r) σ Q) := (aw_eq g 183 33 _ _ _ _).trans (by rw [tq183_33]; exact propext ⟨fun z => (by obtain ⟨⟨u, hu, hu2⟩, z2⟩ := z; rw [List.mem_singleton] at hu; subst hu; exact ⟨hu2, z2⟩), fun z => ⟨⟨_, List.mem_cons_self, z.1⟩, z.2⟩⟩)
theorem tq183_36 : tT g 183 36 = s_store vRf 183 37 2 := rfl
theorem A183_36 {l0 : Option Value} {l1 : Option Value} {l2 : Option Value} {x : Value} {r : List Value} : aw g 183 36 [l0, l1, l2] (x :: r) σ Q = (vRf x = true ∧ oc l1 = true ∧ aw g 183 37 [l0, l1, some (x)] r σ Q) := (aw_eq g 183 36 _ _ _ _).trans (by rw [tq183_36]; exact (h_store (o := oc l1) rfl rfl rfl))
theorem tq183_37 : tT g 183 37 = s_load vRf 183 38 2 := rfl
theorem A183_37 {l0 : Option Value} {l1 : Option Value} {x : Value} {r : List Value} : aw g 183 37 [l0, l1, some (x)] r σ Q = (vRf x = true ∧ aw g 183 38 [l0, l1, some (x)] (x :: r) σ Q) := (aw_eq g 183 37 _ _ _ _).trans (by rw [tq183_37]; exact h_load rfl)
theorem tq183_38 : tT g 183 38 = s_getf 183 41 7 6 := rfl
theorem A183_38 {L : AL} {r : List Value} {a : Nat} : aw g 183 38 L (.ref a :: r) σ Q = (hty σ a = some 7 ∧ aw g 183 41 L (hv σ 7 a 6 :: r) σ Q) := (aw_eq g 183 38 _ _ _ _).trans (by rw [tq183_38]; exact rfl)
theorem tq183_41 : tT g 183 41 = s_const 183 42 (.int 3) := rfl
theorem A183_41 {L : AL} {r : List Value} : aw g 183 41 L r σ Q = aw g 183 42 L (.int 3 :: r) σ Q := (aw_eq g 183 41 _ _ _ _).trans (by rw [tq183_41]; exact rfl)
theorem tq183_42 : tT g 183 42 = s_icmp 183 45 63 (fun a b => a = b) := rfl
theorem A183_42 {L : AL} {r : List Value} {a b : Int32} : aw g 183 42 L (.int b :: .int a :: r) σ Q = ((a = b → aw g 183 63 L r σ Q) ∧ (¬ a = b → aw g 183 45 L r σ Q)) := (aw_eq g 183 42 _ _ _ _).trans (by rw [tq183_42]; exact rfl)
theorem tq183_45 : tT g 183 45 = s_load vRf 183 46 2 := rfl
theorem A183_45 {l0 : Option Value} {l1 : Option Value} {x : Value} {r : List Value} : aw g 183 45 [l0, l1, some (x)] r σ Q = (vRf x = true ∧ aw g 183 46 [l0, l1, some (x)] (x :: r) σ Q) := (aw_eq g 183 45 _ _ _ _).trans (by rw [tq183_45]; exact h_load rfl)
theorem tq183_46 : tT g 183 46 = s_getf 183 49 7 6 := rfl
theorem A183_46 {L : AL} {r : List Value} {a : Nat} : aw g 183 46 L (.ref a :: r) σ Q = (hty σ a = some 7 ∧ aw g 183 49 L (hv σ 7 a 6 :: r) σ Q) := (aw_eq g 183 46 _ _ _ _).trans (by rw [tq183_46]; exact rfl)
theorem tq183_49 : tT g 183 49 = s_const 183 50 (.int 4) := rfl
theorem A183_49 {L : AL} {r : List Value} : aw g 183 49 L r σ Q = aw g 183 50 L (.int 4 :: r) σ Q := (aw_eq g 183 49 _ _ _ _).trans (by rw [tq183_49]; exact rfl)
theorem tq183_50 : tT g 183 50 = s_icmp 183 53 63 (fun a b => a = b) := rfl
theorem A183_50 {L : AL} {r : List Value} {a b : Int32} : aw g 183 50 L (.int b :: .int a :: r) σ Q = ((a = b → aw g 183 63 L r σ Q) ∧ (¬ a = b → aw g 183 53 L r σ Q)) := (aw_eq g 183 50 _ _ _ _).trans (by rw [tq183_50]; exact rfl)
theorem tq183_53 : tT g 183 53 = s_load vRf 183 54 2 := rfl
theorem A183_53 {l0 : Option Value} {l1 : Option Value} {x : Value} {r : List Value} : aw g 183 53 [l0, l1, some (x)] r σ Q = (vRf x = true ∧ aw g 183 54 [l0, l1, some (x)] (x :: r) σ Q) := (aw_eq g 183 53 _ _ _ _).trans (by rw [tq183_53]; exact h_load rfl)
theorem tq183_54 : tT g 183 54 = s_dup 183 55 := rfl
theorem A183_54 {L : AL} {r : List Value} {v : Value} : aw g 183 54 L (v :: r) σ Q = (v.category = 1 ∧ aw g 183 55 L (v :: v :: r) σ Q) := (aw_eq g 183 54 _ _ _ _).trans (by rw [tq183_54]; exact rfl)
theorem tq183_55 : tT g 183 55 = s_getf 183 58 7 4 := rfl
theorem A183_55 {L : AL} {r : List Value} {a : Nat} : aw g 183 55 L (.ref a :: r) σ Q = (hty σ a = some 7 ∧ aw g 183 58 L (hv σ 7 a 4 :: r) σ Q) := (aw_eq g 183 55 _ _ _ _).trans (by rw [tq183_55]; exact rfl)
theorem tq183_58 : tT g 183 58 = s_const 183 59 (.int 1) := rfl
theorem A183_58 {L : AL} {r : List Value} : aw g 183 58 L r σ Q = aw g 183 59 L (.int 1 :: r) σ Q := (aw_eq g 183 58 _ _ _ _).trans (by rw [tq183_58]; exact rfl)
theorem tq183_59 : tT g 183 59 = s_bin 183 60 (fun a b => a + b) := rfl
theorem A183_59 {L : AL} {r : List Value} {a b : Int32} : aw g 183 59 L (.int b :: .int a :: r) σ Q = aw g 183 60 L (.int (a + b) :: r) σ Q := (aw_eq g 183 59 _ _ _ _).trans (by rw [tq183_59]; exact rfl)
theorem tq183_60 : tT g 183 60 = s_putf g pI 183 63 7 4 := rfl
theorem A183_60 {L : AL} {r : List Value} {a : Nat} {v : Value} : aw g 183 60 L (v :: .ref a :: r) σ Q = (hty σ a = some 7 ∧ gB g ≤ a ∧ pI v ∧ aw g 183 63 L r (hput σ 7 a 4 v) Q) := (aw_eq g 183 60 _ _ _ _).trans (by rw [tq183_60]; exact rfl)
theorem tq183_63 : tT g 183 63 = s_load vRf 183 64 2 := rfl
theorem A183_63 {l0 : Option Value} {l1 : Option Value} {x : Value} {r : List Value} : aw g 183 63 [l0, l1, some (x)] r σ Q = (vRf x = true ∧ aw g 183 64 [l0, l1, some (x)] (x :: r) σ Q) := (aw_eq g 183 63 _ _ _ _).trans (by rw [tq183_63]; exact h_load rfl)
theorem tq183_64 : tT g 183 64 = s_getf 183 67 7 6 := rfl
theorem A183_64 {L : AL} {r : List Value} {a : Nat} : aw g 183 64 L (.ref a :: r) σ Q = (hty σ a = some 7 ∧ aw g 183 67 L (hv σ 7 a 6 :: r) σ Q) := (aw_eq g 183 64 _ _ _ _).trans (by rw [tq183_64]; exact rfl)
theorem tq183_67 : tT g 183 67 = s_const 183 68 (.int 2) := rfl
theorem A183_67 {L : AL} {r : List Value} : aw g 183 67 L r σ Q = aw g 183 68 L (.int 2 :: r) σ Q := (aw_eq g 183 67 _ _ _ _).trans (by rw [tq183_67]; exact rfl)
theorem tq183_68 : tT g 183 68 = s_icmp 183 87 71 (fun a b => a = b) := rfl
theorem A183_68 {L : AL} {r : List Value} {a b : Int32} : aw g 183 68 L (.int b :: .int a :: r) σ Q = ((a = b → aw g 183 71 L r σ Q) ∧ (¬ a = b → aw g 183 87 L r σ Q)) := (aw_eq g 183 68 _ _ _ _).trans (by rw [tq183_68]; exact rfl)
theorem tq183_71 : tT g 183 71 = s_load vRf 183 72 2 := rfl
theorem A183_71 {l0 : Option Value} {l1 : Option Value} {x : Value} {r : List Value} : aw g 183 71 [l0, l1, some (x)] r σ Q = (vRf x = true ∧ aw g 183 72 [l0, l1, some (x)] (x :: r) σ Q) := (aw_eq g 183 71 _ _ _ _).trans (by rw [tq183_71]; exact h_load rfl)
theorem tq183_72 : tT g 183 72 = s_getf 183 75 7 8 := rfl
theorem A183_72 {L : AL} {r : List Value} {a : Nat} : aw g 183 72 L (.ref a :: r) σ Q = (hty σ a = some 7 ∧ aw g 183 75 L (hv σ 7 a 8 :: r) σ Q) := (aw_eq g 183 72 _ _ _ _).trans (by rw [tq183_72]; exact rfl)
theorem tq183_75 : tT g 183 75 = s_load vRf 183 76 0 := rfl
theorem A183_75 {l1 : Option Value} {l2 : Option Value} {x : Value} {r : List Value} : aw g 183 75 [some (x), l1, l2] r σ Q = (vRf x = true ∧ aw g 183 76 [some (x), l1, l2] (x :: r) σ Q) := (aw_eq g 183 75 _ _ _ _).trans (by rw [tq183_75]; exact h_load rfl)
theorem tq183_76 : tT g 183 76 = s_getf 183 79 4 1 := rfl
theorem A183_76 {L : AL} {r : List Value} {a : Nat} : aw g 183 76 L (.ref a :: r) σ Q = (hty σ a = some 4 ∧ aw g 183 79 L (hv σ 4 a 1 :: r) σ Q) := (aw_eq g 183 76 _ _ _ _).trans (by rw [tq183_76]; exact rfl)
theorem tq183_79 : tT g 183 79 = s_icmp 183 82 87 (fun a b => b < a) := rfl
theorem A183_79 {L : AL} {r : List Value} {a b : Int32} : aw g 183 79 L (.int b :: .int a :: r) σ Q = ((b < a → aw g 183 87 L r σ Q) ∧ (¬ b < a → aw g 183 82 L r σ Q)) := (aw_eq g 183 79 _ _ _ _).trans (by rw [tq183_79]; exact rfl)
theorem tq183_82 : tT g 183 82 = s_load vRf 183 83 2 := rfl
theorem A183_82 {l0 : Option Value} {l1 : Option Value} {x : Value} {r : List Value} : aw g 183 82 [l0, l1, some (x)] r σ Q = (vRf x = true ∧ aw g 183 83 [l0, l1, some (x)] (x :: r) σ Q) := (aw_eq g 183 82 _ _ _ _).trans (by rw [tq183_82]; exact h_load rfl)
theorem tq183_83 : tT g 183 83 = s_const 183 84 (.int 0) := rfl
theorem A183_83 {L : AL} {r : List Value} : aw g 183 83 L r σ Q = aw g 183 84 L (.int 0 :: r) σ Q := (aw_eq g 183 83 _ _ _ _).trans (by rw [tq183_83]; exact rfl)
theorem tq183_84 : tT g 183 84 = s_putf g pI 183 87 7 6 := rfl
theorem A183_84 {L : AL} {r : List Value} {a : Nat} {v : Value} : aw g 183 84 L (v :: .ref a :: r) σ Q = (hty σ a = some 7 ∧ gB g ≤ a ∧ pI v ∧ aw g 183 87 L r (hput σ 7 a 6 v) Q) := (aw_eq g 183 84 _ _ _ _).trans (by rw [tq183_84]; exact rfl)
theorem tq183_87 : tT g 183 87 = s_goto 183 18 := rfl
theorem A183_87 {L : AL} {r : List Value} : aw g 183 87 L r σ Q = aw g 183 18 L r σ Q := (aw_eq g 183 87 _ _ _ _).trans (by rw [tq183_87]; exact rfl)
theorem tq183_90 : tT g 183 90 = s_load vRf 183 91 0 := rfl
theorem A183_90 {l1 : Option Value} {l2 : Option Value} {x : Value} {r : List Value} : aw g 183 90 [some (x), l1, l2] r σ Q = (vRf x = true ∧ aw g 183 91 [some (x), l1, l2] (x :: r) σ Q) := (aw_eq g 183 90 _ _ _ _).trans (by rw [tq183_90]; exact h_load rfl)
theorem tq183_91 : tT g 183 91 = s_callvk 183 94 184 4 [] 4 := rfl
theorem A183_91 {L : AL} {r : List Value} {a : Nat} : aw g 183 91 L (.ref a :: r) σ Q = (hty σ a = some 4 ∧ true = true ∧ csum r ≤ 8 ∧ aw g 184 0 [some (.ref a), none, none, none] [] σ (kt (aw g) 183 94 L r Q)) := (aw_eq g 183 91 _ _ _ _).trans (by rw [tq183_91]; exact rfl)
theorem tq183_94 : tT g 183 94 = s_if 183 97 168 (fun a => 0 < a) := rfl
theorem A183_94 {L : AL} {r : List Value} {a : Int32} : aw g 183 94 L (.int a :: r) σ Q = ((0 < a → aw g 183 168 L r σ Q) ∧ (¬ 0 < a → aw g 183 97 L r σ Q)) := (aw_eq g 183 94 _ _ _ _).trans (by rw [tq183_94]; exact rfl)
theorem tq183_97 : tT g 183 97 = s_load vRf 183 98 0 := rfl
theorem A183_97 {l1 : Option Value} {l2 : Option Value} {x : Value} {r : List Value} : aw g 183 97 [some (x), l1, l2] r σ Q = (vRf x = true ∧ aw g 183 98 [some (x), l1, l2] (x :: r) σ Q) := (aw_eq g 183 97 _ _ _ _).trans (by rw [tq183_97]; exact h_load rfl)
theorem tq183_98 : tT g 183 98 = s_callvk 183 101 184 4 [] 4 := rfl
theorem A183_98 {L : AL} {r : List Value} {a : Nat} : aw g 183 98 L (.ref a :: r) σ Q = (hty σ a = some 4 ∧ true = true ∧ csum r ≤ 8 ∧ aw g 184 0 [some (.ref a), none, none, none] [] σ (kt (aw g) 183 101 L r Q)) := (aw_eq g 183 98 _ _ _ _).trans (by rw [tq183_98]; exact rfl)
theorem tq183_101 : tT g 183 101 = s_const 183 102 (.int (-1)) := rfl
theorem A183_101 {L : AL} {r : List Value} : aw g 183 101 L r σ Q = aw g 183 102 L (.int (-1) :: r) σ Q := (aw_eq g 183 101 _ _ _ _).trans (by rw [tq183_101]; exact rfl)
theorem tq183_102 : tT g 183 102 = s_icmp 183 105 168 (fun a b => a = b) := rfl
theorem A183_102 {L : AL} {r : List Value} {a b : Int32} : aw g 183 102 L (.int b :: .int a :: r) σ Q = ((a = b → aw g 183 168 L r σ Q) ∧ (¬ a = b → aw g 183 105 L r σ Q)) := (aw_eq g 183 102 _ _ _ _).trans (by rw [tq183_102]; exact rfl)
theorem tq183_105 : tT g 183 105 = s_load vRf 183 106 0 := rfl
theorem A183_105 {l1 : Option Value} {l2 : Option Value} {x : Value} {r : List Value} : aw g 183 105 [some (x), l1, l2] r σ Q = (vRf x = true ∧ aw g 183 106 [some (x), l1, l2] (x :: r) σ Q) := (aw_eq g 183 105 _ _ _ _).trans (by rw [tq183_105]; exact h_load rfl)
theorem tq183_106 : tT g 183 106 = s_getf 183 109 4 0 := rfl
theorem A183_106 {L : AL} {r : List Value} {a : Nat} : aw g 183 106 L (.ref a :: r) σ Q = (hty σ a = some 4 ∧ aw g 183 109 L (hv σ 4 a 0 :: r) σ Q) := (aw_eq g 183 106 _ _ _ _).trans (by rw [tq183_106]; exact rfl)
theorem tq183_109 : tT g 183 109 = s_callvk 183 112 22 10 [] 1 := rfl
theorem A183_109 {L : AL} {r : List Value} {a : Nat} : aw g 183 109 L (.ref a :: r) σ Q = (hty σ a = some 10 ∧ true = true ∧ csum r ≤ 8 ∧ aw g 22 0 [some (.ref a)] [] σ (kt (aw g) 183 112 L r Q)) := (aw_eq g 183 109 _ _ _ _).trans (by rw [tq183_109]; exact rfl)
theorem tq183_112 : tT g 183 112 = s_store vRf 183 113 1 := rfl
theorem A183_112 {l0 : Option Value} {l1 : Option Value} {l2 : Option Value} {x : Value} {r : List Value} : aw g 183 112 [l0, l1, l2] (x :: r) σ Q = (vRf x = true ∧ oc l0 = true ∧ aw g 183 113 [l0, some (x), l2] r σ Q) := (aw_eq g 183 112 _ _ _ _).trans (by rw [tq183_112]; exact (h_store (o := oc l0) rfl rfl rfl))
theorem tq183_113 : tT g 183 113 = s_load vRf 183 114 1 := rfl
theorem A183_113 {l0 : Option Value} {l2 : Option Value} {x : Value} {r : List Value} : aw g 183 113 [l0, some (x), l2] r σ Q = (vRf x = true ∧ aw g 183 114 [l0, some (x), l2] (x :: r) σ Q) := (aw_eq g 183 113 _ _ _ _).trans (by rw [tq183_113]; exact h_load rfl)
theorem tq183_114 : tT g 183 114 = s_callvk 183 119 3 11 [] 1 := rfl
theorem A183_114 {L : AL} {r : List Value} {a : Nat} : aw g 183 114 L (.ref a :: r) σ Q = (hty σ a = some 11 ∧ true = true ∧ csum r ≤ 8 ∧ aw g 3 0 [some (.ref a)] [] σ (kt (aw g) 183 119 L r Q)) := (aw_eq g 183 114 _ _ _ _).trans (by rw [tq183_114]; exact rfl)
theorem tq183_119 : tT g 183 119 = s_if 183 122 168 (fun a => a = 0) := rfl
theorem A183_119 {L : AL} {r : List Value} {a : Int32} : aw g 183 119 L (.int a :: r) σ Q = ((a = 0 → aw g 183 168 L r σ Q) ∧ (¬ a = 0 → aw g 183 122 L r σ Q)) := (aw_eq g 183 119 _ _ _ _).trans (by rw [tq183_119]; exact rfl)
theorem tq183_122 : tT g 183 122 = s_load vRf 183 123 1 := rfl
theorem A183_122 {l0 : Option Value} {l2 : Option Value} {x : Value} {r : List Value} : aw g 183 122 [l0, some (x), l2] r σ Q = (vRf x = true ∧ aw g 183 123 [l0, some (x), l2] (x :: r) σ Q) := (aw_eq g 183 122 _ _ _ _).trans (by rw [tq183_122]; exact h_load rfl)
theorem tq183_123 : tT g 183 123 = s_callvk 183 128 4 11 [] 3 := rfl
theorem A183_123 {L : AL} {r : List Value} {a : Nat} : aw g 183 123 L (.ref a :: r) σ Q = (hty σ a = some 11 ∧ true = true ∧ csum r ≤ 8 ∧ aw g 4 0 [some (.ref a), none, none] [] σ (kt (aw g) 183 128 L r Q)) := (aw_eq g 183 123 _ _ _ _).trans (by rw [tq183_123]; exact rfl)
theorem tq183_128 : tT g 183 128 = s_cast 183 131 [7] := rfl
theorem A183_128 {L : AL} {r : List Value} : aw g 183 128 L (.null :: r) σ Q = aw g 183 131 L (.null :: r) σ Q := (aw_eq g 183 128 _ _ _ _).trans (by rw [tq183_128]; exact rfl)
theorem A183_128r {L : AL} {r : List Value} {a : Nat} : aw g 183 128 L (.ref a :: r) σ Q = (hty σ a = some 7 ∧ aw g 183 131 L (.ref a :: r) σ Q) := (aw_eq g 183 128 _ _ _ _).trans (by rw [tq183_128]; exact propext ⟨fun z => (by obtain ⟨⟨u, hu, hu2⟩, z2⟩ := z; rw [List.mem_singleton] at hu; subst hu; exact ⟨hu2, z2⟩), fun z => ⟨⟨_, List.mem_cons_self, z.1⟩, z.2⟩⟩)
theorem tq183_131 : tT g 183 131 = s_store vRf 183 132 2 := rfl
theorem A183_131 {l0 : Option Value} {l1 : Option Value} {l2 : Option Value} {x : Value} {r : List Value} : aw g 183 131 [l0, l1, l2] (x :: r) σ Q = (vRf x = true ∧ oc l1 = true ∧ aw g 183 132 [l0, l1, some (x)] r σ Q) := (aw_eq g 183 131 _ _ _ _).trans (by rw [tq183_131]; exact (h_store (o := oc l1) rfl rfl rfl))
theorem tq183_132 : tT g 183 132 = s_load vRf 183 133 2 := rfl
theorem A183_132 {l0 : Option Value} {l1 : Option Value} {x : Value} {r : List Value} : aw g 183 132 [l0, l1, some (x)] r σ Q = (vRf x = true ∧ aw g 183 133 [l0, l1, some (x)] (x :: r) σ Q) := (aw_eq g 183 132 _ _ _ _).trans (by rw [tq183_132]; exact h_load rfl)
theorem tq183_133 : tT g 183 133 = s_getf 183 136 7 6 := rfl
theorem A183_133 {L : AL} {r : List Value} {a : Nat} : aw g 183 133 L (.ref a :: r) σ Q = (hty σ a = some 7 ∧ aw g 183 136 L (hv σ 7 a 6 :: r) σ Q) := (aw_eq g 183 133 _ _ _ _).trans (by rw [tq183_133]; exact rfl)
theorem tq183_136 : tT g 183 136 = s_const 183 137 (.int 4) := rfl
theorem A183_136 {L : AL} {r : List Value} : aw g 183 136 L r σ Q = aw g 183 137 L (.int 4 :: r) σ Q := (aw_eq g 183 136 _ _ _ _).trans (by rw [tq183_136]; exact rfl)
theorem tq183_137 : tT g 183 137 = s_icmp 183 140 165 (fun a b => a = b) := rfl
theorem A183_137 {L : AL} {r : List Value} {a b : Int32} : aw g 183 137 L (.int b :: .int a :: r) σ Q = ((a = b → aw g 183 165 L r σ Q) ∧ (¬ a = b → aw g 183 140 L r σ Q)) := (aw_eq g 183 137 _ _ _ _).trans (by rw [tq183_137]; exact rfl)
theorem tq183_140 : tT g 183 140 = s_load vRf 183 141 2 := rfl
theorem A183_140 {l0 : Option Value} {l1 : Option Value} {x : Value} {r : List Value} : aw g 183 140 [l0, l1, some (x)] r σ Q = (vRf x = true ∧ aw g 183 141 [l0, l1, some (x)] (x :: r) σ Q) := (aw_eq g 183 140 _ _ _ _).trans (by rw [tq183_140]; exact h_load rfl)
theorem tq183_141 : tT g 183 141 = s_const 183 143 (.int 8) := rfl
theorem A183_141 {L : AL} {r : List Value} : aw g 183 141 L r σ Q = aw g 183 143 L (.int 8 :: r) σ Q := (aw_eq g 183 141 _ _ _ _).trans (by rw [tq183_141]; exact rfl)
theorem tq183_143 : tT g 183 143 = s_load vRf 183 144 2 := rfl
theorem A183_143 {l0 : Option Value} {l1 : Option Value} {x : Value} {r : List Value} : aw g 183 143 [l0, l1, some (x)] r σ Q = (vRf x = true ∧ aw g 183 144 [l0, l1, some (x)] (x :: r) σ Q) := (aw_eq g 183 143 _ _ _ _).trans (by rw [tq183_143]; exact h_load rfl)
theorem tq183_144 : tT g 183 144 = s_getf 183 147 7 0 := rfl
theorem A183_144 {L : AL} {r : List Value} {a : Nat} : aw g 183 144 L (.ref a :: r) σ Q = (hty σ a = some 7 ∧ aw g 183 147 L (hv σ 7 a 0 :: r) σ Q) := (aw_eq g 183 144 _ _ _ _).trans (by rw [tq183_144]; exact rfl)
theorem tq183_147 : tT g 183 147 = s_bin 183 148 (fun a b => a * b) := rfl
theorem A183_147 {L : AL} {r : List Value} {a b : Int32} : aw g 183 147 L (.int b :: .int a :: r) σ Q = aw g 183 148 L (.int (a * b) :: r) σ Q := (aw_eq g 183 147 _ _ _ _).trans (by rw [tq183_147]; exact rfl)
theorem tq183_148 : tT g 183 148 = s_load vRf 183 149 2 := rfl
theorem A183_148 {l0 : Option Value} {l1 : Option Value} {x : Value} {r : List Value} : aw g 183 148 [l0, l1, some (x)] r σ Q = (vRf x = true ∧ aw g 183 149 [l0, l1, some (x)] (x :: r) σ Q) := (aw_eq g 183 148 _ _ _ _).trans (by rw [tq183_148]; exact h_load rfl)
theorem tq183_149 : tT g 183 149 = s_getf 183 152 7 9 := rfl
theorem A183_149 {L : AL} {r : List Value} {a : Nat} : aw g 183 149 L (.ref a :: r) σ Q = (hty σ a = some 7 ∧ aw g 183 152 L (hv σ 7 a 9 :: r) σ Q) := (aw_eq g 183 149 _ _ _ _).trans (by rw [tq183_149]; exact rfl)
theorem tq183_152 : tT g 183 152 = s_const 183 153 (.int 4) := rfl
theorem A183_152 {L : AL} {r : List Value} : aw g 183 152 L r σ Q = aw g 183 153 L (.int 4 :: r) σ Q := (aw_eq g 183 152 _ _ _ _).trans (by rw [tq183_152]; exact rfl)
theorem tq183_153 : tT g 183 153 = s_load vRf 183 154 2 := rfl
theorem A183_153 {l0 : Option Value} {l1 : Option Value} {x : Value} {r : List Value} : aw g 183 153 [l0, l1, some (x)] r σ Q = (vRf x = true ∧ aw g 183 154 [l0, l1, some (x)] (x :: r) σ Q) := (aw_eq g 183 153 _ _ _ _).trans (by rw [tq183_153]; exact h_load rfl)
theorem tq183_154 : tT g 183 154 = s_getf 183 157 7 0 := rfl
theorem A183_154 {L : AL} {r : List Value} {a : Nat} : aw g 183 154 L (.ref a :: r) σ Q = (hty σ a = some 7 ∧ aw g 183 157 L (hv σ 7 a 0 :: r) σ Q) := (aw_eq g 183 154 _ _ _ _).trans (by rw [tq183_154]; exact rfl)
theorem tq183_157 : tT g 183 157 = s_bin 183 158 (fun a b => a * b) := rfl
theorem A183_157 {L : AL} {r : List Value} {a b : Int32} : aw g 183 157 L (.int b :: .int a :: r) σ Q = aw g 183 158 L (.int (a * b) :: r) σ Q := (aw_eq g 183 157 _ _ _ _).trans (by rw [tq183_157]; exact rfl)
theorem tq183_158 : tT g 183 158 = s_bin 183 159 (fun a b => a + b) := rfl
theorem A183_158 {L : AL} {r : List Value} {a b : Int32} : aw g 183 158 L (.int b :: .int a :: r) σ Q = aw g 183 159 L (.int (a + b) :: r) σ Q := (aw_eq g 183 158 _ _ _ _).trans (by rw [tq183_158]; exact rfl)
theorem tq183_159 : tT g 183 159 = s_callk 183 162 35 [0, 0] 2 := rfl
theorem A183_159 {L : AL} {r : List Value} {w0 w1 : Value} : aw g 183 159 L (w1 :: w0 :: r) σ Q = ((vI w0 && (vI w1 && true)) = true ∧ csum r ≤ 8 ∧ aw g 35 0 [some w0, some w1] [] σ (kt (aw g) 183 162 L r Q)) := (aw_eq g 183 159 _ _ _ _).trans (by rw [tq183_159]; exact rfl)
theorem tq183_162 : tT g 183 162 = s_putf g pI 183 165 7 9 := rfl
theorem A183_162 {L : AL} {r : List Value} {a : Nat} {v : Value} : aw g 183 162 L (v :: .ref a :: r) σ Q = (hty σ a = some 7 ∧ gB g ≤ a ∧ pI v ∧ aw g 183 165 L r (hput σ 7 a 9 v) Q) := (aw_eq g 183 162 _ _ _ _).trans (by rw [tq183_162]; exact rfl)
theorem tq183_165 : tT g 183 165 = s_goto 183 113 := rfl
theorem A183_165 {L : AL} {r : List Value} : aw g 183 165 L r σ Q = aw g 183 113 L r σ Q := (aw_eq g 183 165 _ _ _ _).trans (by rw [tq183_165]; exact rfl)
theorem tq183_168 : tT g 183 168 = s_load vRf 183 169 0 := rfl
theorem A183_168 {l1 : Option Value} {l2 : Option Value} {x : Value} {r : List Value} : aw g 183 168 [some (x), l1, l2] r σ Q = (vRf x = true ∧ aw g 183 169 [some (x), l1, l2] (x :: r) σ Q) := (aw_eq g 183 168 _ _ _ _).trans (by rw [tq183_168]; exact h_load rfl)
theorem tq183_169 : tT g 183 169 = s_load vRf 183 170 0 := rfl
theorem A183_169 {l1 : Option Value} {l2 : Option Value} {x : Value} {r : List Value} : aw g 183 169 [some (x), l1, l2] r σ Q = (vRf x = true ∧ aw g 183 170 [some (x), l1, l2] (x :: r) σ Q) := (aw_eq g 183 169 _ _ _ _).trans (by rw [tq183_169]; exact h_load rfl)
theorem tq183_170 : tT g 183 170 = s_callvk 183 173 185 4 [] 3 := rfl
theorem A183_170 {L : AL} {r : List Value} {a : Nat} : aw g 183 170 L (.ref a :: r) σ Q = (hty σ a = some 4 ∧ true = true ∧ csum r ≤ 8 ∧ aw g 185 0 [some (.ref a), none, none] [] σ (kt (aw g) 183 173 L r Q)) := (aw_eq g 183 170 _ _ _ _).trans (by rw [tq183_170]; exact rfl)
theorem tq183_173 : tT g 183 173 = s_putf g pI 183 176 4 3 := rfl
theorem A183_173 {L : AL} {r : List Value} {a : Nat} {v : Value} : aw g 183 173 L (v :: .ref a :: r) σ Q = (hty σ a = some 4 ∧ gB g ≤ a ∧ pI v ∧ aw g 183 176 L r (hput σ 4 a 3 v) Q) := (aw_eq g 183 173 _ _ _ _).trans (by rw [tq183_173]; exact rfl)
theorem tq183_176 : tT g 183 176 = s_load vRf 183 177 0 := rfl
theorem A183_176 {l1 : Option Value} {l2 : Option Value} {x : Value} {r : List Value} : aw g 183 176 [some (x), l1, l2] r σ Q = (vRf x = true ∧ aw g 183 177 [some (x), l1, l2] (x :: r) σ Q) := (aw_eq g 183 176 _ _ _ _).trans (by rw [tq183_176]; exact h_load rfl)
theorem tq183_177 : tT g 183 177 = s_getf 183 180 4 3 := rfl
theorem A183_177 {L : AL} {r : List Value} {a : Nat} : aw g 183 177 L (.ref a :: r) σ Q = (hty σ a = some 4 ∧ aw g 183 180 L (hv σ 4 a 3 :: r) σ Q) := (aw_eq g 183 177 _ _ _ _).trans (by rw [tq183_177]; exact rfl)
theorem tq183_180 : tT g 183 180 = s_const 183 181 (.int (-1)) := rfl
theorem A183_180 {L : AL} {r : List Value} : aw g 183 180 L r σ Q = aw g 183 181 L (.int (-1) :: r) σ Q := (aw_eq g 183 180 _ _ _ _).trans (by rw [tq183_180]; exact rfl)
theorem tq183_181 : tT g 183 181 = s_icmp 183 197 184 (fun a b => a = b) := rfl
theorem A183_181 {L : AL} {r : List Value} {a b : Int32} : aw g 183 181 L (.int b :: .int a :: r) σ Q = ((a = b → aw g 183 184 L r σ Q) ∧ (¬ a = b → aw g 183 197 L r σ Q)) := (aw_eq g 183 181 _ _ _ _).trans (by rw [tq183_181]; exact rfl)
theorem tq183_184 : tT g 183 184 = s_load vRf 183 185 0 := rfl
theorem A183_184 {l1 : Option Value} {l2 : Option Value} {x : Value} {r : List Value} : aw g 183 184 [some (x), l1, l2] r σ Q = (vRf x = true ∧ aw g 183 185 [some (x), l1, l2] (x :: r) σ Q) := (aw_eq g 183 184 _ _ _ _).trans (by rw [tq183_184]; exact h_load rfl)
theorem tq183_185 : tT g 183 185 = s_dup 183 186 := rfl
theorem A183_185 {L : AL} {r : List Value} {v : Value} : aw g 183 185 L (v :: r) σ Q = (v.category = 1 ∧ aw g 183 186 L (v :: v :: r) σ Q) := (aw_eq g 183 185 _ _ _ _).trans (by rw [tq183_185]; exact rfl)
theorem tq183_186 : tT g 183 186 = s_getf 183 189 4 7 := rfl
theorem A183_186 {L : AL} {r : List Value} {a : Nat} : aw g 183 186 L (.ref a :: r) σ Q = (hty σ a = some 4 ∧ aw g 183 189 L (hv σ 4 a 7 :: r) σ Q) := (aw_eq g 183 186 _ _ _ _).trans (by rw [tq183_186]; exact rfl)
theorem tq183_189 : tT g 183 189 = s_const 183 190 (.int 1) := rfl
theorem A183_189 {L : AL} {r : List Value} : aw g 183 189 L r σ Q = aw g 183 190 L (.int 1 :: r) σ Q := (aw_eq g 183 189 _ _ _ _).trans (by rw [tq183_189]; exact rfl)
theorem tq183_190 : tT g 183 190 = s_bin 183 191 (fun a b => a + b) := rfl
theorem A183_190 {L : AL} {r : List Value} {a b : Int32} : aw g 183 190 L (.int b :: .int a :: r) σ Q = aw g 183 191 L (.int (a + b) :: r) σ Q := (aw_eq g 183 190 _ _ _ _).trans (by rw [tq183_190]; exact rfl)
theorem tq183_191 : tT g 183 191 = s_putf g pI 183 194 4 7 := rfl
theorem A183_191 {L : AL} {r : List Value} {a : Nat} {v : Value} : aw g 183 191 L (v :: .ref a :: r) σ Q = (hty σ a = some 4 ∧ gB g ≤ a ∧ pI v ∧ aw g 183 194 L r (hput σ 4 a 7 v) Q) := (aw_eq g 183 191 _ _ _ _).trans (by rw [tq183_191]; exact rfl)
theorem tq183_194 : tT g 183 194 = s_goto 183 309 := rfl
theorem A183_194 {L : AL} {r : List Value} : aw g 183 194 L r σ Q = aw g 183 309 L r σ Q := (aw_eq g 183 194 _ _ _ _).trans (by rw [tq183_194]; exact rfl)
theorem tq183_197 : tT g 183 197 = s_const 183 198 (.int 0) := rfl
theorem A183_197 {L : AL} {r : List Value} : aw g 183 197 L r σ Q = aw g 183 198 L (.int 0 :: r) σ Q := (aw_eq g 183 197 _ _ _ _).trans (by rw [tq183_197]; exact rfl)
theorem tq183_198 : tT g 183 198 = s_store vI 183 199 1 := rfl
theorem A183_198 {l0 : Option Value} {l1 : Option Value} {l2 : Option Value} {x : Int32} {r : List Value} : aw g 183 198 [l0, l1, l2] (.int x :: r) σ Q = (oc l0 = true ∧ aw g 183 199 [l0, some (.int x), l2] r σ Q) := (aw_eq g 183 198 _ _ _ _).trans (by rw [tq183_198]; exact (h_store (o := oc l0) rfl rfl rfl).trans (propext ⟨fun z => z.2, fun z => ⟨rfl, z⟩⟩))
theorem tq183_199 : tT g 183 199 = s_load vI 183 200 1 := rfl
theorem A183_199 {l0 : Option Value} {l2 : Option Value} {x : Int32} {r : List Value} : aw g 183 199 [l0, some (.int x), l2] r σ Q = aw g 183 200 [l0, some (.int x), l2] (.int x :: r) σ Q := (aw_eq g 183 199 _ _ _ _).trans (by rw [tq183_199]; exact (h_load rfl).trans (propext ⟨fun z => z.2, fun z => ⟨rfl, z⟩⟩))
theorem tq183_200 : tT g 183 200 = s_load vRf 183 201 0 := rfl
theorem A183_200 {l1 : Option Value} {l2 : Option Value} {x : Value} {r : List Value} : aw g 183 200 [some (x), l1, l2] r σ Q = (vRf x = true ∧ aw g 183 201 [some (x), l1, l2] (x :: r) σ Q) := (aw_eq g 183 200 _ _ _ _).trans (by rw [tq183_200]; exact h_load rfl)
theorem tq183_201 : tT g 183 201 = s_getf 183 204 4 0 := rfl
theorem A183_201 {L : AL} {r : List Value} {a : Nat} : aw g 183 201 L (.ref a :: r) σ Q = (hty σ a = some 4 ∧ aw g 183 204 L (hv σ 4 a 0 :: r) σ Q) := (aw_eq g 183 201 _ _ _ _).trans (by rw [tq183_201]; exact rfl)
theorem tq183_204 : tT g 183 204 = s_callvk 183 207 15 10 [] 1 := rfl
theorem A183_204 {L : AL} {r : List Value} {a : Nat} : aw g 183 204 L (.ref a :: r) σ Q = (hty σ a = some 10 ∧ true = true ∧ csum r ≤ 8 ∧ aw g 15 0 [some (.ref a)] [] σ (kt (aw g) 183 207 L r Q)) := (aw_eq g 183 204 _ _ _ _).trans (by rw [tq183_204]; exact rfl)
theorem tq183_207 : tT g 183 207 = s_icmp 183 210 265 (fun a b => b ≤ a) := rfl
theorem A183_207 {L : AL} {r : List Value} {a b : Int32} : aw g 183 207 L (.int b :: .int a :: r) σ Q = ((b ≤ a → aw g 183 265 L r σ Q) ∧ (¬ b ≤ a → aw g 183 210 L r σ Q)) := (aw_eq g 183 207 _ _ _ _).trans (by rw [tq183_207]; exact rfl)
theorem tq183_210 : tT g 183 210 = s_load vRf 183 211 0 := rfl
theorem A183_210 {l1 : Option Value} {l2 : Option Value} {x : Value} {r : List Value} : aw g 183 210 [some (x), l1, l2] r σ Q = (vRf x = true ∧ aw g 183 211 [some (x), l1, l2] (x :: r) σ Q) := (aw_eq g 183 210 _ _ _ _).trans (by rw [tq183_210]; exact h_load rfl)
theorem tq183_211 : tT g 183 211 = s_getf 183 214 4 0 := rfl
theorem A183_211 {L : AL} {r : List Value} {a : Nat} : aw g 183 211 L (.ref a :: r) σ Q = (hty σ a = some 4 ∧ aw g 183 214 L (hv σ 4 a 0 :: r) σ Q) := (aw_eq g 183 211 _ _ _ _).trans (by rw [tq183_211]; exact rfl)
theorem tq183_214 : tT g 183 214 = s_load vI 183 215 1 := rfl
theorem A183_214 {l0 : Option Value} {l2 : Option Value} {x : Int32} {r : List Value} : aw g 183 214 [l0, some (.int x), l2] r σ Q = aw g 183 215 [l0, some (.int x), l2] (.int x :: r) σ Q := (aw_eq g 183 214 _ _ _ _).trans (by rw [tq183_214]; exact (h_load rfl).trans (propext ⟨fun z => z.2, fun z => ⟨rfl, z⟩⟩))
theorem tq183_215 : tT g 183 215 = s_callvk 183 218 25 10 [0] 2 := rfl
theorem A183_215 {L : AL} {r : List Value} {a : Nat} {w0 : Value} : aw g 183 215 L (w0 :: .ref a :: r) σ Q = (hty σ a = some 10 ∧ (vI w0 && true) = true ∧ csum r ≤ 8 ∧ aw g 25 0 [some (.ref a), some w0] [] σ (kt (aw g) 183 218 L r Q)) := (aw_eq g 183 215 _ _ _ _).trans (by rw [tq183_215]; exact rfl)
theorem tq183_218 : tT g 183 218 = s_cast 183 221 [7] := rfl
theorem A183_218 {L : AL} {r : List Value} : aw g 183 218 L (.null :: r) σ Q = aw g 183 221 L (.null :: r) σ Q := (aw_eq g 183 218 _ _ _ _).trans (by rw [tq183_218]; exact rfl)
theorem A183_218r {L : AL} {r : List Value} {a : Nat} : aw g 183 218 L (.ref a :: r) σ Q = (hty σ a = some 7 ∧ aw g 183 221 L (.ref a :: r) σ Q) := (aw_eq g 183 218 _ _ _ _).trans (by rw [tq183_218]; exact propext ⟨fun z => (by obtain ⟨⟨u, hu, hu2⟩, z2⟩ := z; rw [List.mem_singleton] at hu; subst hu; exact ⟨hu2, z2⟩), fun z => ⟨⟨_, List.mem_cons_self, z.1⟩, z.2⟩⟩)
theorem tq183_221 : tT g 183 221 = s_dup 183 222 := rfl
theorem A183_221 {L : AL} {r : List Value} {v : Value} : aw g 183 221 L (v :: r) σ Q = (v.category = 1 ∧ aw g 183 222 L (v :: v :: r) σ Q) := (aw_eq g 183 221 _ _ _ _).trans (by rw [tq183_221]; exact rfl)
theorem tq183_222 : tT g 183 222 = s_getf 183 225 7 11 := rfl
theorem A183_222 {L : AL} {r : List Value} {a : Nat} : aw g 183 222 L (.ref a :: r) σ Q = (hty σ a = some 7 ∧ aw g 183 225 L (hv σ 7 a 11 :: r) σ Q) := (aw_eq g 183 222 _ _ _ _).trans (by rw [tq183_222]; exact rfl)
theorem tq183_225 : tT g 183 225 = s_load vI 183 226 1 := rfl
theorem A183_225 {l0 : Option Value} {l2 : Option Value} {x : Int32} {r : List Value} : aw g 183 225 [l0, some (.int x), l2] r σ Q = aw g 183 226 [l0, some (.int x), l2] (.int x :: r) σ Q := (aw_eq g 183 225 _ _ _ _).trans (by rw [tq183_225]; exact (h_load rfl).trans (propext ⟨fun z => z.2, fun z => ⟨rfl, z⟩⟩))
theorem tq183_226 : tT g 183 226 = s_load vRf 183 227 0 := rfl
theorem A183_226 {l1 : Option Value} {l2 : Option Value} {x : Value} {r : List Value} : aw g 183 226 [some (x), l1, l2] r σ Q = (vRf x = true ∧ aw g 183 227 [some (x), l1, l2] (x :: r) σ Q) := (aw_eq g 183 226 _ _ _ _).trans (by rw [tq183_226]; exact h_load rfl)
theorem tq183_227 : tT g 183 227 = s_getf 183 230 4 3 := rfl
theorem A183_227 {L : AL} {r : List Value} {a : Nat} : aw g 183 227 L (.ref a :: r) σ Q = (hty σ a = some 4 ∧ aw g 183 230 L (hv σ 4 a 3 :: r) σ Q) := (aw_eq g 183 227 _ _ _ _).trans (by rw [tq183_227]; exact rfl)
theorem tq183_230 : tT g 183 230 = s_icmp 183 233 254 (fun a b => a = b) := rfl
theorem A183_230 {L : AL} {r : List Value} {a b : Int32} : aw g 183 230 L (.int b :: .int a :: r) σ Q = ((a = b → aw g 183 254 L r σ Q) ∧ (¬ a = b → aw g 183 233 L r σ Q)) := (aw_eq g 183 230 _ _ _ _).trans (by rw [tq183_230]; exact rfl)
theorem tq183_233 : tT g 183 233 = s_load vRf 183 234 0 := rfl
theorem A183_233 {l1 : Option Value} {l2 : Option Value} {x : Value} {r : List Value} : aw g 183 233 [some (x), l1, l2] r σ Q = (vRf x = true ∧ aw g 183 234 [some (x), l1, l2] (x :: r) σ Q) := (aw_eq g 183 233 _ _ _ _).trans (by rw [tq183_233]; exact h_load rfl)
theorem tq183_234 : tT g 183 234 = s_getf 183 237 4 0 := rfl
theorem A183_234 {L : AL} {r : List Value} {a : Nat} : aw g 183 234 L (.ref a :: r) σ Q = (hty σ a = some 4 ∧ aw g 183 237 L (hv σ 4 a 0 :: r) σ Q) := (aw_eq g 183 234 _ _ _ _).trans (by rw [tq183_234]; exact rfl)
theorem tq183_237 : tT g 183 237 = s_load vI 183 238 1 := rfl
theorem A183_237 {l0 : Option Value} {l2 : Option Value} {x : Int32} {r : List Value} : aw g 183 237 [l0, some (.int x), l2] r σ Q = aw g 183 238 [l0, some (.int x), l2] (.int x :: r) σ Q := (aw_eq g 183 237 _ _ _ _).trans (by rw [tq183_237]; exact (h_load rfl).trans (propext ⟨fun z => z.2, fun z => ⟨rfl, z⟩⟩))
theorem tq183_238 : tT g 183 238 = s_callvk 183 241 25 10 [0] 2 := rfl
theorem A183_238 {L : AL} {r : List Value} {a : Nat} {w0 : Value} : aw g 183 238 L (w0 :: .ref a :: r) σ Q = (hty σ a = some 10 ∧ (vI w0 && true) = true ∧ csum r ≤ 8 ∧ aw g 25 0 [some (.ref a), some w0] [] σ (kt (aw g) 183 241 L r Q)) := (aw_eq g 183 238 _ _ _ _).trans (by rw [tq183_238]; exact rfl)
theorem tq183_241 : tT g 183 241 = s_cast 183 244 [7] := rfl
theorem A183_241 {L : AL} {r : List Value} : aw g 183 241 L (.null :: r) σ Q = aw g 183 244 L (.null :: r) σ Q := (aw_eq g 183 241 _ _ _ _).trans (by rw [tq183_241]; exact rfl)
theorem A183_241r {L : AL} {r : List Value} {a : Nat} : aw g 183 241 L (.ref a :: r) σ Q = (hty σ a = some 7 ∧ aw g 183 244 L (.ref a :: r) σ Q) := (aw_eq g 183 241 _ _ _ _).trans (by rw [tq183_241]; exact propext ⟨fun z => (by obtain ⟨⟨u, hu, hu2⟩, z2⟩ := z; rw [List.mem_singleton] at hu; subst hu; exact ⟨hu2, z2⟩), fun z => ⟨⟨_, List.mem_cons_self, z.1⟩, z.2⟩⟩)
theorem tq183_244 : tT g 183 244 = s_getf 183 247 7 6 := rfl
theorem A183_244 {L : AL} {r : List Value} {a : Nat} : aw g 183 244 L (.ref a :: r) σ Q = (hty σ a = some 7 ∧ aw g 183 247 L (hv σ 7 a 6 :: r) σ Q) := (aw_eq g 183 244 _ _ _ _).trans (by rw [tq183_244]; exact rfl)
theorem tq183_247 : tT g 183 247 = s_if 183 254 250 (fun a => a = 0) := rfl
theorem A183_247 {L : AL} {r : List Value} {a : Int32} : aw g 183 247 L (.int a :: r) σ Q = ((a = 0 → aw g 183 250 L r σ Q) ∧ (¬ a = 0 → aw g 183 254 L r σ Q)) := (aw_eq g 183 247 _ _ _ _).trans (by rw [tq183_247]; exact rfl)
theorem tq183_250 : tT g 183 250 = s_const 183 251 (.int 1) := rfl
theorem A183_250 {L : AL} {r : List Value} : aw g 183 250 L r σ Q = aw g 183 251 L (.int 1 :: r) σ Q := (aw_eq g 183 250 _ _ _ _).trans (by rw [tq183_250]; exact rfl)
theorem tq183_251 : tT g 183 251 = s_goto 183 255 := rfl
theorem A183_251 {L : AL} {r : List Value} : aw g 183 251 L r σ Q = aw g 183 255 L r σ Q := (aw_eq g 183 251 _ _ _ _).trans (by rw [tq183_251]; exact rfl)
theorem tq183_254 : tT g 183 254 = s_const 183 255 (.int 0) := rfl
theorem A183_254 {L : AL} {r : List Value} : aw g 183 254 L r σ Q = aw g 183 255 L (.int 0 :: r) σ Q := (aw_eq g 183 254 _ _ _ _).trans (by rw [tq183_254]; exact rfl)
theorem tq183_255 : tT g 183 255 = s_bin 183 256 (fun a b => a + b) := rfl
theorem A183_255 {L : AL} {r : List Value} {a b : Int32} : aw g 183 255 L (.int b :: .int a :: r) σ Q = aw g 183 256 L (.int (a + b) :: r) σ Q := (aw_eq g 183 255 _ _ _ _).trans (by rw [tq183_255]; exact rfl)
theorem tq183_256 : tT g 183 256 = s_putf g pI 183 259 7 11 := rfl
theorem A183_256 {L : AL} {r : List Value} {a : Nat} {v : Value} : aw g 183 256 L (v :: .ref a :: r) σ Q = (hty σ a = some 7 ∧ gB g ≤ a ∧ pI v ∧ aw g 183 259 L r (hput σ 7 a 11 v) Q) := (aw_eq g 183 256 _ _ _ _).trans (by rw [tq183_256]; exact rfl)
theorem tq183_259 : tT g 183 259 = s_iinc 183 262 1 1 := rfl
theorem A183_259 {l0 : Option Value} {l2 : Option Value} {x : Int32} {r : List Value} : aw g 183 259 [l0, some (.int x), l2] r σ Q = (oc l0 = true ∧ aw g 183 262 [l0, some (.int (x + 1)), l2] r σ Q) := (aw_eq g 183 259 _ _ _ _).trans (by rw [tq183_259]; exact (h_iinc (o := oc l0) rfl rfl rfl))
theorem tq183_262 : tT g 183 262 = s_goto 183 199 := rfl
theorem A183_262 {L : AL} {r : List Value} : aw g 183 262 L r σ Q = aw g 183 199 L r σ Q := (aw_eq g 183 262 _ _ _ _).trans (by rw [tq183_262]; exact rfl)
theorem tq183_265 : tT g 183 265 = s_load vRf 183 266 0 := rfl
theorem A183_265 {l1 : Option Value} {l2 : Option Value} {x : Value} {r : List Value} : aw g 183 265 [some (x), l1, l2] r σ Q = (vRf x = true ∧ aw g 183 266 [some (x), l1, l2] (x :: r) σ Q) := (aw_eq g 183 265 _ _ _ _).trans (by rw [tq183_265]; exact h_load rfl)
theorem tq183_266 : tT g 183 266 = s_getf 183 269 4 0 := rfl
theorem A183_266 {L : AL} {r : List Value} {a : Nat} : aw g 183 266 L (.ref a :: r) σ Q = (hty σ a = some 4 ∧ aw g 183 269 L (hv σ 4 a 0 :: r) σ Q) := (aw_eq g 183 266 _ _ _ _).trans (by rw [tq183_266]; exact rfl)
theorem tq183_269 : tT g 183 269 = s_load vRf 183 270 0 := rfl
theorem A183_269 {l1 : Option Value} {l2 : Option Value} {x : Value} {r : List Value} : aw g 183 269 [some (x), l1, l2] r σ Q = (vRf x = true ∧ aw g 183 270 [some (x), l1, l2] (x :: r) σ Q) := (aw_eq g 183 269 _ _ _ _).trans (by rw [tq183_269]; exact h_load rfl)
theorem tq183_270 : tT g 183 270 = s_getf 183 273 4 3 := rfl
theorem A183_270 {L : AL} {r : List Value} {a : Nat} : aw g 183 270 L (.ref a :: r) σ Q = (hty σ a = some 4 ∧ aw g 183 273 L (hv σ 4 a 3 :: r) σ Q) := (aw_eq g 183 270 _ _ _ _).trans (by rw [tq183_270]; exact rfl)
theorem tq183_273 : tT g 183 273 = s_callvk 183 276 25 10 [0] 2 := rfl
theorem A183_273 {L : AL} {r : List Value} {a : Nat} {w0 : Value} : aw g 183 273 L (w0 :: .ref a :: r) σ Q = (hty σ a = some 10 ∧ (vI w0 && true) = true ∧ csum r ≤ 8 ∧ aw g 25 0 [some (.ref a), some w0] [] σ (kt (aw g) 183 276 L r Q)) := (aw_eq g 183 273 _ _ _ _).trans (by rw [tq183_273]; exact rfl)
theorem tq183_276 : tT g 183 276 = s_cast 183 279 [7] := rfl
theorem A183_276 {L : AL} {r : List Value} : aw g 183 276 L (.null :: r) σ Q = aw g 183 279 L (.null :: r) σ Q := (aw_eq g 183 276 _ _ _ _).trans (by rw [tq183_276]; exact rfl)
theorem A183_276r {L : AL} {r : List Value} {a : Nat} : aw g 183 276 L (.ref a :: r) σ Q = (hty σ a = some 7 ∧ aw g 183 279 L (.ref a :: r) σ Q) := (aw_eq g 183 276 _ _ _ _).trans (by rw [tq183_276]; exact propext ⟨fun z => (by obtain ⟨⟨u, hu, hu2⟩, z2⟩ := z; rw [List.mem_singleton] at hu; subst hu; exact ⟨hu2, z2⟩), fun z => ⟨⟨_, List.mem_cons_self, z.1⟩, z.2⟩⟩)
theorem tq183_279 : tT g 183 279 = s_store vRf 183 280 1 := rfl
theorem A183_279 {l0 : Option Value} {l1 : Option Value} {l2 : Option Value} {x : Value} {r : List Value} : aw g 183 279 [l0, l1, l2] (x :: r) σ Q = (vRf x = true ∧ oc l0 = true ∧ aw g 183 280 [l0, some (x), l2] r σ Q) := (aw_eq g 183 279 _ _ _ _).trans (by rw [tq183_279]; exact (h_store (o := oc l0) rfl rfl rfl))
theorem tq183_280 : tT g 183 280 = s_load vRf 183 281 1 := rfl
theorem A183_280 {l0 : Option Value} {l2 : Option Value} {x : Value} {r : List Value} : aw g 183 280 [l0, some (x), l2] r σ Q = (vRf x = true ∧ aw g 183 281 [l0, some (x), l2] (x :: r) σ Q) := (aw_eq g 183 280 _ _ _ _).trans (by rw [tq183_280]; exact h_load rfl)
theorem tq183_281 : tT g 183 281 = s_dup 183 282 := rfl
theorem A183_281 {L : AL} {r : List Value} {v : Value} : aw g 183 281 L (v :: r) σ Q = (v.category = 1 ∧ aw g 183 282 L (v :: v :: r) σ Q) := (aw_eq g 183 281 _ _ _ _).trans (by rw [tq183_281]; exact rfl)
theorem tq183_282 : tT g 183 282 = s_getf 183 285 7 9 := rfl
theorem A183_282 {L : AL} {r : List Value} {a : Nat} : aw g 183 282 L (.ref a :: r) σ Q = (hty σ a = some 7 ∧ aw g 183 285 L (hv σ 7 a 9 :: r) σ Q) := (aw_eq g 183 282 _ _ _ _).trans (by rw [tq183_282]; exact rfl)
theorem tq183_285 : tT g 183 285 = s_const 183 286 (.int 1) := rfl
theorem A183_285 {L : AL} {r : List Value} : aw g 183 285 L r σ Q = aw g 183 286 L (.int 1 :: r) σ Q := (aw_eq g 183 285 _ _ _ _).trans (by rw [tq183_285]; exact rfl)
theorem tq183_286 : tT g 183 286 = s_bin 183 287 (fun a b => a - b) := rfl
theorem A183_286 {L : AL} {r : List Value} {a b : Int32} : aw g 183 286 L (.int b :: .int a :: r) σ Q = aw g 183 287 L (.int (a - b) :: r) σ Q := (aw_eq g 183 286 _ _ _ _).trans (by rw [tq183_286]; exact rfl)
theorem tq183_287 : tT g 183 287 = s_putf g pI 183 290 7 9 := rfl
theorem A183_287 {L : AL} {r : List Value} {a : Nat} {v : Value} : aw g 183 287 L (v :: .ref a :: r) σ Q = (hty σ a = some 7 ∧ gB g ≤ a ∧ pI v ∧ aw g 183 290 L r (hput σ 7 a 9 v) Q) := (aw_eq g 183 287 _ _ _ _).trans (by rw [tq183_287]; exact rfl)
theorem tq183_290 : tT g 183 290 = s_load vRf 183 291 0 := rfl
theorem A183_290 {l1 : Option Value} {l2 : Option Value} {x : Value} {r : List Value} : aw g 183 290 [some (x), l1, l2] r σ Q = (vRf x = true ∧ aw g 183 291 [some (x), l1, l2] (x :: r) σ Q) := (aw_eq g 183 290 _ _ _ _).trans (by rw [tq183_290]; exact h_load rfl)
theorem tq183_291 : tT g 183 291 = s_load vRf 183 292 1 := rfl
theorem A183_291 {l0 : Option Value} {l2 : Option Value} {x : Value} {r : List Value} : aw g 183 291 [l0, some (x), l2] r σ Q = (vRf x = true ∧ aw g 183 292 [l0, some (x), l2] (x :: r) σ Q) := (aw_eq g 183 291 _ _ _ _).trans (by rw [tq183_291]; exact h_load rfl)
theorem tq183_292 : tT g 183 292 = s_load vRf 183 293 1 := rfl
theorem A183_292 {l0 : Option Value} {l2 : Option Value} {x : Value} {r : List Value} : aw g 183 292 [l0, some (x), l2] r σ Q = (vRf x = true ∧ aw g 183 293 [l0, some (x), l2] (x :: r) σ Q) := (aw_eq g 183 292 _ _ _ _).trans (by rw [tq183_292]; exact h_load rfl)
theorem tq183_293 : tT g 183 293 = s_getf 183 296 7 1 := rfl
theorem A183_293 {L : AL} {r : List Value} {a : Nat} : aw g 183 293 L (.ref a :: r) σ Q = (hty σ a = some 7 ∧ aw g 183 296 L (hv σ 7 a 1 :: r) σ Q) := (aw_eq g 183 293 _ _ _ _).trans (by rw [tq183_293]; exact rfl)
theorem tq183_296 : tT g 183 296 = s_load vRf 183 297 1 := rfl
theorem A183_296 {l0 : Option Value} {l2 : Option Value} {x : Value} {r : List Value} : aw g 183 296 [l0, some (x), l2] r σ Q = (vRf x = true ∧ aw g 183 297 [l0, some (x), l2] (x :: r) σ Q) := (aw_eq g 183 296 _ _ _ _).trans (by rw [tq183_296]; exact h_load rfl)
theorem tq183_297 : tT g 183 297 = s_getf 183 300 7 2 := rfl
theorem A183_297 {L : AL} {r : List Value} {a : Nat} : aw g 183 297 L (.ref a :: r) σ Q = (hty σ a = some 7 ∧ aw g 183 300 L (hv σ 7 a 2 :: r) σ Q) := (aw_eq g 183 297 _ _ _ _).trans (by rw [tq183_297]; exact rfl)
theorem tq183_300 : tT g 183 300 = s_callvk 183 303 25 10 [0] 2 := rfl
theorem A183_300 {L : AL} {r : List Value} {a : Nat} {w0 : Value} : aw g 183 300 L (w0 :: .ref a :: r) σ Q = (hty σ a = some 10 ∧ (vI w0 && true) = true ∧ csum r ≤ 8 ∧ aw g 25 0 [some (.ref a), some w0] [] σ (kt (aw g) 183 303 L r Q)) := (aw_eq g 183 300 _ _ _ _).trans (by rw [tq183_300]; exact rfl)
theorem tq183_303 : tT g 183 303 = s_cast 183 306 [20] := rfl
theorem A183_303 {L : AL} {r : List Value} : aw g 183 303 L (.null :: r) σ Q = aw g 183 306 L (.null :: r) σ Q := (aw_eq g 183 303 _ _ _ _).trans (by rw [tq183_303]; exact rfl)
theorem A183_303r {L : AL} {r : List Value} {a : Nat} : aw g 183 303 L (.ref a :: r) σ Q = (hty σ a = some 20 ∧ aw g 183 306 L (.ref a :: r) σ Q) := (aw_eq g 183 303 _ _ _ _).trans (by rw [tq183_303]; exact propext ⟨fun z => (by obtain ⟨⟨u, hu, hu2⟩, z2⟩ := z; rw [List.mem_singleton] at hu; subst hu; exact ⟨hu2, z2⟩), fun z => ⟨⟨_, List.mem_cons_self, z.1⟩, z.2⟩⟩)
theorem tq183_306 : tT g 183 306 = s_callvk 183 309 186 4 [1, 1] 3 := rfl
theorem A183_306 {L : AL} {r : List Value} {a : Nat} {w0 w1 : Value} : aw g 183 306 L (w1 :: w0 :: .ref a :: r) σ Q = (hty σ a = some 4 ∧ (vRf w0 && (vRf w1 && true)) = true ∧ csum r ≤ 8 ∧ aw g 186 0 [some (.ref a), some w0, some w1] [] σ (kt (aw g) 183 309 L r Q)) := (aw_eq g 183 306 _ _ _ _).trans (by rw [tq183_306]; exact rfl)
theorem tq183_309 : tT g 183 309 = s_load vRf 183 310 0 := rfl
theorem A183_309 {l1 : Option Value} {l2 : Option Value} {x : Value} {r : List Value} : aw g 183 309 [some (x), l1, l2] r σ Q = (vRf x = true ∧ aw g 183 310 [some (x), l1, l2] (x :: r) σ Q) := (aw_eq g 183 309 _ _ _ _).trans (by rw [tq183_309]; exact h_load rfl)
theorem tq183_310 : tT g 183 310 = s_callvk 183 313 190 4 [] 3 := rfl
theorem A183_310 {L : AL} {r : List Value} {a : Nat} : aw g 183 310 L (.ref a :: r) σ Q = (hty σ a = some 4 ∧ true = true ∧ csum r ≤ 8 ∧ aw g 190 0 [some (.ref a), none, none] [] σ (kt (aw g) 183 313 L r Q)) := (aw_eq g 183 310 _ _ _ _).trans (by rw [tq183_310]; exact rfl)
theorem tq183_313 : tT g 183 313 = s_const 183 314 (.int 0) := rfl
theorem A183_313 {L : AL} {r : List Value} : aw g 183 313 L r σ Q = aw g 183 314 L (.int 0 :: r) σ Q := (aw_eq g 183 313 _ _ _ _).trans (by rw [tq183_313]; exact rfl)
theorem tq183_314 : tT g 183 314 = s_store vI 183 315 1 := rfl
theorem A183_314 {l0 : Option Value} {l1 : Option Value} {l2 : Option Value} {x : Int32} {r : List Value} : aw g 183 314 [l0, l1, l2] (.int x :: r) σ Q = (oc l0 = true ∧ aw g 183 315 [l0, some (.int x), l2] r σ Q) := (aw_eq g 183 314 _ _ _ _).trans (by rw [tq183_314]; exact (h_store (o := oc l0) rfl rfl rfl).trans (propext ⟨fun z => z.2, fun z => ⟨rfl, z⟩⟩))
theorem tq183_315 : tT g 183 315 = s_load vI 183 316 1 := rfl
theorem A183_315 {l0 : Option Value} {l2 : Option Value} {x : Int32} {r : List Value} : aw g 183 315 [l0, some (.int x), l2] r σ Q = aw g 183 316 [l0, some (.int x), l2] (.int x :: r) σ Q := (aw_eq g 183 315 _ _ _ _).trans (by rw [tq183_315]; exact (h_load rfl).trans (propext ⟨fun z => z.2, fun z => ⟨rfl, z⟩⟩))
theorem tq183_316 : tT g 183 316 = s_load vRf 183 317 0 := rfl
theorem A183_316 {l1 : Option Value} {l2 : Option Value} {x : Value} {r : List Value} : aw g 183 316 [some (x), l1, l2] r σ Q = (vRf x = true ∧ aw g 183 317 [some (x), l1, l2] (x :: r) σ Q) := (aw_eq g 183 316 _ _ _ _).trans (by rw [tq183_316]; exact h_load rfl)
theorem tq183_317 : tT g 183 317 = s_getf 183 320 4 0 := rfl
theorem A183_317 {L : AL} {r : List Value} {a : Nat} : aw g 183 317 L (.ref a :: r) σ Q = (hty σ a = some 4 ∧ aw g 183 320 L (hv σ 4 a 0 :: r) σ Q) := (aw_eq g 183 317 _ _ _ _).trans (by rw [tq183_317]; exact rfl)
theorem tq183_320 : tT g 183 320 = s_callvk 183 323 15 10 [] 1 := rfl
theorem A183_320 {L : AL} {r : List Value} {a : Nat} : aw g 183 320 L (.ref a :: r) σ Q = (hty σ a = some 10 ∧ true = true ∧ csum r ≤ 8 ∧ aw g 15 0 [some (.ref a)] [] σ (kt (aw g) 183 323 L r Q)) := (aw_eq g 183 320 _ _ _ _).trans (by rw [tq183_320]; exact rfl)
theorem tq183_323 : tT g 183 323 = s_icmp 183 326 354 (fun a b => b ≤ a) := rfl
theorem A183_323 {L : AL} {r : List Value} {a b : Int32} : aw g 183 323 L (.int b :: .int a :: r) σ Q = ((b ≤ a → aw g 183 354 L r σ Q) ∧ (¬ b ≤ a → aw g 183 326 L r σ Q)) := (aw_eq g 183 323 _ _ _ _).trans (by rw [tq183_323]; exact rfl)
theorem tq183_326 : tT g 183 326 = s_load vRf 183 327 0 := rfl
theorem A183_326 {l1 : Option Value} {l2 : Option Value} {x : Value} {r : List Value} : aw g 183 326 [some (x), l1, l2] r σ Q = (vRf x = true ∧ aw g 183 327 [some (x), l1, l2] (x :: r) σ Q) := (aw_eq g 183 326 _ _ _ _).trans (by rw [tq183_326]; exact h_load rfl)
theorem tq183_327 : tT g 183 327 = s_getf 183 330 4 0 := rfl
theorem A183_327 {L : AL} {r : List Value} {a : Nat} : aw g 183 327 L (.ref a :: r) σ Q = (hty σ a = some 4 ∧ aw g 183 330 L (hv σ 4 a 0 :: r) σ Q) := (aw_eq g 183 327 _ _ _ _).trans (by rw [tq183_327]; exact rfl)
theorem tq183_330 : tT g 183 330 = s_load vI 183 331 1 := rfl
theorem A183_330 {l0 : Option Value} {l2 : Option Value} {x : Int32} {r : List Value} : aw g 183 330 [l0, some (.int x), l2] r σ Q = aw g 183 331 [l0, some (.int x), l2] (.int x :: r) σ Q := (aw_eq g 183 330 _ _ _ _).trans (by rw [tq183_330]; exact (h_load rfl).trans (propext ⟨fun z => z.2, fun z => ⟨rfl, z⟩⟩))
theorem tq183_331 : tT g 183 331 = s_callvk 183 334 25 10 [0] 2 := rfl
theorem A183_331 {L : AL} {r : List Value} {a : Nat} {w0 : Value} : aw g 183 331 L (w0 :: .ref a :: r) σ Q = (hty σ a = some 10 ∧ (vI w0 && true) = true ∧ csum r ≤ 8 ∧ aw g 25 0 [some (.ref a), some w0] [] σ (kt (aw g) 183 334 L r Q)) := (aw_eq g 183 331 _ _ _ _).trans (by rw [tq183_331]; exact rfl)
theorem tq183_334 : tT g 183 334 = s_cast 183 337 [7] := rfl
theorem A183_334 {L : AL} {r : List Value} : aw g 183 334 L (.null :: r) σ Q = aw g 183 337 L (.null :: r) σ Q := (aw_eq g 183 334 _ _ _ _).trans (by rw [tq183_334]; exact rfl)
theorem A183_334r {L : AL} {r : List Value} {a : Nat} : aw g 183 334 L (.ref a :: r) σ Q = (hty σ a = some 7 ∧ aw g 183 337 L (.ref a :: r) σ Q) := (aw_eq g 183 334 _ _ _ _).trans (by rw [tq183_334]; exact propext ⟨fun z => (by obtain ⟨⟨u, hu, hu2⟩, z2⟩ := z; rw [List.mem_singleton] at hu; subst hu; exact ⟨hu2, z2⟩), fun z => ⟨⟨_, List.mem_cons_self, z.1⟩, z.2⟩⟩)
theorem tq183_337 : tT g 183 337 = s_getf 183 340 7 18 := rfl
theorem A183_337 {L : AL} {r : List Value} {a : Nat} : aw g 183 337 L (.ref a :: r) σ Q = (hty σ a = some 7 ∧ aw g 183 340 L (hv σ 7 a 18 :: r) σ Q) := (aw_eq g 183 337 _ _ _ _).trans (by rw [tq183_337]; exact rfl)
theorem tq183_340 : tT g 183 340 = s_if 183 343 348 (fun a => a = 0) := rfl
theorem A183_340 {L : AL} {r : List Value} {a : Int32} : aw g 183 340 L (.int a :: r) σ Q = ((a = 0 → aw g 183 348 L r σ Q) ∧ (¬ a = 0 → aw g 183 343 L r σ Q)) := (aw_eq g 183 340 _ _ _ _).trans (by rw [tq183_340]; exact rfl)
theorem tq183_343 : tT g 183 343 = s_load vRf 183 344 0 := rfl
theorem A183_343 {l1 : Option Value} {l2 : Option Value} {x : Value} {r : List Value} : aw g 183 343 [some (x), l1, l2] r σ Q = (vRf x = true ∧ aw g 183 344 [some (x), l1, l2] (x :: r) σ Q) := (aw_eq g 183 343 _ _ _ _).trans (by rw [tq183_343]; exact h_load rfl)
theorem tq183_344 : tT g 183 344 = s_load vI 183 345 1 := rfl
theorem A183_344 {l0 : Option Value} {l2 : Option Value} {x : Int32} {r : List Value} : aw g 183 344 [l0, some (.int x), l2] r σ Q = aw g 183 345 [l0, some (.int x), l2] (.int x :: r) σ Q := (aw_eq g 183 344 _ _ _ _).trans (by rw [tq183_344]; exact (h_load rfl).trans (propext ⟨fun z => z.2, fun z => ⟨rfl, z⟩⟩))
theorem tq183_345 : tT g 183 345 = s_callvk 183 348 191 4 [0] 5 := rfl
theorem A183_345 {L : AL} {r : List Value} {a : Nat} {w0 : Value} : aw g 183 345 L (w0 :: .ref a :: r) σ Q = (hty σ a = some 4 ∧ (vI w0 && true) = true ∧ csum r ≤ 8 ∧ aw g 191 0 [some (.ref a), some w0, none, none, none] [] σ (kt (aw g) 183 348 L r Q)) := (aw_eq g 183 345 _ _ _ _).trans (by rw [tq183_345]; exact rfl)
theorem tq183_348 : tT g 183 348 = s_iinc 183 351 1 1 := rfl
theorem A183_348 {l0 : Option Value} {l2 : Option Value} {x : Int32} {r : List Value} : aw g 183 348 [l0, some (.int x), l2] r σ Q = (oc l0 = true ∧ aw g 183 351 [l0, some (.int (x + 1)), l2] r σ Q) := (aw_eq g 183 348 _ _ _ _).trans (by rw [tq183_348]; exact (h_iinc (o := oc l0) rfl rfl rfl))
theorem tq183_351 : tT g 183 351 = s_goto 183 315 := rfl
theorem A183_351 {L : AL} {r : List Value} : aw g 183 351 L r σ Q = aw g 183 315 L r σ Q := (aw_eq g 183 351 _ _ _ _).trans (by rw [tq183_351]; exact rfl)
theorem tq183_354 : tT g 183 354 = s_vret := rfl
theorem A183_354 {L : AL} : aw g 183 354 L [] σ Q = Q (.inl none) σ := (aw_eq g 183 354 _ _ _ _).trans (by rw [tq183_354]; exact rfl)
theorem tq184_0 : tT g 184 0 = s_const 184 1 (.int (-1)) := rfl
theorem A184_0 {L : AL} {r : List Value} : aw g 184 0 L r σ Q = aw g 184 1 L (.int (-1) :: r) σ Q := (aw_eq g 184 0 _ _ _ _).trans (by rw [tq184_0]; exact rfl)
theorem tq184_1 : tT g 184 1 = s_store vI 184 2 1 := rfl
theorem A184_1 {l0 : Option Value} {l1 : Option Value} {l2 : Option Value} {l3 : Option Value} {x : Int32} {r : List Value} : aw g 184 1 [l0, l1, l2, l3] (.int x :: r) σ Q = (oc l0 = true ∧ aw g 184 2 [l0, some (.int x), l2, l3] r σ Q) := (aw_eq g 184 1 _ _ _ _).trans (by rw [tq184_1]; exact (h_store (o := oc l0) rfl rfl rfl).trans (propext ⟨fun z => z.2, fun z => ⟨rfl, z⟩⟩))
theorem tq184_2 : tT g 184 2 = s_load vRf 184 3 0 := rfl
theorem A184_2 {l1 : Option Value} {l2 : Option Value} {l3 : Option Value} {x : Value} {r : List Value} : aw g 184 2 [some (x), l1, l2, l3] r σ Q = (vRf x = true ∧ aw g 184 3 [some (x), l1, l2, l3] (x :: r) σ Q) := (aw_eq g 184 2 _ _ _ _).trans (by rw [tq184_2]; exact h_load rfl)
theorem tq184_3 : tT g 184 3 = s_getf 184 6 4 0 := rfl
theorem A184_3 {L : AL} {r : List Value} {a : Nat} : aw g 184 3 L (.ref a :: r) σ Q = (hty σ a = some 4 ∧ aw g 184 6 L (hv σ 4 a 0 :: r) σ Q) := (aw_eq g 184 3 _ _ _ _).trans (by rw [tq184_3]; exact rfl)
theorem tq184_6 : tT g 184 6 = s_callvk 184 9 22 10 [] 1 := rfl
theorem A184_6 {L : AL} {r : List Value} {a : Nat} : aw g 184 6 L (.ref a :: r) σ Q = (hty σ a = some 10 ∧ true = true ∧ csum r ≤ 8 ∧ aw g 22 0 [some (.ref a)] [] σ (kt (aw g) 184 9 L r Q)) := (aw_eq g 184 6 _ _ _ _).trans (by rw [tq184_6]; exact rfl)
theorem tq184_9 : tT g 184 9 = s_store vRf 184 10 2 := rfl
theorem A184_9 {l0 : Option Value} {l1 : Option Value} {l2 : Option Value} {l3 : Option Value} {x : Value} {r : List Value} : aw g 184 9 [l0, l1, l2, l3] (x :: r) σ Q = (vRf x = true ∧ oc l1 = true ∧ aw g 184 10 [l0, l1, some (x), l3] r σ Q) := (aw_eq g 184 9 _ _ _ _).trans (by rw [tq184_9]; exact (h_store (o := oc l1) rfl rfl rfl))
theorem tq184_10 : tT g 184 10 = s_load vRf 184 11 2 := rfl
theorem A184_10 {l0 : Option Value} {l1 : Option Value} {l3 : Option Value} {x : Value} {r : List Value} : aw g 184 10 [l0, l1, some (x), l3] r σ Q = (vRf x = true ∧ aw g 184 11 [l0, l1, some (x), l3] (x :: r) σ Q) := (aw_eq g 184 10 _ _ _ _).trans (by rw [tq184_10]; exact h_load rfl)
theorem tq184_11 : tT g 184 11 = s_callvk 184 16 3 11 [] 1 := rfl
theorem A184_11 {L : AL} {r : List Value} {a : Nat} : aw g 184 11 L (.ref a :: r) σ Q = (hty σ a = some 11 ∧ true = true ∧ csum r ≤ 8 ∧ aw g 3 0 [some (.ref a)] [] σ (kt (aw g) 184 16 L r Q)) := (aw_eq g 184 11 _ _ _ _).trans (by rw [tq184_11]; exact rfl)
theorem tq184_16 : tT g 184 16 = s_if 184 19 48 (fun a => a = 0) := rfl
theorem A184_16 {L : AL} {r : List Value} {a : Int32} : aw g 184 16 L (.int a :: r) σ Q = ((a = 0 → aw g 184 48 L r σ Q) ∧ (¬ a = 0 → aw g 184 19 L r σ Q)) := (aw_eq g 184 16 _ _ _ _).trans (by rw [tq184_16]; exact rfl)
theorem tq184_19 : tT g 184 19 = s_load vRf 184 20 2 := rfl
theorem A184_19 {l0 : Option Value} {l1 : Option Value} {l3 : Option Value} {x : Value} {r : List Value} : aw g 184 19 [l0, l1, some (x), l3] r σ Q = (vRf x = true ∧ aw g 184 20 [l0, l1, some (x), l3] (x :: r) σ Q) := (aw_eq g 184 19 _ _ _ _).trans (by rw [tq184_19]; exact h_load rfl)
theorem tq184_20 : tT g 184 20 = s_callvk 184 25 4 11 [] 3 := rfl
theorem A184_20 {L : AL} {r : List Value} {a : Nat} : aw g 184 20 L (.ref a :: r) σ Q = (hty σ a = some 11 ∧ true = true ∧ csum r ≤ 8 ∧ aw g 4 0 [some (.ref a), none, none] [] σ (kt (aw g) 184 25 L r Q)) := (aw_eq g 184 20 _ _ _ _).trans (by rw [tq184_20]; exact rfl)
theorem tq184_25 : tT g 184 25 = s_cast 184 28 [7] := rfl
theorem A184_25 {L : AL} {r : List Value} : aw g 184 25 L (.null :: r) σ Q = aw g 184 28 L (.null :: r) σ Q := (aw_eq g 184 25 _ _ _ _).trans (by rw [tq184_25]; exact rfl)
theorem A184_25r {L : AL} {r : List Value} {a : Nat} : aw g 184 25 L (.ref a :: r) σ Q = (hty σ a = some 7 ∧ aw g 184 28 L (.ref a :: r) σ Q) := (aw_eq g 184 25 _ _ _ _).trans (by rw [tq184_25]; exact propext ⟨fun z => (by obtain ⟨⟨u, hu, hu2⟩, z2⟩ := z; rw [List.mem_singleton] at hu; subst hu; exact ⟨hu2, z2⟩), fun z => ⟨⟨_, List.mem_cons_self, z.1⟩, z.2⟩⟩)
theorem tq184_28 : tT g 184 28 = s_store vRf 184 29 3 := rfl
theorem A184_28 {l0 : Option Value} {l1 : Option Value} {l2 : Option Value} {l3 : Option Value} {x : Value} {r : List Value} : aw g 184 28 [l0, l1, l2, l3] (x :: r) σ Q = (vRf x = true ∧ oc l2 = true ∧ aw g 184 29 [l0, l1, l2, some (x)] r σ Q) := (aw_eq g 184 28 _ _ _ _).trans (by rw [tq184_28]; exact (h_store (o := oc l2) rfl rfl rfl))
theorem tq184_29 : tT g 184 29 = s_load vRf 184 30 3 := rfl
theorem A184_29 {l0 : Option Value} {l1 : Option Value} {l2 : Option Value} {x : Value} {r : List Value} : aw g 184 29 [l0, l1, l2, some (x)] r σ Q = (vRf x = true ∧ aw g 184 30 [l0, l1, l2, some (x)] (x :: r) σ Q) := (aw_eq g 184 29 _ _ _ _).trans (by rw [tq184_29]; exact h_load rfl)
theorem tq184_30 : tT g 184 30 = s_getf 184 33 7 6 := rfl
theorem A184_30 {L : AL} {r : List Value} {a : Nat} : aw g 184 30 L (.ref a :: r) σ Q = (hty σ a = some 7 ∧ aw g 184 33 L (hv σ 7 a 6 :: r) σ Q) := (aw_eq g 184 30 _ _ _ _).trans (by rw [tq184_30]; exact rfl)
theorem tq184_33 : tT g 184 33 = s_if 184 45 36 (fun a => a = 0) := rfl
theorem A184_33 {L : AL} {r : List Value} {a : Int32} : aw g 184 33 L (.int a :: r) σ Q = ((a = 0 → aw g 184 36 L r σ Q) ∧ (¬ a = 0 → aw g 184 45 L r σ Q)) := (aw_eq g 184 33 _ _ _ _).trans (by rw [tq184_33]; exact rfl)
theorem tq184_36 : tT g 184 36 = s_load vI 184 37 1 := rfl
theorem A184_36 {l0 : Option Value} {l2 : Option Value} {l3 : Option Value} {x : Int32} {r : List Value} : aw g 184 36 [l0, some (.int x), l2, l3] r σ Q = aw g 184 37 [l0, some (.int x), l2, l3] (.int x :: r) σ Q := (aw_eq g 184 36 _ _ _ _).trans (by rw [tq184_36]; exact (h_load rfl).trans (propext ⟨fun z => z.2, fun z => ⟨rfl, z⟩⟩))
theorem tq184_37 : tT g 184 37 = s_load vRf 184 38 3 := rfl
theorem A184_37 {l0 : Option Value} {l1 : Option Value} {l2 : Option Value} {x : Value} {r : List Value} : aw g 184 37 [l0, l1, l2, some (x)] r σ Q = (vRf x = true ∧ aw g 184 38 [l0, l1, l2, some (x)] (x :: r) σ Q) := (aw_eq g 184 37 _ _ _ _).trans (by rw [tq184_37]; exact h_load rfl)
theorem tq184_38 : tT g 184 38 = s_getf 184 41 7 9 := rfl
theorem A184_38 {L : AL} {r : List Value} {a : Nat} : aw g 184 38 L (.ref a :: r) σ Q = (hty σ a = some 7 ∧ aw g 184 41 L (hv σ 7 a 9 :: r) σ Q) := (aw_eq g 184 38 _ _ _ _).trans (by rw [tq184_38]; exact rfl)
theorem tq184_41 : tT g 184 41 = s_callk 184 44 34 [0, 0] 2 := rfl
theorem A184_41 {L : AL} {r : List Value} {w0 w1 : Value} : aw g 184 41 L (w1 :: w0 :: r) σ Q = ((vI w0 && (vI w1 && true)) = true ∧ csum r ≤ 8 ∧ aw g 34 0 [some w0, some w1] [] σ (kt (aw g) 184 44 L r Q)) := (aw_eq g 184 41 _ _ _ _).trans (by rw [tq184_41]; exact rfl)
theorem tq184_44 : tT g 184 44 = s_store vI 184 45 1 := rfl
theorem A184_44 {l0 : Option Value} {l1 : Option Value} {l2 : Option Value} {l3 : Option Value} {x : Int32} {r : List Value} : aw g 184 44 [l0, l1, l2, l3] (.int x :: r) σ Q = (oc l0 = true ∧ aw g 184 45 [l0, some (.int x), l2, l3] r σ Q) := (aw_eq g 184 44 _ _ _ _).trans (by rw [tq184_44]; exact (h_store (o := oc l0) rfl rfl rfl).trans (propext ⟨fun z => z.2, fun z => ⟨rfl, z⟩⟩))
theorem tq184_45 : tT g 184 45 = s_goto 184 10 := rfl
theorem A184_45 {L : AL} {r : List Value} : aw g 184 45 L r σ Q = aw g 184 10 L r σ Q := (aw_eq g 184 45 _ _ _ _).trans (by rw [tq184_45]; exact rfl)
theorem tq184_48 : tT g 184 48 = s_load vI 184 49 1 := rfl
theorem A184_48 {l0 : Option Value} {l2 : Option Value} {l3 : Option Value} {x : Int32} {r : List Value} : aw g 184 48 [l0, some (.int x), l2, l3] r σ Q = aw g 184 49 [l0, some (.int x), l2, l3] (.int x :: r) σ Q := (aw_eq g 184 48 _ _ _ _).trans (by rw [tq184_48]; exact (h_load rfl).trans (propext ⟨fun z => z.2, fun z => ⟨rfl, z⟩⟩))
theorem tq184_49 : tT g 184 49 = s_ret pI := rfl
theorem A184_49 {L : AL} {v : Value} : aw g 184 49 L [v] σ Q = (pI v ∧ Q (.inl (some v)) σ) := (aw_eq g 184 49 _ _ _ _).trans (by rw [tq184_49]; exact rfl)
theorem tq185_0 : tT g 185 0 = s_load vRf 185 1 0 := rfl
theorem A185_0 {l1 : Option Value} {l2 : Option Value} {x : Value} {r : List Value} : aw g 185 0 [some (x), l1, l2] r σ Q = (vRf x = true ∧ aw g 185 1 [some (x), l1, l2] (x :: r) σ Q) := (aw_eq g 185 0 _ _ _ _).trans (by rw [tq185_0]; exact h_load rfl)
theorem tq185_1 : tT g 185 1 = s_callvk 185 4 184 4 [] 4 := rfl
theorem A185_1 {L : AL} {r : List Value} {a : Nat} : aw g 185 1 L (.ref a :: r) σ Q = (hty σ a = some 4 ∧ true = true ∧ csum r ≤ 8 ∧ aw g 184 0 [some (.ref a), none, none, none] [] σ (kt (aw g) 185 4 L r Q)) := (aw_eq g 185 1 _ _ _ _).trans (by rw [tq185_1]; exact rfl)
theorem tq185_4 : tT g 185 4 = s_store vI 185 5 1 := rfl
theorem A185_4 {l0 : Option Value} {l1 : Option Value} {l2 : Option Value} {x : Int32} {r : List Value} : aw g 185 4 [l0, l1, l2] (.int x :: r) σ Q = (oc l0 = true ∧ aw g 185 5 [l0, some (.int x), l2] r σ Q) := (aw_eq g 185 4 _ _ _ _).trans (by rw [tq185_4]; exact (h_store (o := oc l0) rfl rfl rfl).trans (propext ⟨fun z => z.2, fun z => ⟨rfl, z⟩⟩))
theorem tq185_5 : tT g 185 5 = s_const 185 6 (.int 0) := rfl
theorem A185_5 {L : AL} {r : List Value} : aw g 185 5 L r σ Q = aw g 185 6 L (.int 0 :: r) σ Q := (aw_eq g 185 5 _ _ _ _).trans (by rw [tq185_5]; exact rfl)
theorem tq185_6 : tT g 185 6 = s_store vI 185 7 2 := rfl
theorem A185_6 {l0 : Option Value} {l1 : Option Value} {l2 : Option Value} {x : Int32} {r : List Value} : aw g 185 6 [l0, l1, l2] (.int x :: r) σ Q = (oc l1 = true ∧ aw g 185 7 [l0, l1, some (.int x)] r σ Q) := (aw_eq g 185 6 _ _ _ _).trans (by rw [tq185_6]; exact (h_store (o := oc l1) rfl rfl rfl).trans (propext ⟨fun z => z.2, fun z => ⟨rfl, z⟩⟩))
theorem tq185_7 : tT g 185 7 = s_load vI 185 8 2 := rfl
theorem A185_7 {l0 : Option Value} {l1 : Option Value} {x : Int32} {r : List Value} : aw g 185 7 [l0, l1, some (.int x)] r σ Q = aw g 185 8 [l0, l1, some (.int x)] (.int x :: r) σ Q := (aw_eq g 185 7 _ _ _ _).trans (by rw [tq185_7]; exact (h_load rfl).trans (propext ⟨fun z => z.2, fun z => ⟨rfl, z⟩⟩))
theorem tq185_8 : tT g 185 8 = s_load vRf 185 9 0 := rfl
theorem A185_8 {l1 : Option Value} {l2 : Option Value} {x : Value} {r : List Value} : aw g 185 8 [some (x), l1, l2] r σ Q = (vRf x = true ∧ aw g 185 9 [some (x), l1, l2] (x :: r) σ Q) := (aw_eq g 185 8 _ _ _ _).trans (by rw [tq185_8]; exact h_load rfl)
theorem tq185_9 : tT g 185 9 = s_getf 185 12 4 0 := rfl
theorem A185_9 {L : AL} {r : List Value} {a : Nat} : aw g 185 9 L (.ref a :: r) σ Q = (hty σ a = some 4 ∧ aw g 185 12 L (hv σ 4 a 0 :: r) σ Q) := (aw_eq g 185 9 _ _ _ _).trans (by rw [tq185_9]; exact rfl)
theorem tq185_12 : tT g 185 12 = s_callvk 185 15 15 10 [] 1 := rfl
theorem A185_12 {L : AL} {r : List Value} {a : Nat} : aw g 185 12 L (.ref a :: r) σ Q = (hty σ a = some 10 ∧ true = true ∧ csum r ≤ 8 ∧ aw g 15 0 [some (.ref a)] [] σ (kt (aw g) 185 15 L r Q)) := (aw_eq g 185 12 _ _ _ _).trans (by rw [tq185_12]; exact rfl)
theorem tq185_15 : tT g 185 15 = s_icmp 185 18 61 (fun a b => b ≤ a) := rfl
theorem A185_15 {L : AL} {r : List Value} {a b : Int32} : aw g 185 15 L (.int b :: .int a :: r) σ Q = ((b ≤ a → aw g 185 61 L r σ Q) ∧ (¬ b ≤ a → aw g 185 18 L r σ Q)) := (aw_eq g 185 15 _ _ _ _).trans (by rw [tq185_15]; exact rfl)
theorem tq185_18 : tT g 185 18 = s_load vRf 185 19 0 := rfl
theorem A185_18 {l1 : Option Value} {l2 : Option Value} {x : Value} {r : List Value} : aw g 185 18 [some (x), l1, l2] r σ Q = (vRf x = true ∧ aw g 185 19 [some (x), l1, l2] (x :: r) σ Q) := (aw_eq g 185 18 _ _ _ _).trans (by rw [tq185_18]; exact h_load rfl)
theorem tq185_19 : tT g 185 19 = s_getf 185 22 4 0 := rfl
theorem A185_19 {L : AL} {r : List Value} {a : Nat} : aw g 185 19 L (.ref a :: r) σ Q = (hty σ a = some 4 ∧ aw g 185 22 L (hv σ 4 a 0 :: r) σ Q) := (aw_eq g 185 19 _ _ _ _).trans (by rw [tq185_19]; exact rfl)
theorem tq185_22 : tT g 185 22 = s_load vI 185 23 2 := rfl
theorem A185_22 {l0 : Option Value} {l1 : Option Value} {x : Int32} {r : List Value} : aw g 185 22 [l0, l1, some (.int x)] r σ Q = aw g 185 23 [l0, l1, some (.int x)] (.int x :: r) σ Q := (aw_eq g 185 22 _ _ _ _).trans (by rw [tq185_22]; exact (h_load rfl).trans (propext ⟨fun z => z.2, fun z => ⟨rfl, z⟩⟩))
theorem tq185_23 : tT g 185 23 = s_callvk 185 26 25 10 [0] 2 := rfl
theorem A185_23 {L : AL} {r : List Value} {a : Nat} {w0 : Value} : aw g 185 23 L (w0 :: .ref a :: r) σ Q = (hty σ a = some 10 ∧ (vI w0 && true) = true ∧ csum r ≤ 8 ∧ aw g 25 0 [some (.ref a), some w0] [] σ (kt (aw g) 185 26 L r Q)) := (aw_eq g 185 23 _ _ _ _).trans (by rw [tq185_23]; exact rfl)
theorem tq185_26 : tT g 185 26 = s_cast 185 29 [7] := rfl
theorem A185_26 {L : AL} {r : List Value} : aw g 185 26 L (.null :: r) σ Q = aw g 185 29 L (.null :: r) σ Q := (aw_eq g 185 26 _ _ _ _).trans (by rw [tq185_26]; exact rfl)
theorem A185_26r {L : AL} {r : List Value} {a : Nat} : aw g 185 26 L (.ref a :: r) σ Q = (hty σ a = some 7 ∧ aw g 185 29 L (.ref a :: r) σ Q) := (aw_eq g 185 26 _ _ _ _).trans (by rw [tq185_26]; exact propext ⟨fun z => (by obtain ⟨⟨u, hu, hu2⟩, z2⟩ := z; rw [List.mem_singleton] at hu; subst hu; exact ⟨hu2, z2⟩), fun z => ⟨⟨_, List.mem_cons_self, z.1⟩, z.2⟩⟩)
theorem tq185_29 : tT g 185 29 = s_getf 185 32 7 6 := rfl
theorem A185_29 {L : AL} {r : List Value} {a : Nat} : aw g 185 29 L (.ref a :: r) σ Q = (hty σ a = some 7 ∧ aw g 185 32 L (hv σ 7 a 6 :: r) σ Q) := (aw_eq g 185 29 _ _ _ _).trans (by rw [tq185_29]; exact rfl)
theorem tq185_32 : tT g 185 32 = s_if 185 55 35 (fun a => a = 0) := rfl
theorem A185_32 {L : AL} {r : List Value} {a : Int32} : aw g 185 32 L (.int a :: r) σ Q = ((a = 0 → aw g 185 35 L r σ Q) ∧ (¬ a = 0 → aw g 185 55 L r σ Q)) := (aw_eq g 185 32 _ _ _ _).trans (by rw [tq185_32]; exact rfl)
theorem tq185_35 : tT g 185 35 = s_load vRf 185 36 0 := rfl
theorem A185_35 {l1 : Option Value} {l2 : Option Value} {x : Value} {r : List Value} : aw g 185 35 [some (x), l1, l2] r σ Q = (vRf x = true ∧ aw g 185 36 [some (x), l1, l2] (x :: r) σ Q) := (aw_eq g 185 35 _ _ _ _).trans (by rw [tq185_35]; exact h_load rfl)
theorem tq185_36 : tT g 185 36 = s_getf 185 39 4 0 := rfl
theorem A185_36 {L : AL} {r : List Value} {a : Nat} : aw g 185 36 L (.ref a :: r) σ Q = (hty σ a = some 4 ∧ aw g 185 39 L (hv σ 4 a 0 :: r) σ Q) := (aw_eq g 185 36 _ _ _ _).trans (by rw [tq185_36]; exact rfl)
theorem tq185_39 : tT g 185 39 = s_load vI 185 40 2 := rfl
theorem A185_39 {l0 : Option Value} {l1 : Option Value} {x : Int32} {r : List Value} : aw g 185 39 [l0, l1, some (.int x)] r σ Q = aw g 185 40 [l0, l1, some (.int x)] (.int x :: r) σ Q := (aw_eq g 185 39 _ _ _ _).trans (by rw [tq185_39]; exact (h_load rfl).trans (propext ⟨fun z => z.2, fun z => ⟨rfl, z⟩⟩))
theorem tq185_40 : tT g 185 40 = s_callvk 185 43 25 10 [0] 2 := rfl
theorem A185_40 {L : AL} {r : List Value} {a : Nat} {w0 : Value} : aw g 185 40 L (w0 :: .ref a :: r) σ Q = (hty σ a = some 10 ∧ (vI w0 && true) = true ∧ csum r ≤ 8 ∧ aw g 25 0 [some (.ref a), some w0] [] σ (kt (aw g) 185 43 L r Q)) := (aw_eq g 185 40 _ _ _ _).trans (by rw [tq185_40]; exact rfl)
theorem tq185_43 : tT g 185 43 = s_cast 185 46 [7] := rfl
theorem A185_43 {L : AL} {r : List Value} : aw g 185 43 L (.null :: r) σ Q = aw g 185 46 L (.null :: r) σ Q := (aw_eq g 185 43 _ _ _ _).trans (by rw [tq185_43]; exact rfl)
theorem A185_43r {L : AL} {r : List Value} {a : Nat} : aw g 185 43 L (.ref a :: r) σ Q = (hty σ a = some 7 ∧ aw g 185 46 L (.ref a :: r) σ Q) := (aw_eq g 185 43 _ _ _ _).trans (by rw [tq185_43]; exact propext ⟨fun z => (by obtain ⟨⟨u, hu, hu2⟩, z2⟩ := z; rw [List.mem_singleton] at hu; subst hu; exact ⟨hu2, z2⟩), fun z => ⟨⟨_, List.mem_cons_self, z.1⟩, z.2⟩⟩)
theorem tq185_46 : tT g 185 46 = s_getf 185 49 7 9 := rfl
theorem A185_46 {L : AL} {r : List Value} {a : Nat} : aw g 185 46 L (.ref a :: r) σ Q = (hty σ a = some 7 ∧ aw g 185 49 L (hv σ 7 a 9 :: r) σ Q) := (aw_eq g 185 46 _ _ _ _).trans (by rw [tq185_46]; exact rfl)
theorem tq185_49 : tT g 185 49 = s_load vI 185 50 1 := rfl
theorem A185_49 {l0 : Option Value} {l2 : Option Value} {x : Int32} {r : List Value} : aw g 185 49 [l0, some (.int x), l2] r σ Q = aw g 185 50 [l0, some (.int x), l2] (.int x :: r) σ Q := (aw_eq g 185 49 _ _ _ _).trans (by rw [tq185_49]; exact (h_load rfl).trans (propext ⟨fun z => z.2, fun z => ⟨rfl, z⟩⟩))
theorem tq185_50 : tT g 185 50 = s_icmp 185 55 53 (fun a b => a = b) := rfl
theorem A185_50 {L : AL} {r : List Value} {a b : Int32} : aw g 185 50 L (.int b :: .int a :: r) σ Q = ((a = b → aw g 185 53 L r σ Q) ∧ (¬ a = b → aw g 185 55 L r σ Q)) := (aw_eq g 185 50 _ _ _ _).trans (by rw [tq185_50]; exact rfl)
theorem tq185_53 : tT g 185 53 = s_load vI 185 54 2 := rfl
theorem A185_53 {l0 : Option Value} {l1 : Option Value} {x : Int32} {r : List Value} : aw g 185 53 [l0, l1, some (.int x)] r σ Q = aw g 185 54 [l0, l1, some (.int x)] (.int x :: r) σ Q := (aw_eq g 185 53 _ _ _ _).trans (by rw [tq185_53]; exact (h_load rfl).trans (propext ⟨fun z => z.2, fun z => ⟨rfl, z⟩⟩))
theorem tq185_54 : tT g 185 54 = s_ret pI := rfl
theorem A185_54 {L : AL} {v : Value} : aw g 185 54 L [v] σ Q = (pI v ∧ Q (.inl (some v)) σ) := (aw_eq g 185 54 _ _ _ _).trans (by rw [tq185_54]; exact rfl)
theorem tq185_55 : tT g 185 55 = s_iinc 185 58 2 1 := rfl
theorem A185_55 {l0 : Option Value} {l1 : Option Value} {x : Int32} {r : List Value} : aw g 185 55 [l0, l1, some (.int x)] r σ Q = (oc l1 = true ∧ aw g 185 58 [l0, l1, some (.int (x + 1))] r σ Q) := (aw_eq g 185 55 _ _ _ _).trans (by rw [tq185_55]; exact (h_iinc (o := oc l1) rfl rfl rfl))
theorem tq185_58 : tT g 185 58 = s_goto 185 7 := rfl
theorem A185_58 {L : AL} {r : List Value} : aw g 185 58 L r σ Q = aw g 185 7 L r σ Q := (aw_eq g 185 58 _ _ _ _).trans (by rw [tq185_58]; exact rfl)
theorem tq185_61 : tT g 185 61 = s_const 185 62 (.int (-1)) := rfl
theorem A185_61 {L : AL} {r : List Value} : aw g 185 61 L r σ Q = aw g 185 62 L (.int (-1) :: r) σ Q := (aw_eq g 185 61 _ _ _ _).trans (by rw [tq185_61]; exact rfl)
theorem tq185_62 : tT g 185 62 = s_ret pI := rfl
theorem A185_62 {L : AL} {v : Value} : aw g 185 62 L [v] σ Q = (pI v ∧ Q (.inl (some v)) σ) := (aw_eq g 185 62 _ _ _ _).trans (by rw [tq185_62]; exact rfl)
theorem tq186_0 : tT g 186 0 = s_load vRf 186 1 2 := rfl
theorem A186_0 {l0 : Option Value} {l1 : Option Value} {x : Value} {r : List Value} : aw g 186 0 [l0, l1, some (x)] r σ Q = (vRf x = true ∧ aw g 186 1 [l0, l1, some (x)] (x :: r) σ Q) := (aw_eq g 186 0 _ _ _ _).trans (by rw [tq186_0]; exact h_load rfl)
theorem tq186_1 : tT g 186 1 = s_const 186 2 (.int 0) := rfl
theorem A186_1 {L : AL} {r : List Value} : aw g 186 1 L r σ Q = aw g 186 2 L (.int 0 :: r) σ Q := (aw_eq g 186 1 _ _ _ _).trans (by rw [tq186_1]; exact rfl)
theorem tq186_2 : tT g 186 2 = s_ald 186 3 20 := rfl
theorem A186_2 {L : AL} {r : List Value} {a : Nat} {i : Int32} : aw g 186 2 L (.int i :: .ref a :: r) σ Q = (hty σ a = some 20 ∧ ¬ i < 0 ∧ i.toNatClampNeg < hln σ a ∧ aw g 186 3 L (hv σ 20 a i.toNatClampNeg :: r) σ Q) := (aw_eq g 186 2 _ _ _ _).trans (by rw [tq186_2]; exact rfl)
theorem tq186_3 : tT g 186 3 = s_tsw 186 (tswf 1 147 [40, 40, 47, 53, 109, 132]) := rfl
theorem A186_3 {L : AL} {r : List Value} {a : Int32} : aw g 186 3 L (.int a :: r) σ Q = aw g 186 (tswf 1 147 [40, 40, 47, 53, 109, 132] a) L r σ Q := (aw_eq g 186 3 _ _ _ _).trans (by rw [tq186_3]; exact rfl)
theorem tq186_40 : tT g 186 40 = s_load vRf 186 41 0 := rfl
theorem A186_40 {l1 : Option Value} {l2 : Option Value} {x : Value} {r : List Value} : aw g 186 40 [some (x), l1, l2] r σ Q = (vRf x = true ∧ aw g 186 41 [some (x), l1, l2] (x :: r) σ Q) := (aw_eq g 186 40 _ _ _ _).trans (by rw [tq186_40]; exact h_load rfl)
theorem tq186_41 : tT g 186 41 = s_load vRf 186 42 1 := rfl
theorem A186_41 {l0 : Option Value} {l2 : Option Value} {x : Value} {r : List Value} : aw g 186 41 [l0, some (x), l2] r σ Q = (vRf x = true ∧ aw g 186 42 [l0, some (x), l2] (x :: r) σ Q) := (aw_eq g 186 41 _ _ _ _).trans (by rw [tq186_41]; exact h_load rfl)
theorem tq186_42 : tT g 186 42 = s_load vRf 186 43 2 := rfl
theorem A186_42 {l0 : Option Value} {l1 : Option Value} {x : Value} {r : List Value} : aw g 186 42 [l0, l1, some (x)] r σ Q = (vRf x = true ∧ aw g 186 43 [l0, l1, some (x)] (x :: r) σ Q) := (aw_eq g 186 42 _ _ _ _).trans (by rw [tq186_42]; exact h_load rfl)
theorem tq186_43 : tT g 186 43 = s_callvk 186 46 187 4 [1, 1] 6 := rfl
theorem A186_43 {L : AL} {r : List Value} {a : Nat} {w0 w1 : Value} : aw g 186 43 L (w1 :: w0 :: .ref a :: r) σ Q = (hty σ a = some 4 ∧ (vRf w0 && (vRf w1 && true)) = true ∧ csum r ≤ 8 ∧ aw g 187 0 [some (.ref a), some w0, some w1, none, none, none] [] σ (kt (aw g) 186 46 L r Q)) := (aw_eq g 186 43 _ _ _ _).trans (by rw [tq186_43]; exact rfl)
theorem tq186_46 : tT g 186 46 = s_vret := rfl
theorem A186_46 {L : AL} : aw g 186 46 L [] σ Q = Q (.inl none) σ := (aw_eq g 186 46 _ _ _ _).trans (by rw [tq186_46]; exact rfl)
theorem tq186_47 : tT g 186 47 = s_load vRf 186 48 0 := rfl
theorem A186_47 {l1 : Option Value} {l2 : Option Value} {x : Value} {r : List Value} : aw g 186 47 [some (x), l1, l2] r σ Q = (vRf x = true ∧ aw g 186 48 [some (x), l1, l2] (x :: r) σ Q) := (aw_eq g 186 47 _ _ _ _).trans (by rw [tq186_47]; exact h_load rfl)
theorem tq186_48 : tT g 186 48 = s_load vRf 186 49 1 := rfl
theorem A186_48 {l0 : Option Value} {l2 : Option Value} {x : Value} {r : List Value} : aw g 186 48 [l0, some (x), l2] r σ Q = (vRf x = true ∧ aw g 186 49 [l0, some (x), l2] (x :: r) σ Q) := (aw_eq g 186 48 _ _ _ _).trans (by rw [tq186_48]; exact h_load rfl)
theorem tq186_49 : tT g 186 49 = s_callvk 186 52 189 4 [1] 2 := rfl
theorem A186_49 {L : AL} {r : List Value} {a : Nat} {w0 : Value} : aw g 186 49 L (w0 :: .ref a :: r) σ Q = (hty σ a = some 4 ∧ (vRf w0 && true) = true ∧ csum r ≤ 8 ∧ aw g 189 0 [some (.ref a), some w0] [] σ (kt (aw g) 186 52 L r Q)) := (aw_eq g 186 49 _ _ _ _).trans (by rw [tq186_49]; exact rfl)
theorem tq186_52 : tT g 186 52 = s_vret := rfl
theorem A186_52 {L : AL} : aw g 186 52 L [] σ Q = Q (.inl none) σ := (aw_eq g 186 52 _ _ _ _).trans (by rw [tq186_52]; exact rfl)
theorem tq186_53 : tT g 186 53 = s_load vRf 186 54 1 := rfl
theorem A186_53 {l0 : Option Value} {l2 : Option Value} {x : Value} {r : List Value} : aw g 186 53 [l0, some (x), l2] r σ Q = (vRf x = true ∧ aw g 186 54 [l0, some (x), l2] (x :: r) σ Q) := (aw_eq g 186 53 _ _ _ _).trans (by rw [tq186_53]; exact h_load rfl)
theorem tq186_54 : tT g 186 54 = s_getf 186 57 7 5 := rfl
theorem A186_54 {L : AL} {r : List Value} {a : Nat} : aw g 186 54 L (.ref a :: r) σ Q = (hty σ a = some 7 ∧ aw g 186 57 L (hv σ 7 a 5 :: r) σ Q) := (aw_eq g 186 54 _ _ _ _).trans (by rw [tq186_54]; exact rfl)
theorem tq186_57 : tT g 186 57 = s_if 186 76 60 (fun a => a = 0) := rfl
theorem A186_57 {L : AL} {r : List Value} {a : Int32} : aw g 186 57 L (.int a :: r) σ Q = ((a = 0 → aw g 186 60 L r σ Q) ∧ (¬ a = 0 → aw g 186 76 L r σ Q)) := (aw_eq g 186 57 _ _ _ _).trans (by rw [tq186_57]; exact rfl)
theorem tq186_60 : tT g 186 60 = s_load vRf 186 61 1 := rfl
theorem A186_60 {l0 : Option Value} {l2 : Option Value} {x : Value} {r : List Value} : aw g 186 60 [l0, some (x), l2] r σ Q = (vRf x = true ∧ aw g 186 61 [l0, some (x), l2] (x :: r) σ Q) := (aw_eq g 186 60 _ _ _ _).trans (by rw [tq186_60]; exact h_load rfl)
theorem tq186_61 : tT g 186 61 = s_getf 186 64 7 17 := rfl
theorem A186_61 {L : AL} {r : List Value} {a : Nat} : aw g 186 61 L (.ref a :: r) σ Q = (hty σ a = some 7 ∧ aw g 186 64 L (hv σ 7 a 17 :: r) σ Q) := (aw_eq g 186 61 _ _ _ _).trans (by rw [tq186_61]; exact rfl)
theorem tq186_64 : tT g 186 64 = s_const 186 65 (.int 2) := rfl
theorem A186_64 {L : AL} {r : List Value} : aw g 186 64 L r σ Q = aw g 186 65 L (.int 2 :: r) σ Q := (aw_eq g 186 64 _ _ _ _).trans (by rw [tq186_64]; exact rfl)
theorem tq186_65 : tT g 186 65 = s_dup2 186 66 := rfl
theorem A186_65 {L : AL} {r : List Value} {v w : Value} : aw g 186 65 L (v :: w :: r) σ Q = (v.category = 1 ∧ w.category = 1 ∧ aw g 186 66 L (v :: w :: v :: w :: r) σ Q) := (aw_eq g 186 65 _ _ _ _).trans (by rw [tq186_65]; exact rfl)
theorem tq186_66 : tT g 186 66 = s_ald 186 67 20 := rfl
theorem A186_66 {L : AL} {r : List Value} {a : Nat} {i : Int32} : aw g 186 66 L (.int i :: .ref a :: r) σ Q = (hty σ a = some 20 ∧ ¬ i < 0 ∧ i.toNatClampNeg < hln σ a ∧ aw g 186 67 L (hv σ 20 a i.toNatClampNeg :: r) σ Q) := (aw_eq g 186 66 _ _ _ _).trans (by rw [tq186_66]; exact rfl)
theorem tq186_67 : tT g 186 67 = s_const 186 68 (.int 1) := rfl
theorem A186_67 {L : AL} {r : List Value} : aw g 186 67 L r σ Q = aw g 186 68 L (.int 1 :: r) σ Q := (aw_eq g 186 67 _ _ _ _).trans (by rw [tq186_67]; exact rfl)
theorem tq186_68 : tT g 186 68 = s_bin 186 69 (fun a b => a + b) := rfl
theorem A186_68 {L : AL} {r : List Value} {a b : Int32} : aw g 186 68 L (.int b :: .int a :: r) σ Q = aw g 186 69 L (.int (a + b) :: r) σ Q := (aw_eq g 186 68 _ _ _ _).trans (by rw [tq186_68]; exact rfl)
theorem tq186_69 : tT g 186 69 = s_ast g (fun _ v => vI v = true) 186 70 20 := rfl
theorem A186_69 {L : AL} {r : List Value} {a : Nat} {i : Int32} {v : Value} : aw g 186 69 L (v :: .int i :: .ref a :: r) σ Q = (hty σ a = some 20 ∧ gB g ≤ a ∧ ¬ i < 0 ∧ i.toNatClampNeg < hln σ a ∧ vI v = true ∧ aw g 186 70 L r (hput σ 20 a i.toNatClampNeg v) Q) := (aw_eq g 186 69 _ _ _ _).trans (by rw [tq186_69]; exact rfl)
theorem tq186_70 : tT g 186 70 = s_load vRf 186 71 1 := rfl
theorem A186_70 {l0 : Option Value} {l2 : Option Value} {x : Value} {r : List Value} : aw g 186 70 [l0, some (x), l2] r σ Q = (vRf x = true ∧ aw g 186 71 [l0, some (x), l2] (x :: r) σ Q) := (aw_eq g 186 70 _ _ _ _).trans (by rw [tq186_70]; exact h_load rfl)
theorem tq186_71 : tT g 186 71 = s_const 186 72 (.int 1) := rfl
theorem A186_71 {L : AL} {r : List Value} : aw g 186 71 L r σ Q = aw g 186 72 L (.int 1 :: r) σ Q := (aw_eq g 186 71 _ _ _ _).trans (by rw [tq186_71]; exact rfl)
theorem tq186_72 : tT g 186 72 = s_putf g pI 186 75 7 6 := rfl
theorem A186_72 {L : AL} {r : List Value} {a : Nat} {v : Value} : aw g 186 72 L (v :: .ref a :: r) σ Q = (hty σ a = some 7 ∧ gB g ≤ a ∧ pI v ∧ aw g 186 75 L r (hput σ 7 a 6 v) Q) := (aw_eq g 186 72 _ _ _ _).trans (by rw [tq186_72]; exact rfl)
theorem tq186_75 : tT g 186 75 = s_vret := rfl
theorem A186_75 {L : AL} : aw g 186 75 L [] σ Q = Q (.inl none) σ := (aw_eq g 186 75 _ _ _ _).trans (by rw [tq186_75]; exact rfl)
theorem tq186_76 : tT g 186 76 = s_load vRf 186 77 1 := rfl
theorem A186_76 {l0 : Option Value} {l2 : Option Value} {x : Value} {r : List Value} : aw g 186 76 [l0, some (x), l2] r σ Q = (vRf x = true ∧ aw g 186 77 [l0, some (x), l2] (x :: r) σ Q) := (aw_eq g 186 76 _ _ _ _).trans (by rw [tq186_76]; exact h_load rfl)
theorem tq186_77 : tT g 186 77 = s_load vRf 186 78 1 := rfl
theorem A186_77 {l0 : Option Value} {l2 : Option Value} {x : Value} {r : List Value} : aw g 186 77 [l0, some (x), l2] r σ Q = (vRf x = true ∧ aw g 186 78 [l0, some (x), l2] (x :: r) σ Q) := (aw_eq g 186 77 _ _ _ _).trans (by rw [tq186_77]; exact h_load rfl)
theorem tq186_78 : tT g 186 78 = s_getf 186 81 7 5 := rfl
theorem A186_78 {L : AL} {r : List Value} {a : Nat} : aw g 186 78 L (.ref a :: r) σ Q = (hty σ a = some 7 ∧ aw g 186 81 L (hv σ 7 a 5 :: r) σ Q) := (aw_eq g 186 78 _ _ _ _).trans (by rw [tq186_78]; exact rfl)
theorem tq186_81 : tT g 186 81 = s_callvk 186 84 208 7 [0] 2 := rfl
theorem A186_81 {L : AL} {r : List Value} {a : Nat} {w0 : Value} : aw g 186 81 L (w0 :: .ref a :: r) σ Q = (hty σ a = some 7 ∧ (vI w0 && true) = true ∧ csum r ≤ 8 ∧ aw g 208 0 [some (.ref a), some w0] [] σ (kt (aw g) 186 84 L r Q)) := (aw_eq g 186 81 _ _ _ _).trans (by rw [tq186_81]; exact rfl)
theorem tq186_84 : tT g 186 84 = s_load vRf 186 85 1 := rfl
theorem A186_84 {l0 : Option Value} {l2 : Option Value} {x : Value} {r : List Value} : aw g 186 84 [l0, some (x), l2] r σ Q = (vRf x = true ∧ aw g 186 85 [l0, some (x), l2] (x :: r) σ Q) := (aw_eq g 186 84 _ _ _ _).trans (by rw [tq186_84]; exact h_load rfl)
theorem tq186_85 : tT g 186 85 = s_load vRf 186 86 1 := rfl
theorem A186_85 {l0 : Option Value} {l2 : Option Value} {x : Value} {r : List Value} : aw g 186 85 [l0, some (x), l2] r σ Q = (vRf x = true ∧ aw g 186 86 [l0, some (x), l2] (x :: r) σ Q) := (aw_eq g 186 85 _ _ _ _).trans (by rw [tq186_85]; exact h_load rfl)
theorem tq186_86 : tT g 186 86 = s_getf 186 89 7 3 := rfl
theorem A186_86 {L : AL} {r : List Value} {a : Nat} : aw g 186 86 L (.ref a :: r) σ Q = (hty σ a = some 7 ∧ aw g 186 89 L (hv σ 7 a 3 :: r) σ Q) := (aw_eq g 186 86 _ _ _ _).trans (by rw [tq186_86]; exact rfl)
theorem tq186_89 : tT g 186 89 = s_load vRf 186 90 1 := rfl
theorem A186_89 {l0 : Option Value} {l2 : Option Value} {x : Value} {r : List Value} : aw g 186 89 [l0, some (x), l2] r σ Q = (vRf x = true ∧ aw g 186 90 [l0, some (x), l2] (x :: r) σ Q) := (aw_eq g 186 89 _ _ _ _).trans (by rw [tq186_89]; exact h_load rfl)
theorem tq186_90 : tT g 186 90 = s_getf 186 93 7 5 := rfl
theorem A186_90 {L : AL} {r : List Value} {a : Nat} : aw g 186 90 L (.ref a :: r) σ Q = (hty σ a = some 7 ∧ aw g 186 93 L (hv σ 7 a 5 :: r) σ Q) := (aw_eq g 186 90 _ _ _ _).trans (by rw [tq186_90]; exact rfl)
theorem tq186_93 : tT g 186 93 = s_bin 186 94 (fun a b => a + b) := rfl
theorem A186_93 {L : AL} {r : List Value} {a b : Int32} : aw g 186 93 L (.int b :: .int a :: r) σ Q = aw g 186 94 L (.int (a + b) :: r) σ Q := (aw_eq g 186 93 _ _ _ _).trans (by rw [tq186_93]; exact rfl)
theorem tq186_94 : tT g 186 94 = s_const 186 97 (.int 1000) := rfl
theorem A186_94 {L : AL} {r : List Value} : aw g 186 94 L r σ Q = aw g 186 97 L (.int 1000 :: r) σ Q := (aw_eq g 186 94 _ _ _ _).trans (by rw [tq186_94]; exact rfl)
theorem tq186_97 : tT g 186 97 = s_div 186 98 (fun a b => a - a / b * b) := rfl
theorem A186_97 {L : AL} {r : List Value} {a b : Int32} : aw g 186 97 L (.int b :: .int a :: r) σ Q = (b ≠ 0 ∧ aw g 186 98 L (.int (a - a / b * b) :: r) σ Q) := (aw_eq g 186 97 _ _ _ _).trans (by rw [tq186_97]; exact rfl)
theorem tq186_98 : tT g 186 98 = s_putf g pI 186 101 7 3 := rfl
theorem A186_98 {L : AL} {r : List Value} {a : Nat} {v : Value} : aw g 186 98 L (v :: .ref a :: r) σ Q = (hty σ a = some 7 ∧ gB g ≤ a ∧ pI v ∧ aw g 186 101 L r (hput σ 7 a 3 v) Q) := (aw_eq g 186 98 _ _ _ _).trans (by rw [tq186_98]; exact rfl)
theorem tq186_101 : tT g 186 101 = s_load vRf 186 102 1 := rfl
theorem A186_101 {l0 : Option Value} {l2 : Option Value} {x : Value} {r : List Value} : aw g 186 101 [l0, some (x), l2] r σ Q = (vRf x = true ∧ aw g 186 102 [l0, some (x), l2] (x :: r) σ Q) := (aw_eq g 186 101 _ _ _ _).trans (by rw [tq186_101]; exact h_load rfl)
theorem tq186_102 : tT g 186 102 = s_const 186 103 (.int 0) := rfl
theorem A186_102 {L : AL} {r : List Value} : aw g 186 102 L r σ Q = aw g 186 103 L (.int 0 :: r) σ Q := (aw_eq g 186 102 _ _ _ _).trans (by rw [tq186_102]; exact rfl)
theorem tq186_103 : tT g 186 103 = s_putf g pI 186 106 7 5 := rfl
theorem A186_103 {L : AL} {r : List Value} {a : Nat} {v : Value} : aw g 186 103 L (v :: .ref a :: r) σ Q = (hty σ a = some 7 ∧ gB g ≤ a ∧ pI v ∧ aw g 186 106 L r (hput σ 7 a 5 v) Q) := (aw_eq g 186 103 _ _ _ _).trans (by rw [tq186_103]; exact rfl)
theorem tq186_106 : tT g 186 106 = s_goto 186 147 := rfl
theorem A186_106 {L : AL} {r : List Value} : aw g 186 106 L r σ Q = aw g 186 147 L r σ Q := (aw_eq g 186 106 _ _ _ _).trans (by rw [tq186_106]; exact rfl)
theorem tq186_109 : tT g 186 109 = s_load vRf 186 110 1 := rfl
theorem A186_109 {l0 : Option Value} {l2 : Option Value} {x : Value} {r : List Value} : aw g 186 109 [l0, some (x), l2] r σ Q = (vRf x = true ∧ aw g 186 110 [l0, some (x), l2] (x :: r) σ Q) := (aw_eq g 186 109 _ _ _ _).trans (by rw [tq186_109]; exact h_load rfl)
theorem tq186_110 : tT g 186 110 = s_load vRf 186 111 1 := rfl
theorem A186_110 {l0 : Option Value} {l2 : Option Value} {x : Value} {r : List Value} : aw g 186 110 [l0, some (x), l2] r σ Q = (vRf x = true ∧ aw g 186 111 [l0, some (x), l2] (x :: r) σ Q) := (aw_eq g 186 110 _ _ _ _).trans (by rw [tq186_110]; exact h_load rfl)
theorem tq186_111 : tT g 186 111 = s_getf 186 114 7 4 := rfl
theorem A186_111 {L : AL} {r : List Value} {a : Nat} : aw g 186 111 L (.ref a :: r) σ Q = (hty σ a = some 7 ∧ aw g 186 114 L (hv σ 7 a 4 :: r) σ Q) := (aw_eq g 186 111 _ _ _ _).trans (by rw [tq186_111]; exact rfl)
theorem tq186_114 : tT g 186 114 = s_const 186 117 (.int 1000) := rfl
theorem A186_114 {L : AL} {r : List Value} : aw g 186 114 L r σ Q = aw g 186 117 L (.int 1000 :: r) σ Q := (aw_eq g 186 114 _ _ _ _).trans (by rw [tq186_114]; exact rfl)
theorem tq186_117 : tT g 186 117 = s_div 186 118 (fun a b => a - a / b * b) := rfl
theorem A186_117 {L : AL} {r : List Value} {a b : Int32} : aw g 186 117 L (.int b :: .int a :: r) σ Q = (b ≠ 0 ∧ aw g 186 118 L (.int (a - a / b * b) :: r) σ Q) := (aw_eq g 186 117 _ _ _ _).trans (by rw [tq186_117]; exact rfl)
theorem tq186_118 : tT g 186 118 = s_putf g pI 186 121 7 3 := rfl
theorem A186_118 {L : AL} {r : List Value} {a : Nat} {v : Value} : aw g 186 118 L (v :: .ref a :: r) σ Q = (hty σ a = some 7 ∧ gB g ≤ a ∧ pI v ∧ aw g 186 121 L r (hput σ 7 a 3 v) Q) := (aw_eq g 186 118 _ _ _ _).trans (by rw [tq186_118]; exact rfl)
theorem tq186_121 : tT g 186 121 = s_load vRf 186 122 1 := rfl
theorem A186_121 {l0 : Option Value} {l2 : Option Value} {x : Value} {r : List Value} : aw g 186 121 [l0, some (x), l2] r σ Q = (vRf x = true ∧ aw g 186 122 [l0, some (x), l2] (x :: r) σ Q) := (aw_eq g 186 121 _ _ _ _).trans (by rw [tq186_121]; exact h_load rfl)
theorem tq186_122 : tT g 186 122 = s_load vRf 186 123 1 := rfl
theorem A186_122 {l0 : Option Value} {l2 : Option Value} {x : Value} {r : List Value} : aw g 186 122 [l0, some (x), l2] r σ Q = (vRf x = true ∧ aw g 186 123 [l0, some (x), l2] (x :: r) σ Q) := (aw_eq g 186 122 _ _ _ _).trans (by rw [tq186_122]; exact h_load rfl)
theorem tq186_123 : tT g 186 123 = s_getf 186 126 7 3 := rfl
theorem A186_123 {L : AL} {r : List Value} {a : Nat} : aw g 186 123 L (.ref a :: r) σ Q = (hty σ a = some 7 ∧ aw g 186 126 L (hv σ 7 a 3 :: r) σ Q) := (aw_eq g 186 123 _ _ _ _).trans (by rw [tq186_123]; exact rfl)
theorem tq186_126 : tT g 186 126 = s_callvk 186 129 208 7 [0] 2 := rfl
theorem A186_126 {L : AL} {r : List Value} {a : Nat} {w0 : Value} : aw g 186 126 L (w0 :: .ref a :: r) σ Q = (hty σ a = some 7 ∧ (vI w0 && true) = true ∧ csum r ≤ 8 ∧ aw g 208 0 [some (.ref a), some w0] [] σ (kt (aw g) 186 129 L r Q)) := (aw_eq g 186 126 _ _ _ _).trans (by rw [tq186_126]; exact rfl)
theorem tq186_129 : tT g 186 129 = s_goto 186 147 := rfl
theorem A186_129 {L : AL} {r : List Value} : aw g 186 129 L r σ Q = aw g 186 147 L r σ Q := (aw_eq g 186 129 _ _ _ _).trans (by rw [tq186_129]; exact rfl)
theorem tq186_132 : tT g 186 132 = s_load vRf 186 133 1 := rfl
theorem A186_132 {l0 : Option Value} {l2 : Option Value} {x : Value} {r : List Value} : aw g 186 132 [l0, some (x), l2] r σ Q = (vRf x = true ∧ aw g 186 133 [l0, some (x), l2] (x :: r) σ Q) := (aw_eq g 186 132 _ _ _ _).trans (by rw [tq186_132]; exact h_load rfl)
theorem tq186_133 : tT g 186 133 = s_const 186 134 (.int 0) := rfl
theorem A186_133 {L : AL} {r : List Value} : aw g 186 133 L r σ Q = aw g 186 134 L (.int 0 :: r) σ Q := (aw_eq g 186 133 _ _ _ _).trans (by rw [tq186_133]; exact rfl)
theorem tq186_134 : tT g 186 134 = s_load vRf 186 135 1 := rfl
theorem A186_134 {l0 : Option Value} {l2 : Option Value} {x : Value} {r : List Value} : aw g 186 134 [l0, some (x), l2] r σ Q = (vRf x = true ∧ aw g 186 135 [l0, some (x), l2] (x :: r) σ Q) := (aw_eq g 186 134 _ _ _ _).trans (by rw [tq186_134]; exact h_load rfl)
theorem tq186_135 : tT g 186 135 = s_getf 186 138 7 9 := rfl
theorem A186_135 {L : AL} {r : List Value} {a : Nat} : aw g 186 135 L (.ref a :: r) σ Q = (hty σ a = some 7 ∧ aw g 186 138 L (hv σ 7 a 9 :: r) σ Q) := (aw_eq g 186 135 _ _ _ _).trans (by rw [tq186_135]; exact rfl)
theorem tq186_138 : tT g 186 138 = s_callk 186 141 35 [0, 0] 2 := rfl
theorem A186_138 {L : AL} {r : List Value} {w0 w1 : Value} : aw g 186 138 L (w1 :: w0 :: r) σ Q = ((vI w0 && (vI w1 && true)) = true ∧ csum r ≤ 8 ∧ aw g 35 0 [some w0, some w1] [] σ (kt (aw g) 186 141 L r Q)) := (aw_eq g 186 138 _ _ _ _).trans (by rw [tq186_138]; exact rfl)
theorem tq186_141 : tT g 186 141 = s_putf g pI 186 144 7 9 := rfl
theorem A186_141 {L : AL} {r : List Value} {a : Nat} {v : Value} : aw g 186 141 L (v :: .ref a :: r) σ Q = (hty σ a = some 7 ∧ gB g ≤ a ∧ pI v ∧ aw g 186 144 L r (hput σ 7 a 9 v) Q) := (aw_eq g 186 141 _ _ _ _).trans (by rw [tq186_141]; exact rfl)
theorem tq186_144 : tT g 186 144 = s_goto 186 147 := rfl
theorem A186_144 {L : AL} {r : List Value} : aw g 186 144 L r σ Q = aw g 186 147 L r σ Q := (aw_eq g 186 144 _ _ _ _).trans (by rw [tq186_144]; exact rfl)
theorem tq186_147 : tT g 186 147 = s_load vRf 186 148 1 := rfl
theorem A186_147 {l0 : Option Value} {l2 : Option Value} {x : Value} {r : List Value} : aw g 186 147 [l0, some (x), l2] r σ Q = (vRf x = true ∧ aw g 186 148 [l0, some (x), l2] (x :: r) σ Q) := (aw_eq g 186 147 _ _ _ _).trans (by rw [tq186_147]; exact h_load rfl)
theorem tq186_148 : tT g 186 148 = s_callvk 186 151 207 7 [] 1 := rfl
theorem A186_148 {L : AL} {r : List Value} {a : Nat} : aw g 186 148 L (.ref a :: r) σ Q = (hty σ a = some 7 ∧ true = true ∧ csum r ≤ 8 ∧ aw g 207 0 [some (.ref a)] [] σ (kt (aw g) 186 151 L r Q)) := (aw_eq g 186 148 _ _ _ _).trans (by rw [tq186_148]; exact rfl)
theorem tq186_151 : tT g 186 151 = s_vret := rfl
theorem A186_151 {L : AL} : aw g 186 151 L [] σ Q = Q (.inl none) σ := (aw_eq g 186 151 _ _ _ _).trans (by rw [tq186_151]; exact rfl)
theorem tq187_0 : tT g 187 0 = s_load vRf 187 1 2 := rfl
theorem A187_0 {l0 : Option Value} {l1 : Option Value} {l3 : Option Value} {l4 : Option Value} {l5 : Option Value} {x : Value} {r : List Value} : aw g 187 0 [l0, l1, some (x), l3, l4, l5] r σ Q = (vRf x = true ∧ aw g 187 1 [l0, l1, some (x), l3, l4, l5] (x :: r) σ Q) := (aw_eq g 187 0 _ _ _ _).trans (by rw [tq187_0]; exact h_load rfl)
theorem tq187_1 : tT g 187 1 = s_const 187 2 (.int 1) := rfl
theorem A187_1 {L : AL} {r : List Value} : aw g 187 1 L r σ Q = aw g 187 2 L (.int 1 :: r) σ Q := (aw_eq g 187 1 _ _ _ _).trans (by rw [tq187_1]; exact rfl)
theorem tq187_2 : tT g 187 2 = s_ald 187 3 20 := rfl
theorem A187_2 {L : AL} {r : List Value} {a : Nat} {i : Int32} : aw g 187 2 L (.int i :: .ref a :: r) σ Q = (hty σ a = some 20 ∧ ¬ i < 0 ∧ i.toNatClampNeg < hln σ a ∧ aw g 187 3 L (hv σ 20 a i.toNatClampNeg :: r) σ Q) := (aw_eq g 187 2 _ _ _ _).trans (by rw [tq187_2]; exact rfl)
theorem tq187_3 : tT g 187 3 = s_store vI 187 4 3 := rfl
theorem A187_3 {l0 : Option Value} {l1 : Option Value} {l2 : Option Value} {l3 : Option Value} {l4 : Option Value} {l5 : Option Value} {x : Int32} {r : List Value} : aw g 187 3 [l0, l1, l2, l3, l4, l5] (.int x :: r) σ Q = (oc l2 = true ∧ aw g 187 4 [l0, l1, l2, some (.int x), l4, l5] r σ Q) := (aw_eq g 187 3 _ _ _ _).trans (by rw [tq187_3]; exact (h_store (o := oc l2) rfl rfl rfl).trans (propext ⟨fun z => z.2, fun z => ⟨rfl, z⟩⟩))
theorem tq187_4 : tT g 187 4 = s_load vRf 187 5 1 := rfl
theorem A187_4 {l0 : Option Value} {l2 : Option Value} {l3 : Option Value} {l4 : Option Value} {l5 : Option Value} {x : Value} {r : List Value} : aw g 187 4 [l0, some (x), l2, l3, l4, l5] r σ Q = (vRf x = true ∧ aw g 187 5 [l0, some (x), l2, l3, l4, l5] (x :: r) σ Q) := (aw_eq g 187 4 _ _ _ _).trans (by rw [tq187_4]; exact h_load rfl)
theorem tq187_5 : tT g 187 5 = s_getf 187 8 7 14 := rfl
theorem A187_5 {L : AL} {r : List Value} {a : Nat} : aw g 187 5 L (.ref a :: r) σ Q = (hty σ a = some 7 ∧ aw g 187 8 L (hv σ 7 a 14 :: r) σ Q) := (aw_eq g 187 5 _ _ _ _).trans (by rw [tq187_5]; exact rfl)
theorem tq187_8 : tT g 187 8 = s_load vI 187 9 3 := rfl
theorem A187_8 {l0 : Option Value} {l1 : Option Value} {l2 : Option Value} {l4 : Option Value} {l5 : Option Value} {x : Int32} {r : List Value} : aw g 187 8 [l0, l1, l2, some (.int x), l4, l5] r σ Q = aw g 187 9 [l0, l1, l2, some (.int x), l4, l5] (.int x :: r) σ Q := (aw_eq g 187 8 _ _ _ _).trans (by rw [tq187_8]; exact (h_load rfl).trans (propext ⟨fun z => z.2, fun z => ⟨rfl, z⟩⟩))
theorem tq187_9 : tT g 187 9 = s_ald 187 10 20 := rfl
theorem A187_9 {L : AL} {r : List Value} {a : Nat} {i : Int32} : aw g 187 9 L (.int i :: .ref a :: r) σ Q = (hty σ a = some 20 ∧ ¬ i < 0 ∧ i.toNatClampNeg < hln σ a ∧ aw g 187 10 L (hv σ 20 a i.toNatClampNeg :: r) σ Q) := (aw_eq g 187 9 _ _ _ _).trans (by rw [tq187_9]; exact rfl)
theorem tq187_10 : tT g 187 10 = s_const 187 11 (.int 2) := rfl
theorem A187_10 {L : AL} {r : List Value} : aw g 187 10 L r σ Q = aw g 187 11 L (.int 2 :: r) σ Q := (aw_eq g 187 10 _ _ _ _).trans (by rw [tq187_10]; exact rfl)
theorem tq187_11 : tT g 187 11 = s_icmp 187 32 14 (fun a b => a = b) := rfl
theorem A187_11 {L : AL} {r : List Value} {a b : Int32} : aw g 187 11 L (.int b :: .int a :: r) σ Q = ((a = b → aw g 187 14 L r σ Q) ∧ (¬ a = b → aw g 187 32 L r σ Q)) := (aw_eq g 187 11 _ _ _ _).trans (by rw [tq187_11]; exact rfl)
theorem tq187_14 : tT g 187 14 = s_load vRf 187 15 1 := rfl
theorem A187_14 {l0 : Option Value} {l2 : Option Value} {l3 : Option Value} {l4 : Option Value} {l5 : Option Value} {x : Value} {r : List Value} : aw g 187 14 [l0, some (x), l2, l3, l4, l5] r σ Q = (vRf x = true ∧ aw g 187 15 [l0, some (x), l2, l3, l4, l5] (x :: r) σ Q) := (aw_eq g 187 14 _ _ _ _).trans (by rw [tq187_14]; exact h_load rfl)
theorem tq187_15 : tT g 187 15 = s_getf 187 18 7 17 := rfl
theorem A187_15 {L : AL} {r : List Value} {a : Nat} : aw g 187 15 L (.ref a :: r) σ Q = (hty σ a = some 7 ∧ aw g 187 18 L (hv σ 7 a 17 :: r) σ Q) := (aw_eq g 187 15 _ _ _ _).trans (by rw [tq187_15]; exact rfl)
theorem tq187_18 : tT g 187 18 = s_const 187 19 (.int 3) := rfl
theorem A187_18 {L : AL} {r : List Value} : aw g 187 18 L r σ Q = aw g 187 19 L (.int 3 :: r) σ Q := (aw_eq g 187 18 _ _ _ _).trans (by rw [tq187_18]; exact rfl)
theorem tq187_19 : tT g 187 19 = s_dup2 187 20 := rfl
theorem A187_19 {L : AL} {r : List Value} {v w : Value} : aw g 187 19 L (v :: w :: r) σ Q = (v.category = 1 ∧ w.category = 1 ∧ aw g 187 20 L (v :: w :: v :: w :: r) σ Q) := (aw_eq g 187 19 _ _ _ _).trans (by rw [tq187_19]; exact rfl)
theorem tq187_20 : tT g 187 20 = s_ald 187 21 20 := rfl
theorem A187_20 {L : AL} {r : List Value} {a : Nat} {i : Int32} : aw g 187 20 L (.int i :: .ref a :: r) σ Q = (hty σ a = some 20 ∧ ¬ i < 0 ∧ i.toNatClampNeg < hln σ a ∧ aw g 187 21 L (hv σ 20 a i.toNatClampNeg :: r) σ Q) := (aw_eq g 187 20 _ _ _ _).trans (by rw [tq187_20]; exact rfl)
theorem tq187_21 : tT g 187 21 = s_const 187 22 (.int 1) := rfl
theorem A187_21 {L : AL} {r : List Value} : aw g 187 21 L r σ Q = aw g 187 22 L (.int 1 :: r) σ Q := (aw_eq g 187 21 _ _ _ _).trans (by rw [tq187_21]; exact rfl)
theorem tq187_22 : tT g 187 22 = s_bin 187 23 (fun a b => a + b) := rfl
theorem A187_22 {L : AL} {r : List Value} {a b : Int32} : aw g 187 22 L (.int b :: .int a :: r) σ Q = aw g 187 23 L (.int (a + b) :: r) σ Q := (aw_eq g 187 22 _ _ _ _).trans (by rw [tq187_22]; exact rfl)
theorem tq187_23 : tT g 187 23 = s_ast g (fun _ v => vI v = true) 187 24 20 := rfl
theorem A187_23 {L : AL} {r : List Value} {a : Nat} {i : Int32} {v : Value} : aw g 187 23 L (v :: .int i :: .ref a :: r) σ Q = (hty σ a = some 20 ∧ gB g ≤ a ∧ ¬ i < 0 ∧ i.toNatClampNeg < hln σ a ∧ vI v = true ∧ aw g 187 24 L r (hput σ 20 a i.toNatClampNeg v) Q) := (aw_eq g 187 23 _ _ _ _).trans (by rw [tq187_23]; exact rfl)
theorem tq187_24 : tT g 187 24 = s_load vRf 187 25 1 := rfl
theorem A187_24 {l0 : Option Value} {l2 : Option Value} {l3 : Option Value} {l4 : Option Value} {l5 : Option Value} {x : Value} {r : List Value} : aw g 187 24 [l0, some (x), l2, l3, l4, l5] r σ Q = (vRf x = true ∧ aw g 187 25 [l0, some (x), l2, l3, l4, l5] (x :: r) σ Q) := (aw_eq g 187 24 _ _ _ _).trans (by rw [tq187_24]; exact h_load rfl)
theorem tq187_25 : tT g 187 25 = s_getf 187 28 7 14 := rfl
theorem A187_25 {L : AL} {r : List Value} {a : Nat} : aw g 187 25 L (.ref a :: r) σ Q = (hty σ a = some 7 ∧ aw g 187 28 L (hv σ 7 a 14 :: r) σ Q) := (aw_eq g 187 25 _ _ _ _).trans (by rw [tq187_25]; exact rfl)
theorem tq187_28 : tT g 187 28 = s_load vI 187 29 3 := rfl
theorem A187_28 {l0 : Option Value} {l1 : Option Value} {l2 : Option Value} {l4 : Option Value} {l5 : Option Value} {x : Int32} {r : List Value} : aw g 187 28 [l0, l1, l2, some (.int x), l4, l5] r σ Q = aw g 187 29 [l0, l1, l2, some (.int x), l4, l5] (.int x :: r) σ Q := (aw_eq g 187 28 _ _ _ _).trans (by rw [tq187_28]; exact (h_load rfl).trans (propext ⟨fun z => z.2, fun z => ⟨rfl, z⟩⟩))
theorem tq187_29 : tT g 187 29 = s_const 187 30 (.int 3) := rfl
theorem A187_29 {L : AL} {r : List Value} : aw g 187 29 L r σ Q = aw g 187 30 L (.int 3 :: r) σ Q := (aw_eq g 187 29 _ _ _ _).trans (by rw [tq187_29]; exact rfl)
theorem tq187_30 : tT g 187 30 = s_ast g (fun _ v => vI v = true) 187 31 20 := rfl
theorem A187_30 {L : AL} {r : List Value} {a : Nat} {i : Int32} {v : Value} : aw g 187 30 L (v :: .int i :: .ref a :: r) σ Q = (hty σ a = some 20 ∧ gB g ≤ a ∧ ¬ i < 0 ∧ i.toNatClampNeg < hln σ a ∧ vI v = true ∧ aw g 187 31 L r (hput σ 20 a i.toNatClampNeg v) Q) := (aw_eq g 187 30 _ _ _ _).trans (by rw [tq187_30]; exact rfl)
theorem tq187_31 : tT g 187 31 = s_vret := rfl
theorem A187_31 {L : AL} : aw g 187 31 L [] σ Q = Q (.inl none) σ := (aw_eq g 187 31 _ _ _ _).trans (by rw [tq187_31]; exact rfl)
theorem tq187_32 : tT g 187 32 = s_load vRf 187 33 1 := rfl
theorem A187_32 {l0 : Option Value} {l2 : Option Value} {l3 : Option Value} {l4 : Option Value} {l5 : Option Value} {x : Value} {r : List Value} : aw g 187 32 [l0, some (x), l2, l3, l4, l5] r σ Q = (vRf x = true ∧ aw g 187 33 [l0, some (x), l2, l3, l4, l5] (x :: r) σ Q) := (aw_eq g 187 32 _ _ _ _).trans (by rw [tq187_32]; exact h_load rfl)
theorem tq187_33 : tT g 187 33 = s_getf 187 36 7 14 := rfl
theorem A187_33 {L : AL} {r : List Value} {a : Nat} : aw g 187 33 L (.ref a :: r) σ Q = (hty σ a = some 7 ∧ aw g 187 36 L (hv σ 7 a 14 :: r) σ Q) := (aw_eq g 187 33 _ _ _ _).trans (by rw [tq187_33]; exact rfl)
theorem tq187_36 : tT g 187 36 = s_load vI 187 37 3 := rfl
theorem A187_36 {l0 : Option Value} {l1 : Option Value} {l2 : Option Value} {l4 : Option Value} {l5 : Option Value} {x : Int32} {r : List Value} : aw g 187 36 [l0, l1, l2, some (.int x), l4, l5] r σ Q = aw g 187 37 [l0, l1, l2, some (.int x), l4, l5] (.int x :: r) σ Q := (aw_eq g 187 36 _ _ _ _).trans (by rw [tq187_36]; exact (h_load rfl).trans (propext ⟨fun z => z.2, fun z => ⟨rfl, z⟩⟩))
theorem tq187_37 : tT g 187 37 = s_ald 187 38 20 := rfl
theorem A187_37 {L : AL} {r : List Value} {a : Nat} {i : Int32} : aw g 187 37 L (.int i :: .ref a :: r) σ Q = (hty σ a = some 20 ∧ ¬ i < 0 ∧ i.toNatClampNeg < hln σ a ∧ aw g 187 38 L (hv σ 20 a i.toNatClampNeg :: r) σ Q) := (aw_eq g 187 37 _ _ _ _).trans (by rw [tq187_37]; exact rfl)
theorem tq187_38 : tT g 187 38 = s_if 187 41 128 (fun a => a = 0) := rfl
theorem A187_38 {L : AL} {r : List Value} {a : Int32} : aw g 187 38 L (.int a :: r) σ Q = ((a = 0 → aw g 187 128 L r σ Q) ∧ (¬ a = 0 → aw g 187 41 L r σ Q)) := (aw_eq g 187 38 _ _ _ _).trans (by rw [tq187_38]; exact rfl)
theorem tq187_41 : tT g 187 41 = s_load vRf 187 42 1 := rfl
theorem A187_41 {l0 : Option Value} {l2 : Option Value} {l3 : Option Value} {l4 : Option Value} {l5 : Option Value} {x : Value} {r : List Value} : aw g 187 41 [l0, some (x), l2, l3, l4, l5] r σ Q = (vRf x = true ∧ aw g 187 42 [l0, some (x), l2, l3, l4, l5] (x :: r) σ Q) := (aw_eq g 187 41 _ _ _ _).trans (by rw [tq187_41]; exact h_load rfl)
theorem tq187_42 : tT g 187 42 = s_getf 187 45 7 17 := rfl
theorem A187_42 {L : AL} {r : List Value} {a : Nat} : aw g 187 42 L (.ref a :: r) σ Q = (hty σ a = some 7 ∧ aw g 187 45 L (hv σ 7 a 17 :: r) σ Q) := (aw_eq g 187 42 _ _ _ _).trans (by rw [tq187_42]; exact rfl)
theorem tq187_45 : tT g 187 45 = s_const 187 46 (.int 0) := rfl
theorem A187_45 {L : AL} {r : List Value} : aw g 187 45 L r σ Q = aw g 187 46 L (.int 0 :: r) σ Q := (aw_eq g 187 45 _ _ _ _).trans (by rw [tq187_45]; exact rfl)
theorem tq187_46 : tT g 187 46 = s_dup2 187 47 := rfl
theorem A187_46 {L : AL} {r : List Value} {v w : Value} : aw g 187 46 L (v :: w :: r) σ Q = (v.category = 1 ∧ w.category = 1 ∧ aw g 187 47 L (v :: w :: v :: w :: r) σ Q) := (aw_eq g 187 46 _ _ _ _).trans (by rw [tq187_46]; exact rfl)
theorem tq187_47 : tT g 187 47 = s_ald 187 48 20 := rfl
theorem A187_47 {L : AL} {r : List Value} {a : Nat} {i : Int32} : aw g 187 47 L (.int i :: .ref a :: r) σ Q = (hty σ a = some 20 ∧ ¬ i < 0 ∧ i.toNatClampNeg < hln σ a ∧ aw g 187 48 L (hv σ 20 a i.toNatClampNeg :: r) σ Q) := (aw_eq g 187 47 _ _ _ _).trans (by rw [tq187_47]; exact rfl)
theorem tq187_48 : tT g 187 48 = s_const 187 49 (.int 1) := rfl
theorem A187_48 {L : AL} {r : List Value} : aw g 187 48 L r σ Q = aw g 187 49 L (.int 1 :: r) σ Q := (aw_eq g 187 48 _ _ _ _).trans (by rw [tq187_48]; exact rfl)
theorem tq187_49 : tT g 187 49 = s_bin 187 50 (fun a b => a + b) := rfl
theorem A187_49 {L : AL} {r : List Value} {a b : Int32} : aw g 187 49 L (.int b :: .int a :: r) σ Q = aw g 187 50 L (.int (a + b) :: r) σ Q := (aw_eq g 187 49 _ _ _ _).trans (by rw [tq187_49]; exact rfl)
theorem tq187_50 : tT g 187 50 = s_ast g (fun _ v => vI v = true) 187 51 20 := rfl
theorem A187_50 {L : AL} {r : List Value} {a : Nat} {i : Int32} {v : Value} : aw g 187 50 L (v :: .int i :: .ref a :: r) σ Q = (hty σ a = some 20 ∧ gB g ≤ a ∧ ¬ i < 0 ∧ i.toNatClampNeg < hln σ a ∧ vI v = true ∧ aw g 187 51 L r (hput σ 20 a i.toNatClampNeg v) Q) := (aw_eq g 187 50 _ _ _ _).trans (by rw [tq187_50]; exact rfl)
theorem tq187_51 : tT g 187 51 = s_load vRf 187 52 1 := rfl
theorem A187_51 {l0 : Option Value} {l2 : Option Value} {l3 : Option Value} {l4 : Option Value} {l5 : Option Value} {x : Value} {r : List Value} : aw g 187 51 [l0, some (x), l2, l3, l4, l5] r σ Q = (vRf x = true ∧ aw g 187 52 [l0, some (x), l2, l3, l4, l5] (x :: r) σ Q) := (aw_eq g 187 51 _ _ _ _).trans (by rw [tq187_51]; exact h_load rfl)
theorem tq187_52 : tT g 187 52 = s_getf 187 55 7 14 := rfl
theorem A187_52 {L : AL} {r : List Value} {a : Nat} : aw g 187 52 L (.ref a :: r) σ Q = (hty σ a = some 7 ∧ aw g 187 55 L (hv σ 7 a 14 :: r) σ Q) := (aw_eq g 187 52 _ _ _ _).trans (by rw [tq187_52]; exact rfl)
theorem tq187_55 : tT g 187 55 = s_load vI 187 56 3 := rfl
theorem A187_55 {l0 : Option Value} {l1 : Option Value} {l2 : Option Value} {l4 : Option Value} {l5 : Option Value} {x : Int32} {r : List Value} : aw g 187 55 [l0, l1, l2, some (.int x), l4, l5] r σ Q = aw g 187 56 [l0, l1, l2, some (.int x), l4, l5] (.int x :: r) σ Q := (aw_eq g 187 55 _ _ _ _).trans (by rw [tq187_55]; exact (h_load rfl).trans (propext ⟨fun z => z.2, fun z => ⟨rfl, z⟩⟩))
theorem tq187_56 : tT g 187 56 = s_ald 187 57 20 := rfl
theorem A187_56 {L : AL} {r : List Value} {a : Nat} {i : Int32} : aw g 187 56 L (.int i :: .ref a :: r) σ Q = (hty σ a = some 20 ∧ ¬ i < 0 ∧ i.toNatClampNeg < hln σ a ∧ aw g 187 57 L (hv σ 20 a i.toNatClampNeg :: r) σ Q) := (aw_eq g 187 56 _ _ _ _).trans (by rw [tq187_56]; exact rfl)
theorem tq187_57 : tT g 187 57 = s_const 187 58 (.int 1) := rfl
theorem A187_57 {L : AL} {r : List Value} : aw g 187 57 L r σ Q = aw g 187 58 L (.int 1 :: r) σ Q := (aw_eq g 187 57 _ _ _ _).trans (by rw [tq187_57]; exact rfl)
theorem tq187_58 : tT g 187 58 = s_icmp 187 65 61 (fun a b => a = b) := rfl
theorem A187_58 {L : AL} {r : List Value} {a b : Int32} : aw g 187 58 L (.int b :: .int a :: r) σ Q = ((a = b → aw g 187 61 L r σ Q) ∧ (¬ a = b → aw g 187 65 L r σ Q)) := (aw_eq g 187 58 _ _ _ _).trans (by rw [tq187_58]; exact rfl)
theorem tq187_61 : tT g 187 61 = s_const 187 62 (.int 1) := rfl
theorem A187_61 {L : AL} {r : List Value} : aw g 187 61 L r σ Q = aw g 187 62 L (.int 1 :: r) σ Q := (aw_eq g 187 61 _ _ _ _).trans (by rw [tq187_61]; exact rfl)
theorem tq187_62 : tT g 187 62 = s_goto 187 66 := rfl
theorem A187_62 {L : AL} {r : List Value} : aw g 187 62 L r σ Q = aw g 187 66 L r σ Q := (aw_eq g 187 62 _ _ _ _).trans (by rw [tq187_62]; exact rfl)
theorem tq187_65 : tT g 187 65 = s_const 187 66 (.int 0) := rfl
theorem A187_65 {L : AL} {r : List Value} : aw g 187 65 L r σ Q = aw g 187 66 L (.int 0 :: r) σ Q := (aw_eq g 187 65 _ _ _ _).trans (by rw [tq187_65]; exact rfl)
theorem tq187_66 : tT g 187 66 = s_store vI 187 68 4 := rfl
theorem A187_66 {l0 : Option Value} {l1 : Option Value} {l2 : Option Value} {l3 : Option Value} {l4 : Option Value} {l5 : Option Value} {x : Int32} {r : List Value} : aw g 187 66 [l0, l1, l2, l3, l4, l5] (.int x :: r) σ Q = (oc l3 = true ∧ aw g 187 68 [l0, l1, l2, l3, some (.int x), l5] r σ Q) := (aw_eq g 187 66 _ _ _ _).trans (by rw [tq187_66]; exact (h_store (o := oc l3) rfl rfl rfl).trans (propext ⟨fun z => z.2, fun z => ⟨rfl, z⟩⟩))
theorem tq187_68 : tT g 187 68 = s_load vRf 187 69 0 := rfl
theorem A187_68 {l1 : Option Value} {l2 : Option Value} {l3 : Option Value} {l4 : Option Value} {l5 : Option Value} {x : Value} {r : List Value} : aw g 187 68 [some (x), l1, l2, l3, l4, l5] r σ Q = (vRf x = true ∧ aw g 187 69 [some (x), l1, l2, l3, l4, l5] (x :: r) σ Q) := (aw_eq g 187 68 _ _ _ _).trans (by rw [tq187_68]; exact h_load rfl)
theorem tq187_69 : tT g 187 69 = s_callvk 187 72 188 4 [] 6 := rfl
theorem A187_69 {L : AL} {r : List Value} {a : Nat} : aw g 187 69 L (.ref a :: r) σ Q = (hty σ a = some 4 ∧ true = true ∧ csum r ≤ 8 ∧ aw g 188 0 [some (.ref a), none, none, none, none, none] [] σ (kt (aw g) 187 72 L r Q)) := (aw_eq g 187 69 _ _ _ _).trans (by rw [tq187_69]; exact rfl)
theorem tq187_72 : tT g 187 72 = s_store vI 187 74 5 := rfl
theorem A187_72 {l0 : Option Value} {l1 : Option Value} {l2 : Option Value} {l3 : Option Value} {l4 : Option Value} {l5 : Option Value} {x : Int32} {r : List Value} : aw g 187 72 [l0, l1, l2, l3, l4, l5] (.int x :: r) σ Q = (oc l4 = true ∧ aw g 187 74 [l0, l1, l2, l3, l4, some (.int x)] r σ Q) := (aw_eq g 187 72 _ _ _ _).trans (by rw [tq187_72]; exact (h_store (o := oc l4) rfl rfl rfl).trans (propext ⟨fun z => z.2, fun z => ⟨rfl, z⟩⟩))
theorem tq187_74 : tT g 187 74 = s_load vRf 187 75 0 := rfl
theorem A187_74 {l1 : Option Value} {l2 : Option Value} {l3 : Option Value} {l4 : Option Value} {l5 : Option Value} {x : Value} {r : List Value} : aw g 187 74 [some (x), l1, l2, l3, l4, l5] r σ Q = (vRf x = true ∧ aw g 187 75 [some (x), l1, l2, l3, l4, l5] (x :: r) σ Q) := (aw_eq g 187 74 _ _ _ _).trans (by rw [tq187_74]; exact h_load rfl)
theorem tq187_75 : tT g 187 75 = s_load vI 187 77 5 := rfl
theorem A187_75 {l0 : Option Value} {l1 : Option Value} {l2 : Option Value} {l3 : Option Value} {l4 : Option Value} {x : Int32} {r : List Value} : aw g 187 75 [l0, l1, l2, l3, l4, some (.int x)] r σ Q = aw g 187 77 [l0, l1, l2, l3, l4, some (.int x)] (.int x :: r) σ Q := (aw_eq g 187 75 _ _ _ _).trans (by rw [tq187_75]; exact (h_load rfl).trans (propext ⟨fun z => z.2, fun z => ⟨rfl, z⟩⟩))
theorem tq187_77 : tT g 187 77 = s_callvk 187 80 179 4 [0] 3 := rfl
theorem A187_77 {L : AL} {r : List Value} {a : Nat} {w0 : Value} : aw g 187 77 L (w0 :: .ref a :: r) σ Q = (hty σ a = some 4 ∧ (vI w0 && true) = true ∧ csum r ≤ 8 ∧ aw g 179 0 [some (.ref a), some w0, none] [] σ (kt (aw g) 187 80 L r Q)) := (aw_eq g 187 77 _ _ _ _).trans (by rw [tq187_77]; exact rfl)
theorem tq187_80 : tT g 187 80 = s_pop 187 81 := rfl
theorem A187_80 {L : AL} {r : List Value} {v : Value} : aw g 187 80 L (v :: r) σ Q = (v.category = 1 ∧ aw g 187 81 L r σ Q) := (aw_eq g 187 80 _ _ _ _).trans (by rw [tq187_80]; exact rfl)
theorem tq187_81 : tT g 187 81 = s_load vRf 187 82 1 := rfl
theorem A187_81 {l0 : Option Value} {l2 : Option Value} {l3 : Option Value} {l4 : Option Value} {l5 : Option Value} {x : Value} {r : List Value} : aw g 187 81 [l0, some (x), l2, l3, l4, l5] r σ Q = (vRf x = true ∧ aw g 187 82 [l0, some (x), l2, l3, l4, l5] (x :: r) σ Q) := (aw_eq g 187 81 _ _ _ _).trans (by rw [tq187_81]; exact h_load rfl)
theorem tq187_82 : tT g 187 82 = s_getf 187 85 7 14 := rfl
theorem A187_82 {L : AL} {r : List Value} {a : Nat} : aw g 187 82 L (.ref a :: r) σ Q = (hty σ a = some 7 ∧ aw g 187 85 L (hv σ 7 a 14 :: r) σ Q) := (aw_eq g 187 82 _ _ _ _).trans (by rw [tq187_82]; exact rfl)
theorem tq187_85 : tT g 187 85 = s_load vI 187 86 3 := rfl
theorem A187_85 {l0 : Option Value} {l1 : Option Value} {l2 : Option Value} {l4 : Option Value} {l5 : Option Value} {x : Int32} {r : List Value} : aw g 187 85 [l0, l1, l2, some (.int x), l4, l5] r σ Q = aw g 187 86 [l0, l1, l2, some (.int x), l4, l5] (.int x :: r) σ Q := (aw_eq g 187 85 _ _ _ _).trans (by rw [tq187_85]; exact (h_load rfl).trans (propext ⟨fun z => z.2, fun z => ⟨rfl, z⟩⟩))
theorem tq187_86 : tT g 187 86 = s_const 187 87 (.int 0) := rfl
theorem A187_86 {L : AL} {r : List Value} : aw g 187 86 L r σ Q = aw g 187 87 L (.int 0 :: r) σ Q := (aw_eq g 187 86 _ _ _ _).trans (by rw [tq187_86]; exact rfl)
theorem tq187_87 : tT g 187 87 = s_ast g (fun _ v => vI v = true) 187 88 20 := rfl
theorem A187_87 {L : AL} {r : List Value} {a : Nat} {i : Int32} {v : Value} : aw g 187 87 L (v :: .int i :: .ref a :: r) σ Q = (hty σ a = some 20 ∧ gB g ≤ a ∧ ¬ i < 0 ∧ i.toNatClampNeg < hln σ a ∧ vI v = true ∧ aw g 187 88 L r (hput σ 20 a i.toNatClampNeg v) Q) := (aw_eq g 187 87 _ _ _ _).trans (by rw [tq187_87]; exact rfl)
theorem tq187_88 : tT g 187 88 = s_load vRf 187 89 1 := rfl
theorem A187_88 {l0 : Option Value} {l2 : Option Value} {l3 : Option Value} {l4 : Option Value} {l5 : Option Value} {x : Value} {r : List Value} : aw g 187 88 [l0, some (x), l2, l3, l4, l5] r σ Q = (vRf x = true ∧ aw g 187 89 [l0, some (x), l2, l3, l4, l5] (x :: r) σ Q) := (aw_eq g 187 88 _ _ _ _).trans (by rw [tq187_88]; exact h_load rfl)
theorem tq187_89 : tT g 187 89 = s_getf 187 92 7 15 := rfl
theorem A187_89 {L : AL} {r : List Value} {a : Nat} : aw g 187 89 L (.ref a :: r) σ Q = (hty σ a = some 7 ∧ aw g 187 92 L (hv σ 7 a 15 :: r) σ Q) := (aw_eq g 187 89 _ _ _ _).trans (by rw [tq187_89]; exact rfl)
theorem tq187_92 : tT g 187 92 = s_load vI 187 93 3 := rfl
theorem A187_92 {l0 : Option Value} {l1 : Option Value} {l2 : Option Value} {l4 : Option Value} {l5 : Option Value} {x : Int32} {r : List Value} : aw g 187 92 [l0, l1, l2, some (.int x), l4, l5] r σ Q = aw g 187 93 [l0, l1, l2, some (.int x), l4, l5] (.int x :: r) σ Q := (aw_eq g 187 92 _ _ _ _).trans (by rw [tq187_92]; exact (h_load rfl).trans (propext ⟨fun z => z.2, fun z => ⟨rfl, z⟩⟩))
theorem tq187_93 : tT g 187 93 = s_load vI 187 95 5 := rfl
theorem A187_93 {l0 : Option Value} {l1 : Option Value} {l2 : Option Value} {l3 : Option Value} {l4 : Option Value} {x : Int32} {r : List Value} : aw g 187 93 [l0, l1, l2, l3, l4, some (.int x)] r σ Q = aw g 187 95 [l0, l1, l2, l3, l4, some (.int x)] (.int x :: r) σ Q := (aw_eq g 187 93 _ _ _ _).trans (by rw [tq187_93]; exact (h_load rfl).trans (propext ⟨fun z => z.2, fun z => ⟨rfl, z⟩⟩))
theorem tq187_95 : tT g 187 95 = s_ast g (fun _ v => vI v = true) 187 96 20 := rfl
theorem A187_95 {L : AL} {r : List Value} {a : Nat} {i : Int32} {v : Value} : aw g 187 95 L (v :: .int i :: .ref a :: r) σ Q = (hty σ a = some 20 ∧ gB g ≤ a ∧ ¬ i < 0 ∧ i.toNatClampNeg < hln σ a ∧ vI v = true ∧ aw g 187 96 L r (hput σ 20 a i.toNatClampNeg v) Q) := (aw_eq g 187 95 _ _ _ _).trans (by rw [tq187_95]; exact rfl)
theorem tq187_96 : tT g 187 96 = s_load vRf 187 97 1 := rfl
theorem A187_96 {l0 : Option Value} {l2 : Option Value} {l3 : Option Value} {l4 : Option Value} {l5 : Option Value} {x : Value} {r : List Value} : aw g 187 96 [l0, some (x), l2, l3, l4, l5] r σ Q = (vRf x = true ∧ aw g 187 97 [l0, some (x), l2, l3, l4, l5] (x :: r) σ Q) := (aw_eq g 187 96 _ _ _ _).trans (by rw [tq187_96]; exact h_load rfl)
theorem tq187_97 : tT g 187 97 = s_getf 187 100 7 16 := rfl
theorem A187_97 {L : AL} {r : List Value} {a : Nat} : aw g 187 97 L (.ref a :: r) σ Q = (hty σ a = some 7 ∧ aw g 187 100 L (hv σ 7 a 16 :: r) σ Q) := (aw_eq g 187 97 _ _ _ _).trans (by rw [tq187_97]; exact rfl)
theorem tq187_100 : tT g 187 100 = s_load vI 187 101 3 := rfl
theorem A187_100 {l0 : Option Value} {l1 : Option Value} {l2 : Option Value} {l4 : Option Value} {l5 : Option Value} {x : Int32} {r : List Value} : aw g 187 100 [l0, l1, l2, some (.int x), l4, l5] r σ Q = aw g 187 101 [l0, l1, l2, some (.int x), l4, l5] (.int x :: r) σ Q := (aw_eq g 187 100 _ _ _ _).trans (by rw [tq187_100]; exact (h_load rfl).trans (propext ⟨fun z => z.2, fun z => ⟨rfl, z⟩⟩))
theorem tq187_101 : tT g 187 101 = s_load vRf 187 102 0 := rfl
theorem A187_101 {l1 : Option Value} {l2 : Option Value} {l3 : Option Value} {l4 : Option Value} {l5 : Option Value} {x : Value} {r : List Value} : aw g 187 101 [some (x), l1, l2, l3, l4, l5] r σ Q = (vRf x = true ∧ aw g 187 102 [some (x), l1, l2, l3, l4, l5] (x :: r) σ Q) := (aw_eq g 187 101 _ _ _ _).trans (by rw [tq187_101]; exact h_load rfl)
theorem tq187_102 : tT g 187 102 = s_getf 187 105 4 1 := rfl
theorem A187_102 {L : AL} {r : List Value} {a : Nat} : aw g 187 102 L (.ref a :: r) σ Q = (hty σ a = some 4 ∧ aw g 187 105 L (hv σ 4 a 1 :: r) σ Q) := (aw_eq g 187 102 _ _ _ _).trans (by rw [tq187_102]; exact rfl)
theorem tq187_105 : tT g 187 105 = s_ast g (fun _ v => vI v = true) 187 106 20 := rfl
theorem A187_105 {L : AL} {r : List Value} {a : Nat} {i : Int32} {v : Value} : aw g 187 105 L (v :: .int i :: .ref a :: r) σ Q = (hty σ a = some 20 ∧ gB g ≤ a ∧ ¬ i < 0 ∧ i.toNatClampNeg < hln σ a ∧ vI v = true ∧ aw g 187 106 L r (hput σ 20 a i.toNatClampNeg v) Q) := (aw_eq g 187 105 _ _ _ _).trans (by rw [tq187_105]; exact rfl)
theorem tq187_106 : tT g 187 106 = s_load vI 187 108 4 := rfl
theorem A187_106 {l0 : Option Value} {l1 : Option Value} {l2 : Option Value} {l3 : Option Value} {l5 : Option Value} {x : Int32} {r : List Value} : aw g 187 106 [l0, l1, l2, l3, some (.int x), l5] r σ Q = aw g 187 108 [l0, l1, l2, l3, some (.int x), l5] (.int x :: r) σ Q := (aw_eq g 187 106 _ _ _ _).trans (by rw [tq187_106]; exact (h_load rfl).trans (propext ⟨fun z => z.2, fun z => ⟨rfl, z⟩⟩))
theorem tq187_108 : tT g 187 108 = s_if 187 112 111 (fun a => a = 0) := rfl
theorem A187_108 {L : AL} {r : List Value} {a : Int32} : aw g 187 108 L (.int a :: r) σ Q = ((a = 0 → aw g 187 111 L r σ Q) ∧ (¬ a = 0 → aw g 187 112 L r σ Q)) := (aw_eq g 187 108 _ _ _ _).trans (by rw [tq187_108]; exact rfl)
theorem tq187_111 : tT g 187 111 = s_vret := rfl
theorem A187_111 {L : AL} : aw g 187 111 L [] σ Q = Q (.inl none) σ := (aw_eq g 187 111 _ _ _ _).trans (by rw [tq187_111]; exact rfl)
theorem tq187_112 : tT g 187 112 = s_load vRf 187 113 1 := rfl
theorem A187_112 {l0 : Option Value} {l2 : Option Value} {l3 : Option Value} {l4 : Option Value} {l5 : Option Value} {x : Value} {r : List Value} : aw g 187 112 [l0, some (x), l2, l3, l4, l5] r σ Q = (vRf x = true ∧ aw g 187 113 [l0, some (x), l2, l3, l4, l5] (x :: r) σ Q) := (aw_eq g 187 112 _ _ _ _).trans (by rw [tq187_112]; exact h_load rfl)
theorem tq187_113 : tT g 187 113 = s_const 187 114 (.int 2) := rfl
theorem A187_113 {L : AL} {r : List Value} : aw g 187 113 L r σ Q = aw g 187 114 L (.int 2 :: r) σ Q := (aw_eq g 187 113 _ _ _ _).trans (by rw [tq187_113]; exact rfl)
theorem tq187_114 : tT g 187 114 = s_putf g pI 187 117 7 6 := rfl
theorem A187_114 {L : AL} {r : List Value} {a : Nat} {v : Value} : aw g 187 114 L (v :: .ref a :: r) σ Q = (hty σ a = some 7 ∧ gB g ≤ a ∧ pI v ∧ aw g 187 117 L r (hput σ 7 a 6 v) Q) := (aw_eq g 187 114 _ _ _ _).trans (by rw [tq187_114]; exact rfl)
theorem tq187_117 : tT g 187 117 = s_load vRf 187 118 1 := rfl
theorem A187_117 {l0 : Option Value} {l2 : Option Value} {l3 : Option Value} {l4 : Option Value} {l5 : Option Value} {x : Value} {r : List Value} : aw g 187 117 [l0, some (x), l2, l3, l4, l5] r σ Q = (vRf x = true ∧ aw g 187 118 [l0, some (x), l2, l3, l4, l5] (x :: r) σ Q) := (aw_eq g 187 117 _ _ _ _).trans (by rw [tq187_117]; exact h_load rfl)
theorem tq187_118 : tT g 187 118 = s_load vRf 187 119 0 := rfl
theorem A187_118 {l1 : Option Value} {l2 : Option Value} {l3 : Option Value} {l4 : Option Value} {l5 : Option Value} {x : Value} {r : List Value} : aw g 187 118 [some (x), l1, l2, l3, l4, l5] r σ Q = (vRf x = true ∧ aw g 187 119 [some (x), l1, l2, l3, l4, l5] (x :: r) σ Q) := (aw_eq g 187 118 _ _ _ _).trans (by rw [tq187_118]; exact h_load rfl)
theorem tq187_119 : tT g 187 119 = s_getf 187 122 4 1 := rfl
theorem A187_119 {L : AL} {r : List Value} {a : Nat} : aw g 187 119 L (.ref a :: r) σ Q = (hty σ a = some 4 ∧ aw g 187 122 L (hv σ 4 a 1 :: r) σ Q) := (aw_eq g 187 119 _ _ _ _).trans (by rw [tq187_119]; exact rfl)
theorem tq187_122 : tT g 187 122 = s_const 187 123 (.int 2) := rfl
theorem A187_122 {L : AL} {r : List Value} : aw g 187 122 L r σ Q = aw g 187 123 L (.int 2 :: r) σ Q := (aw_eq g 187 122 _ _ _ _).trans (by rw [tq187_122]; exact rfl)
theorem tq187_123 : tT g 187 123 = s_bin 187 124 (fun a b => a + b) := rfl
theorem A187_123 {L : AL} {r : List Value} {a b : Int32} : aw g 187 123 L (.int b :: .int a :: r) σ Q = aw g 187 124 L (.int (a + b) :: r) σ Q := (aw_eq g 187 123 _ _ _ _).trans (by rw [tq187_123]; exact rfl)
theorem tq187_124 : tT g 187 124 = s_putf g pI 187 127 7 8 := rfl
theorem A187_124 {L : AL} {r : List Value} {a : Nat} {v : Value} : aw g 187 124 L (v :: .ref a :: r) σ Q = (hty σ a = some 7 ∧ gB g ≤ a ∧ pI v ∧ aw g 187 127 L r (hput σ 7 a 8 v) Q) := (aw_eq g 187 124 _ _ _ _).trans (by rw [tq187_124]; exact rfl)
theorem tq187_127 : tT g 187 127 = s_vret := rfl
theorem A187_127 {L : AL} : aw g 187 127 L [] σ Q = Q (.inl none) σ := (aw_eq g 187 127 _ _ _ _).trans (by rw [tq187_127]; exact rfl)
theorem tq187_128 : tT g 187 128 = s_load vRf 187 129 1 := rfl
theorem A187_128 {l0 : Option Value} {l2 : Option Value} {l3 : Option Value} {l4 : Option Value} {l5 : Option Value} {x : Value} {r : List Value} : aw g 187 128 [l0, some (x), l2, l3, l4, l5] r σ Q = (vRf x = true ∧ aw g 187 129 [l0, some (x), l2, l3, l4, l5] (x :: r) σ Q) := (aw_eq g 187 128 _ _ _ _).trans (by rw [tq187_128]; exact h_load rfl)
theorem tq187_129 : tT g 187 129 = s_getf 187 132 7 16 := rfl
theorem A187_129 {L : AL} {r : List Value} {a : Nat} : aw g 187 129 L (.ref a :: r) σ Q = (hty σ a = some 7 ∧ aw g 187 132 L (hv σ 7 a 16 :: r) σ Q) := (aw_eq g 187 129 _ _ _ _).trans (by rw [tq187_129]; exact rfl)
theorem tq187_132 : tT g 187 132 = s_load vI 187 133 3 := rfl
theorem A187_132 {l0 : Option Value} {l1 : Option Value} {l2 : Option Value} {l4 : Option Value} {l5 : Option Value} {x : Int32} {r : List Value} : aw g 187 132 [l0, l1, l2, some (.int x), l4, l5] r σ Q = aw g 187 133 [l0, l1, l2, some (.int x), l4, l5] (.int x :: r) σ Q := (aw_eq g 187 132 _ _ _ _).trans (by rw [tq187_132]; exact (h_load rfl).trans (propext ⟨fun z => z.2, fun z => ⟨rfl, z⟩⟩))
theorem tq187_133 : tT g 187 133 = s_load vRf 187 134 0 := rfl
theorem A187_133 {l1 : Option Value} {l2 : Option Value} {l3 : Option Value} {l4 : Option Value} {l5 : Option Value} {x : Value} {r : List Value} : aw g 187 133 [some (x), l1, l2, l3, l4, l5] r σ Q = (vRf x = true ∧ aw g 187 134 [some (x), l1, l2, l3, l4, l5] (x :: r) σ Q) := (aw_eq g 187 133 _ _ _ _).trans (by rw [tq187_133]; exact h_load rfl)
theorem tq187_134 : tT g 187 134 = s_getf 187 137 4 1 := rfl
theorem A187_134 {L : AL} {r : List Value} {a : Nat} : aw g 187 134 L (.ref a :: r) σ Q = (hty σ a = some 4 ∧ aw g 187 137 L (hv σ 4 a 1 :: r) σ Q) := (aw_eq g 187 134 _ _ _ _).trans (by rw [tq187_134]; exact rfl)
theorem tq187_137 : tT g 187 137 = s_ast g (fun _ v => vI v = true) 187 138 20 := rfl
theorem A187_137 {L : AL} {r : List Value} {a : Nat} {i : Int32} {v : Value} : aw g 187 137 L (v :: .int i :: .ref a :: r) σ Q = (hty σ a = some 20 ∧ gB g ≤ a ∧ ¬ i < 0 ∧ i.toNatClampNeg < hln σ a ∧ vI v = true ∧ aw g 187 138 L r (hput σ 20 a i.toNatClampNeg v) Q) := (aw_eq g 187 137 _ _ _ _).trans (by rw [tq187_137]; exact rfl)
theorem tq187_138 : tT g 187 138 = s_load vRf 187 139 2 := rfl
theorem A187_138 {l0 : Option Value} {l1 : Option Value} {l3 : Option Value} {l4 : Option Value} {l5 : Option Value} {x : Value} {r : List Value} : aw g 187 138 [l0, l1, some (x), l3, l4, l5] r σ Q = (vRf x = true ∧ aw g 187 139 [l0, l1, some (x), l3, l4, l5] (x :: r) σ Q) := (aw_eq g 187 138 _ _ _ _).trans (by rw [tq187_138]; exact h_load rfl)
theorem tq187_139 : tT g 187 139 = s_const 187 140 (.int 0) := rfl
theorem A187_139 {L : AL} {r : List Value} : aw g 187 139 L r σ Q = aw g 187 140 L (.int 0 :: r) σ Q := (aw_eq g 187 139 _ _ _ _).trans (by rw [tq187_139]; exact rfl)
theorem tq187_140 : tT g 187 140 = s_ald 187 141 20 := rfl
theorem A187_140 {L : AL} {r : List Value} {a : Nat} {i : Int32} : aw g 187 140 L (.int i :: .ref a :: r) σ Q = (hty σ a = some 20 ∧ ¬ i < 0 ∧ i.toNatClampNeg < hln σ a ∧ aw g 187 141 L (hv σ 20 a i.toNatClampNeg :: r) σ Q) := (aw_eq g 187 140 _ _ _ _).trans (by rw [tq187_140]; exact rfl)
theorem tq187_141 : tT g 187 141 = s_const 187 142 (.int 1) := rfl
theorem A187_141 {L : AL} {r : List Value} : aw g 187 141 L r σ Q = aw g 187 142 L (.int 1 :: r) σ Q := (aw_eq g 187 141 _ _ _ _).trans (by rw [tq187_141]; exact rfl)
theorem tq187_142 : tT g 187 142 = s_icmp 187 169 145 (fun a b => a = b) := rfl
theorem A187_142 {L : AL} {r : List Value} {a b : Int32} : aw g 187 142 L (.int b :: .int a :: r) σ Q = ((a = b → aw g 187 145 L r σ Q) ∧ (¬ a = b → aw g 187 169 L r σ Q)) := (aw_eq g 187 142 _ _ _ _).trans (by rw [tq187_142]; exact rfl)
theorem tq187_145 : tT g 187 145 = s_load vRf 187 146 1 := rfl
theorem A187_145 {l0 : Option Value} {l2 : Option Value} {l3 : Option Value} {l4 : Option Value} {l5 : Option Value} {x : Value} {r : List Value} : aw g 187 145 [l0, some (x), l2, l3, l4, l5] r σ Q = (vRf x = true ∧ aw g 187 146 [l0, some (x), l2, l3, l4, l5] (x :: r) σ Q) := (aw_eq g 187 145 _ _ _ _).trans (by rw [tq187_145]; exact h_load rfl)
theorem tq187_146 : tT g 187 146 = s_load vRf 187 147 1 := rfl
theorem A187_146 {l0 : Option Value} {l2 : Option Value} {l3 : Option Value} {l4 : Option Value} {l5 : Option Value} {x : Value} {r : List Value} : aw g 187 146 [l0, some (x), l2, l3, l4, l5] r σ Q = (vRf x = true ∧ aw g 187 147 [l0, some (x), l2, l3, l4, l5] (x :: r) σ Q) := (aw_eq g 187 146 _ _ _ _).trans (by rw [tq187_146]; exact h_load rfl)
theorem tq187_147 : tT g 187 147 = s_getf 187 150 7 3 := rfl
theorem A187_147 {L : AL} {r : List Value} {a : Nat} : aw g 187 147 L (.ref a :: r) σ Q = (hty σ a = some 7 ∧ aw g 187 150 L (hv σ 7 a 3 :: r) σ Q) := (aw_eq g 187 147 _ _ _ _).trans (by rw [tq187_147]; exact rfl)
theorem tq187_150 : tT g 187 150 = s_load vRf 187 151 1 := rfl
theorem A187_150 {l0 : Option Value} {l2 : Option Value} {l3 : Option Value} {l4 : Option Value} {l5 : Option Value} {x : Value} {r : List Value} : aw g 187 150 [l0, some (x), l2, l3, l4, l5] r σ Q = (vRf x = true ∧ aw g 187 151 [l0, some (x), l2, l3, l4, l5] (x :: r) σ Q) := (aw_eq g 187 150 _ _ _ _).trans (by rw [tq187_150]; exact h_load rfl)
theorem tq187_151 : tT g 187 151 = s_getf 187 154 7 13 := rfl
theorem A187_151 {L : AL} {r : List Value} {a : Nat} : aw g 187 151 L (.ref a :: r) σ Q = (hty σ a = some 7 ∧ aw g 187 154 L (hv σ 7 a 13 :: r) σ Q) := (aw_eq g 187 151 _ _ _ _).trans (by rw [tq187_151]; exact rfl)
theorem tq187_154 : tT g 187 154 = s_load vI 187 155 3 := rfl
theorem A187_154 {l0 : Option Value} {l1 : Option Value} {l2 : Option Value} {l4 : Option Value} {l5 : Option Value} {x : Int32} {r : List Value} : aw g 187 154 [l0, l1, l2, some (.int x), l4, l5] r σ Q = aw g 187 155 [l0, l1, l2, some (.int x), l4, l5] (.int x :: r) σ Q := (aw_eq g 187 154 _ _ _ _).trans (by rw [tq187_154]; exact (h_load rfl).trans (propext ⟨fun z => z.2, fun z => ⟨rfl, z⟩⟩))
theorem tq187_155 : tT g 187 155 = s_ald 187 156 20 := rfl
theorem A187_155 {L : AL} {r : List Value} {a : Nat} {i : Int32} : aw g 187 155 L (.int i :: .ref a :: r) σ Q = (hty σ a = some 20 ∧ ¬ i < 0 ∧ i.toNatClampNeg < hln σ a ∧ aw g 187 156 L (hv σ 20 a i.toNatClampNeg :: r) σ Q) := (aw_eq g 187 155 _ _ _ _).trans (by rw [tq187_155]; exact rfl)
theorem tq187_156 : tT g 187 156 = s_bin 187 157 (fun a b => a + b) := rfl
theorem A187_156 {L : AL} {r : List Value} {a b : Int32} : aw g 187 156 L (.int b :: .int a :: r) σ Q = aw g 187 157 L (.int (a + b) :: r) σ Q := (aw_eq g 187 156 _ _ _ _).trans (by rw [tq187_156]; exact rfl)
theorem tq187_157 : tT g 187 157 = s_const 187 158 (.int 1) := rfl
theorem A187_157 {L : AL} {r : List Value} : aw g 187 157 L r σ Q = aw g 187 158 L (.int 1 :: r) σ Q := (aw_eq g 187 157 _ _ _ _).trans (by rw [tq187_157]; exact rfl)
theorem tq187_158 : tT g 187 158 = s_bin 187 159 (fun a b => a + b) := rfl
theorem A187_158 {L : AL} {r : List Value} {a b : Int32} : aw g 187 158 L (.int b :: .int a :: r) σ Q = aw g 187 159 L (.int (a + b) :: r) σ Q := (aw_eq g 187 158 _ _ _ _).trans (by rw [tq187_158]; exact rfl)
theorem tq187_159 : tT g 187 159 = s_const 187 162 (.int 1000) := rfl
theorem A187_159 {L : AL} {r : List Value} : aw g 187 159 L r σ Q = aw g 187 162 L (.int 1000 :: r) σ Q := (aw_eq g 187 159 _ _ _ _).trans (by rw [tq187_159]; exact rfl)
theorem tq187_162 : tT g 187 162 = s_div 187 163 (fun a b => a - a / b * b) := rfl
theorem A187_162 {L : AL} {r : List Value} {a b : Int32} : aw g 187 162 L (.int b :: .int a :: r) σ Q = (b ≠ 0 ∧ aw g 187 163 L (.int (a - a / b * b) :: r) σ Q) := (aw_eq g 187 162 _ _ _ _).trans (by rw [tq187_162]; exact rfl)
theorem tq187_163 : tT g 187 163 = s_putf g pI 187 166 7 3 := rfl
theorem A187_163 {L : AL} {r : List Value} {a : Nat} {v : Value} : aw g 187 163 L (v :: .ref a :: r) σ Q = (hty σ a = some 7 ∧ gB g ≤ a ∧ pI v ∧ aw g 187 166 L r (hput σ 7 a 3 v) Q) := (aw_eq g 187 163 _ _ _ _).trans (by rw [tq187_163]; exact rfl)
theorem tq187_166 : tT g 187 166 = s_goto 187 213 := rfl
theorem A187_166 {L : AL} {r : List Value} : aw g 187 166 L r σ Q = aw g 187 213 L r σ Q := (aw_eq g 187 166 _ _ _ _).trans (by rw [tq187_166]; exact rfl)
theorem tq187_169 : tT g 187 169 = s_load vRf 187 170 1 := rfl
theorem A187_169 {l0 : Option Value} {l2 : Option Value} {l3 : Option Value} {l4 : Option Value} {l5 : Option Value} {x : Value} {r : List Value} : aw g 187 169 [l0, some (x), l2, l3, l4, l5] r σ Q = (vRf x = true ∧ aw g 187 170 [l0, some (x), l2, l3, l4, l5] (x :: r) σ Q) := (aw_eq g 187 169 _ _ _ _).trans (by rw [tq187_169]; exact h_load rfl)
theorem tq187_170 : tT g 187 170 = s_getf 187 173 7 13 := rfl
theorem A187_170 {L : AL} {r : List Value} {a : Nat} : aw g 187 170 L (.ref a :: r) σ Q = (hty σ a = some 7 ∧ aw g 187 173 L (hv σ 7 a 13 :: r) σ Q) := (aw_eq g 187 170 _ _ _ _).trans (by rw [tq187_170]; exact rfl)
theorem tq187_173 : tT g 187 173 = s_load vI 187 174 3 := rfl
theorem A187_173 {l0 : Option Value} {l1 : Option Value} {l2 : Option Value} {l4 : Option Value} {l5 : Option Value} {x : Int32} {r : List Value} : aw g 187 173 [l0, l1, l2, some (.int x), l4, l5] r σ Q = aw g 187 174 [l0, l1, l2, some (.int x), l4, l5] (.int x :: r) σ Q := (aw_eq g 187 173 _ _ _ _).trans (by rw [tq187_173]; exact (h_load rfl).trans (propext ⟨fun z => z.2, fun z => ⟨rfl, z⟩⟩))
theorem tq187_174 : tT g 187 174 = s_const 187 175 (.int 3) := rfl
theorem A187_174 {L : AL} {r : List Value} : aw g 187 174 L r σ Q = aw g 187 175 L (.int 3 :: r) σ Q := (aw_eq g 187 174 _ _ _ _).trans (by rw [tq187_174]; exact rfl)
theorem tq187_175 : tT g 187 175 = s_load vRf 187 176 1 := rfl
theorem A187_175 {l0 : Option Value} {l2 : Option Value} {l3 : Option Value} {l4 : Option Value} {l5 : Option Value} {x : Value} {r : List Value} : aw g 187 175 [l0, some (x), l2, l3, l4, l5] r σ Q = (vRf x = true ∧ aw g 187 176 [l0, some (x), l2, l3, l4, l5] (x :: r) σ Q) := (aw_eq g 187 175 _ _ _ _).trans (by rw [tq187_175]; exact h_load rfl)
theorem tq187_176 : tT g 187 176 = s_getf 187 179 7 13 := rfl
theorem A187_176 {L : AL} {r : List Value} {a : Nat} : aw g 187 176 L (.ref a :: r) σ Q = (hty σ a = some 7 ∧ aw g 187 179 L (hv σ 7 a 13 :: r) σ Q) := (aw_eq g 187 176 _ _ _ _).trans (by rw [tq187_176]; exact rfl)
theorem tq187_179 : tT g 187 179 = s_load vI 187 180 3 := rfl
theorem A187_179 {l0 : Option Value} {l1 : Option Value} {l2 : Option Value} {l4 : Option Value} {l5 : Option Value} {x : Int32} {r : List Value} : aw g 187 179 [l0, l1, l2, some (.int x), l4, l5] r σ Q = aw g 187 180 [l0, l1, l2, some (.int x), l4, l5] (.int x :: r) σ Q := (aw_eq g 187 179 _ _ _ _).trans (by rw [tq187_179]; exact (h_load rfl).trans (propext ⟨fun z => z.2, fun z => ⟨rfl, z⟩⟩))
theorem tq187_180 : tT g 187 180 = s_ald 187 181 20 := rfl
theorem A187_180 {L : AL} {r : List Value} {a : Nat} {i : Int32} : aw g 187 180 L (.int i :: .ref a :: r) σ Q = (hty σ a = some 20 ∧ ¬ i < 0 ∧ i.toNatClampNeg < hln σ a ∧ aw g 187 181 L (hv σ 20 a i.toNatClampNeg :: r) σ Q) := (aw_eq g 187 180 _ _ _ _).trans (by rw [tq187_180]; exact rfl)
theorem tq187_181 : tT g 187 181 = s_bin 187 182 (fun a b => a * b) := rfl
theorem A187_181 {L : AL} {r : List Value} {a b : Int32} : aw g 187 181 L (.int b :: .int a :: r) σ Q = aw g 187 182 L (.int (a * b) :: r) σ Q := (aw_eq g 187 181 _ _ _ _).trans (by rw [tq187_181]; exact rfl)
theorem tq187_182 : tT g 187 182 = s_load vRf 187 183 1 := rfl
theorem A187_182 {l0 : Option Value} {l2 : Option Value} {l3 : Option Value} {l4 : Option Value} {l5 : Option Value} {x : Value} {r : List Value} : aw g 187 182 [l0, some (x), l2, l3, l4, l5] r σ Q = (vRf x = true ∧ aw g 187 183 [l0, some (x), l2, l3, l4, l5] (x :: r) σ Q) := (aw_eq g 187 182 _ _ _ _).trans (by rw [tq187_182]; exact h_load rfl)
theorem tq187_183 : tT g 187 183 = s_getf 187 186 7 3 := rfl
theorem A187_183 {L : AL} {r : List Value} {a : Nat} : aw g 187 183 L (.ref a :: r) σ Q = (hty σ a = some 7 ∧ aw g 187 186 L (hv σ 7 a 3 :: r) σ Q) := (aw_eq g 187 183 _ _ _ _).trans (by rw [tq187_183]; exact rfl)
theorem tq187_186 : tT g 187 186 = s_bin 187 187 (fun a b => a + b) := rfl
theorem A187_186 {L : AL} {r : List Value} {a b : Int32} : aw g 187 186 L (.int b :: .int a :: r) σ Q = aw g 187 187 L (.int (a + b) :: r) σ Q := (aw_eq g 187 186 _ _ _ _).trans (by rw [tq187_186]; exact rfl)
theorem tq187_187 : tT g 187 187 = s_const 187 188 (.int 1) := rfl
theorem A187_187 {L : AL} {r : List Value} : aw g 187 187 L r σ Q = aw g 187 188 L (.int 1 :: r) σ Q := (aw_eq g 187 187 _ _ _ _).trans (by rw [tq187_187]; exact rfl)
theorem tq187_188 : tT g 187 188 = s_bin 187 189 (fun a b => a + b) := rfl
theorem A187_188 {L : AL} {r : List Value} {a b : Int32} : aw g 187 188 L (.int b :: .int a :: r) σ Q = aw g 187 189 L (.int (a + b) :: r) σ Q := (aw_eq g 187 188 _ _ _ _).trans (by rw [tq187_188]; exact rfl)
theorem tq187_189 : tT g 187 189 = s_const 187 192 (.int 1000) := rfl
theorem A187_189 {L : AL} {r : List Value} : aw g 187 189 L r σ Q = aw g 187 192 L (.int 1000 :: r) σ Q := (aw_eq g 187 189 _ _ _ _).trans (by rw [tq187_189]; exact rfl)
theorem tq187_192 : tT g 187 192 = s_div 187 193 (fun a b => a - a / b * b) := rfl
theorem A187_192 {L : AL} {r : List Value} {a b : Int32} : aw g 187 192 L (.int b :: .int a :: r) σ Q = (b ≠ 0 ∧ aw g 187 193 L (.int (a - a / b * b) :: r) σ Q) := (aw_eq g 187 192 _ _ _ _).trans (by rw [tq187_192]; exact rfl)
theorem tq187_193 : tT g 187 193 = s_ast g (fun _ v => vI v = true) 187 194 20 := rfl
theorem A187_193 {L : AL} {r : List Value} {a : Nat} {i : Int32} {v : Value} : aw g 187 193 L (v :: .int i :: .ref a :: r) σ Q = (hty σ a = some 20 ∧ gB g ≤ a ∧ ¬ i < 0 ∧ i.toNatClampNeg < hln σ a ∧ vI v = true ∧ aw g 187 194 L r (hput σ 20 a i.toNatClampNeg v) Q) := (aw_eq g 187 193 _ _ _ _).trans (by rw [tq187_193]; exact rfl)
theorem tq187_194 : tT g 187 194 = s_load vRf 187 195 1 := rfl
theorem A187_194 {l0 : Option Value} {l2 : Option Value} {l3 : Option Value} {l4 : Option Value} {l5 : Option Value} {x : Value} {r : List Value} : aw g 187 194 [l0, some (x), l2, l3, l4, l5] r σ Q = (vRf x = true ∧ aw g 187 195 [l0, some (x), l2, l3, l4, l5] (x :: r) σ Q) := (aw_eq g 187 194 _ _ _ _).trans (by rw [tq187_194]; exact h_load rfl)
theorem tq187_195 : tT g 187 195 = s_getf 187 198 7 18 := rfl
theorem A187_195 {L : AL} {r : List Value} {a : Nat} : aw g 187 195 L (.ref a :: r) σ Q = (hty σ a = some 7 ∧ aw g 187 198 L (hv σ 7 a 18 :: r) σ Q) := (aw_eq g 187 195 _ _ _ _).trans (by rw [tq187_195]; exact rfl)
theorem tq187_198 : tT g 187 198 = s_if 187 201 213 (fun a => a = 0) := rfl
theorem A187_198 {L : AL} {r : List Value} {a : Int32} : aw g 187 198 L (.int a :: r) σ Q = ((a = 0 → aw g 187 213 L r σ Q) ∧ (¬ a = 0 → aw g 187 201 L r σ Q)) := (aw_eq g 187 198 _ _ _ _).trans (by rw [tq187_198]; exact rfl)
theorem tq187_201 : tT g 187 201 = s_load vRf 187 202 1 := rfl
theorem A187_201 {l0 : Option Value} {l2 : Option Value} {l3 : Option Value} {l4 : Option Value} {l5 : Option Value} {x : Value} {r : List Value} : aw g 187 201 [l0, some (x), l2, l3, l4, l5] r σ Q = (vRf x = true ∧ aw g 187 202 [l0, some (x), l2, l3, l4, l5] (x :: r) σ Q) := (aw_eq g 187 201 _ _ _ _).trans (by rw [tq187_201]; exact h_load rfl)
theorem tq187_202 : tT g 187 202 = s_dup 187 203 := rfl
theorem A187_202 {L : AL} {r : List Value} {v : Value} : aw g 187 202 L (v :: r) σ Q = (v.category = 1 ∧ aw g 187 203 L (v :: v :: r) σ Q) := (aw_eq g 187 202 _ _ _ _).trans (by rw [tq187_202]; exact rfl)
theorem tq187_203 : tT g 187 203 = s_getf 187 206 7 22 := rfl
theorem A187_203 {L : AL} {r : List Value} {a : Nat} : aw g 187 203 L (.ref a :: r) σ Q = (hty σ a = some 7 ∧ aw g 187 206 L (hv σ 7 a 22 :: r) σ Q) := (aw_eq g 187 203 _ _ _ _).trans (by rw [tq187_203]; exact rfl)
theorem tq187_206 : tT g 187 206 = s_const 187 207 (.int 1) := rfl
theorem A187_206 {L : AL} {r : List Value} : aw g 187 206 L r σ Q = aw g 187 207 L (.int 1 :: r) σ Q := (aw_eq g 187 206 _ _ _ _).trans (by rw [tq187_206]; exact rfl)
theorem tq187_207 : tT g 187 207 = s_load vI 187 208 3 := rfl
theorem A187_207 {l0 : Option Value} {l1 : Option Value} {l2 : Option Value} {l4 : Option Value} {l5 : Option Value} {x : Int32} {r : List Value} : aw g 187 207 [l0, l1, l2, some (.int x), l4, l5] r σ Q = aw g 187 208 [l0, l1, l2, some (.int x), l4, l5] (.int x :: r) σ Q := (aw_eq g 187 207 _ _ _ _).trans (by rw [tq187_207]; exact (h_load rfl).trans (propext ⟨fun z => z.2, fun z => ⟨rfl, z⟩⟩))
theorem tq187_208 : tT g 187 208 = s_bin 187 209 (fun a b => a <<< (b &&& 31)) := rfl
theorem A187_208 {L : AL} {r : List Value} {a b : Int32} : aw g 187 208 L (.int b :: .int a :: r) σ Q = aw g 187 209 L (.int (a <<< (b &&& 31)) :: r) σ Q := (aw_eq g 187 208 _ _ _ _).trans (by rw [tq187_208]; exact rfl)
theorem tq187_209 : tT g 187 209 = s_bin 187 210 (fun a b => a ||| b) := rfl
theorem A187_209 {L : AL} {r : List Value} {a b : Int32} : aw g 187 209 L (.int b :: .int a :: r) σ Q = aw g 187 210 L (.int (a ||| b) :: r) σ Q := (aw_eq g 187 209 _ _ _ _).trans (by rw [tq187_209]; exact rfl)
theorem tq187_210 : tT g 187 210 = s_putf g pI 187 213 7 22 := rfl
theorem A187_210 {L : AL} {r : List Value} {a : Nat} {v : Value} : aw g 187 210 L (v :: .ref a :: r) σ Q = (hty σ a = some 7 ∧ gB g ≤ a ∧ pI v ∧ aw g 187 213 L r (hput σ 7 a 22 v) Q) := (aw_eq g 187 210 _ _ _ _).trans (by rw [tq187_210]; exact rfl)
theorem tq187_213 : tT g 187 213 = s_load vRf 187 214 1 := rfl
theorem A187_213 {l0 : Option Value} {l2 : Option Value} {l3 : Option Value} {l4 : Option Value} {l5 : Option Value} {x : Value} {r : List Value} : aw g 187 213 [l0, some (x), l2, l3, l4, l5] r σ Q = (vRf x = true ∧ aw g 187 214 [l0, some (x), l2, l3, l4, l5] (x :: r) σ Q) := (aw_eq g 187 213 _ _ _ _).trans (by rw [tq187_213]; exact h_load rfl)
theorem tq187_214 : tT g 187 214 = s_callvk 187 217 207 7 [] 1 := rfl
theorem A187_214 {L : AL} {r : List Value} {a : Nat} : aw g 187 214 L (.ref a :: r) σ Q = (hty σ a = some 7 ∧ true = true ∧ csum r ≤ 8 ∧ aw g 207 0 [some (.ref a)] [] σ (kt (aw g) 187 217 L r Q)) := (aw_eq g 187 214 _ _ _ _).trans (by rw [tq187_214]; exact rfl)
theorem tq187_217 : tT g 187 217 = s_vret := rfl
theorem A187_217 {L : AL} : aw g 187 217 L [] σ Q = Q (.inl none) σ := (aw_eq g 187 217 _ _ _ _).trans (by rw [tq187_217]; exact rfl)
theorem tq188_0 : tT g 188 0 = s_const 188 1 (.int (-1)) := rfl
theorem A188_0 {L : AL} {r : List Value} : aw g 188 0 L r σ Q = aw g 188 1 L (.int (-1) :: r) σ Q := (aw_eq g 188 0 _ _ _ _).trans (by rw [tq188_0]; exact rfl)
theorem tq188_1 : tT g 188 1 = s_store vI 188 2 1 := rfl
theorem A188_1 {l0 : Option Value} {l1 : Option Value} {l2 : Option Value} {l3 : Option Value} {l4 : Option Value} {l5 : Option Value} {x : Int32} {r : List Value} : aw g 188 1 [l0, l1, l2, l3, l4, l5] (.int x :: r) σ Q = (oc l0 = true ∧ aw g 188 2 [l0, some (.int x), l2, l3, l4, l5] r σ Q) := (aw_eq g 188 1 _ _ _ _).trans (by rw [tq188_1]; exact (h_store (o := oc l0) rfl rfl rfl).trans (propext ⟨fun z => z.2, fun z => ⟨rfl, z⟩⟩))
theorem tq188_2 : tT g 188 2 = s_const 188 3 (.int 0) := rfl
theorem A188_2 {L : AL} {r : List Value} : aw g 188 2 L r σ Q = aw g 188 3 L (.int 0 :: r) σ Q := (aw_eq g 188 2 _ _ _ _).trans (by rw [tq188_2]; exact rfl)
theorem tq188_3 : tT g 188 3 = s_store vI 188 4 2 := rfl
theorem A188_3 {l0 : Option Value} {l1 : Option Value} {l2 : Option Value} {l3 : Option Value} {l4 : Option Value} {l5 : Option Value} {x : Int32} {r : List Value} : aw g 188 3 [l0, l1, l2, l3, l4, l5] (.int x :: r) σ Q = (oc l1 = true ∧ aw g 188 4 [l0, l1, some (.int x), l3, l4, l5] r σ Q) := (aw_eq g 188 3 _ _ _ _).trans (by rw [tq188_3]; exact (h_store (o := oc l1) rfl rfl rfl).trans (propext ⟨fun z => z.2, fun z => ⟨rfl, z⟩⟩))
theorem tq188_4 : tT g 188 4 = s_const 188 5 (.int 0) := rfl
theorem A188_4 {L : AL} {r : List Value} : aw g 188 4 L r σ Q = aw g 188 5 L (.int 0 :: r) σ Q := (aw_eq g 188 4 _ _ _ _).trans (by rw [tq188_4]; exact rfl)
theorem tq188_5 : tT g 188 5 = s_store vI 188 6 3 := rfl
theorem A188_5 {l0 : Option Value} {l1 : Option Value} {l2 : Option Value} {l3 : Option Value} {l4 : Option Value} {l5 : Option Value} {x : Int32} {r : List Value} : aw g 188 5 [l0, l1, l2, l3, l4, l5] (.int x :: r) σ Q = (oc l2 = true ∧ aw g 188 6 [l0, l1, l2, some (.int x), l4, l5] r σ Q) := (aw_eq g 188 5 _ _ _ _).trans (by rw [tq188_5]; exact (h_store (o := oc l2) rfl rfl rfl).trans (propext ⟨fun z => z.2, fun z => ⟨rfl, z⟩⟩))
theorem tq188_6 : tT g 188 6 = s_load vI 188 7 3 := rfl
theorem A188_6 {l0 : Option Value} {l1 : Option Value} {l2 : Option Value} {l4 : Option Value} {l5 : Option Value} {x : Int32} {r : List Value} : aw g 188 6 [l0, l1, l2, some (.int x), l4, l5] r σ Q = aw g 188 7 [l0, l1, l2, some (.int x), l4, l5] (.int x :: r) σ Q := (aw_eq g 188 6 _ _ _ _).trans (by rw [tq188_6]; exact (h_load rfl).trans (propext ⟨fun z => z.2, fun z => ⟨rfl, z⟩⟩))
theorem tq188_7 : tT g 188 7 = s_load vRf 188 8 0 := rfl
theorem A188_7 {l1 : Option Value} {l2 : Option Value} {l3 : Option Value} {l4 : Option Value} {l5 : Option Value} {x : Value} {r : List Value} : aw g 188 7 [some (x), l1, l2, l3, l4, l5] r σ Q = (vRf x = true ∧ aw g 188 8 [some (x), l1, l2, l3, l4, l5] (x :: r) σ Q) := (aw_eq g 188 7 _ _ _ _).trans (by rw [tq188_7]; exact h_load rfl)
theorem tq188_8 : tT g 188 8 = s_getf 188 11 4 2 := rfl
theorem A188_8 {L : AL} {r : List Value} {a : Nat} : aw g 188 8 L (.ref a :: r) σ Q = (hty σ a = some 4 ∧ aw g 188 11 L (hv σ 4 a 2 :: r) σ Q) := (aw_eq g 188 8 _ _ _ _).trans (by rw [tq188_8]; exact rfl)
theorem tq188_11 : tT g 188 11 = s_icmp 188 14 80 (fun a b => b ≤ a) := rfl
theorem A188_11 {L : AL} {r : List Value} {a b : Int32} : aw g 188 11 L (.int b :: .int a :: r) σ Q = ((b ≤ a → aw g 188 80 L r σ Q) ∧ (¬ b ≤ a → aw g 188 14 L r σ Q)) := (aw_eq g 188 11 _ _ _ _).trans (by rw [tq188_11]; exact rfl)
theorem tq188_14 : tT g 188 14 = s_load vRf 188 15 0 := rfl
theorem A188_14 {l1 : Option Value} {l2 : Option Value} {l3 : Option Value} {l4 : Option Value} {l5 : Option Value} {x : Value} {r : List Value} : aw g 188 14 [some (x), l1, l2, l3, l4, l5] r σ Q = (vRf x = true ∧ aw g 188 15 [some (x), l1, l2, l3, l4, l5] (x :: r) σ Q) := (aw_eq g 188 14 _ _ _ _).trans (by rw [tq188_14]; exact h_load rfl)
theorem tq188_15 : tT g 188 15 = s_load vI 188 16 3 := rfl
theorem A188_15 {l0 : Option Value} {l1 : Option Value} {l2 : Option Value} {l4 : Option Value} {l5 : Option Value} {x : Int32} {r : List Value} : aw g 188 15 [l0, l1, l2, some (.int x), l4, l5] r σ Q = aw g 188 16 [l0, l1, l2, some (.int x), l4, l5] (.int x :: r) σ Q := (aw_eq g 188 15 _ _ _ _).trans (by rw [tq188_15]; exact (h_load rfl).trans (propext ⟨fun z => z.2, fun z => ⟨rfl, z⟩⟩))
theorem tq188_16 : tT g 188 16 = s_callvk 188 19 180 4 [0] 4 := rfl
theorem A188_16 {L : AL} {r : List Value} {a : Nat} {w0 : Value} : aw g 188 16 L (w0 :: .ref a :: r) σ Q = (hty σ a = some 4 ∧ (vI w0 && true) = true ∧ csum r ≤ 8 ∧ aw g 180 0 [some (.ref a), some w0, none, none] [] σ (kt (aw g) 188 19 L r Q)) := (aw_eq g 188 16 _ _ _ _).trans (by rw [tq188_16]; exact rfl)
theorem tq188_19 : tT g 188 19 = s_store vI 188 21 4 := rfl
theorem A188_19 {l0 : Option Value} {l1 : Option Value} {l2 : Option Value} {l3 : Option Value} {l4 : Option Value} {l5 : Option Value} {x : Int32} {r : List Value} : aw g 188 19 [l0, l1, l2, l3, l4, l5] (.int x :: r) σ Q = (oc l3 = true ∧ aw g 188 21 [l0, l1, l2, l3, some (.int x), l5] r σ Q) := (aw_eq g 188 19 _ _ _ _).trans (by rw [tq188_19]; exact (h_store (o := oc l3) rfl rfl rfl).trans (propext ⟨fun z => z.2, fun z => ⟨rfl, z⟩⟩))
theorem tq188_21 : tT g 188 21 = s_load vI 188 23 4 := rfl
theorem A188_21 {l0 : Option Value} {l1 : Option Value} {l2 : Option Value} {l3 : Option Value} {l5 : Option Value} {x : Int32} {r : List Value} : aw g 188 21 [l0, l1, l2, l3, some (.int x), l5] r σ Q = aw g 188 23 [l0, l1, l2, l3, some (.int x), l5] (.int x :: r) σ Q := (aw_eq g 188 21 _ _ _ _).trans (by rw [tq188_21]; exact (h_load rfl).trans (propext ⟨fun z => z.2, fun z => ⟨rfl, z⟩⟩))
theorem tq188_23 : tT g 188 23 = s_const 188 24 (.int (-1)) := rfl
theorem A188_23 {L : AL} {r : List Value} : aw g 188 23 L r σ Q = aw g 188 24 L (.int (-1) :: r) σ Q := (aw_eq g 188 23 _ _ _ _).trans (by rw [tq188_23]; exact rfl)
theorem tq188_24 : tT g 188 24 = s_icmp 188 29 27 (fun a b => a = b) := rfl
theorem A188_24 {L : AL} {r : List Value} {a b : Int32} : aw g 188 24 L (.int b :: .int a :: r) σ Q = ((a = b → aw g 188 27 L r σ Q) ∧ (¬ a = b → aw g 188 29 L r σ Q)) := (aw_eq g 188 24 _ _ _ _).trans (by rw [tq188_24]; exact rfl)
theorem tq188_27 : tT g 188 27 = s_load vI 188 28 3 := rfl
theorem A188_27 {l0 : Option Value} {l1 : Option Value} {l2 : Option Value} {l4 : Option Value} {l5 : Option Value} {x : Int32} {r : List Value} : aw g 188 27 [l0, l1, l2, some (.int x), l4, l5] r σ Q = aw g 188 28 [l0, l1, l2, some (.int x), l4, l5] (.int x :: r) σ Q := (aw_eq g 188 27 _ _ _ _).trans (by rw [tq188_27]; exact (h_load rfl).trans (propext ⟨fun z => z.2, fun z => ⟨rfl, z⟩⟩))
theorem tq188_28 : tT g 188 28 = s_ret pI := rfl
theorem A188_28 {L : AL} {v : Value} : aw g 188 28 L [v] σ Q = (pI v ∧ Q (.inl (some v)) σ) := (aw_eq g 188 28 _ _ _ _).trans (by rw [tq188_28]; exact rfl)
theorem tq188_29 : tT g 188 29 = s_load vRf 188 30 0 := rfl
theorem A188_29 {l1 : Option Value} {l2 : Option Value} {l3 : Option Value} {l4 : Option Value} {l5 : Option Value} {x : Value} {r : List Value} : aw g 188 29 [some (x), l1, l2, l3, l4, l5] r σ Q = (vRf x = true ∧ aw g 188 30 [some (x), l1, l2, l3, l4, l5] (x :: r) σ Q) := (aw_eq g 188 29 _ _ _ _).trans (by rw [tq188_29]; exact h_load rfl)
theorem tq188_30 : tT g 188 30 = s_getf 188 33 4 0 := rfl
theorem A188_30 {L : AL} {r : List Value} {a : Nat} : aw g 188 30 L (.ref a :: r) σ Q = (hty σ a = some 4 ∧ aw g 188 33 L (hv σ 4 a 0 :: r) σ Q) := (aw_eq g 188 30 _ _ _ _).trans (by rw [tq188_30]; exact rfl)
theorem tq188_33 : tT g 188 33 = s_load vI 188 35 4 := rfl
theorem A188_33 {l0 : Option Value} {l1 : Option Value} {l2 : Option Value} {l3 : Option Value} {l5 : Option Value} {x : Int32} {r : List Value} : aw g 188 33 [l0, l1, l2, l3, some (.int x), l5] r σ Q = aw g 188 35 [l0, l1, l2, l3, some (.int x), l5] (.int x :: r) σ Q := (aw_eq g 188 33 _ _ _ _).trans (by rw [tq188_33]; exact (h_load rfl).trans (propext ⟨fun z => z.2, fun z => ⟨rfl, z⟩⟩))
theorem tq188_35 : tT g 188 35 = s_const 188 37 (.int 8) := rfl
theorem A188_35 {L : AL} {r : List Value} : aw g 188 35 L r σ Q = aw g 188 37 L (.int 8 :: r) σ Q := (aw_eq g 188 35 _ _ _ _).trans (by rw [tq188_35]; exact rfl)
theorem tq188_37 : tT g 188 37 = s_div 188 38 (fun a b => a / b) := rfl
theorem A188_37 {L : AL} {r : List Value} {a b : Int32} : aw g 188 37 L (.int b :: .int a :: r) σ Q = (b ≠ 0 ∧ aw g 188 38 L (.int (a / b) :: r) σ Q) := (aw_eq g 188 37 _ _ _ _).trans (by rw [tq188_37]; exact rfl)
theorem tq188_38 : tT g 188 38 = s_callvk 188 41 25 10 [0] 2 := rfl
theorem A188_38 {L : AL} {r : List Value} {a : Nat} {w0 : Value} : aw g 188 38 L (w0 :: .ref a :: r) σ Q = (hty σ a = some 10 ∧ (vI w0 && true) = true ∧ csum r ≤ 8 ∧ aw g 25 0 [some (.ref a), some w0] [] σ (kt (aw g) 188 41 L r Q)) := (aw_eq g 188 38 _ _ _ _).trans (by rw [tq188_38]; exact rfl)
theorem tq188_41 : tT g 188 41 = s_cast 188 44 [7] := rfl
theorem A188_41 {L : AL} {r : List Value} : aw g 188 41 L (.null :: r) σ Q = aw g 188 44 L (.null :: r) σ Q := (aw_eq g 188 41 _ _ _ _).trans (by rw [tq188_41]; exact rfl)
theorem A188_41r {L : AL} {r : List Value} {a : Nat} : aw g 188 41 L (.ref a :: r) σ Q = (hty σ a = some 7 ∧ aw g 188 44 L (.ref a :: r) σ Q) := (aw_eq g 188 41 _ _ _ _).trans (by rw [tq188_41]; exact propext ⟨fun z => (by obtain ⟨⟨u, hu, hu2⟩, z2⟩ := z; rw [List.mem_singleton] at hu; subst hu; exact ⟨hu2, z2⟩), fun z => ⟨⟨_, List.mem_cons_self, z.1⟩, z.2⟩⟩)
theorem tq188_44 : tT g 188 44 = s_getf 188 47 7 16 := rfl
theorem A188_44 {L : AL} {r : List Value} {a : Nat} : aw g 188 44 L (.ref a :: r) σ Q = (hty σ a = some 7 ∧ aw g 188 47 L (hv σ 7 a 16 :: r) σ Q) := (aw_eq g 188 44 _ _ _ _).trans (by rw [tq188_44]; exact rfl)
theorem tq188_47 : tT g 188 47 = s_load vI 188 49 4 := rfl
theorem A188_47 {l0 : Option Value} {l1 : Option Value} {l2 : Option Value} {l3 : Option Value} {l5 : Option Value} {x : Int32} {r : List Value} : aw g 188 47 [l0, l1, l2, l3, some (.int x), l5] r σ Q = aw g 188 49 [l0, l1, l2, l3, some (.int x), l5] (.int x :: r) σ Q := (aw_eq g 188 47 _ _ _ _).trans (by rw [tq188_47]; exact (h_load rfl).trans (propext ⟨fun z => z.2, fun z => ⟨rfl, z⟩⟩))
theorem tq188_49 : tT g 188 49 = s_const 188 51 (.int 8) := rfl
theorem A188_49 {L : AL} {r : List Value} : aw g 188 49 L r σ Q = aw g 188 51 L (.int 8 :: r) σ Q := (aw_eq g 188 49 _ _ _ _).trans (by rw [tq188_49]; exact rfl)
theorem tq188_51 : tT g 188 51 = s_div 188 52 (fun a b => a - a / b * b) := rfl
theorem A188_51 {L : AL} {r : List Value} {a b : Int32} : aw g 188 51 L (.int b :: .int a :: r) σ Q = (b ≠ 0 ∧ aw g 188 52 L (.int (a - a / b * b) :: r) σ Q) := (aw_eq g 188 51 _ _ _ _).trans (by rw [tq188_51]; exact rfl)
theorem tq188_52 : tT g 188 52 = s_ald 188 53 20 := rfl
theorem A188_52 {L : AL} {r : List Value} {a : Nat} {i : Int32} : aw g 188 52 L (.int i :: .ref a :: r) σ Q = (hty σ a = some 20 ∧ ¬ i < 0 ∧ i.toNatClampNeg < hln σ a ∧ aw g 188 53 L (hv σ 20 a i.toNatClampNeg :: r) σ Q) := (aw_eq g 188 52 _ _ _ _).trans (by rw [tq188_52]; exact rfl)
theorem tq188_53 : tT g 188 53 = s_store vI 188 55 5 := rfl
theorem A188_53 {l0 : Option Value} {l1 : Option Value} {l2 : Option Value} {l3 : Option Value} {l4 : Option Value} {l5 : Option Value} {x : Int32} {r : List Value} : aw g 188 53 [l0, l1, l2, l3, l4, l5] (.int x :: r) σ Q = (oc l4 = true ∧ aw g 188 55 [l0, l1, l2, l3, l4, some (.int x)] r σ Q) := (aw_eq g 188 53 _ _ _ _).trans (by rw [tq188_53]; exact (h_store (o := oc l4) rfl rfl rfl).trans (propext ⟨fun z => z.2, fun z => ⟨rfl, z⟩⟩))
theorem tq188_55 : tT g 188 55 = s_load vI 188 56 1 := rfl
theorem A188_55 {l0 : Option Value} {l2 : Option Value} {l3 : Option Value} {l4 : Option Value} {l5 : Option Value} {x : Int32} {r : List Value} : aw g 188 55 [l0, some (.int x), l2, l3, l4, l5] r σ Q = aw g 188 56 [l0, some (.int x), l2, l3, l4, l5] (.int x :: r) σ Q := (aw_eq g 188 55 _ _ _ _).trans (by rw [tq188_55]; exact (h_load rfl).trans (propext ⟨fun z => z.2, fun z => ⟨rfl, z⟩⟩))
theorem tq188_56 : tT g 188 56 = s_const 188 57 (.int (-1)) := rfl
theorem A188_56 {L : AL} {r : List Value} : aw g 188 56 L r σ Q = aw g 188 57 L (.int (-1) :: r) σ Q := (aw_eq g 188 56 _ _ _ _).trans (by rw [tq188_56]; exact rfl)
theorem tq188_57 : tT g 188 57 = s_icmp 188 60 69 (fun a b => a = b) := rfl
theorem A188_57 {L : AL} {r : List Value} {a b : Int32} : aw g 188 57 L (.int b :: .int a :: r) σ Q = ((a = b → aw g 188 69 L r σ Q) ∧ (¬ a = b → aw g 188 60 L r σ Q)) := (aw_eq g 188 57 _ _ _ _).trans (by rw [tq188_57]; exact rfl)
theorem tq188_60 : tT g 188 60 = s_load vI 188 62 5 := rfl
theorem A188_60 {l0 : Option Value} {l1 : Option Value} {l2 : Option Value} {l3 : Option Value} {l4 : Option Value} {x : Int32} {r : List Value} : aw g 188 60 [l0, l1, l2, l3, l4, some (.int x)] r σ Q = aw g 188 62 [l0, l1, l2, l3, l4, some (.int x)] (.int x :: r) σ Q := (aw_eq g 188 60 _ _ _ _).trans (by rw [tq188_60]; exact (h_load rfl).trans (propext ⟨fun z => z.2, fun z => ⟨rfl, z⟩⟩))
theorem tq188_62 : tT g 188 62 = s_load vI 188 63 2 := rfl
theorem A188_62 {l0 : Option Value} {l1 : Option Value} {l3 : Option Value} {l4 : Option Value} {l5 : Option Value} {x : Int32} {r : List Value} : aw g 188 62 [l0, l1, some (.int x), l3, l4, l5] r σ Q = aw g 188 63 [l0, l1, some (.int x), l3, l4, l5] (.int x :: r) σ Q := (aw_eq g 188 62 _ _ _ _).trans (by rw [tq188_62]; exact (h_load rfl).trans (propext ⟨fun z => z.2, fun z => ⟨rfl, z⟩⟩))
theorem tq188_63 : tT g 188 63 = s_icmp 188 66 69 (fun a b => a < b) := rfl
theorem A188_63 {L : AL} {r : List Value} {a b : Int32} : aw g 188 63 L (.int b :: .int a :: r) σ Q = ((a < b → aw g 188 69 L r σ Q) ∧ (¬ a < b → aw g 188 66 L r σ Q)) := (aw_eq g 188 63 _ _ _ _).trans (by rw [tq188_63]; exact rfl)
theorem tq188_66 : tT g 188 66 = s_goto 188 74 := rfl
theorem A188_66 {L : AL} {r : List Value} : aw g 188 66 L r σ Q = aw g 188 74 L r σ Q := (aw_eq g 188 66 _ _ _ _).trans (by rw [tq188_66]; exact rfl)
theorem tq188_69 : tT g 188 69 = s_load vI 188 70 3 := rfl
theorem A188_69 {l0 : Option Value} {l1 : Option Value} {l2 : Option Value} {l4 : Option Value} {l5 : Option Value} {x : Int32} {r : List Value} : aw g 188 69 [l0, l1, l2, some (.int x), l4, l5] r σ Q = aw g 188 70 [l0, l1, l2, some (.int x), l4, l5] (.int x :: r) σ Q := (aw_eq g 188 69 _ _ _ _).trans (by rw [tq188_69]; exact (h_load rfl).trans (propext ⟨fun z => z.2, fun z => ⟨rfl, z⟩⟩))
theorem tq188_70 : tT g 188 70 = s_store vI 188 71 1 := rfl
theorem A188_70 {l0 : Option Value} {l1 : Option Value} {l2 : Option Value} {l3 : Option Value} {l4 : Option Value} {l5 : Option Value} {x : Int32} {r : List Value} : aw g 188 70 [l0, l1, l2, l3, l4, l5] (.int x :: r) σ Q = (oc l0 = true ∧ aw g 188 71 [l0, some (.int x), l2, l3, l4, l5] r σ Q) := (aw_eq g 188 70 _ _ _ _).trans (by rw [tq188_70]; exact (h_store (o := oc l0) rfl rfl rfl).trans (propext ⟨fun z => z.2, fun z => ⟨rfl, z⟩⟩))
theorem tq188_71 : tT g 188 71 = s_load vI 188 73 5 := rfl
theorem A188_71 {l0 : Option Value} {l1 : Option Value} {l2 : Option Value} {l3 : Option Value} {l4 : Option Value} {x : Int32} {r : List Value} : aw g 188 71 [l0, l1, l2, l3, l4, some (.int x)] r σ Q = aw g 188 73 [l0, l1, l2, l3, l4, some (.int x)] (.int x :: r) σ Q := (aw_eq g 188 71 _ _ _ _).trans (by rw [tq188_71]; exact (h_load rfl).trans (propext ⟨fun z => z.2, fun z => ⟨rfl, z⟩⟩))
theorem tq188_73 : tT g 188 73 = s_store vI 188 74 2 := rfl
theorem A188_73 {l0 : Option Value} {l1 : Option Value} {l2 : Option Value} {l3 : Option Value} {l4 : Option Value} {l5 : Option Value} {x : Int32} {r : List Value} : aw g 188 73 [l0, l1, l2, l3, l4, l5] (.int x :: r) σ Q = (oc l1 = true ∧ aw g 188 74 [l0, l1, some (.int x), l3, l4, l5] r σ Q) := (aw_eq g 188 73 _ _ _ _).trans (by rw [tq188_73]; exact (h_store (o := oc l1) rfl rfl rfl).trans (propext ⟨fun z => z.2, fun z => ⟨rfl, z⟩⟩))
theorem tq188_74 : tT g 188 74 = s_iinc 188 77 3 1 := rfl
theorem A188_74 {l0 : Option Value} {l1 : Option Value} {l2 : Option Value} {l4 : Option Value} {l5 : Option Value} {x : Int32} {r : List Value} : aw g 188 74 [l0, l1, l2, some (.int x), l4, l5] r σ Q = (oc l2 = true ∧ aw g 188 77 [l0, l1, l2, some (.int (x + 1)), l4, l5] r σ Q) := (aw_eq g 188 74 _ _ _ _).trans (by rw [tq188_74]; exact (h_iinc (o := oc l2) rfl rfl rfl))
theorem tq188_77 : tT g 188 77 = s_goto 188 6 := rfl
theorem A188_77 {L : AL} {r : List Value} : aw g 188 77 L r σ Q = aw g 188 6 L r σ Q := (aw_eq g 188 77 _ _ _ _).trans (by rw [tq188_77]; exact rfl)
theorem tq188_80 : tT g 188 80 = s_load vI 188 81 1 := rfl
theorem A188_80 {l0 : Option Value} {l2 : Option Value} {l3 : Option Value} {l4 : Option Value} {l5 : Option Value} {x : Int32} {r : List Value} : aw g 188 80 [l0, some (.int x), l2, l3, l4, l5] r σ Q = aw g 188 81 [l0, some (.int x), l2, l3, l4, l5] (.int x :: r) σ Q := (aw_eq g 188 80 _ _ _ _).trans (by rw [tq188_80]; exact (h_load rfl).trans (propext ⟨fun z => z.2, fun z => ⟨rfl, z⟩⟩))
theorem tq188_81 : tT g 188 81 = s_ret pI := rfl
theorem A188_81 {L : AL} {v : Value} : aw g 188 81 L [v] σ Q = (pI v ∧ Q (.inl (some v)) σ) := (aw_eq g 188 81 _ _ _ _).trans (by rw [tq188_81]; exact rfl)
theorem tq189_0 : tT g 189 0 = s_load vRf 189 1 1 := rfl
theorem A189_0 {l0 : Option Value} {x : Value} {r : List Value} : aw g 189 0 [l0, some (x)] r σ Q = (vRf x = true ∧ aw g 189 1 [l0, some (x)] (x :: r) σ Q) := (aw_eq g 189 0 _ _ _ _).trans (by rw [tq189_0]; exact h_load rfl)
theorem tq189_1 : tT g 189 1 = s_getf 189 4 7 12 := rfl
theorem A189_1 {L : AL} {r : List Value} {a : Nat} : aw g 189 1 L (.ref a :: r) σ Q = (hty σ a = some 7 ∧ aw g 189 4 L (hv σ 7 a 12 :: r) σ Q) := (aw_eq g 189 1 _ _ _ _).trans (by rw [tq189_1]; exact rfl)
theorem tq189_4 : tT g 189 4 = s_const 189 5 (.int 4) := rfl
theorem A189_4 {L : AL} {r : List Value} : aw g 189 4 L r σ Q = aw g 189 5 L (.int 4 :: r) σ Q := (aw_eq g 189 4 _ _ _ _).trans (by rw [tq189_4]; exact rfl)
theorem tq189_5 : tT g 189 5 = s_icmp 189 31 8 (fun a b => a = b) := rfl
theorem A189_5 {L : AL} {r : List Value} {a b : Int32} : aw g 189 5 L (.int b :: .int a :: r) σ Q = ((a = b → aw g 189 8 L r σ Q) ∧ (¬ a = b → aw g 189 31 L r σ Q)) := (aw_eq g 189 5 _ _ _ _).trans (by rw [tq189_5]; exact rfl)
theorem tq189_8 : tT g 189 8 = s_load vRf 189 9 1 := rfl
theorem A189_8 {l0 : Option Value} {x : Value} {r : List Value} : aw g 189 8 [l0, some (x)] r σ Q = (vRf x = true ∧ aw g 189 9 [l0, some (x)] (x :: r) σ Q) := (aw_eq g 189 8 _ _ _ _).trans (by rw [tq189_8]; exact h_load rfl)
theorem tq189_9 : tT g 189 9 = s_getf 189 12 7 17 := rfl
theorem A189_9 {L : AL} {r : List Value} {a : Nat} : aw g 189 9 L (.ref a :: r) σ Q = (hty σ a = some 7 ∧ aw g 189 12 L (hv σ 7 a 17 :: r) σ Q) := (aw_eq g 189 9 _ _ _ _).trans (by rw [tq189_9]; exact rfl)
theorem tq189_12 : tT g 189 12 = s_const 189 13 (.int 4) := rfl
theorem A189_12 {L : AL} {r : List Value} : aw g 189 12 L r σ Q = aw g 189 13 L (.int 4 :: r) σ Q := (aw_eq g 189 12 _ _ _ _).trans (by rw [tq189_12]; exact rfl)
theorem tq189_13 : tT g 189 13 = s_dup2 189 14 := rfl
theorem A189_13 {L : AL} {r : List Value} {v w : Value} : aw g 189 13 L (v :: w :: r) σ Q = (v.category = 1 ∧ w.category = 1 ∧ aw g 189 14 L (v :: w :: v :: w :: r) σ Q) := (aw_eq g 189 13 _ _ _ _).trans (by rw [tq189_13]; exact rfl)
theorem tq189_14 : tT g 189 14 = s_ald 189 15 20 := rfl
theorem A189_14 {L : AL} {r : List Value} {a : Nat} {i : Int32} : aw g 189 14 L (.int i :: .ref a :: r) σ Q = (hty σ a = some 20 ∧ ¬ i < 0 ∧ i.toNatClampNeg < hln σ a ∧ aw g 189 15 L (hv σ 20 a i.toNatClampNeg :: r) σ Q) := (aw_eq g 189 14 _ _ _ _).trans (by rw [tq189_14]; exact rfl)
theorem tq189_15 : tT g 189 15 = s_const 189 16 (.int 1) := rfl
theorem A189_15 {L : AL} {r : List Value} : aw g 189 15 L r σ Q = aw g 189 16 L (.int 1 :: r) σ Q := (aw_eq g 189 15 _ _ _ _).trans (by rw [tq189_15]; exact rfl)
theorem tq189_16 : tT g 189 16 = s_bin 189 17 (fun a b => a + b) := rfl
theorem A189_16 {L : AL} {r : List Value} {a b : Int32} : aw g 189 16 L (.int b :: .int a :: r) σ Q = aw g 189 17 L (.int (a + b) :: r) σ Q := (aw_eq g 189 16 _ _ _ _).trans (by rw [tq189_16]; exact rfl)
theorem tq189_17 : tT g 189 17 = s_ast g (fun _ v => vI v = true) 189 18 20 := rfl
theorem A189_17 {L : AL} {r : List Value} {a : Nat} {i : Int32} {v : Value} : aw g 189 17 L (v :: .int i :: .ref a :: r) σ Q = (hty σ a = some 20 ∧ gB g ≤ a ∧ ¬ i < 0 ∧ i.toNatClampNeg < hln σ a ∧ vI v = true ∧ aw g 189 18 L r (hput σ 20 a i.toNatClampNeg v) Q) := (aw_eq g 189 17 _ _ _ _).trans (by rw [tq189_17]; exact rfl)
theorem tq189_18 : tT g 189 18 = s_load vRf 189 19 1 := rfl
theorem A189_18 {l0 : Option Value} {x : Value} {r : List Value} : aw g 189 18 [l0, some (x)] r σ Q = (vRf x = true ∧ aw g 189 19 [l0, some (x)] (x :: r) σ Q) := (aw_eq g 189 18 _ _ _ _).trans (by rw [tq189_18]; exact h_load rfl)
theorem tq189_19 : tT g 189 19 = s_const 189 20 (.int 0) := rfl
theorem A189_19 {L : AL} {r : List Value} : aw g 189 19 L r σ Q = aw g 189 20 L (.int 0 :: r) σ Q := (aw_eq g 189 19 _ _ _ _).trans (by rw [tq189_19]; exact rfl)
theorem tq189_20 : tT g 189 20 = s_load vRf 189 21 1 := rfl
theorem A189_20 {l0 : Option Value} {x : Value} {r : List Value} : aw g 189 20 [l0, some (x)] r σ Q = (vRf x = true ∧ aw g 189 21 [l0, some (x)] (x :: r) σ Q) := (aw_eq g 189 20 _ _ _ _).trans (by rw [tq189_20]; exact h_load rfl)
theorem tq189_21 : tT g 189 21 = s_getf 189 24 7 9 := rfl
theorem A189_21 {L : AL} {r : List Value} {a : Nat} : aw g 189 21 L (.ref a :: r) σ Q = (hty σ a = some 7 ∧ aw g 189 24 L (hv σ 7 a 9 :: r) σ Q) := (aw_eq g 189 21 _ _ _ _).trans (by rw [tq189_21]; exact rfl)
theorem tq189_24 : tT g 189 24 = s_callk 189 27 35 [0, 0] 2 := rfl
theorem A189_24 {L : AL} {r : List Value} {w0 w1 : Value} : aw g 189 24 L (w1 :: w0 :: r) σ Q = ((vI w0 && (vI w1 && true)) = true ∧ csum r ≤ 8 ∧ aw g 35 0 [some w0, some w1] [] σ (kt (aw g) 189 27 L r Q)) := (aw_eq g 189 24 _ _ _ _).trans (by rw [tq189_24]; exact rfl)
theorem tq189_27 : tT g 189 27 = s_putf g pI 189 30 7 9 := rfl
theorem A189_27 {L : AL} {r : List Value} {a : Nat} {v : Value} : aw g 189 27 L (v :: .ref a :: r) σ Q = (hty σ a = some 7 ∧ gB g ≤ a ∧ pI v ∧ aw g 189 30 L r (hput σ 7 a 9 v) Q) := (aw_eq g 189 27 _ _ _ _).trans (by rw [tq189_27]; exact rfl)
theorem tq189_30 : tT g 189 30 = s_vret := rfl
theorem A189_30 {L : AL} : aw g 189 30 L [] σ Q = Q (.inl none) σ := (aw_eq g 189 30 _ _ _ _).trans (by rw [tq189_30]; exact rfl)
theorem tq189_31 : tT g 189 31 = s_load vRf 189 32 1 := rfl
theorem A189_31 {l0 : Option Value} {x : Value} {r : List Value} : aw g 189 31 [l0, some (x)] r σ Q = (vRf x = true ∧ aw g 189 32 [l0, some (x)] (x :: r) σ Q) := (aw_eq g 189 31 _ _ _ _).trans (by rw [tq189_31]; exact h_load rfl)
theorem tq189_32 : tT g 189 32 = s_getf 189 35 7 12 := rfl
theorem A189_32 {L : AL} {r : List Value} {a : Nat} : aw g 189 32 L (.ref a :: r) σ Q = (hty σ a = some 7 ∧ aw g 189 35 L (hv σ 7 a 12 :: r) σ Q) := (aw_eq g 189 32 _ _ _ _).trans (by rw [tq189_32]; exact rfl)
theorem tq189_35 : tT g 189 35 = s_if 189 71 38 (fun a => a = 0) := rfl
theorem A189_35 {L : AL} {r : List Value} {a : Int32} : aw g 189 35 L (.int a :: r) σ Q = ((a = 0 → aw g 189 38 L r σ Q) ∧ (¬ a = 0 → aw g 189 71 L r σ Q)) := (aw_eq g 189 35 _ _ _ _).trans (by rw [tq189_35]; exact rfl)
theorem tq189_38 : tT g 189 38 = s_load vRf 189 39 0 := rfl
theorem A189_38 {l1 : Option Value} {x : Value} {r : List Value} : aw g 189 38 [some (x), l1] r σ Q = (vRf x = true ∧ aw g 189 39 [some (x), l1] (x :: r) σ Q) := (aw_eq g 189 38 _ _ _ _).trans (by rw [tq189_38]; exact h_load rfl)
theorem tq189_39 : tT g 189 39 = s_getf 189 42 4 4 := rfl
theorem A189_39 {L : AL} {r : List Value} {a : Nat} : aw g 189 39 L (.ref a :: r) σ Q = (hty σ a = some 4 ∧ aw g 189 42 L (hv σ 4 a 4 :: r) σ Q) := (aw_eq g 189 39 _ _ _ _).trans (by rw [tq189_39]; exact rfl)
theorem tq189_42 : tT g 189 42 = s_const 189 43 (.int (-1)) := rfl
theorem A189_42 {L : AL} {r : List Value} : aw g 189 42 L r σ Q = aw g 189 43 L (.int (-1) :: r) σ Q := (aw_eq g 189 42 _ _ _ _).trans (by rw [tq189_42]; exact rfl)
theorem tq189_43 : tT g 189 43 = s_icmp 189 46 61 (fun a b => a = b) := rfl
theorem A189_43 {L : AL} {r : List Value} {a b : Int32} : aw g 189 43 L (.int b :: .int a :: r) σ Q = ((a = b → aw g 189 61 L r σ Q) ∧ (¬ a = b → aw g 189 46 L r σ Q)) := (aw_eq g 189 43 _ _ _ _).trans (by rw [tq189_43]; exact rfl)
theorem tq189_46 : tT g 189 46 = s_load vRf 189 47 0 := rfl
theorem A189_46 {l1 : Option Value} {x : Value} {r : List Value} : aw g 189 46 [some (x), l1] r σ Q = (vRf x = true ∧ aw g 189 47 [some (x), l1] (x :: r) σ Q) := (aw_eq g 189 46 _ _ _ _).trans (by rw [tq189_46]; exact h_load rfl)
theorem tq189_47 : tT g 189 47 = s_getf 189 50 4 0 := rfl
theorem A189_47 {L : AL} {r : List Value} {a : Nat} : aw g 189 47 L (.ref a :: r) σ Q = (hty σ a = some 4 ∧ aw g 189 50 L (hv σ 4 a 0 :: r) σ Q) := (aw_eq g 189 47 _ _ _ _).trans (by rw [tq189_47]; exact rfl)
theorem tq189_50 : tT g 189 50 = s_load vRf 189 51 0 := rfl
theorem A189_50 {l1 : Option Value} {x : Value} {r : List Value} : aw g 189 50 [some (x), l1] r σ Q = (vRf x = true ∧ aw g 189 51 [some (x), l1] (x :: r) σ Q) := (aw_eq g 189 50 _ _ _ _).trans (by rw [tq189_50]; exact h_load rfl)
theorem tq189_51 : tT g 189 51 = s_getf 189 54 4 4 := rfl
theorem A189_51 {L : AL} {r : List Value} {a : Nat} : aw g 189 51 L (.ref a :: r) σ Q = (hty σ a = some 4 ∧ aw g 189 54 L (hv σ 4 a 4 :: r) σ Q) := (aw_eq g 189 51 _ _ _ _).trans (by rw [tq189_51]; exact rfl)
theorem tq189_54 : tT g 189 54 = s_callvk 189 57 25 10 [0] 2 := rfl
theorem A189_54 {L : AL} {r : List Value} {a : Nat} {w0 : Value} : aw g 189 54 L (w0 :: .ref a :: r) σ Q = (hty σ a = some 10 ∧ (vI w0 && true) = true ∧ csum r ≤ 8 ∧ aw g 25 0 [some (.ref a), some w0] [] σ (kt (aw g) 189 57 L r Q)) := (aw_eq g 189 54 _ _ _ _).trans (by rw [tq189_54]; exact rfl)
theorem tq189_57 : tT g 189 57 = s_load vRf 189 58 1 := rfl
theorem A189_57 {l0 : Option Value} {x : Value} {r : List Value} : aw g 189 57 [l0, some (x)] r σ Q = (vRf x = true ∧ aw g 189 58 [l0, some (x)] (x :: r) σ Q) := (aw_eq g 189 57 _ _ _ _).trans (by rw [tq189_57]; exact h_load rfl)
theorem tq189_58 : tT g 189 58 = s_acmp 189 61 71 := rfl
theorem A189_58 {L : AL} {r : List Value} {a b : Value} : aw g 189 58 L (b :: a :: r) σ Q = (vRf a = true ∧ vRf b = true ∧ (a = b → aw g 189 71 L r σ Q) ∧ (a ≠ b → aw g 189 61 L r σ Q)) := (aw_eq g 189 58 _ _ _ _).trans (by rw [tq189_58]; exact rfl)
theorem tq189_61 : tT g 189 61 = s_load vRf 189 62 1 := rfl
theorem A189_61 {l0 : Option Value} {x : Value} {r : List Value} : aw g 189 61 [l0, some (x)] r σ Q = (vRf x = true ∧ aw g 189 62 [l0, some (x)] (x :: r) σ Q) := (aw_eq g 189 61 _ _ _ _).trans (by rw [tq189_61]; exact h_load rfl)
theorem tq189_62 : tT g 189 62 = s_getf 189 65 7 17 := rfl
theorem A189_62 {L : AL} {r : List Value} {a : Nat} : aw g 189 62 L (.ref a :: r) σ Q = (hty σ a = some 7 ∧ aw g 189 65 L (hv σ 7 a 17 :: r) σ Q) := (aw_eq g 189 62 _ _ _ _).trans (by rw [tq189_62]; exact rfl)
theorem tq189_65 : tT g 189 65 = s_const 189 66 (.int 1) := rfl
theorem A189_65 {L : AL} {r : List Value} : aw g 189 65 L r σ Q = aw g 189 66 L (.int 1 :: r) σ Q := (aw_eq g 189 65 _ _ _ _).trans (by rw [tq189_65]; exact rfl)
theorem tq189_66 : tT g 189 66 = s_dup2 189 67 := rfl
theorem A189_66 {L : AL} {r : List Value} {v w : Value} : aw g 189 66 L (v :: w :: r) σ Q = (v.category = 1 ∧ w.category = 1 ∧ aw g 189 67 L (v :: w :: v :: w :: r) σ Q) := (aw_eq g 189 66 _ _ _ _).trans (by rw [tq189_66]; exact rfl)
theorem tq189_67 : tT g 189 67 = s_ald 189 68 20 := rfl
theorem A189_67 {L : AL} {r : List Value} {a : Nat} {i : Int32} : aw g 189 67 L (.int i :: .ref a :: r) σ Q = (hty σ a = some 20 ∧ ¬ i < 0 ∧ i.toNatClampNeg < hln σ a ∧ aw g 189 68 L (hv σ 20 a i.toNatClampNeg :: r) σ Q) := (aw_eq g 189 67 _ _ _ _).trans (by rw [tq189_67]; exact rfl)
theorem tq189_68 : tT g 189 68 = s_const 189 69 (.int 1) := rfl
theorem A189_68 {L : AL} {r : List Value} : aw g 189 68 L r σ Q = aw g 189 69 L (.int 1 :: r) σ Q := (aw_eq g 189 68 _ _ _ _).trans (by rw [tq189_68]; exact rfl)
theorem tq189_69 : tT g 189 69 = s_bin 189 70 (fun a b => a + b) := rfl
theorem A189_69 {L : AL} {r : List Value} {a b : Int32} : aw g 189 69 L (.int b :: .int a :: r) σ Q = aw g 189 70 L (.int (a + b) :: r) σ Q := (aw_eq g 189 69 _ _ _ _).trans (by rw [tq189_69]; exact rfl)
theorem tq189_70 : tT g 189 70 = s_ast g (fun _ v => vI v = true) 189 71 20 := rfl
theorem A189_70 {L : AL} {r : List Value} {a : Nat} {i : Int32} {v : Value} : aw g 189 70 L (v :: .int i :: .ref a :: r) σ Q = (hty σ a = some 20 ∧ gB g ≤ a ∧ ¬ i < 0 ∧ i.toNatClampNeg < hln σ a ∧ vI v = true ∧ aw g 189 71 L r (hput σ 20 a i.toNatClampNeg v) Q) := (aw_eq g 189 70 _ _ _ _).trans (by rw [tq189_70]; exact rfl)
theorem tq189_71 : tT g 189 71 = s_load vRf 189 72 1 := rfl
theorem A189_71 {l0 : Option Value} {x : Value} {r : List Value} : aw g 189 71 [l0, some (x)] r σ Q = (vRf x = true ∧ aw g 189 72 [l0, some (x)] (x :: r) σ Q) := (aw_eq g 189 71 _ _ _ _).trans (by rw [tq189_71]; exact h_load rfl)
theorem tq189_72 : tT g 189 72 = s_dup 189 73 := rfl
theorem A189_72 {L : AL} {r : List Value} {v : Value} : aw g 189 72 L (v :: r) σ Q = (v.category = 1 ∧ aw g 189 73 L (v :: v :: r) σ Q) := (aw_eq g 189 72 _ _ _ _).trans (by rw [tq189_72]; exact rfl)
theorem tq189_73 : tT g 189 73 = s_getf 189 76 7 12 := rfl
theorem A189_73 {L : AL} {r : List Value} {a : Nat} : aw g 189 73 L (.ref a :: r) σ Q = (hty σ a = some 7 ∧ aw g 189 76 L (hv σ 7 a 12 :: r) σ Q) := (aw_eq g 189 73 _ _ _ _).trans (by rw [tq189_73]; exact rfl)
theorem tq189_76 : tT g 189 76 = s_const 189 77 (.int 1) := rfl
theorem A189_76 {L : AL} {r : List Value} : aw g 189 76 L r σ Q = aw g 189 77 L (.int 1 :: r) σ Q := (aw_eq g 189 76 _ _ _ _).trans (by rw [tq189_76]; exact rfl)
theorem tq189_77 : tT g 189 77 = s_bin 189 78 (fun a b => a + b) := rfl
theorem A189_77 {L : AL} {r : List Value} {a b : Int32} : aw g 189 77 L (.int b :: .int a :: r) σ Q = aw g 189 78 L (.int (a + b) :: r) σ Q := (aw_eq g 189 77 _ _ _ _).trans (by rw [tq189_77]; exact rfl)
theorem tq189_78 : tT g 189 78 = s_putf g pI 189 81 7 12 := rfl
theorem A189_78 {L : AL} {r : List Value} {a : Nat} {v : Value} : aw g 189 78 L (v :: .ref a :: r) σ Q = (hty σ a = some 7 ∧ gB g ≤ a ∧ pI v ∧ aw g 189 81 L r (hput σ 7 a 12 v) Q) := (aw_eq g 189 78 _ _ _ _).trans (by rw [tq189_78]; exact rfl)
theorem tq189_81 : tT g 189 81 = s_load vRf 189 82 1 := rfl
theorem A189_81 {l0 : Option Value} {x : Value} {r : List Value} : aw g 189 81 [l0, some (x)] r σ Q = (vRf x = true ∧ aw g 189 82 [l0, some (x)] (x :: r) σ Q) := (aw_eq g 189 81 _ _ _ _).trans (by rw [tq189_81]; exact h_load rfl)
theorem tq189_82 : tT g 189 82 = s_callvk 189 85 207 7 [] 1 := rfl
theorem A189_82 {L : AL} {r : List Value} {a : Nat} : aw g 189 82 L (.ref a :: r) σ Q = (hty σ a = some 7 ∧ true = true ∧ csum r ≤ 8 ∧ aw g 207 0 [some (.ref a)] [] σ (kt (aw g) 189 85 L r Q)) := (aw_eq g 189 82 _ _ _ _).trans (by rw [tq189_82]; exact rfl)
theorem tq189_85 : tT g 189 85 = s_vret := rfl
theorem A189_85 {L : AL} : aw g 189 85 L [] σ Q = Q (.inl none) σ := (aw_eq g 189 85 _ _ _ _).trans (by rw [tq189_85]; exact rfl)
theorem tq190_0 : tT g 190 0 = s_load vRf 190 1 0 := rfl
theorem A190_0 {l1 : Option Value} {l2 : Option Value} {x : Value} {r : List Value} : aw g 190 0 [some (x), l1, l2] r σ Q = (vRf x = true ∧ aw g 190 1 [some (x), l1, l2] (x :: r) σ Q) := (aw_eq g 190 0 _ _ _ _).trans (by rw [tq190_0]; exact h_load rfl)
theorem tq190_1 : tT g 190 1 = s_getf 190 4 4 4 := rfl
theorem A190_1 {L : AL} {r : List Value} {a : Nat} : aw g 190 1 L (.ref a :: r) σ Q = (hty σ a = some 4 ∧ aw g 190 4 L (hv σ 4 a 4 :: r) σ Q) := (aw_eq g 190 1 _ _ _ _).trans (by rw [tq190_1]; exact rfl)
theorem tq190_4 : tT g 190 4 = s_const 190 5 (.int (-1)) := rfl
theorem A190_4 {L : AL} {r : List Value} : aw g 190 4 L r σ Q = aw g 190 5 L (.int (-1) :: r) σ Q := (aw_eq g 190 4 _ _ _ _).trans (by rw [tq190_4]; exact rfl)
theorem tq190_5 : tT g 190 5 = s_icmp 190 8 74 (fun a b => a = b) := rfl
theorem A190_5 {L : AL} {r : List Value} {a b : Int32} : aw g 190 5 L (.int b :: .int a :: r) σ Q = ((a = b → aw g 190 74 L r σ Q) ∧ (¬ a = b → aw g 190 8 L r σ Q)) := (aw_eq g 190 5 _ _ _ _).trans (by rw [tq190_5]; exact rfl)
theorem tq190_8 : tT g 190 8 = s_load vRf 190 9 0 := rfl
theorem A190_8 {l1 : Option Value} {l2 : Option Value} {x : Value} {r : List Value} : aw g 190 8 [some (x), l1, l2] r σ Q = (vRf x = true ∧ aw g 190 9 [some (x), l1, l2] (x :: r) σ Q) := (aw_eq g 190 8 _ _ _ _).trans (by rw [tq190_8]; exact h_load rfl)
theorem tq190_9 : tT g 190 9 = s_getf 190 12 4 1 := rfl
theorem A190_9 {L : AL} {r : List Value} {a : Nat} : aw g 190 9 L (.ref a :: r) σ Q = (hty σ a = some 4 ∧ aw g 190 12 L (hv σ 4 a 1 :: r) σ Q) := (aw_eq g 190 9 _ _ _ _).trans (by rw [tq190_9]; exact rfl)
theorem tq190_12 : tT g 190 12 = s_load vRf 190 13 0 := rfl
theorem A190_12 {l1 : Option Value} {l2 : Option Value} {x : Value} {r : List Value} : aw g 190 12 [some (x), l1, l2] r σ Q = (vRf x = true ∧ aw g 190 13 [some (x), l1, l2] (x :: r) σ Q) := (aw_eq g 190 12 _ _ _ _).trans (by rw [tq190_12]; exact h_load rfl)
theorem tq190_13 : tT g 190 13 = s_getf 190 16 4 5 := rfl
theorem A190_13 {L : AL} {r : List Value} {a : Nat} : aw g 190 13 L (.ref a :: r) σ Q = (hty σ a = some 4 ∧ aw g 190 16 L (hv σ 4 a 5 :: r) σ Q) := (aw_eq g 190 13 _ _ _ _).trans (by rw [tq190_13]; exact rfl)
theorem tq190_16 : tT g 190 16 = s_bin 190 17 (fun a b => a - b) := rfl
theorem A190_16 {L : AL} {r : List Value} {a b : Int32} : aw g 190 16 L (.int b :: .int a :: r) σ Q = aw g 190 17 L (.int (a - b) :: r) σ Q := (aw_eq g 190 16 _ _ _ _).trans (by rw [tq190_16]; exact rfl)
theorem tq190_17 : tT g 190 17 = s_const 190 18 (.int 3) := rfl
theorem A190_17 {L : AL} {r : List Value} : aw g 190 17 L r σ Q = aw g 190 18 L (.int 3 :: r) σ Q := (aw_eq g 190 17 _ _ _ _).trans (by rw [tq190_17]; exact rfl)
theorem tq190_18 : tT g 190 18 = s_icmp 190 21 74 (fun a b => a < b) := rfl
theorem A190_18 {L : AL} {r : List Value} {a b : Int32} : aw g 190 18 L (.int b :: .int a :: r) σ Q = ((a < b → aw g 190 74 L r σ Q) ∧ (¬ a < b → aw g 190 21 L r σ Q)) := (aw_eq g 190 18 _ _ _ _).trans (by rw [tq190_18]; exact rfl)
theorem tq190_21 : tT g 190 21 = s_load vRf 190 22 0 := rfl
theorem A190_21 {l1 : Option Value} {l2 : Option Value} {x : Value} {r : List Value} : aw g 190 21 [some (x), l1, l2] r σ Q = (vRf x = true ∧ aw g 190 22 [some (x), l1, l2] (x :: r) σ Q) := (aw_eq g 190 21 _ _ _ _).trans (by rw [tq190_21]; exact h_load rfl)
theorem tq190_22 : tT g 190 22 = s_getf 190 25 4 0 := rfl
theorem A190_22 {L : AL} {r : List Value} {a : Nat} : aw g 190 22 L (.ref a :: r) σ Q = (hty σ a = some 4 ∧ aw g 190 25 L (hv σ 4 a 0 :: r) σ Q) := (aw_eq g 190 22 _ _ _ _).trans (by rw [tq190_22]; exact rfl)
theorem tq190_25 : tT g 190 25 = s_load vRf 190 26 0 := rfl
theorem A190_25 {l1 : Option Value} {l2 : Option Value} {x : Value} {r : List Value} : aw g 190 25 [some (x), l1, l2] r σ Q = (vRf x = true ∧ aw g 190 26 [some (x), l1, l2] (x :: r) σ Q) := (aw_eq g 190 25 _ _ _ _).trans (by rw [tq190_25]; exact h_load rfl)
theorem tq190_26 : tT g 190 26 = s_getf 190 29 4 4 := rfl
theorem A190_26 {L : AL} {r : List Value} {a : Nat} : aw g 190 26 L (.ref a :: r) σ Q = (hty σ a = some 4 ∧ aw g 190 29 L (hv σ 4 a 4 :: r) σ Q) := (aw_eq g 190 26 _ _ _ _).trans (by rw [tq190_26]; exact rfl)
theorem tq190_29 : tT g 190 29 = s_callvk 190 32 25 10 [0] 2 := rfl
theorem A190_29 {L : AL} {r : List Value} {a : Nat} {w0 : Value} : aw g 190 29 L (w0 :: .ref a :: r) σ Q = (hty σ a = some 10 ∧ (vI w0 && true) = true ∧ csum r ≤ 8 ∧ aw g 25 0 [some (.ref a), some w0] [] σ (kt (aw g) 190 32 L r Q)) := (aw_eq g 190 29 _ _ _ _).trans (by rw [tq190_29]; exact rfl)
theorem tq190_32 : tT g 190 32 = s_cast 190 35 [7] := rfl
theorem A190_32 {L : AL} {r : List Value} : aw g 190 32 L (.null :: r) σ Q = aw g 190 35 L (.null :: r) σ Q := (aw_eq g 190 32 _ _ _ _).trans (by rw [tq190_32]; exact rfl)
theorem A190_32r {L : AL} {r : List Value} {a : Nat} : aw g 190 32 L (.ref a :: r) σ Q = (hty σ a = some 7 ∧ aw g 190 35 L (.ref a :: r) σ Q) := (aw_eq g 190 32 _ _ _ _).trans (by rw [tq190_32]; exact propext ⟨fun z => (by obtain ⟨⟨u, hu, hu2⟩, z2⟩ := z; rw [List.mem_singleton] at hu; subst hu; exact ⟨hu2, z2⟩), fun z => ⟨⟨_, List.mem_cons_self, z.1⟩, z.2⟩⟩)
theorem tq190_35 : tT g 190 35 = s_store vRf 190 36 1 := rfl
theorem A190_35 {l0 : Option Value} {l1 : Option Value} {l2 : Option Value} {x : Value} {r : List Value} : aw g 190 35 [l0, l1, l2] (x :: r) σ Q = (vRf x = true ∧ oc l0 = true ∧ aw g 190 36 [l0, some (x), l2] r σ Q) := (aw_eq g 190 35 _ _ _ _).trans (by rw [tq190_35]; exact (h_store (o := oc l0) rfl rfl rfl))
theorem tq190_36 : tT g 190 36 = s_load vRf 190 37 1 := rfl
theorem A190_36 {l0 : Option Value} {l2 : Option Value} {x : Value} {r : List Value} : aw g 190 36 [l0, some (x), l2] r σ Q = (vRf x = true ∧ aw g 190 37 [l0, some (x), l2] (x :: r) σ Q) := (aw_eq g 190 36 _ _ _ _).trans (by rw [tq190_36]; exact h_load rfl)
theorem tq190_37 : tT g 190 37 = s_dup 190 38 := rfl
theorem A190_37 {L : AL} {r : List Value} {v : Value} : aw g 190 37 L (v :: r) σ Q = (v.category = 1 ∧ aw g 190 38 L (v :: v :: r) σ Q) := (aw_eq g 190 37 _ _ _ _).trans (by rw [tq190_37]; exact rfl)
theorem tq190_38 : tT g 190 38 = s_getf 190 41 7 5 := rfl
theorem A190_38 {L : AL} {r : List Value} {a : Nat} : aw g 190 38 L (.ref a :: r) σ Q = (hty σ a = some 7 ∧ aw g 190 41 L (hv σ 7 a 5 :: r) σ Q) := (aw_eq g 190 38 _ _ _ _).trans (by rw [tq190_38]; exact rfl)
theorem tq190_41 : tT g 190 41 = s_const 190 42 (.int 1) := rfl
theorem A190_41 {L : AL} {r : List Value} : aw g 190 41 L r σ Q = aw g 190 42 L (.int 1 :: r) σ Q := (aw_eq g 190 41 _ _ _ _).trans (by rw [tq190_41]; exact rfl)
theorem tq190_42 : tT g 190 42 = s_bin 190 43 (fun a b => a + b) := rfl
theorem A190_42 {L : AL} {r : List Value} {a b : Int32} : aw g 190 42 L (.int b :: .int a :: r) σ Q = aw g 190 43 L (.int (a + b) :: r) σ Q := (aw_eq g 190 42 _ _ _ _).trans (by rw [tq190_42]; exact rfl)
theorem tq190_43 : tT g 190 43 = s_putf g pI 190 46 7 5 := rfl
theorem A190_43 {L : AL} {r : List Value} {a : Nat} {v : Value} : aw g 190 43 L (v :: .ref a :: r) σ Q = (hty σ a = some 7 ∧ gB g ≤ a ∧ pI v ∧ aw g 190 46 L r (hput σ 7 a 5 v) Q) := (aw_eq g 190 43 _ _ _ _).trans (by rw [tq190_43]; exact rfl)
theorem tq190_46 : tT g 190 46 = s_load vRf 190 47 0 := rfl
theorem A190_46 {l1 : Option Value} {l2 : Option Value} {x : Value} {r : List Value} : aw g 190 46 [some (x), l1, l2] r σ Q = (vRf x = true ∧ aw g 190 47 [some (x), l1, l2] (x :: r) σ Q) := (aw_eq g 190 46 _ _ _ _).trans (by rw [tq190_46]; exact h_load rfl)
theorem tq190_47 : tT g 190 47 = s_dup 190 48 := rfl
theorem A190_47 {L : AL} {r : List Value} {v : Value} : aw g 190 47 L (v :: r) σ Q = (v.category = 1 ∧ aw g 190 48 L (v :: v :: r) σ Q) := (aw_eq g 190 47 _ _ _ _).trans (by rw [tq190_47]; exact rfl)
theorem tq190_48 : tT g 190 48 = s_getf 190 51 4 9 := rfl
theorem A190_48 {L : AL} {r : List Value} {a : Nat} : aw g 190 48 L (.ref a :: r) σ Q = (hty σ a = some 4 ∧ aw g 190 51 L (hv σ 4 a 9 :: r) σ Q) := (aw_eq g 190 48 _ _ _ _).trans (by rw [tq190_48]; exact rfl)
theorem tq190_51 : tT g 190 51 = s_const 190 52 (.int 1) := rfl
theorem A190_51 {L : AL} {r : List Value} : aw g 190 51 L r σ Q = aw g 190 52 L (.int 1 :: r) σ Q := (aw_eq g 190 51 _ _ _ _).trans (by rw [tq190_51]; exact rfl)
theorem tq190_52 : tT g 190 52 = s_bin 190 53 (fun a b => a + b) := rfl
theorem A190_52 {L : AL} {r : List Value} {a b : Int32} : aw g 190 52 L (.int b :: .int a :: r) σ Q = aw g 190 53 L (.int (a + b) :: r) σ Q := (aw_eq g 190 52 _ _ _ _).trans (by rw [tq190_52]; exact rfl)
theorem tq190_53 : tT g 190 53 = s_putf g pI 190 56 4 9 := rfl
theorem A190_53 {L : AL} {r : List Value} {a : Nat} {v : Value} : aw g 190 53 L (v :: .ref a :: r) σ Q = (hty σ a = some 4 ∧ gB g ≤ a ∧ pI v ∧ aw g 190 56 L r (hput σ 4 a 9 v) Q) := (aw_eq g 190 53 _ _ _ _).trans (by rw [tq190_53]; exact rfl)
theorem tq190_56 : tT g 190 56 = s_load vRf 190 57 1 := rfl
theorem A190_56 {l0 : Option Value} {l2 : Option Value} {x : Value} {r : List Value} : aw g 190 56 [l0, some (x), l2] r σ Q = (vRf x = true ∧ aw g 190 57 [l0, some (x), l2] (x :: r) σ Q) := (aw_eq g 190 56 _ _ _ _).trans (by rw [tq190_56]; exact h_load rfl)
theorem tq190_57 : tT g 190 57 = s_getf 190 60 7 6 := rfl
theorem A190_57 {L : AL} {r : List Value} {a : Nat} : aw g 190 57 L (.ref a :: r) σ Q = (hty σ a = some 7 ∧ aw g 190 60 L (hv σ 7 a 6 :: r) σ Q) := (aw_eq g 190 57 _ _ _ _).trans (by rw [tq190_57]; exact rfl)
theorem tq190_60 : tT g 190 60 = s_const 190 61 (.int 1) := rfl
theorem A190_60 {L : AL} {r : List Value} : aw g 190 60 L r σ Q = aw g 190 61 L (.int 1 :: r) σ Q := (aw_eq g 190 60 _ _ _ _).trans (by rw [tq190_60]; exact rfl)
theorem tq190_61 : tT g 190 61 = s_icmp 190 69 64 (fun a b => a = b) := rfl
theorem A190_61 {L : AL} {r : List Value} {a b : Int32} : aw g 190 61 L (.int b :: .int a :: r) σ Q = ((a = b → aw g 190 64 L r σ Q) ∧ (¬ a = b → aw g 190 69 L r σ Q)) := (aw_eq g 190 61 _ _ _ _).trans (by rw [tq190_61]; exact rfl)
theorem tq190_64 : tT g 190 64 = s_load vRf 190 65 1 := rfl
theorem A190_64 {l0 : Option Value} {l2 : Option Value} {x : Value} {r : List Value} : aw g 190 64 [l0, some (x), l2] r σ Q = (vRf x = true ∧ aw g 190 65 [l0, some (x), l2] (x :: r) σ Q) := (aw_eq g 190 64 _ _ _ _).trans (by rw [tq190_64]; exact h_load rfl)
theorem tq190_65 : tT g 190 65 = s_const 190 66 (.int 0) := rfl
theorem A190_65 {L : AL} {r : List Value} : aw g 190 65 L r σ Q = aw g 190 66 L (.int 0 :: r) σ Q := (aw_eq g 190 65 _ _ _ _).trans (by rw [tq190_65]; exact rfl)
theorem tq190_66 : tT g 190 66 = s_putf g pI 190 69 7 6 := rfl
theorem A190_66 {L : AL} {r : List Value} {a : Nat} {v : Value} : aw g 190 66 L (v :: .ref a :: r) σ Q = (hty σ a = some 7 ∧ gB g ≤ a ∧ pI v ∧ aw g 190 69 L r (hput σ 7 a 6 v) Q) := (aw_eq g 190 66 _ _ _ _).trans (by rw [tq190_66]; exact rfl)
theorem tq190_69 : tT g 190 69 = s_load vRf 190 70 0 := rfl
theorem A190_69 {l1 : Option Value} {l2 : Option Value} {x : Value} {r : List Value} : aw g 190 69 [some (x), l1, l2] r σ Q = (vRf x = true ∧ aw g 190 70 [some (x), l1, l2] (x :: r) σ Q) := (aw_eq g 190 69 _ _ _ _).trans (by rw [tq190_69]; exact h_load rfl)
theorem tq190_70 : tT g 190 70 = s_const 190 71 (.int (-1)) := rfl
theorem A190_70 {L : AL} {r : List Value} : aw g 190 70 L r σ Q = aw g 190 71 L (.int (-1) :: r) σ Q := (aw_eq g 190 70 _ _ _ _).trans (by rw [tq190_70]; exact rfl)
theorem tq190_71 : tT g 190 71 = s_putf g pI 190 74 4 4 := rfl
theorem A190_71 {L : AL} {r : List Value} {a : Nat} {v : Value} : aw g 190 71 L (v :: .ref a :: r) σ Q = (hty σ a = some 4 ∧ gB g ≤ a ∧ pI v ∧ aw g 190 74 L r (hput σ 4 a 4 v) Q) := (aw_eq g 190 71 _ _ _ _).trans (by rw [tq190_71]; exact rfl)
theorem tq190_74 : tT g 190 74 = s_const 190 75 (.int 1) := rfl
theorem A190_74 {L : AL} {r : List Value} : aw g 190 74 L r σ Q = aw g 190 75 L (.int 1 :: r) σ Q := (aw_eq g 190 74 _ _ _ _).trans (by rw [tq190_74]; exact rfl)
theorem tq190_75 : tT g 190 75 = s_store vI 190 76 1 := rfl
theorem A190_75 {l0 : Option Value} {l1 : Option Value} {l2 : Option Value} {x : Int32} {r : List Value} : aw g 190 75 [l0, l1, l2] (.int x :: r) σ Q = (oc l0 = true ∧ aw g 190 76 [l0, some (.int x), l2] r σ Q) := (aw_eq g 190 75 _ _ _ _).trans (by rw [tq190_75]; exact (h_store (o := oc l0) rfl rfl rfl).trans (propext ⟨fun z => z.2, fun z => ⟨rfl, z⟩⟩))
theorem tq190_76 : tT g 190 76 = s_load vI 190 77 1 := rfl
theorem A190_76 {l0 : Option Value} {l2 : Option Value} {x : Int32} {r : List Value} : aw g 190 76 [l0, some (.int x), l2] r σ Q = aw g 190 77 [l0, some (.int x), l2] (.int x :: r) σ Q := (aw_eq g 190 76 _ _ _ _).trans (by rw [tq190_76]; exact (h_load rfl).trans (propext ⟨fun z => z.2, fun z => ⟨rfl, z⟩⟩))
theorem tq190_77 : tT g 190 77 = s_const 190 78 (.int 3) := rfl
theorem A190_77 {L : AL} {r : List Value} : aw g 190 77 L r σ Q = aw g 190 78 L (.int 3 :: r) σ Q := (aw_eq g 190 77 _ _ _ _).trans (by rw [tq190_77]; exact rfl)
theorem tq190_78 : tT g 190 78 = s_icmp 190 81 173 (fun a b => b < a) := rfl
theorem A190_78 {L : AL} {r : List Value} {a b : Int32} : aw g 190 78 L (.int b :: .int a :: r) σ Q = ((b < a → aw g 190 173 L r σ Q) ∧ (¬ b < a → aw g 190 81 L r σ Q)) := (aw_eq g 190 78 _ _ _ _).trans (by rw [tq190_78]; exact rfl)
theorem tq190_81 : tT g 190 81 = s_load vRf 190 82 0 := rfl
theorem A190_81 {l1 : Option Value} {l2 : Option Value} {x : Value} {r : List Value} : aw g 190 81 [some (x), l1, l2] r σ Q = (vRf x = true ∧ aw g 190 82 [some (x), l1, l2] (x :: r) σ Q) := (aw_eq g 190 81 _ _ _ _).trans (by rw [tq190_81]; exact h_load rfl)
theorem tq190_82 : tT g 190 82 = s_getf 190 85 4 4 := rfl
theorem A190_82 {L : AL} {r : List Value} {a : Nat} : aw g 190 82 L (.ref a :: r) σ Q = (hty σ a = some 4 ∧ aw g 190 85 L (hv σ 4 a 4 :: r) σ Q) := (aw_eq g 190 82 _ _ _ _).trans (by rw [tq190_82]; exact rfl)
theorem tq190_85 : tT g 190 85 = s_const 190 86 (.int (-1)) := rfl
theorem A190_85 {L : AL} {r : List Value} : aw g 190 85 L r σ Q = aw g 190 86 L (.int (-1) :: r) σ Q := (aw_eq g 190 85 _ _ _ _).trans (by rw [tq190_85]; exact rfl)
theorem tq190_86 : tT g 190 86 = s_icmp 190 173 89 (fun a b => a = b) := rfl
theorem A190_86 {L : AL} {r : List Value} {a b : Int32} : aw g 190 86 L (.int b :: .int a :: r) σ Q = ((a = b → aw g 190 89 L r σ Q) ∧ (¬ a = b → aw g 190 173 L r σ Q)) := (aw_eq g 190 86 _ _ _ _).trans (by rw [tq190_86]; exact rfl)
theorem tq190_89 : tT g 190 89 = s_load vRf 190 90 0 := rfl
theorem A190_89 {l1 : Option Value} {l2 : Option Value} {x : Value} {r : List Value} : aw g 190 89 [some (x), l1, l2] r σ Q = (vRf x = true ∧ aw g 190 90 [some (x), l1, l2] (x :: r) σ Q) := (aw_eq g 190 89 _ _ _ _).trans (by rw [tq190_89]; exact h_load rfl)
theorem tq190_90 : tT g 190 90 = s_getf 190 93 4 6 := rfl
theorem A190_90 {L : AL} {r : List Value} {a : Nat} : aw g 190 90 L (.ref a :: r) σ Q = (hty σ a = some 4 ∧ aw g 190 93 L (hv σ 4 a 6 :: r) σ Q) := (aw_eq g 190 90 _ _ _ _).trans (by rw [tq190_90]; exact rfl)
theorem tq190_93 : tT g 190 93 = s_load vI 190 94 1 := rfl
theorem A190_93 {l0 : Option Value} {l2 : Option Value} {x : Int32} {r : List Value} : aw g 190 93 [l0, some (.int x), l2] r σ Q = aw g 190 94 [l0, some (.int x), l2] (.int x :: r) σ Q := (aw_eq g 190 93 _ _ _ _).trans (by rw [tq190_93]; exact (h_load rfl).trans (propext ⟨fun z => z.2, fun z => ⟨rfl, z⟩⟩))
theorem tq190_94 : tT g 190 94 = s_bin 190 95 (fun a b => a + b) := rfl
theorem A190_94 {L : AL} {r : List Value} {a b : Int32} : aw g 190 94 L (.int b :: .int a :: r) σ Q = aw g 190 95 L (.int (a + b) :: r) σ Q := (aw_eq g 190 94 _ _ _ _).trans (by rw [tq190_94]; exact rfl)
theorem tq190_95 : tT g 190 95 = s_const 190 96 (.int 3) := rfl
theorem A190_95 {L : AL} {r : List Value} : aw g 190 95 L r σ Q = aw g 190 96 L (.int 3 :: r) σ Q := (aw_eq g 190 95 _ _ _ _).trans (by rw [tq190_95]; exact rfl)
theorem tq190_96 : tT g 190 96 = s_div 190 97 (fun a b => a - a / b * b) := rfl
theorem A190_96 {L : AL} {r : List Value} {a b : Int32} : aw g 190 96 L (.int b :: .int a :: r) σ Q = (b ≠ 0 ∧ aw g 190 97 L (.int (a - a / b * b) :: r) σ Q) := (aw_eq g 190 96 _ _ _ _).trans (by rw [tq190_96]; exact rfl)
theorem tq190_97 : tT g 190 97 = s_store vI 190 98 2 := rfl
theorem A190_97 {l0 : Option Value} {l1 : Option Value} {l2 : Option Value} {x : Int32} {r : List Value} : aw g 190 97 [l0, l1, l2] (.int x :: r) σ Q = (oc l1 = true ∧ aw g 190 98 [l0, l1, some (.int x)] r σ Q) := (aw_eq g 190 97 _ _ _ _).trans (by rw [tq190_97]; exact (h_store (o := oc l1) rfl rfl rfl).trans (propext ⟨fun z => z.2, fun z => ⟨rfl, z⟩⟩))
theorem tq190_98 : tT g 190 98 = s_load vI 190 99 2 := rfl
theorem A190_98 {l0 : Option Value} {l1 : Option Value} {x : Int32} {r : List Value} : aw g 190 98 [l0, l1, some (.int x)] r σ Q = aw g 190 99 [l0, l1, some (.int x)] (.int x :: r) σ Q := (aw_eq g 190 98 _ _ _ _).trans (by rw [tq190_98]; exact (h_load rfl).trans (propext ⟨fun z => z.2, fun z => ⟨rfl, z⟩⟩))
theorem tq190_99 : tT g 190 99 = s_load vRf 190 100 0 := rfl
theorem A190_99 {l1 : Option Value} {l2 : Option Value} {x : Value} {r : List Value} : aw g 190 99 [some (x), l1, l2] r σ Q = (vRf x = true ∧ aw g 190 100 [some (x), l1, l2] (x :: r) σ Q) := (aw_eq g 190 99 _ _ _ _).trans (by rw [tq190_99]; exact h_load rfl)
theorem tq190_100 : tT g 190 100 = s_getf 190 103 4 0 := rfl
theorem A190_100 {L : AL} {r : List Value} {a : Nat} : aw g 190 100 L (.ref a :: r) σ Q = (hty σ a = some 4 ∧ aw g 190 103 L (hv σ 4 a 0 :: r) σ Q) := (aw_eq g 190 100 _ _ _ _).trans (by rw [tq190_100]; exact rfl)
theorem tq190_103 : tT g 190 103 = s_callvk 190 106 15 10 [] 1 := rfl
theorem A190_103 {L : AL} {r : List Value} {a : Nat} : aw g 190 103 L (.ref a :: r) σ Q = (hty σ a = some 10 ∧ true = true ∧ csum r ≤ 8 ∧ aw g 15 0 [some (.ref a)] [] σ (kt (aw g) 190 106 L r Q)) := (aw_eq g 190 103 _ _ _ _).trans (by rw [tq190_103]; exact rfl)
theorem tq190_106 : tT g 190 106 = s_icmp 190 109 167 (fun a b => b ≤ a) := rfl
theorem A190_106 {L : AL} {r : List Value} {a b : Int32} : aw g 190 106 L (.int b :: .int a :: r) σ Q = ((b ≤ a → aw g 190 167 L r σ Q) ∧ (¬ b ≤ a → aw g 190 109 L r σ Q)) := (aw_eq g 190 106 _ _ _ _).trans (by rw [tq190_106]; exact rfl)
theorem tq190_109 : tT g 190 109 = s_load vRf 190 110 0 := rfl
theorem A190_109 {l1 : Option Value} {l2 : Option Value} {x : Value} {r : List Value} : aw g 190 109 [some (x), l1, l2] r σ Q = (vRf x = true ∧ aw g 190 110 [some (x), l1, l2] (x :: r) σ Q) := (aw_eq g 190 109 _ _ _ _).trans (by rw [tq190_109]; exact h_load rfl)
theorem tq190_110 : tT g 190 110 = s_getf 190 113 4 0 := rfl
theorem A190_110 {L : AL} {r : List Value} {a : Nat} : aw g 190 110 L (.ref a :: r) σ Q = (hty σ a = some 4 ∧ aw g 190 113 L (hv σ 4 a 0 :: r) σ Q) := (aw_eq g 190 110 _ _ _ _).trans (by rw [tq190_110]; exact rfl)
theorem tq190_113 : tT g 190 113 = s_load vI 190 114 2 := rfl
theorem A190_113 {l0 : Option Value} {l1 : Option Value} {x : Int32} {r : List Value} : aw g 190 113 [l0, l1, some (.int x)] r σ Q = aw g 190 114 [l0, l1, some (.int x)] (.int x :: r) σ Q := (aw_eq g 190 113 _ _ _ _).trans (by rw [tq190_113]; exact (h_load rfl).trans (propext ⟨fun z => z.2, fun z => ⟨rfl, z⟩⟩))
theorem tq190_114 : tT g 190 114 = s_callvk 190 117 25 10 [0] 2 := rfl
theorem A190_114 {L : AL} {r : List Value} {a : Nat} {w0 : Value} : aw g 190 114 L (w0 :: .ref a :: r) σ Q = (hty σ a = some 10 ∧ (vI w0 && true) = true ∧ csum r ≤ 8 ∧ aw g 25 0 [some (.ref a), some w0] [] σ (kt (aw g) 190 117 L r Q)) := (aw_eq g 190 114 _ _ _ _).trans (by rw [tq190_114]; exact rfl)
theorem tq190_117 : tT g 190 117 = s_cast 190 120 [7] := rfl
theorem A190_117 {L : AL} {r : List Value} : aw g 190 117 L (.null :: r) σ Q = aw g 190 120 L (.null :: r) σ Q := (aw_eq g 190 117 _ _ _ _).trans (by rw [tq190_117]; exact rfl)
theorem A190_117r {L : AL} {r : List Value} {a : Nat} : aw g 190 117 L (.ref a :: r) σ Q = (hty σ a = some 7 ∧ aw g 190 120 L (.ref a :: r) σ Q) := (aw_eq g 190 117 _ _ _ _).trans (by rw [tq190_117]; exact propext ⟨fun z => (by obtain ⟨⟨u, hu, hu2⟩, z2⟩ := z; rw [List.mem_singleton] at hu; subst hu; exact ⟨hu2, z2⟩), fun z => ⟨⟨_, List.mem_cons_self, z.1⟩, z.2⟩⟩)
theorem tq190_120 : tT g 190 120 = s_getf 190 123 7 12 := rfl
theorem A190_120 {L : AL} {r : List Value} {a : Nat} : aw g 190 120 L (.ref a :: r) σ Q = (hty σ a = some 7 ∧ aw g 190 123 L (hv σ 7 a 12 :: r) σ Q) := (aw_eq g 190 120 _ _ _ _).trans (by rw [tq190_120]; exact rfl)
theorem tq190_123 : tT g 190 123 = s_if 190 129 126 (fun a => a = 0) := rfl
theorem A190_123 {L : AL} {r : List Value} {a : Int32} : aw g 190 123 L (.int a :: r) σ Q = ((a = 0 → aw g 190 126 L r σ Q) ∧ (¬ a = 0 → aw g 190 129 L r σ Q)) := (aw_eq g 190 123 _ _ _ _).trans (by rw [tq190_123]; exact rfl)
theorem tq190_126 : tT g 190 126 = s_goto 190 167 := rfl
theorem A190_126 {L : AL} {r : List Value} : aw g 190 126 L r σ Q = aw g 190 167 L r σ Q := (aw_eq g 190 126 _ _ _ _).trans (by rw [tq190_126]; exact rfl)
theorem tq190_129 : tT g 190 129 = s_load vRf 190 130 0 := rfl
theorem A190_129 {l1 : Option Value} {l2 : Option Value} {x : Value} {r : List Value} : aw g 190 129 [some (x), l1, l2] r σ Q = (vRf x = true ∧ aw g 190 130 [some (x), l1, l2] (x :: r) σ Q) := (aw_eq g 190 129 _ _ _ _).trans (by rw [tq190_129]; exact h_load rfl)
theorem tq190_130 : tT g 190 130 = s_getf 190 133 4 0 := rfl
theorem A190_130 {L : AL} {r : List Value} {a : Nat} : aw g 190 130 L (.ref a :: r) σ Q = (hty σ a = some 4 ∧ aw g 190 133 L (hv σ 4 a 0 :: r) σ Q) := (aw_eq g 190 130 _ _ _ _).trans (by rw [tq190_130]; exact rfl)
theorem tq190_133 : tT g 190 133 = s_load vI 190 134 2 := rfl
theorem A190_133 {l0 : Option Value} {l1 : Option Value} {x : Int32} {r : List Value} : aw g 190 133 [l0, l1, some (.int x)] r σ Q = aw g 190 134 [l0, l1, some (.int x)] (.int x :: r) σ Q := (aw_eq g 190 133 _ _ _ _).trans (by rw [tq190_133]; exact (h_load rfl).trans (propext ⟨fun z => z.2, fun z => ⟨rfl, z⟩⟩))
theorem tq190_134 : tT g 190 134 = s_callvk 190 137 25 10 [0] 2 := rfl
theorem A190_134 {L : AL} {r : List Value} {a : Nat} {w0 : Value} : aw g 190 134 L (w0 :: .ref a :: r) σ Q = (hty σ a = some 10 ∧ (vI w0 && true) = true ∧ csum r ≤ 8 ∧ aw g 25 0 [some (.ref a), some w0] [] σ (kt (aw g) 190 137 L r Q)) := (aw_eq g 190 134 _ _ _ _).trans (by rw [tq190_134]; exact rfl)
theorem tq190_137 : tT g 190 137 = s_cast 190 140 [7] := rfl
theorem A190_137 {L : AL} {r : List Value} : aw g 190 137 L (.null :: r) σ Q = aw g 190 140 L (.null :: r) σ Q := (aw_eq g 190 137 _ _ _ _).trans (by rw [tq190_137]; exact rfl)
theorem A190_137r {L : AL} {r : List Value} {a : Nat} : aw g 190 137 L (.ref a :: r) σ Q = (hty σ a = some 7 ∧ aw g 190 140 L (.ref a :: r) σ Q) := (aw_eq g 190 137 _ _ _ _).trans (by rw [tq190_137]; exact propext ⟨fun z => (by obtain ⟨⟨u, hu, hu2⟩, z2⟩ := z; rw [List.mem_singleton] at hu; subst hu; exact ⟨hu2, z2⟩), fun z => ⟨⟨_, List.mem_cons_self, z.1⟩, z.2⟩⟩)
theorem tq190_140 : tT g 190 140 = s_dup 190 141 := rfl
theorem A190_140 {L : AL} {r : List Value} {v : Value} : aw g 190 140 L (v :: r) σ Q = (v.category = 1 ∧ aw g 190 141 L (v :: v :: r) σ Q) := (aw_eq g 190 140 _ _ _ _).trans (by rw [tq190_140]; exact rfl)
theorem tq190_141 : tT g 190 141 = s_getf 190 144 7 12 := rfl
theorem A190_141 {L : AL} {r : List Value} {a : Nat} : aw g 190 141 L (.ref a :: r) σ Q = (hty σ a = some 7 ∧ aw g 190 144 L (hv σ 7 a 12 :: r) σ Q) := (aw_eq g 190 141 _ _ _ _).trans (by rw [tq190_141]; exact rfl)
theorem tq190_144 : tT g 190 144 = s_const 190 145 (.int 1) := rfl
theorem A190_144 {L : AL} {r : List Value} : aw g 190 144 L r σ Q = aw g 190 145 L (.int 1 :: r) σ Q := (aw_eq g 190 144 _ _ _ _).trans (by rw [tq190_144]; exact rfl)
theorem tq190_145 : tT g 190 145 = s_bin 190 146 (fun a b => a - b) := rfl
theorem A190_145 {L : AL} {r : List Value} {a b : Int32} : aw g 190 145 L (.int b :: .int a :: r) σ Q = aw g 190 146 L (.int (a - b) :: r) σ Q := (aw_eq g 190 145 _ _ _ _).trans (by rw [tq190_145]; exact rfl)
theorem tq190_146 : tT g 190 146 = s_putf g pI 190 149 7 12 := rfl
theorem A190_146 {L : AL} {r : List Value} {a : Nat} {v : Value} : aw g 190 146 L (v :: .ref a :: r) σ Q = (hty σ a = some 7 ∧ gB g ≤ a ∧ pI v ∧ aw g 190 149 L r (hput σ 7 a 12 v) Q) := (aw_eq g 190 146 _ _ _ _).trans (by rw [tq190_146]; exact rfl)
theorem tq190_149 : tT g 190 149 = s_load vRf 190 150 0 := rfl
theorem A190_149 {l1 : Option Value} {l2 : Option Value} {x : Value} {r : List Value} : aw g 190 149 [some (x), l1, l2] r σ Q = (vRf x = true ∧ aw g 190 150 [some (x), l1, l2] (x :: r) σ Q) := (aw_eq g 190 149 _ _ _ _).trans (by rw [tq190_149]; exact h_load rfl)
theorem tq190_150 : tT g 190 150 = s_load vI 190 151 2 := rfl
theorem A190_150 {l0 : Option Value} {l1 : Option Value} {x : Int32} {r : List Value} : aw g 190 150 [l0, l1, some (.int x)] r σ Q = aw g 190 151 [l0, l1, some (.int x)] (.int x :: r) σ Q := (aw_eq g 190 150 _ _ _ _).trans (by rw [tq190_150]; exact (h_load rfl).trans (propext ⟨fun z => z.2, fun z => ⟨rfl, z⟩⟩))
theorem tq190_151 : tT g 190 151 = s_putf g pI 190 154 4 4 := rfl
theorem A190_151 {L : AL} {r : List Value} {a : Nat} {v : Value} : aw g 190 151 L (v :: .ref a :: r) σ Q = (hty σ a = some 4 ∧ gB g ≤ a ∧ pI v ∧ aw g 190 154 L r (hput σ 4 a 4 v) Q) := (aw_eq g 190 151 _ _ _ _).trans (by rw [tq190_151]; exact rfl)
theorem tq190_154 : tT g 190 154 = s_load vRf 190 155 0 := rfl
theorem A190_154 {l1 : Option Value} {l2 : Option Value} {x : Value} {r : List Value} : aw g 190 154 [some (x), l1, l2] r σ Q = (vRf x = true ∧ aw g 190 155 [some (x), l1, l2] (x :: r) σ Q) := (aw_eq g 190 154 _ _ _ _).trans (by rw [tq190_154]; exact h_load rfl)
theorem tq190_155 : tT g 190 155 = s_load vRf 190 156 0 := rfl
theorem A190_155 {l1 : Option Value} {l2 : Option Value} {x : Value} {r : List Value} : aw g 190 155 [some (x), l1, l2] r σ Q = (vRf x = true ∧ aw g 190 156 [some (x), l1, l2] (x :: r) σ Q) := (aw_eq g 190 155 _ _ _ _).trans (by rw [tq190_155]; exact h_load rfl)
theorem tq190_156 : tT g 190 156 = s_getf 190 159 4 1 := rfl
theorem A190_156 {L : AL} {r : List Value} {a : Nat} : aw g 190 156 L (.ref a :: r) σ Q = (hty σ a = some 4 ∧ aw g 190 159 L (hv σ 4 a 1 :: r) σ Q) := (aw_eq g 190 156 _ _ _ _).trans (by rw [tq190_156]; exact rfl)
theorem tq190_159 : tT g 190 159 = s_putf g pI 190 162 4 5 := rfl
theorem A190_159 {L : AL} {r : List Value} {a : Nat} {v : Value} : aw g 190 159 L (v :: .ref a :: r) σ Q = (hty σ a = some 4 ∧ gB g ≤ a ∧ pI v ∧ aw g 190 162 L r (hput σ 4 a 5 v) Q) := (aw_eq g 190 159 _ _ _ _).trans (by rw [tq190_159]; exact rfl)
theorem tq190_162 : tT g 190 162 = s_load vRf 190 163 0 := rfl
theorem A190_162 {l1 : Option Value} {l2 : Option Value} {x : Value} {r : List Value} : aw g 190 162 [some (x), l1, l2] r σ Q = (vRf x = true ∧ aw g 190 163 [some (x), l1, l2] (x :: r) σ Q) := (aw_eq g 190 162 _ _ _ _).trans (by rw [tq190_162]; exact h_load rfl)
theorem tq190_163 : tT g 190 163 = s_load vI 190 164 2 := rfl
theorem A190_163 {l0 : Option Value} {l1 : Option Value} {x : Int32} {r : List Value} : aw g 190 163 [l0, l1, some (.int x)] r σ Q = aw g 190 164 [l0, l1, some (.int x)] (.int x :: r) σ Q := (aw_eq g 190 163 _ _ _ _).trans (by rw [tq190_163]; exact (h_load rfl).trans (propext ⟨fun z => z.2, fun z => ⟨rfl, z⟩⟩))
theorem tq190_164 : tT g 190 164 = s_putf g pI 190 167 4 6 := rfl
theorem A190_164 {L : AL} {r : List Value} {a : Nat} {v : Value} : aw g 190 164 L (v :: .ref a :: r) σ Q = (hty σ a = some 4 ∧ gB g ≤ a ∧ pI v ∧ aw g 190 167 L r (hput σ 4 a 6 v) Q) := (aw_eq g 190 164 _ _ _ _).trans (by rw [tq190_164]; exact rfl)
theorem tq190_167 : tT g 190 167 = s_iinc 190 170 1 1 := rfl
theorem A190_167 {l0 : Option Value} {l2 : Option Value} {x : Int32} {r : List Value} : aw g 190 167 [l0, some (.int x), l2] r σ Q = (oc l0 = true ∧ aw g 190 170 [l0, some (.int (x + 1)), l2] r σ Q) := (aw_eq g 190 167 _ _ _ _).trans (by rw [tq190_167]; exact (h_iinc (o := oc l0) rfl rfl rfl))
theorem tq190_170 : tT g 190 170 = s_goto 190 76 := rfl
theorem A190_170 {L : AL} {r : List Value} : aw g 190 170 L r σ Q = aw g 190 76 L r σ Q := (aw_eq g 190 170 _ _ _ _).trans (by rw [tq190_170]; exact rfl)
theorem tq190_173 : tT g 190 173 = s_vret := rfl
theorem A190_173 {L : AL} : aw g 190 173 L [] σ Q = Q (.inl none) σ := (aw_eq g 190 173 _ _ _ _).trans (by rw [tq190_173]; exact rfl)
theorem tq191_0 : tT g 191 0 = s_load vRf 191 1 0 := rfl
theorem A191_0 {l1 : Option Value} {l2 : Option Value} {l3 : Option Value} {l4 : Option Value} {x : Value} {r : List Value} : aw g 191 0 [some (x), l1, l2, l3, l4] r σ Q = (vRf x = true ∧ aw g 191 1 [some (x), l1, l2, l3, l4] (x :: r) σ Q) := (aw_eq g 191 0 _ _ _ _).trans (by rw [tq191_0]; exact h_load rfl)
theorem tq191_1 : tT g 191 1 = s_getf 191 4 4 0 := rfl
theorem A191_1 {L : AL} {r : List Value} {a : Nat} : aw g 191 1 L (.ref a :: r) σ Q = (hty σ a = some 4 ∧ aw g 191 4 L (hv σ 4 a 0 :: r) σ Q) := (aw_eq g 191 1 _ _ _ _).trans (by rw [tq191_1]; exact rfl)
theorem tq191_4 : tT g 191 4 = s_load vI 191 5 1 := rfl
theorem A191_4 {l0 : Option Value} {l2 : Option Value} {l3 : Option Value} {l4 : Option Value} {x : Int32} {r : List Value} : aw g 191 4 [l0, some (.int x), l2, l3, l4] r σ Q = aw g 191 5 [l0, some (.int x), l2, l3, l4] (.int x :: r) σ Q := (aw_eq g 191 4 _ _ _ _).trans (by rw [tq191_4]; exact (h_load rfl).trans (propext ⟨fun z => z.2, fun z => ⟨rfl, z⟩⟩))
theorem tq191_5 : tT g 191 5 = s_callvk 191 8 25 10 [0] 2 := rfl
theorem A191_5 {L : AL} {r : List Value} {a : Nat} {w0 : Value} : aw g 191 5 L (w0 :: .ref a :: r) σ Q = (hty σ a = some 10 ∧ (vI w0 && true) = true ∧ csum r ≤ 8 ∧ aw g 25 0 [some (.ref a), some w0] [] σ (kt (aw g) 191 8 L r Q)) := (aw_eq g 191 5 _ _ _ _).trans (by rw [tq191_5]; exact rfl)
theorem tq191_8 : tT g 191 8 = s_cast 191 11 [7] := rfl
theorem A191_8 {L : AL} {r : List Value} : aw g 191 8 L (.null :: r) σ Q = aw g 191 11 L (.null :: r) σ Q := (aw_eq g 191 8 _ _ _ _).trans (by rw [tq191_8]; exact rfl)
theorem A191_8r {L : AL} {r : List Value} {a : Nat} : aw g 191 8 L (.ref a :: r) σ Q = (hty σ a = some 7 ∧ aw g 191 11 L (.ref a :: r) σ Q) := (aw_eq g 191 8 _ _ _ _).trans (by rw [tq191_8]; exact propext ⟨fun z => (by obtain ⟨⟨u, hu, hu2⟩, z2⟩ := z; rw [List.mem_singleton] at hu; subst hu; exact ⟨hu2, z2⟩), fun z => ⟨⟨_, List.mem_cons_self, z.1⟩, z.2⟩⟩)
theorem tq191_11 : tT g 191 11 = s_store vRf 191 12 2 := rfl
theorem A191_11 {l0 : Option Value} {l1 : Option Value} {l2 : Option Value} {l3 : Option Value} {l4 : Option Value} {x : Value} {r : List Value} : aw g 191 11 [l0, l1, l2, l3, l4] (x :: r) σ Q = (vRf x = true ∧ oc l1 = true ∧ aw g 191 12 [l0, l1, some (x), l3, l4] r σ Q) := (aw_eq g 191 11 _ _ _ _).trans (by rw [tq191_11]; exact (h_store (o := oc l1) rfl rfl rfl))
theorem tq191_12 : tT g 191 12 = s_load vRf 191 13 2 := rfl
theorem A191_12 {l0 : Option Value} {l1 : Option Value} {l3 : Option Value} {l4 : Option Value} {x : Value} {r : List Value} : aw g 191 12 [l0, l1, some (x), l3, l4] r σ Q = (vRf x = true ∧ aw g 191 13 [l0, l1, some (x), l3, l4] (x :: r) σ Q) := (aw_eq g 191 12 _ _ _ _).trans (by rw [tq191_12]; exact h_load rfl)
theorem tq191_13 : tT g 191 13 = s_getf 191 16 7 19 := rfl
theorem A191_13 {L : AL} {r : List Value} {a : Nat} : aw g 191 13 L (.ref a :: r) σ Q = (hty σ a = some 7 ∧ aw g 191 16 L (hv σ 7 a 19 :: r) σ Q) := (aw_eq g 191 13 _ _ _ _).trans (by rw [tq191_13]; exact rfl)
theorem tq191_16 : tT g 191 16 = s_if 191 19 79 (fun a => a = 0) := rfl
theorem A191_16 {L : AL} {r : List Value} {a : Int32} : aw g 191 16 L (.int a :: r) σ Q = ((a = 0 → aw g 191 79 L r σ Q) ∧ (¬ a = 0 → aw g 191 19 L r σ Q)) := (aw_eq g 191 16 _ _ _ _).trans (by rw [tq191_16]; exact rfl)
theorem tq191_19 : tT g 191 19 = s_load vRf 191 20 2 := rfl
theorem A191_19 {l0 : Option Value} {l1 : Option Value} {l3 : Option Value} {l4 : Option Value} {x : Value} {r : List Value} : aw g 191 19 [l0, l1, some (x), l3, l4] r σ Q = (vRf x = true ∧ aw g 191 20 [l0, l1, some (x), l3, l4] (x :: r) σ Q) := (aw_eq g 191 19 _ _ _ _).trans (by rw [tq191_19]; exact h_load rfl)
theorem tq191_20 : tT g 191 20 = s_const 191 21 (.int 4) := rfl
theorem A191_20 {L : AL} {r : List Value} : aw g 191 20 L r σ Q = aw g 191 21 L (.int 4 :: r) σ Q := (aw_eq g 191 20 _ _ _ _).trans (by rw [tq191_20]; exact rfl)
theorem tq191_21 : tT g 191 21 = s_putf g pI 191 24 7 6 := rfl
theorem A191_21 {L : AL} {r : List Value} {a : Nat} {v : Value} : aw g 191 21 L (v :: .ref a :: r) σ Q = (hty σ a = some 7 ∧ gB g ≤ a ∧ pI v ∧ aw g 191 24 L r (hput σ 7 a 6 v) Q) := (aw_eq g 191 21 _ _ _ _).trans (by rw [tq191_21]; exact rfl)
theorem tq191_24 : tT g 191 24 = s_load vRf 191 25 2 := rfl
theorem A191_24 {l0 : Option Value} {l1 : Option Value} {l3 : Option Value} {l4 : Option Value} {x : Value} {r : List Value} : aw g 191 24 [l0, l1, some (x), l3, l4] r σ Q = (vRf x = true ∧ aw g 191 25 [l0, l1, some (x), l3, l4] (x :: r) σ Q) := (aw_eq g 191 24 _ _ _ _).trans (by rw [tq191_24]; exact h_load rfl)
theorem tq191_25 : tT g 191 25 = s_const 191 26 (.int 0) := rfl
theorem A191_25 {L : AL} {r : List Value} : aw g 191 25 L r σ Q = aw g 191 26 L (.int 0 :: r) σ Q := (aw_eq g 191 25 _ _ _ _).trans (by rw [tq191_25]; exact rfl)
theorem tq191_26 : tT g 191 26 = s_putf g vZ 191 29 7 18 := rfl
theorem A191_26 {L : AL} {r : List Value} {a : Nat} {v : Value} : aw g 191 26 L (v :: .ref a :: r) σ Q = (hty σ a = some 7 ∧ gB g ≤ a ∧ vZ v ∧ aw g 191 29 L r (hput σ 7 a 18 v) Q) := (aw_eq g 191 26 _ _ _ _).trans (by rw [tq191_26]; exact rfl)
theorem tq191_29 : tT g 191 29 = s_load vRf 191 30 2 := rfl
theorem A191_29 {l0 : Option Value} {l1 : Option Value} {l3 : Option Value} {l4 : Option Value} {x : Value} {r : List Value} : aw g 191 29 [l0, l1, some (x), l3, l4] r σ Q = (vRf x = true ∧ aw g 191 30 [l0, l1, some (x), l3, l4] (x :: r) σ Q) := (aw_eq g 191 29 _ _ _ _).trans (by rw [tq191_29]; exact h_load rfl)
theorem tq191_30 : tT g 191 30 = s_const 191 31 (.int 0) := rfl
theorem A191_30 {L : AL} {r : List Value} : aw g 191 30 L r σ Q = aw g 191 31 L (.int 0 :: r) σ Q := (aw_eq g 191 30 _ _ _ _).trans (by rw [tq191_30]; exact rfl)
theorem tq191_31 : tT g 191 31 = s_putf g pI 191 34 7 12 := rfl
theorem A191_31 {L : AL} {r : List Value} {a : Nat} {v : Value} : aw g 191 31 L (v :: .ref a :: r) σ Q = (hty σ a = some 7 ∧ gB g ≤ a ∧ pI v ∧ aw g 191 34 L r (hput σ 7 a 12 v) Q) := (aw_eq g 191 31 _ _ _ _).trans (by rw [tq191_31]; exact rfl)
theorem tq191_34 : tT g 191 34 = s_const 191 35 (.int 0) := rfl
theorem A191_34 {L : AL} {r : List Value} : aw g 191 34 L r σ Q = aw g 191 35 L (.int 0 :: r) σ Q := (aw_eq g 191 34 _ _ _ _).trans (by rw [tq191_34]; exact rfl)
theorem tq191_35 : tT g 191 35 = s_store vI 191 36 3 := rfl
theorem A191_35 {l0 : Option Value} {l1 : Option Value} {l2 : Option Value} {l3 : Option Value} {l4 : Option Value} {x : Int32} {r : List Value} : aw g 191 35 [l0, l1, l2, l3, l4] (.int x :: r) σ Q = (oc l2 = true ∧ aw g 191 36 [l0, l1, l2, some (.int x), l4] r σ Q) := (aw_eq g 191 35 _ _ _ _).trans (by rw [tq191_35]; exact (h_store (o := oc l2) rfl rfl rfl).trans (propext ⟨fun z => z.2, fun z => ⟨rfl, z⟩⟩))
theorem tq191_36 : tT g 191 36 = s_load vI 191 37 3 := rfl
theorem A191_36 {l0 : Option Value} {l1 : Option Value} {l2 : Option Value} {l4 : Option Value} {x : Int32} {r : List Value} : aw g 191 36 [l0, l1, l2, some (.int x), l4] r σ Q = aw g 191 37 [l0, l1, l2, some (.int x), l4] (.int x :: r) σ Q := (aw_eq g 191 36 _ _ _ _).trans (by rw [tq191_36]; exact (h_load rfl).trans (propext ⟨fun z => z.2, fun z => ⟨rfl, z⟩⟩))
theorem tq191_37 : tT g 191 37 = s_const 191 39 (.int 6) := rfl
theorem A191_37 {L : AL} {r : List Value} : aw g 191 37 L r σ Q = aw g 191 39 L (.int 6 :: r) σ Q := (aw_eq g 191 37 _ _ _ _).trans (by rw [tq191_37]; exact rfl)
theorem tq191_39 : tT g 191 39 = s_icmp 191 42 65 (fun a b => b ≤ a) := rfl
theorem A191_39 {L : AL} {r : List Value} {a b : Int32} : aw g 191 39 L (.int b :: .int a :: r) σ Q = ((b ≤ a → aw g 191 65 L r σ Q) ∧ (¬ b ≤ a → aw g 191 42 L r σ Q)) := (aw_eq g 191 39 _ _ _ _).trans (by rw [tq191_39]; exact rfl)
theorem tq191_42 : tT g 191 42 = s_load vRf 191 43 2 := rfl
theorem A191_42 {l0 : Option Value} {l1 : Option Value} {l3 : Option Value} {l4 : Option Value} {x : Value} {r : List Value} : aw g 191 42 [l0, l1, some (x), l3, l4] r σ Q = (vRf x = true ∧ aw g 191 43 [l0, l1, some (x), l3, l4] (x :: r) σ Q) := (aw_eq g 191 42 _ _ _ _).trans (by rw [tq191_42]; exact h_load rfl)
theorem tq191_43 : tT g 191 43 = s_getf 191 46 7 14 := rfl
theorem A191_43 {L : AL} {r : List Value} {a : Nat} : aw g 191 43 L (.ref a :: r) σ Q = (hty σ a = some 7 ∧ aw g 191 46 L (hv σ 7 a 14 :: r) σ Q) := (aw_eq g 191 43 _ _ _ _).trans (by rw [tq191_43]; exact rfl)
theorem tq191_46 : tT g 191 46 = s_load vI 191 47 3 := rfl
theorem A191_46 {l0 : Option Value} {l1 : Option Value} {l2 : Option Value} {l4 : Option Value} {x : Int32} {r : List Value} : aw g 191 46 [l0, l1, l2, some (.int x), l4] r σ Q = aw g 191 47 [l0, l1, l2, some (.int x), l4] (.int x :: r) σ Q := (aw_eq g 191 46 _ _ _ _).trans (by rw [tq191_46]; exact (h_load rfl).trans (propext ⟨fun z => z.2, fun z => ⟨rfl, z⟩⟩))
theorem tq191_47 : tT g 191 47 = s_ald 191 48 20 := rfl
theorem A191_47 {L : AL} {r : List Value} {a : Nat} {i : Int32} : aw g 191 47 L (.int i :: .ref a :: r) σ Q = (hty σ a = some 20 ∧ ¬ i < 0 ∧ i.toNatClampNeg < hln σ a ∧ aw g 191 48 L (hv σ 20 a i.toNatClampNeg :: r) σ Q) := (aw_eq g 191 47 _ _ _ _).trans (by rw [tq191_47]; exact rfl)
theorem tq191_48 : tT g 191 48 = s_const 191 49 (.int 2) := rfl
theorem A191_48 {L : AL} {r : List Value} : aw g 191 48 L r σ Q = aw g 191 49 L (.int 2 :: r) σ Q := (aw_eq g 191 48 _ _ _ _).trans (by rw [tq191_48]; exact rfl)
theorem tq191_49 : tT g 191 49 = s_icmp 191 52 59 (fun a b => a = b) := rfl
theorem A191_49 {L : AL} {r : List Value} {a b : Int32} : aw g 191 49 L (.int b :: .int a :: r) σ Q = ((a = b → aw g 191 59 L r σ Q) ∧ (¬ a = b → aw g 191 52 L r σ Q)) := (aw_eq g 191 49 _ _ _ _).trans (by rw [tq191_49]; exact rfl)
theorem tq191_52 : tT g 191 52 = s_load vRf 191 53 2 := rfl
theorem A191_52 {l0 : Option Value} {l1 : Option Value} {l3 : Option Value} {l4 : Option Value} {x : Value} {r : List Value} : aw g 191 52 [l0, l1, some (x), l3, l4] r σ Q = (vRf x = true ∧ aw g 191 53 [l0, l1, some (x), l3, l4] (x :: r) σ Q) := (aw_eq g 191 52 _ _ _ _).trans (by rw [tq191_52]; exact h_load rfl)
theorem tq191_53 : tT g 191 53 = s_getf 191 56 7 14 := rfl
theorem A191_53 {L : AL} {r : List Value} {a : Nat} : aw g 191 53 L (.ref a :: r) σ Q = (hty σ a = some 7 ∧ aw g 191 56 L (hv σ 7 a 14 :: r) σ Q) := (aw_eq g 191 53 _ _ _ _).trans (by rw [tq191_53]; exact rfl)
theorem tq191_56 : tT g 191 56 = s_load vI 191 57 3 := rfl
theorem A191_56 {l0 : Option Value} {l1 : Option Value} {l2 : Option Value} {l4 : Option Value} {x : Int32} {r : List Value} : aw g 191 56 [l0, l1, l2, some (.int x), l4] r σ Q = aw g 191 57 [l0, l1, l2, some (.int x), l4] (.int x :: r) σ Q := (aw_eq g 191 56 _ _ _ _).trans (by rw [tq191_56]; exact (h_load rfl).trans (propext ⟨fun z => z.2, fun z => ⟨rfl, z⟩⟩))
theorem tq191_57 : tT g 191 57 = s_const 191 58 (.int 3) := rfl
theorem A191_57 {L : AL} {r : List Value} : aw g 191 57 L r σ Q = aw g 191 58 L (.int 3 :: r) σ Q := (aw_eq g 191 57 _ _ _ _).trans (by rw [tq191_57]; exact rfl)
theorem tq191_58 : tT g 191 58 = s_ast g (fun _ v => vI v = true) 191 59 20 := rfl
theorem A191_58 {L : AL} {r : List Value} {a : Nat} {i : Int32} {v : Value} : aw g 191 58 L (v :: .int i :: .ref a :: r) σ Q = (hty σ a = some 20 ∧ gB g ≤ a ∧ ¬ i < 0 ∧ i.toNatClampNeg < hln σ a ∧ vI v = true ∧ aw g 191 59 L r (hput σ 20 a i.toNatClampNeg v) Q) := (aw_eq g 191 58 _ _ _ _).trans (by rw [tq191_58]; exact rfl)
theorem tq191_59 : tT g 191 59 = s_iinc 191 62 3 1 := rfl
theorem A191_59 {l0 : Option Value} {l1 : Option Value} {l2 : Option Value} {l4 : Option Value} {x : Int32} {r : List Value} : aw g 191 59 [l0, l1, l2, some (.int x), l4] r σ Q = (oc l2 = true ∧ aw g 191 62 [l0, l1, l2, some (.int (x + 1)), l4] r σ Q) := (aw_eq g 191 59 _ _ _ _).trans (by rw [tq191_59]; exact (h_iinc (o := oc l2) rfl rfl rfl))
theorem tq191_62 : tT g 191 62 = s_goto 191 36 := rfl
theorem A191_62 {L : AL} {r : List Value} : aw g 191 62 L r σ Q = aw g 191 36 L r σ Q := (aw_eq g 191 62 _ _ _ _).trans (by rw [tq191_62]; exact rfl)
theorem tq191_65 : tT g 191 65 = s_load vRf 191 66 0 := rfl
theorem A191_65 {l1 : Option Value} {l2 : Option Value} {l3 : Option Value} {l4 : Option Value} {x : Value} {r : List Value} : aw g 191 65 [some (x), l1, l2, l3, l4] r σ Q = (vRf x = true ∧ aw g 191 66 [some (x), l1, l2, l3, l4] (x :: r) σ Q) := (aw_eq g 191 65 _ _ _ _).trans (by rw [tq191_65]; exact h_load rfl)
theorem tq191_66 : tT g 191 66 = s_getf 191 69 4 4 := rfl
theorem A191_66 {L : AL} {r : List Value} {a : Nat} : aw g 191 66 L (.ref a :: r) σ Q = (hty σ a = some 4 ∧ aw g 191 69 L (hv σ 4 a 4 :: r) σ Q) := (aw_eq g 191 66 _ _ _ _).trans (by rw [tq191_66]; exact rfl)
theorem tq191_69 : tT g 191 69 = s_load vI 191 70 1 := rfl
theorem A191_69 {l0 : Option Value} {l2 : Option Value} {l3 : Option Value} {l4 : Option Value} {x : Int32} {r : List Value} : aw g 191 69 [l0, some (.int x), l2, l3, l4] r σ Q = aw g 191 70 [l0, some (.int x), l2, l3, l4] (.int x :: r) σ Q := (aw_eq g 191 69 _ _ _ _).trans (by rw [tq191_69]; exact (h_load rfl).trans (propext ⟨fun z => z.2, fun z => ⟨rfl, z⟩⟩))
theorem tq191_70 : tT g 191 70 = s_icmp 191 78 73 (fun a b => a = b) := rfl
theorem A191_70 {L : AL} {r : List Value} {a b : Int32} : aw g 191 70 L (.int b :: .int a :: r) σ Q = ((a = b → aw g 191 73 L r σ Q) ∧ (¬ a = b → aw g 191 78 L r σ Q)) := (aw_eq g 191 70 _ _ _ _).trans (by rw [tq191_70]; exact rfl)
theorem tq191_73 : tT g 191 73 = s_load vRf 191 74 0 := rfl
theorem A191_73 {l1 : Option Value} {l2 : Option Value} {l3 : Option Value} {l4 : Option Value} {x : Value} {r : List Value} : aw g 191 73 [some (x), l1, l2, l3, l4] r σ Q = (vRf x = true ∧ aw g 191 74 [some (x), l1, l2, l3, l4] (x :: r) σ Q) := (aw_eq g 191 73 _ _ _ _).trans (by rw [tq191_73]; exact h_load rfl)
theorem tq191_74 : tT g 191 74 = s_const 191 75 (.int (-1)) := rfl
theorem A191_74 {L : AL} {r : List Value} : aw g 191 74 L r σ Q = aw g 191 75 L (.int (-1) :: r) σ Q := (aw_eq g 191 74 _ _ _ _).trans (by rw [tq191_74]; exact rfl)
theorem tq191_75 : tT g 191 75 = s_putf g pI 191 78 4 4 := rfl
theorem A191_75 {L : AL} {r : List Value} {a : Nat} {v : Value} : aw g 191 75 L (v :: .ref a :: r) σ Q = (hty σ a = some 4 ∧ gB g ≤ a ∧ pI v ∧ aw g 191 78 L r (hput σ 4 a 4 v) Q) := (aw_eq g 191 75 _ _ _ _).trans (by rw [tq191_75]; exact rfl)
theorem tq191_78 : tT g 191 78 = s_vret := rfl
theorem A191_78 {L : AL} : aw g 191 78 L [] σ Q = Q (.inl none) σ := (aw_eq g 191 78 _ _ _ _).trans (by rw [tq191_78]; exact rfl)
theorem tq191_79 : tT g 191 79 = s_load vRf 191 80 2 := rfl
theorem A191_79 {l0 : Option Value} {l1 : Option Value} {l3 : Option Value} {l4 : Option Value} {x : Value} {r : List Value} : aw g 191 79 [l0, l1, some (x), l3, l4] r σ Q = (vRf x = true ∧ aw g 191 80 [l0, l1, some (x), l3, l4] (x :: r) σ Q) := (aw_eq g 191 79 _ _ _ _).trans (by rw [tq191_79]; exact h_load rfl)
theorem tq191_80 : tT g 191 80 = s_getf 191 83 7 22 := rfl
theorem A191_80 {L : AL} {r : List Value} {a : Nat} : aw g 191 80 L (.ref a :: r) σ Q = (hty σ a = some 7 ∧ aw g 191 83 L (hv σ 7 a 22 :: r) σ Q) := (aw_eq g 191 80 _ _ _ _).trans (by rw [tq191_80]; exact rfl)
theorem tq191_83 : tT g 191 83 = s_callk 191 86 11 [0] 1 := rfl
theorem A191_83 {L : AL} {r : List Value} {w0 : Value} : aw g 191 83 L (w0 :: r) σ Q = ((vI w0 && true) = true ∧ csum r ≤ 8 ∧ aw g 11 0 [some w0] [] σ (kt (aw g) 191 86 L r Q)) := (aw_eq g 191 83 _ _ _ _).trans (by rw [tq191_83]; exact rfl)
theorem tq191_86 : tT g 191 86 = s_load vRf 191 87 2 := rfl
theorem A191_86 {l0 : Option Value} {l1 : Option Value} {l3 : Option Value} {l4 : Option Value} {x : Value} {r : List Value} : aw g 191 86 [l0, l1, some (x), l3, l4] r σ Q = (vRf x = true ∧ aw g 191 87 [l0, l1, some (x), l3, l4] (x :: r) σ Q) := (aw_eq g 191 86 _ _ _ _).trans (by rw [tq191_86]; exact h_load rfl)
theorem tq191_87 : tT g 191 87 = s_getf 191 90 7 21 := rfl
theorem A191_87 {L : AL} {r : List Value} {a : Nat} : aw g 191 87 L (.ref a :: r) σ Q = (hty σ a = some 7 ∧ aw g 191 90 L (hv σ 7 a 21 :: r) σ Q) := (aw_eq g 191 87 _ _ _ _).trans (by rw [tq191_87]; exact rfl)
theorem tq191_90 : tT g 191 90 = s_icmp 191 93 97 (fun a b => b < a) := rfl
theorem A191_90 {L : AL} {r : List Value} {a b : Int32} : aw g 191 90 L (.int b :: .int a :: r) σ Q = ((b < a → aw g 191 97 L r σ Q) ∧ (¬ b < a → aw g 191 93 L r σ Q)) := (aw_eq g 191 90 _ _ _ _).trans (by rw [tq191_90]; exact rfl)
theorem tq191_93 : tT g 191 93 = s_const 191 94 (.int 1) := rfl
theorem A191_93 {L : AL} {r : List Value} : aw g 191 93 L r σ Q = aw g 191 94 L (.int 1 :: r) σ Q := (aw_eq g 191 93 _ _ _ _).trans (by rw [tq191_93]; exact rfl)
theorem tq191_94 : tT g 191 94 = s_goto 191 98 := rfl
theorem A191_94 {L : AL} {r : List Value} : aw g 191 94 L r σ Q = aw g 191 98 L r σ Q := (aw_eq g 191 94 _ _ _ _).trans (by rw [tq191_94]; exact rfl)
theorem tq191_97 : tT g 191 97 = s_const 191 98 (.int 0) := rfl
theorem A191_97 {L : AL} {r : List Value} : aw g 191 97 L r σ Q = aw g 191 98 L (.int 0 :: r) σ Q := (aw_eq g 191 97 _ _ _ _).trans (by rw [tq191_97]; exact rfl)
theorem tq191_98 : tT g 191 98 = s_store vI 191 99 3 := rfl
theorem A191_98 {l0 : Option Value} {l1 : Option Value} {l2 : Option Value} {l3 : Option Value} {l4 : Option Value} {x : Int32} {r : List Value} : aw g 191 98 [l0, l1, l2, l3, l4] (.int x :: r) σ Q = (oc l2 = true ∧ aw g 191 99 [l0, l1, l2, some (.int x), l4] r σ Q) := (aw_eq g 191 98 _ _ _ _).trans (by rw [tq191_98]; exact (h_store (o := oc l2) rfl rfl rfl).trans (propext ⟨fun z => z.2, fun z => ⟨rfl, z⟩⟩))
theorem tq191_99 : tT g 191 99 = s_load vI 191 100 3 := rfl
theorem A191_99 {l0 : Option Value} {l1 : Option Value} {l2 : Option Value} {l4 : Option Value} {x : Int32} {r : List Value} : aw g 191 99 [l0, l1, l2, some (.int x), l4] r σ Q = aw g 191 100 [l0, l1, l2, some (.int x), l4] (.int x :: r) σ Q := (aw_eq g 191 99 _ _ _ _).trans (by rw [tq191_99]; exact (h_load rfl).trans (propext ⟨fun z => z.2, fun z => ⟨rfl, z⟩⟩))
theorem tq191_100 : tT g 191 100 = s_if 191 117 103 (fun a => a = 0) := rfl
theorem A191_100 {L : AL} {r : List Value} {a : Int32} : aw g 191 100 L (.int a :: r) σ Q = ((a = 0 → aw g 191 103 L r σ Q) ∧ (¬ a = 0 → aw g 191 117 L r σ Q)) := (aw_eq g 191 100 _ _ _ _).trans (by rw [tq191_100]; exact rfl)
theorem tq191_103 : tT g 191 103 = s_load vRf 191 104 0 := rfl
theorem A191_103 {l1 : Option Value} {l2 : Option Value} {l3 : Option Value} {l4 : Option Value} {x : Value} {r : List Value} : aw g 191 103 [some (x), l1, l2, l3, l4] r σ Q = (vRf x = true ∧ aw g 191 104 [some (x), l1, l2, l3, l4] (x :: r) σ Q) := (aw_eq g 191 103 _ _ _ _).trans (by rw [tq191_103]; exact h_load rfl)
theorem tq191_104 : tT g 191 104 = s_getf 191 107 4 1 := rfl
theorem A191_104 {L : AL} {r : List Value} {a : Nat} : aw g 191 104 L (.ref a :: r) σ Q = (hty σ a = some 4 ∧ aw g 191 107 L (hv σ 4 a 1 :: r) σ Q) := (aw_eq g 191 104 _ _ _ _).trans (by rw [tq191_104]; exact rfl)
theorem tq191_107 : tT g 191 107 = s_load vRf 191 108 2 := rfl
theorem A191_107 {l0 : Option Value} {l1 : Option Value} {l3 : Option Value} {l4 : Option Value} {x : Value} {r : List Value} : aw g 191 107 [l0, l1, some (x), l3, l4] r σ Q = (vRf x = true ∧ aw g 191 108 [l0, l1, some (x), l3, l4] (x :: r) σ Q) := (aw_eq g 191 107 _ _ _ _).trans (by rw [tq191_107]; exact h_load rfl)
theorem tq191_108 : tT g 191 108 = s_getf 191 111 7 23 := rfl
theorem A191_108 {L : AL} {r : List Value} {a : Nat} : aw g 191 108 L (.ref a :: r) σ Q = (hty σ a = some 7 ∧ aw g 191 111 L (hv σ 7 a 23 :: r) σ Q) := (aw_eq g 191 108 _ _ _ _).trans (by rw [tq191_108]; exact rfl)
theorem tq191_111 : tT g 191 111 = s_bin 191 112 (fun a b => a - b) := rfl
theorem A191_111 {L : AL} {r : List Value} {a b : Int32} : aw g 191 111 L (.int b :: .int a :: r) σ Q = aw g 191 112 L (.int (a - b) :: r) σ Q := (aw_eq g 191 111 _ _ _ _).trans (by rw [tq191_111]; exact rfl)
theorem tq191_112 : tT g 191 112 = s_const 191 114 (.int 12) := rfl
theorem A191_112 {L : AL} {r : List Value} : aw g 191 112 L r σ Q = aw g 191 114 L (.int 12 :: r) σ Q := (aw_eq g 191 112 _ _ _ _).trans (by rw [tq191_112]; exact rfl)
theorem tq191_114 : tT g 191 114 = s_icmp 191 117 142 (fun a b => a < b) := rfl
theorem A191_114 {L : AL} {r : List Value} {a b : Int32} : aw g 191 114 L (.int b :: .int a :: r) σ Q = ((a < b → aw g 191 142 L r σ Q) ∧ (¬ a < b → aw g 191 117 L r σ Q)) := (aw_eq g 191 114 _ _ _ _).trans (by rw [tq191_114]; exact rfl)
theorem tq191_117 : tT g 191 117 = s_load vRf 191 118 0 := rfl
theorem A191_117 {l1 : Option Value} {l2 : Option Value} {l3 : Option Value} {l4 : Option Value} {x : Value} {r : List Value} : aw g 191 117 [some (x), l1, l2, l3, l4] r σ Q = (vRf x = true ∧ aw g 191 118 [some (x), l1, l2, l3, l4] (x :: r) σ Q) := (aw_eq g 191 117 _ _ _ _).trans (by rw [tq191_117]; exact h_load rfl)
theorem tq191_118 : tT g 191 118 = s_load vRf 191 119 2 := rfl
theorem A191_118 {l0 : Option Value} {l1 : Option Value} {l3 : Option Value} {l4 : Option Value} {x : Value} {r : List Value} : aw g 191 118 [l0, l1, some (x), l3, l4] r σ Q = (vRf x = true ∧ aw g 191 119 [l0, l1, some (x), l3, l4] (x :: r) σ Q) := (aw_eq g 191 118 _ _ _ _).trans (by rw [tq191_118]; exact h_load rfl)
theorem tq191_119 : tT g 191 119 = s_callvk 191 122 178 4 [1] 2 := rfl
theorem A191_119 {L : AL} {r : List Value} {a : Nat} {w0 : Value} : aw g 191 119 L (w0 :: .ref a :: r) σ Q = (hty σ a = some 4 ∧ (vRf w0 && true) = true ∧ csum r ≤ 8 ∧ aw g 178 0 [some (.ref a), some w0] [] σ (kt (aw g) 191 122 L r Q)) := (aw_eq g 191 119 _ _ _ _).trans (by rw [tq191_119]; exact rfl)
theorem tq191_122 : tT g 191 122 = s_load vRf 191 123 2 := rfl
theorem A191_122 {l0 : Option Value} {l1 : Option Value} {l3 : Option Value} {l4 : Option Value} {x : Value} {r : List Value} : aw g 191 122 [l0, l1, some (x), l3, l4] r σ Q = (vRf x = true ∧ aw g 191 123 [l0, l1, some (x), l3, l4] (x :: r) σ Q) := (aw_eq g 191 122 _ _ _ _).trans (by rw [tq191_122]; exact h_load rfl)
theorem tq191_123 : tT g 191 123 = s_const 191 124 (.int 1) := rfl
theorem A191_123 {L : AL} {r : List Value} : aw g 191 123 L r σ Q = aw g 191 124 L (.int 1 :: r) σ Q := (aw_eq g 191 123 _ _ _ _).trans (by rw [tq191_123]; exact rfl)
theorem tq191_124 : tT g 191 124 = s_putf g vZ 191 127 7 20 := rfl
theorem A191_124 {L : AL} {r : List Value} {a : Nat} {v : Value} : aw g 191 124 L (v :: .ref a :: r) σ Q = (hty σ a = some 7 ∧ gB g ≤ a ∧ vZ v ∧ aw g 191 127 L r (hput σ 7 a 20 v) Q) := (aw_eq g 191 124 _ _ _ _).trans (by rw [tq191_124]; exact rfl)
theorem tq191_127 : tT g 191 127 = s_load vRf 191 128 2 := rfl
theorem A191_127 {l0 : Option Value} {l1 : Option Value} {l3 : Option Value} {l4 : Option Value} {x : Value} {r : List Value} : aw g 191 127 [l0, l1, some (x), l3, l4] r σ Q = (vRf x = true ∧ aw g 191 128 [l0, l1, some (x), l3, l4] (x :: r) σ Q) := (aw_eq g 191 127 _ _ _ _).trans (by rw [tq191_127]; exact h_load rfl)
theorem tq191_128 : tT g 191 128 = s_dup 191 129 := rfl
theorem A191_128 {L : AL} {r : List Value} {v : Value} : aw g 191 128 L (v :: r) σ Q = (v.category = 1 ∧ aw g 191 129 L (v :: v :: r) σ Q) := (aw_eq g 191 128 _ _ _ _).trans (by rw [tq191_128]; exact rfl)
theorem tq191_129 : tT g 191 129 = s_getf 191 132 7 24 := rfl
theorem A191_129 {L : AL} {r : List Value} {a : Nat} : aw g 191 129 L (.ref a :: r) σ Q = (hty σ a = some 7 ∧ aw g 191 132 L (hv σ 7 a 24 :: r) σ Q) := (aw_eq g 191 129 _ _ _ _).trans (by rw [tq191_129]; exact rfl)
theorem tq191_132 : tT g 191 132 = s_const 191 133 (.int 1) := rfl
theorem A191_132 {L : AL} {r : List Value} : aw g 191 132 L r σ Q = aw g 191 133 L (.int 1 :: r) σ Q := (aw_eq g 191 132 _ _ _ _).trans (by rw [tq191_132]; exact rfl)
theorem tq191_133 : tT g 191 133 = s_bin 191 134 (fun a b => a + b) := rfl
theorem A191_133 {L : AL} {r : List Value} {a b : Int32} : aw g 191 133 L (.int b :: .int a :: r) σ Q = aw g 191 134 L (.int (a + b) :: r) σ Q := (aw_eq g 191 133 _ _ _ _).trans (by rw [tq191_133]; exact rfl)
theorem tq191_134 : tT g 191 134 = s_putf g pI 191 137 7 24 := rfl
theorem A191_134 {L : AL} {r : List Value} {a : Nat} {v : Value} : aw g 191 134 L (v :: .ref a :: r) σ Q = (hty σ a = some 7 ∧ gB g ≤ a ∧ pI v ∧ aw g 191 137 L r (hput σ 7 a 24 v) Q) := (aw_eq g 191 134 _ _ _ _).trans (by rw [tq191_134]; exact rfl)
theorem tq191_137 : tT g 191 137 = s_load vRf 191 138 2 := rfl
theorem A191_137 {l0 : Option Value} {l1 : Option Value} {l3 : Option Value} {l4 : Option Value} {x : Value} {r : List Value} : aw g 191 137 [l0, l1, some (x), l3, l4] r σ Q = (vRf x = true ∧ aw g 191 138 [l0, l1, some (x), l3, l4] (x :: r) σ Q) := (aw_eq g 191 137 _ _ _ _).trans (by rw [tq191_137]; exact h_load rfl)
theorem tq191_138 : tT g 191 138 = s_load vI 191 139 3 := rfl
theorem A191_138 {l0 : Option Value} {l1 : Option Value} {l2 : Option Value} {l4 : Option Value} {x : Int32} {r : List Value} : aw g 191 138 [l0, l1, l2, some (.int x), l4] r σ Q = aw g 191 139 [l0, l1, l2, some (.int x), l4] (.int x :: r) σ Q := (aw_eq g 191 138 _ _ _ _).trans (by rw [tq191_138]; exact (h_load rfl).trans (propext ⟨fun z => z.2, fun z => ⟨rfl, z⟩⟩))
theorem tq191_139 : tT g 191 139 = s_putf g vZ 191 142 7 19 := rfl
theorem A191_139 {L : AL} {r : List Value} {a : Nat} {v : Value} : aw g 191 139 L (v :: .ref a :: r) σ Q = (hty σ a = some 7 ∧ gB g ≤ a ∧ vZ v ∧ aw g 191 142 L r (hput σ 7 a 19 v) Q) := (aw_eq g 191 139 _ _ _ _).trans (by rw [tq191_139]; exact rfl)
theorem tq191_142 : tT g 191 142 = s_const 191 143 (.int 0) := rfl
theorem A191_142 {L : AL} {r : List Value} : aw g 191 142 L r σ Q = aw g 191 143 L (.int 0 :: r) σ Q := (aw_eq g 191 142 _ _ _ _).trans (by rw [tq191_142]; exact rfl)
theorem tq191_143 : tT g 191 143 = s_store vI 191 145 4 := rfl
theorem A191_143 {l0 : Option Value} {l1 : Option Value} {l2 : Option Value} {l3 : Option Value} {l4 : Option Value} {x : Int32} {r : List Value} : aw g 191 143 [l0, l1, l2, l3, l4] (.int x :: r) σ Q = (oc l3 = true ∧ aw g 191 145 [l0, l1, l2, l3, some (.int x)] r σ Q) := (aw_eq g 191 143 _ _ _ _).trans (by rw [tq191_143]; exact (h_store (o := oc l3) rfl rfl rfl).trans (propext ⟨fun z => z.2, fun z => ⟨rfl, z⟩⟩))
theorem tq191_145 : tT g 191 145 = s_load vI 191 147 4 := rfl
theorem A191_145 {l0 : Option Value} {l1 : Option Value} {l2 : Option Value} {l3 : Option Value} {x : Int32} {r : List Value} : aw g 191 145 [l0, l1, l2, l3, some (.int x)] r σ Q = aw g 191 147 [l0, l1, l2, l3, some (.int x)] (.int x :: r) σ Q := (aw_eq g 191 145 _ _ _ _).trans (by rw [tq191_145]; exact (h_load rfl).trans (propext ⟨fun z => z.2, fun z => ⟨rfl, z⟩⟩))
theorem tq191_147 : tT g 191 147 = s_load vRf 191 148 2 := rfl
theorem A191_147 {l0 : Option Value} {l1 : Option Value} {l3 : Option Value} {l4 : Option Value} {x : Value} {r : List Value} : aw g 191 147 [l0, l1, some (x), l3, l4] r σ Q = (vRf x = true ∧ aw g 191 148 [l0, l1, some (x), l3, l4] (x :: r) σ Q) := (aw_eq g 191 147 _ _ _ _).trans (by rw [tq191_147]; exact h_load rfl)
theorem tq191_148 : tT g 191 148 = s_getf 191 151 7 21 := rfl
theorem A191_148 {L : AL} {r : List Value} {a : Nat} : aw g 191 148 L (.ref a :: r) σ Q = (hty σ a = some 7 ∧ aw g 191 151 L (hv σ 7 a 21 :: r) σ Q) := (aw_eq g 191 148 _ _ _ _).trans (by rw [tq191_148]; exact rfl)
theorem tq191_151 : tT g 191 151 = s_icmp 191 154 175 (fun a b => b ≤ a) := rfl
theorem A191_151 {L : AL} {r : List Value} {a b : Int32} : aw g 191 151 L (.int b :: .int a :: r) σ Q = ((b ≤ a → aw g 191 175 L r σ Q) ∧ (¬ b ≤ a → aw g 191 154 L r σ Q)) := (aw_eq g 191 151 _ _ _ _).trans (by rw [tq191_151]; exact rfl)
theorem tq191_154 : tT g 191 154 = s_load vRf 191 155 2 := rfl
theorem A191_154 {l0 : Option Value} {l1 : Option Value} {l3 : Option Value} {l4 : Option Value} {x : Value} {r : List Value} : aw g 191 154 [l0, l1, some (x), l3, l4] r σ Q = (vRf x = true ∧ aw g 191 155 [l0, l1, some (x), l3, l4] (x :: r) σ Q) := (aw_eq g 191 154 _ _ _ _).trans (by rw [tq191_154]; exact h_load rfl)
theorem tq191_155 : tT g 191 155 = s_dup 191 156 := rfl
theorem A191_155 {L : AL} {r : List Value} {v : Value} : aw g 191 155 L (v :: r) σ Q = (v.category = 1 ∧ aw g 191 156 L (v :: v :: r) σ Q) := (aw_eq g 191 155 _ _ _ _).trans (by rw [tq191_155]; exact rfl)
theorem tq191_156 : tT g 191 156 = s_getf 191 159 7 22 := rfl
theorem A191_156 {L : AL} {r : List Value} {a : Nat} : aw g 191 156 L (.ref a :: r) σ Q = (hty σ a = some 7 ∧ aw g 191 159 L (hv σ 7 a 22 :: r) σ Q) := (aw_eq g 191 156 _ _ _ _).trans (by rw [tq191_156]; exact rfl)
theorem tq191_159 : tT g 191 159 = s_load vRf 191 160 2 := rfl
theorem A191_159 {l0 : Option Value} {l1 : Option Value} {l3 : Option Value} {l4 : Option Value} {x : Value} {r : List Value} : aw g 191 159 [l0, l1, some (x), l3, l4] r σ Q = (vRf x = true ∧ aw g 191 160 [l0, l1, some (x), l3, l4] (x :: r) σ Q) := (aw_eq g 191 159 _ _ _ _).trans (by rw [tq191_159]; exact h_load rfl)
theorem tq191_160 : tT g 191 160 = s_getf 191 163 7 22 := rfl
theorem A191_160 {L : AL} {r : List Value} {a : Nat} : aw g 191 160 L (.ref a :: r) σ Q = (hty σ a = some 7 ∧ aw g 191 163 L (hv σ 7 a 22 :: r) σ Q) := (aw_eq g 191 160 _ _ _ _).trans (by rw [tq191_160]; exact rfl)
theorem tq191_163 : tT g 191 163 = s_const 191 164 (.int 1) := rfl
theorem A191_163 {L : AL} {r : List Value} : aw g 191 163 L r σ Q = aw g 191 164 L (.int 1 :: r) σ Q := (aw_eq g 191 163 _ _ _ _).trans (by rw [tq191_163]; exact rfl)
theorem tq191_164 : tT g 191 164 = s_bin 191 165 (fun a b => a - b) := rfl
theorem A191_164 {L : AL} {r : List Value} {a b : Int32} : aw g 191 164 L (.int b :: .int a :: r) σ Q = aw g 191 165 L (.int (a - b) :: r) σ Q := (aw_eq g 191 164 _ _ _ _).trans (by rw [tq191_164]; exact rfl)
theorem tq191_165 : tT g 191 165 = s_bin 191 166 (fun a b => a &&& b) := rfl
theorem A191_165 {L : AL} {r : List Value} {a b : Int32} : aw g 191 165 L (.int b :: .int a :: r) σ Q = aw g 191 166 L (.int (a &&& b) :: r) σ Q := (aw_eq g 191 165 _ _ _ _).trans (by rw [tq191_165]; exact rfl)
theorem tq191_166 : tT g 191 166 = s_putf g pI 191 169 7 22 := rfl
theorem A191_166 {L : AL} {r : List Value} {a : Nat} {v : Value} : aw g 191 166 L (v :: .ref a :: r) σ Q = (hty σ a = some 7 ∧ gB g ≤ a ∧ pI v ∧ aw g 191 169 L r (hput σ 7 a 22 v) Q) := (aw_eq g 191 166 _ _ _ _).trans (by rw [tq191_166]; exact rfl)
theorem tq191_169 : tT g 191 169 = s_iinc 191 172 4 1 := rfl
theorem A191_169 {l0 : Option Value} {l1 : Option Value} {l2 : Option Value} {l3 : Option Value} {x : Int32} {r : List Value} : aw g 191 169 [l0, l1, l2, l3, some (.int x)] r σ Q = (oc l3 = true ∧ aw g 191 172 [l0, l1, l2, l3, some (.int (x + 1))] r σ Q) := (aw_eq g 191 169 _ _ _ _).trans (by rw [tq191_169]; exact (h_iinc (o := oc l3) rfl rfl rfl))
theorem tq191_172 : tT g 191 172 = s_goto 191 145 := rfl
theorem A191_172 {L : AL} {r : List Value} : aw g 191 172 L r σ Q = aw g 191 145 L r σ Q := (aw_eq g 191 172 _ _ _ _).trans (by rw [tq191_172]; exact rfl)
theorem tq191_175 : tT g 191 175 = s_vret := rfl
theorem A191_175 {L : AL} : aw g 191 175 L [] σ Q = Q (.inl none) σ := (aw_eq g 191 175 _ _ _ _).trans (by rw [tq191_175]; exact rfl)
theorem tq192_0 : tT g 192 0 = s_new g 192 3 4 10 (fun k => defaultValue (tyX5 k)) := rfl
theorem A192_0 {L : AL} {r : List Value} : aw g 192 0 L r σ Q = (hsz σ + 1 ≤ gC g ∧ hsl σ + 10 ≤ gS g ∧ aw g 192 3 L (.ref (hsz σ) :: r) (hnew σ 4 0 (fun k => defaultValue (tyX5 k)) 10) Q) := (aw_eq g 192 0 _ _ _ _).trans (by rw [tq192_0]; exact rfl)
theorem tq192_3 : tT g 192 3 = s_dup 192 4 := rfl
theorem A192_3 {L : AL} {r : List Value} {v : Value} : aw g 192 3 L (v :: r) σ Q = (v.category = 1 ∧ aw g 192 4 L (v :: v :: r) σ Q) := (aw_eq g 192 3 _ _ _ _).trans (by rw [tq192_3]; exact rfl)
theorem tq192_4 : tT g 192 4 = s_callik 192 7 177 [] 1 := rfl
theorem A192_4 {L : AL} {r : List Value} {a : Nat} : aw g 192 4 L (.ref a :: r) σ Q = (true = true ∧ csum r ≤ 8 ∧ aw g 177 0 [some (.ref a)] [] σ (kt (aw g) 192 7 L r Q)) := (aw_eq g 192 4 _ _ _ _).trans (by rw [tq192_4]; exact rfl)
theorem tq192_7 : tT g 192 7 = s_store vRf 192 8 1 := rfl
theorem A192_7 {l0 : Option Value} {l1 : Option Value} {l2 : Option Value} {l3 : Option Value} {x : Value} {r : List Value} : aw g 192 7 [l0, l1, l2, l3] (x :: r) σ Q = (vRf x = true ∧ oc l0 = true ∧ aw g 192 8 [l0, some (x), l2, l3] r σ Q) := (aw_eq g 192 7 _ _ _ _).trans (by rw [tq192_7]; exact (h_store (o := oc l0) rfl rfl rfl))
theorem tq192_8 : tT g 192 8 = s_load vRf 192 9 0 := rfl
theorem A192_8 {l1 : Option Value} {l2 : Option Value} {l3 : Option Value} {x : Value} {r : List Value} : aw g 192 8 [some (x), l1, l2, l3] r σ Q = (vRf x = true ∧ aw g 192 9 [some (x), l1, l2, l3] (x :: r) σ Q) := (aw_eq g 192 8 _ _ _ _).trans (by rw [tq192_8]; exact h_load rfl)
theorem tq192_9 : tT g 192 9 = s_getf 192 12 4 0 := rfl
theorem A192_9 {L : AL} {r : List Value} {a : Nat} : aw g 192 9 L (.ref a :: r) σ Q = (hty σ a = some 4 ∧ aw g 192 12 L (hv σ 4 a 0 :: r) σ Q) := (aw_eq g 192 9 _ _ _ _).trans (by rw [tq192_9]; exact rfl)
theorem tq192_12 : tT g 192 12 = s_callvk 192 15 22 10 [] 1 := rfl
theorem A192_12 {L : AL} {r : List Value} {a : Nat} : aw g 192 12 L (.ref a :: r) σ Q = (hty σ a = some 10 ∧ true = true ∧ csum r ≤ 8 ∧ aw g 22 0 [some (.ref a)] [] σ (kt (aw g) 192 15 L r Q)) := (aw_eq g 192 12 _ _ _ _).trans (by rw [tq192_12]; exact rfl)
theorem tq192_15 : tT g 192 15 = s_store vRf 192 16 2 := rfl
theorem A192_15 {l0 : Option Value} {l1 : Option Value} {l2 : Option Value} {l3 : Option Value} {x : Value} {r : List Value} : aw g 192 15 [l0, l1, l2, l3] (x :: r) σ Q = (vRf x = true ∧ oc l1 = true ∧ aw g 192 16 [l0, l1, some (x), l3] r σ Q) := (aw_eq g 192 15 _ _ _ _).trans (by rw [tq192_15]; exact (h_store (o := oc l1) rfl rfl rfl))
theorem tq192_16 : tT g 192 16 = s_load vRf 192 17 2 := rfl
theorem A192_16 {l0 : Option Value} {l1 : Option Value} {l3 : Option Value} {x : Value} {r : List Value} : aw g 192 16 [l0, l1, some (x), l3] r σ Q = (vRf x = true ∧ aw g 192 17 [l0, l1, some (x), l3] (x :: r) σ Q) := (aw_eq g 192 16 _ _ _ _).trans (by rw [tq192_16]; exact h_load rfl)
theorem tq192_17 : tT g 192 17 = s_callvk 192 22 3 11 [] 1 := rfl
theorem A192_17 {L : AL} {r : List Value} {a : Nat} : aw g 192 17 L (.ref a :: r) σ Q = (hty σ a = some 11 ∧ true = true ∧ csum r ≤ 8 ∧ aw g 3 0 [some (.ref a)] [] σ (kt (aw g) 192 22 L r Q)) := (aw_eq g 192 17 _ _ _ _).trans (by rw [tq192_17]; exact rfl)
theorem tq192_22 : tT g 192 22 = s_if 192 25 50 (fun a => a = 0) := rfl
theorem A192_22 {L : AL} {r : List Value} {a : Int32} : aw g 192 22 L (.int a :: r) σ Q = ((a = 0 → aw g 192 50 L r σ Q) ∧ (¬ a = 0 → aw g 192 25 L r σ Q)) := (aw_eq g 192 22 _ _ _ _).trans (by rw [tq192_22]; exact rfl)
theorem tq192_25 : tT g 192 25 = s_load vRf 192 26 2 := rfl
theorem A192_25 {l0 : Option Value} {l1 : Option Value} {l3 : Option Value} {x : Value} {r : List Value} : aw g 192 25 [l0, l1, some (x), l3] r σ Q = (vRf x = true ∧ aw g 192 26 [l0, l1, some (x), l3] (x :: r) σ Q) := (aw_eq g 192 25 _ _ _ _).trans (by rw [tq192_25]; exact h_load rfl)
theorem tq192_26 : tT g 192 26 = s_callvk 192 31 4 11 [] 3 := rfl
theorem A192_26 {L : AL} {r : List Value} {a : Nat} : aw g 192 26 L (.ref a :: r) σ Q = (hty σ a = some 11 ∧ true = true ∧ csum r ≤ 8 ∧ aw g 4 0 [some (.ref a), none, none] [] σ (kt (aw g) 192 31 L r Q)) := (aw_eq g 192 26 _ _ _ _).trans (by rw [tq192_26]; exact rfl)
theorem tq192_31 : tT g 192 31 = s_cast 192 34 [7] := rfl
theorem A192_31 {L : AL} {r : List Value} : aw g 192 31 L (.null :: r) σ Q = aw g 192 34 L (.null :: r) σ Q := (aw_eq g 192 31 _ _ _ _).trans (by rw [tq192_31]; exact rfl)
theorem A192_31r {L : AL} {r : List Value} {a : Nat} : aw g 192 31 L (.ref a :: r) σ Q = (hty σ a = some 7 ∧ aw g 192 34 L (.ref a :: r) σ Q) := (aw_eq g 192 31 _ _ _ _).trans (by rw [tq192_31]; exact propext ⟨fun z => (by obtain ⟨⟨u, hu, hu2⟩, z2⟩ := z; rw [List.mem_singleton] at hu; subst hu; exact ⟨hu2, z2⟩), fun z => ⟨⟨_, List.mem_cons_self, z.1⟩, z.2⟩⟩)
theorem tq192_34 : tT g 192 34 = s_store vRf 192 35 3 := rfl
theorem A192_34 {l0 : Option Value} {l1 : Option Value} {l2 : Option Value} {l3 : Option Value} {x : Value} {r : List Value} : aw g 192 34 [l0, l1, l2, l3] (x :: r) σ Q = (vRf x = true ∧ oc l2 = true ∧ aw g 192 35 [l0, l1, l2, some (x)] r σ Q) := (aw_eq g 192 34 _ _ _ _).trans (by rw [tq192_34]; exact (h_store (o := oc l2) rfl rfl rfl))
theorem tq192_35 : tT g 192 35 = s_load vRf 192 36 1 := rfl
theorem A192_35 {l0 : Option Value} {l2 : Option Value} {l3 : Option Value} {x : Value} {r : List Value} : aw g 192 35 [l0, some (x), l2, l3] r σ Q = (vRf x = true ∧ aw g 192 36 [l0, some (x), l2, l3] (x :: r) σ Q) := (aw_eq g 192 35 _ _ _ _).trans (by rw [tq192_35]; exact h_load rfl)
theorem tq192_36 : tT g 192 36 = s_getf 192 39 4 0 := rfl
theorem A192_36 {L : AL} {r : List Value} {a : Nat} : aw g 192 36 L (.ref a :: r) σ Q = (hty σ a = some 4 ∧ aw g 192 39 L (hv σ 4 a 0 :: r) σ Q) := (aw_eq g 192 36 _ _ _ _).trans (by rw [tq192_36]; exact rfl)
theorem tq192_39 : tT g 192 39 = s_load vRf 192 40 3 := rfl
theorem A192_39 {l0 : Option Value} {l1 : Option Value} {l2 : Option Value} {x : Value} {r : List Value} : aw g 192 39 [l0, l1, l2, some (x)] r σ Q = (vRf x = true ∧ aw g 192 40 [l0, l1, l2, some (x)] (x :: r) σ Q) := (aw_eq g 192 39 _ _ _ _).trans (by rw [tq192_39]; exact h_load rfl)
theorem tq192_40 : tT g 192 40 = s_callvk 192 43 210 7 [] 5 := rfl
theorem A192_40 {L : AL} {r : List Value} {a : Nat} : aw g 192 40 L (.ref a :: r) σ Q = (hty σ a = some 7 ∧ true = true ∧ csum r ≤ 8 ∧ aw g 210 0 [some (.ref a), none, none, none, none] [] σ (kt (aw g) 192 43 L r Q)) := (aw_eq g 192 40 _ _ _ _).trans (by rw [tq192_40]; exact rfl)
theorem tq192_43 : tT g 192 43 = s_callvk 192 46 18 10 [1] 2 := rfl
theorem A192_43 {L : AL} {r : List Value} {a : Nat} {w0 : Value} : aw g 192 43 L (w0 :: .ref a :: r) σ Q = (hty σ a = some 10 ∧ (vRf w0 && true) = true ∧ csum r ≤ 8 ∧ aw g 18 0 [some (.ref a), some w0] [] σ (kt (aw g) 192 46 L r Q)) := (aw_eq g 192 43 _ _ _ _).trans (by rw [tq192_43]; exact rfl)
theorem tq192_46 : tT g 192 46 = s_pop 192 47 := rfl
theorem A192_46 {L : AL} {r : List Value} {v : Value} : aw g 192 46 L (v :: r) σ Q = (v.category = 1 ∧ aw g 192 47 L r σ Q) := (aw_eq g 192 46 _ _ _ _).trans (by rw [tq192_46]; exact rfl)
theorem tq192_47 : tT g 192 47 = s_goto 192 16 := rfl
theorem A192_47 {L : AL} {r : List Value} : aw g 192 47 L r σ Q = aw g 192 16 L r σ Q := (aw_eq g 192 47 _ _ _ _).trans (by rw [tq192_47]; exact rfl)
theorem tq192_50 : tT g 192 50 = s_load vRf 192 51 1 := rfl
theorem A192_50 {l0 : Option Value} {l2 : Option Value} {l3 : Option Value} {x : Value} {r : List Value} : aw g 192 50 [l0, some (x), l2, l3] r σ Q = (vRf x = true ∧ aw g 192 51 [l0, some (x), l2, l3] (x :: r) σ Q) := (aw_eq g 192 50 _ _ _ _).trans (by rw [tq192_50]; exact h_load rfl)
theorem tq192_51 : tT g 192 51 = s_load vRf 192 52 0 := rfl
theorem A192_51 {l1 : Option Value} {l2 : Option Value} {l3 : Option Value} {x : Value} {r : List Value} : aw g 192 51 [some (x), l1, l2, l3] r σ Q = (vRf x = true ∧ aw g 192 52 [some (x), l1, l2, l3] (x :: r) σ Q) := (aw_eq g 192 51 _ _ _ _).trans (by rw [tq192_51]; exact h_load rfl)
theorem tq192_52 : tT g 192 52 = s_getf 192 55 4 1 := rfl
theorem A192_52 {L : AL} {r : List Value} {a : Nat} : aw g 192 52 L (.ref a :: r) σ Q = (hty σ a = some 4 ∧ aw g 192 55 L (hv σ 4 a 1 :: r) σ Q) := (aw_eq g 192 52 _ _ _ _).trans (by rw [tq192_52]; exact rfl)
theorem tq192_55 : tT g 192 55 = s_putf g pI 192 58 4 1 := rfl
theorem A192_55 {L : AL} {r : List Value} {a : Nat} {v : Value} : aw g 192 55 L (v :: .ref a :: r) σ Q = (hty σ a = some 4 ∧ gB g ≤ a ∧ pI v ∧ aw g 192 58 L r (hput σ 4 a 1 v) Q) := (aw_eq g 192 55 _ _ _ _).trans (by rw [tq192_55]; exact rfl)
theorem tq192_58 : tT g 192 58 = s_load vRf 192 59 1 := rfl
theorem A192_58 {l0 : Option Value} {l2 : Option Value} {l3 : Option Value} {x : Value} {r : List Value} : aw g 192 58 [l0, some (x), l2, l3] r σ Q = (vRf x = true ∧ aw g 192 59 [l0, some (x), l2, l3] (x :: r) σ Q) := (aw_eq g 192 58 _ _ _ _).trans (by rw [tq192_58]; exact h_load rfl)
theorem tq192_59 : tT g 192 59 = s_load vRf 192 60 0 := rfl
theorem A192_59 {l1 : Option Value} {l2 : Option Value} {l3 : Option Value} {x : Value} {r : List Value} : aw g 192 59 [some (x), l1, l2, l3] r σ Q = (vRf x = true ∧ aw g 192 60 [some (x), l1, l2, l3] (x :: r) σ Q) := (aw_eq g 192 59 _ _ _ _).trans (by rw [tq192_59]; exact h_load rfl)
theorem tq192_60 : tT g 192 60 = s_getf 192 63 4 2 := rfl
theorem A192_60 {L : AL} {r : List Value} {a : Nat} : aw g 192 60 L (.ref a :: r) σ Q = (hty σ a = some 4 ∧ aw g 192 63 L (hv σ 4 a 2 :: r) σ Q) := (aw_eq g 192 60 _ _ _ _).trans (by rw [tq192_60]; exact rfl)
theorem tq192_63 : tT g 192 63 = s_putf g pI 192 66 4 2 := rfl
theorem A192_63 {L : AL} {r : List Value} {a : Nat} {v : Value} : aw g 192 63 L (v :: .ref a :: r) σ Q = (hty σ a = some 4 ∧ gB g ≤ a ∧ pI v ∧ aw g 192 66 L r (hput σ 4 a 2 v) Q) := (aw_eq g 192 63 _ _ _ _).trans (by rw [tq192_63]; exact rfl)
theorem tq192_66 : tT g 192 66 = s_load vRf 192 67 1 := rfl
theorem A192_66 {l0 : Option Value} {l2 : Option Value} {l3 : Option Value} {x : Value} {r : List Value} : aw g 192 66 [l0, some (x), l2, l3] r σ Q = (vRf x = true ∧ aw g 192 67 [l0, some (x), l2, l3] (x :: r) σ Q) := (aw_eq g 192 66 _ _ _ _).trans (by rw [tq192_66]; exact h_load rfl)
theorem tq192_67 : tT g 192 67 = s_load vRf 192 68 0 := rfl
theorem A192_67 {l1 : Option Value} {l2 : Option Value} {l3 : Option Value} {x : Value} {r : List Value} : aw g 192 67 [some (x), l1, l2, l3] r σ Q = (vRf x = true ∧ aw g 192 68 [some (x), l1, l2, l3] (x :: r) σ Q) := (aw_eq g 192 67 _ _ _ _).trans (by rw [tq192_67]; exact h_load rfl)
theorem tq192_68 : tT g 192 68 = s_getf 192 71 4 3 := rfl
theorem A192_68 {L : AL} {r : List Value} {a : Nat} : aw g 192 68 L (.ref a :: r) σ Q = (hty σ a = some 4 ∧ aw g 192 71 L (hv σ 4 a 3 :: r) σ Q) := (aw_eq g 192 68 _ _ _ _).trans (by rw [tq192_68]; exact rfl)
theorem tq192_71 : tT g 192 71 = s_putf g pI 192 74 4 3 := rfl
theorem A192_71 {L : AL} {r : List Value} {a : Nat} {v : Value} : aw g 192 71 L (v :: .ref a :: r) σ Q = (hty σ a = some 4 ∧ gB g ≤ a ∧ pI v ∧ aw g 192 74 L r (hput σ 4 a 3 v) Q) := (aw_eq g 192 71 _ _ _ _).trans (by rw [tq192_71]; exact rfl)
theorem tq192_74 : tT g 192 74 = s_load vRf 192 75 1 := rfl
theorem A192_74 {l0 : Option Value} {l2 : Option Value} {l3 : Option Value} {x : Value} {r : List Value} : aw g 192 74 [l0, some (x), l2, l3] r σ Q = (vRf x = true ∧ aw g 192 75 [l0, some (x), l2, l3] (x :: r) σ Q) := (aw_eq g 192 74 _ _ _ _).trans (by rw [tq192_74]; exact h_load rfl)
theorem tq192_75 : tT g 192 75 = s_load vRf 192 76 0 := rfl
theorem A192_75 {l1 : Option Value} {l2 : Option Value} {l3 : Option Value} {x : Value} {r : List Value} : aw g 192 75 [some (x), l1, l2, l3] r σ Q = (vRf x = true ∧ aw g 192 76 [some (x), l1, l2, l3] (x :: r) σ Q) := (aw_eq g 192 75 _ _ _ _).trans (by rw [tq192_75]; exact h_load rfl)
theorem tq192_76 : tT g 192 76 = s_getf 192 79 4 4 := rfl
theorem A192_76 {L : AL} {r : List Value} {a : Nat} : aw g 192 76 L (.ref a :: r) σ Q = (hty σ a = some 4 ∧ aw g 192 79 L (hv σ 4 a 4 :: r) σ Q) := (aw_eq g 192 76 _ _ _ _).trans (by rw [tq192_76]; exact rfl)
theorem tq192_79 : tT g 192 79 = s_putf g pI 192 82 4 4 := rfl
theorem A192_79 {L : AL} {r : List Value} {a : Nat} {v : Value} : aw g 192 79 L (v :: .ref a :: r) σ Q = (hty σ a = some 4 ∧ gB g ≤ a ∧ pI v ∧ aw g 192 82 L r (hput σ 4 a 4 v) Q) := (aw_eq g 192 79 _ _ _ _).trans (by rw [tq192_79]; exact rfl)
theorem tq192_82 : tT g 192 82 = s_load vRf 192 83 1 := rfl
theorem A192_82 {l0 : Option Value} {l2 : Option Value} {l3 : Option Value} {x : Value} {r : List Value} : aw g 192 82 [l0, some (x), l2, l3] r σ Q = (vRf x = true ∧ aw g 192 83 [l0, some (x), l2, l3] (x :: r) σ Q) := (aw_eq g 192 82 _ _ _ _).trans (by rw [tq192_82]; exact h_load rfl)
theorem tq192_83 : tT g 192 83 = s_load vRf 192 84 0 := rfl
theorem A192_83 {l1 : Option Value} {l2 : Option Value} {l3 : Option Value} {x : Value} {r : List Value} : aw g 192 83 [some (x), l1, l2, l3] r σ Q = (vRf x = true ∧ aw g 192 84 [some (x), l1, l2, l3] (x :: r) σ Q) := (aw_eq g 192 83 _ _ _ _).trans (by rw [tq192_83]; exact h_load rfl)
theorem tq192_84 : tT g 192 84 = s_getf 192 87 4 5 := rfl
theorem A192_84 {L : AL} {r : List Value} {a : Nat} : aw g 192 84 L (.ref a :: r) σ Q = (hty σ a = some 4 ∧ aw g 192 87 L (hv σ 4 a 5 :: r) σ Q) := (aw_eq g 192 84 _ _ _ _).trans (by rw [tq192_84]; exact rfl)
theorem tq192_87 : tT g 192 87 = s_putf g pI 192 90 4 5 := rfl
theorem A192_87 {L : AL} {r : List Value} {a : Nat} {v : Value} : aw g 192 87 L (v :: .ref a :: r) σ Q = (hty σ a = some 4 ∧ gB g ≤ a ∧ pI v ∧ aw g 192 90 L r (hput σ 4 a 5 v) Q) := (aw_eq g 192 87 _ _ _ _).trans (by rw [tq192_87]; exact rfl)
theorem tq192_90 : tT g 192 90 = s_load vRf 192 91 1 := rfl
theorem A192_90 {l0 : Option Value} {l2 : Option Value} {l3 : Option Value} {x : Value} {r : List Value} : aw g 192 90 [l0, some (x), l2, l3] r σ Q = (vRf x = true ∧ aw g 192 91 [l0, some (x), l2, l3] (x :: r) σ Q) := (aw_eq g 192 90 _ _ _ _).trans (by rw [tq192_90]; exact h_load rfl)
theorem tq192_91 : tT g 192 91 = s_load vRf 192 92 0 := rfl
theorem A192_91 {l1 : Option Value} {l2 : Option Value} {l3 : Option Value} {x : Value} {r : List Value} : aw g 192 91 [some (x), l1, l2, l3] r σ Q = (vRf x = true ∧ aw g 192 92 [some (x), l1, l2, l3] (x :: r) σ Q) := (aw_eq g 192 91 _ _ _ _).trans (by rw [tq192_91]; exact h_load rfl)
theorem tq192_92 : tT g 192 92 = s_getf 192 95 4 6 := rfl
theorem A192_92 {L : AL} {r : List Value} {a : Nat} : aw g 192 92 L (.ref a :: r) σ Q = (hty σ a = some 4 ∧ aw g 192 95 L (hv σ 4 a 6 :: r) σ Q) := (aw_eq g 192 92 _ _ _ _).trans (by rw [tq192_92]; exact rfl)
theorem tq192_95 : tT g 192 95 = s_putf g pI 192 98 4 6 := rfl
theorem A192_95 {L : AL} {r : List Value} {a : Nat} {v : Value} : aw g 192 95 L (v :: .ref a :: r) σ Q = (hty σ a = some 4 ∧ gB g ≤ a ∧ pI v ∧ aw g 192 98 L r (hput σ 4 a 6 v) Q) := (aw_eq g 192 95 _ _ _ _).trans (by rw [tq192_95]; exact rfl)
theorem tq192_98 : tT g 192 98 = s_load vRf 192 99 1 := rfl
theorem A192_98 {l0 : Option Value} {l2 : Option Value} {l3 : Option Value} {x : Value} {r : List Value} : aw g 192 98 [l0, some (x), l2, l3] r σ Q = (vRf x = true ∧ aw g 192 99 [l0, some (x), l2, l3] (x :: r) σ Q) := (aw_eq g 192 98 _ _ _ _).trans (by rw [tq192_98]; exact h_load rfl)
theorem tq192_99 : tT g 192 99 = s_load vRf 192 100 0 := rfl
theorem A192_99 {l1 : Option Value} {l2 : Option Value} {l3 : Option Value} {x : Value} {r : List Value} : aw g 192 99 [some (x), l1, l2, l3] r σ Q = (vRf x = true ∧ aw g 192 100 [some (x), l1, l2, l3] (x :: r) σ Q) := (aw_eq g 192 99 _ _ _ _).trans (by rw [tq192_99]; exact h_load rfl)
theorem tq192_100 : tT g 192 100 = s_getf 192 103 4 7 := rfl
theorem A192_100 {L : AL} {r : List Value} {a : Nat} : aw g 192 100 L (.ref a :: r) σ Q = (hty σ a = some 4 ∧ aw g 192 103 L (hv σ 4 a 7 :: r) σ Q) := (aw_eq g 192 100 _ _ _ _).trans (by rw [tq192_100]; exact rfl)
theorem tq192_103 : tT g 192 103 = s_putf g pI 192 106 4 7 := rfl
theorem A192_103 {L : AL} {r : List Value} {a : Nat} {v : Value} : aw g 192 103 L (v :: .ref a :: r) σ Q = (hty σ a = some 4 ∧ gB g ≤ a ∧ pI v ∧ aw g 192 106 L r (hput σ 4 a 7 v) Q) := (aw_eq g 192 103 _ _ _ _).trans (by rw [tq192_103]; exact rfl)
theorem tq192_106 : tT g 192 106 = s_load vRf 192 107 1 := rfl
theorem A192_106 {l0 : Option Value} {l2 : Option Value} {l3 : Option Value} {x : Value} {r : List Value} : aw g 192 106 [l0, some (x), l2, l3] r σ Q = (vRf x = true ∧ aw g 192 107 [l0, some (x), l2, l3] (x :: r) σ Q) := (aw_eq g 192 106 _ _ _ _).trans (by rw [tq192_106]; exact h_load rfl)
theorem tq192_107 : tT g 192 107 = s_load vRf 192 108 0 := rfl
theorem A192_107 {l1 : Option Value} {l2 : Option Value} {l3 : Option Value} {x : Value} {r : List Value} : aw g 192 107 [some (x), l1, l2, l3] r σ Q = (vRf x = true ∧ aw g 192 108 [some (x), l1, l2, l3] (x :: r) σ Q) := (aw_eq g 192 107 _ _ _ _).trans (by rw [tq192_107]; exact h_load rfl)
theorem tq192_108 : tT g 192 108 = s_getf 192 111 4 8 := rfl
theorem A192_108 {L : AL} {r : List Value} {a : Nat} : aw g 192 108 L (.ref a :: r) σ Q = (hty σ a = some 4 ∧ aw g 192 111 L (hv σ 4 a 8 :: r) σ Q) := (aw_eq g 192 108 _ _ _ _).trans (by rw [tq192_108]; exact rfl)
theorem tq192_111 : tT g 192 111 = s_putf g pI 192 114 4 8 := rfl
theorem A192_111 {L : AL} {r : List Value} {a : Nat} {v : Value} : aw g 192 111 L (v :: .ref a :: r) σ Q = (hty σ a = some 4 ∧ gB g ≤ a ∧ pI v ∧ aw g 192 114 L r (hput σ 4 a 8 v) Q) := (aw_eq g 192 111 _ _ _ _).trans (by rw [tq192_111]; exact rfl)
theorem tq192_114 : tT g 192 114 = s_load vRf 192 115 1 := rfl
theorem A192_114 {l0 : Option Value} {l2 : Option Value} {l3 : Option Value} {x : Value} {r : List Value} : aw g 192 114 [l0, some (x), l2, l3] r σ Q = (vRf x = true ∧ aw g 192 115 [l0, some (x), l2, l3] (x :: r) σ Q) := (aw_eq g 192 114 _ _ _ _).trans (by rw [tq192_114]; exact h_load rfl)
theorem tq192_115 : tT g 192 115 = s_load vRf 192 116 0 := rfl
theorem A192_115 {l1 : Option Value} {l2 : Option Value} {l3 : Option Value} {x : Value} {r : List Value} : aw g 192 115 [some (x), l1, l2, l3] r σ Q = (vRf x = true ∧ aw g 192 116 [some (x), l1, l2, l3] (x :: r) σ Q) := (aw_eq g 192 115 _ _ _ _).trans (by rw [tq192_115]; exact h_load rfl)
theorem tq192_116 : tT g 192 116 = s_getf 192 119 4 9 := rfl
theorem A192_116 {L : AL} {r : List Value} {a : Nat} : aw g 192 116 L (.ref a :: r) σ Q = (hty σ a = some 4 ∧ aw g 192 119 L (hv σ 4 a 9 :: r) σ Q) := (aw_eq g 192 116 _ _ _ _).trans (by rw [tq192_116]; exact rfl)
theorem tq192_119 : tT g 192 119 = s_putf g pI 192 122 4 9 := rfl
theorem A192_119 {L : AL} {r : List Value} {a : Nat} {v : Value} : aw g 192 119 L (v :: .ref a :: r) σ Q = (hty σ a = some 4 ∧ gB g ≤ a ∧ pI v ∧ aw g 192 122 L r (hput σ 4 a 9 v) Q) := (aw_eq g 192 119 _ _ _ _).trans (by rw [tq192_119]; exact rfl)
theorem tq192_122 : tT g 192 122 = s_load vRf 192 123 1 := rfl
theorem A192_122 {l0 : Option Value} {l2 : Option Value} {l3 : Option Value} {x : Value} {r : List Value} : aw g 192 122 [l0, some (x), l2, l3] r σ Q = (vRf x = true ∧ aw g 192 123 [l0, some (x), l2, l3] (x :: r) σ Q) := (aw_eq g 192 122 _ _ _ _).trans (by rw [tq192_122]; exact h_load rfl)
theorem tq192_123 : tT g 192 123 = s_ret pR := rfl
theorem A192_123 {L : AL} {v : Value} : aw g 192 123 L [v] σ Q = (pR v ∧ Q (.inl (some v)) σ) := (aw_eq g 192 123 _ _ _ _).trans (by rw [tq192_123]; exact rfl)
theorem tq205_0 : tT g 205 0 = s_load vRf 205 1 0 := rfl
theorem A205_0  {x : Value} {r : List Value} : aw g 205 0 [some (x)] r σ Q = (vRf x = true ∧ aw g 205 1 [some (x)] (x :: r) σ Q) := (aw_eq g 205 0 _ _ _ _).trans (by rw [tq205_0]; exact h_load rfl)
theorem tq205_1 : tT g 205 1 = s_oinit 205 4 := rfl
theorem A205_1 {L : AL} {r : List Value} {a : Nat} : aw g 205 1 L (.ref a :: r) σ Q = (csum r ≤ 8 ∧ aw g 205 4 L r σ Q) := (aw_eq g 205 1 _ _ _ _).trans (by rw [tq205_1]; exact rfl)
theorem tq205_4 : tT g 205 4 = s_load vRf 205 5 0 := rfl
theorem A205_4  {x : Value} {r : List Value} : aw g 205 4 [some (x)] r σ Q = (vRf x = true ∧ aw g 205 5 [some (x)] (x :: r) σ Q) := (aw_eq g 205 4 _ _ _ _).trans (by rw [tq205_4]; exact h_load rfl)
theorem tq205_5 : tT g 205 5 = s_new g 205 8 10 3 (fun k => defaultValue (tyJ2 k)) := rfl
theorem A205_5 {L : AL} {r : List Value} : aw g 205 5 L r σ Q = (hsz σ + 1 ≤ gC g ∧ hsl σ + 3 ≤ gS g ∧ aw g 205 8 L (.ref (hsz σ) :: r) (hnew σ 10 0 (fun k => defaultValue (tyJ2 k)) 3) Q) := (aw_eq g 205 5 _ _ _ _).trans (by rw [tq205_5]; exact rfl)
theorem tq205_8 : tT g 205 8 = s_dup 205 9 := rfl
theorem A205_8 {L : AL} {r : List Value} {v : Value} : aw g 205 8 L (v :: r) σ Q = (v.category = 1 ∧ aw g 205 9 L (v :: v :: r) σ Q) := (aw_eq g 205 8 _ _ _ _).trans (by rw [tq205_8]; exact rfl)
theorem tq205_9 : tT g 205 9 = s_callik 205 12 14 [] 1 := rfl
theorem A205_9 {L : AL} {r : List Value} {a : Nat} : aw g 205 9 L (.ref a :: r) σ Q = (true = true ∧ csum r ≤ 8 ∧ aw g 14 0 [some (.ref a)] [] σ (kt (aw g) 205 12 L r Q)) := (aw_eq g 205 9 _ _ _ _).trans (by rw [tq205_9]; exact rfl)
theorem tq205_12 : tT g 205 12 = s_putf g pR 205 15 7 1 := rfl
theorem A205_12 {L : AL} {r : List Value} {a : Nat} {v : Value} : aw g 205 12 L (v :: .ref a :: r) σ Q = (hty σ a = some 7 ∧ gB g ≤ a ∧ pR v ∧ aw g 205 15 L r (hput σ 7 a 1 v) Q) := (aw_eq g 205 12 _ _ _ _).trans (by rw [tq205_12]; exact rfl)
theorem tq205_15 : tT g 205 15 = s_load vRf 205 16 0 := rfl
theorem A205_15  {x : Value} {r : List Value} : aw g 205 15 [some (x)] r σ Q = (vRf x = true ∧ aw g 205 16 [some (x)] (x :: r) σ Q) := (aw_eq g 205 15 _ _ _ _).trans (by rw [tq205_15]; exact h_load rfl)
theorem tq205_16 : tT g 205 16 = s_const 205 17 (.int 5) := rfl
theorem A205_16 {L : AL} {r : List Value} : aw g 205 16 L r σ Q = aw g 205 17 L (.int 5 :: r) σ Q := (aw_eq g 205 16 _ _ _ _).trans (by rw [tq205_16]; exact rfl)
theorem tq205_17 : tT g 205 17 = s_putf g pI 205 20 7 6 := rfl
theorem A205_17 {L : AL} {r : List Value} {a : Nat} {v : Value} : aw g 205 17 L (v :: .ref a :: r) σ Q = (hty σ a = some 7 ∧ gB g ≤ a ∧ pI v ∧ aw g 205 20 L r (hput σ 7 a 6 v) Q) := (aw_eq g 205 17 _ _ _ _).trans (by rw [tq205_17]; exact rfl)
theorem tq205_20 : tT g 205 20 = s_load vRf 205 21 0 := rfl
theorem A205_20  {x : Value} {r : List Value} : aw g 205 20 [some (x)] r σ Q = (vRf x = true ∧ aw g 205 21 [some (x)] (x :: r) σ Q) := (aw_eq g 205 20 _ _ _ _).trans (by rw [tq205_20]; exact h_load rfl)
theorem tq205_21 : tT g 205 21 = s_const 205 23 (.int 6) := rfl
theorem A205_21 {L : AL} {r : List Value} : aw g 205 21 L r σ Q = aw g 205 23 L (.int 6 :: r) σ Q := (aw_eq g 205 21 _ _ _ _).trans (by rw [tq205_21]; exact rfl)
theorem tq205_23 : tT g 205 23 = s_newa g 205 25 20 (.int 0) := rfl
theorem A205_23 {L : AL} {r : List Value} {x : Int32} : aw g 205 23 L (.int x :: r) σ Q = (¬ x < 0 ∧ x.toNatClampNeg ≤ 65536 ∧ hsz σ + 1 ≤ gC g ∧ hsl σ + x.toNatClampNeg ≤ gS g ∧ aw g 205 25 L (.ref (hsz σ) :: r) (hnew σ 20 x.toNatClampNeg (fun _ => .int 0) x.toNatClampNeg) Q) := (aw_eq g 205 23 _ _ _ _).trans (by rw [tq205_23]; exact rfl)
theorem tq205_25 : tT g 205 25 = s_putf g pR 205 28 7 13 := rfl
theorem A205_25 {L : AL} {r : List Value} {a : Nat} {v : Value} : aw g 205 25 L (v :: .ref a :: r) σ Q = (hty σ a = some 7 ∧ gB g ≤ a ∧ pR v ∧ aw g 205 28 L r (hput σ 7 a 13 v) Q) := (aw_eq g 205 25 _ _ _ _).trans (by rw [tq205_25]; exact rfl)
theorem tq205_28 : tT g 205 28 = s_load vRf 205 29 0 := rfl
theorem A205_28  {x : Value} {r : List Value} : aw g 205 28 [some (x)] r σ Q = (vRf x = true ∧ aw g 205 29 [some (x)] (x :: r) σ Q) := (aw_eq g 205 28 _ _ _ _).trans (by rw [tq205_28]; exact h_load rfl)
theorem tq205_29 : tT g 205 29 = s_const 205 31 (.int 6) := rfl
theorem A205_29 {L : AL} {r : List Value} : aw g 205 29 L r σ Q = aw g 205 31 L (.int 6 :: r) σ Q := (aw_eq g 205 29 _ _ _ _).trans (by rw [tq205_29]; exact rfl)
theorem tq205_31 : tT g 205 31 = s_newa g 205 33 20 (.int 0) := rfl
theorem A205_31 {L : AL} {r : List Value} {x : Int32} : aw g 205 31 L (.int x :: r) σ Q = (¬ x < 0 ∧ x.toNatClampNeg ≤ 65536 ∧ hsz σ + 1 ≤ gC g ∧ hsl σ + x.toNatClampNeg ≤ gS g ∧ aw g 205 33 L (.ref (hsz σ) :: r) (hnew σ 20 x.toNatClampNeg (fun _ => .int 0) x.toNatClampNeg) Q) := (aw_eq g 205 31 _ _ _ _).trans (by rw [tq205_31]; exact rfl)
theorem tq205_33 : tT g 205 33 = s_dup 205 34 := rfl
theorem A205_33 {L : AL} {r : List Value} {v : Value} : aw g 205 33 L (v :: r) σ Q = (v.category = 1 ∧ aw g 205 34 L (v :: v :: r) σ Q) := (aw_eq g 205 33 _ _ _ _).trans (by rw [tq205_33]; exact rfl)
theorem tq205_34 : tT g 205 34 = s_const 205 35 (.int 0) := rfl
theorem A205_34 {L : AL} {r : List Value} : aw g 205 34 L r σ Q = aw g 205 35 L (.int 0 :: r) σ Q := (aw_eq g 205 34 _ _ _ _).trans (by rw [tq205_34]; exact rfl)
theorem tq205_35 : tT g 205 35 = s_const 205 36 (.int 3) := rfl
theorem A205_35 {L : AL} {r : List Value} : aw g 205 35 L r σ Q = aw g 205 36 L (.int 3 :: r) σ Q := (aw_eq g 205 35 _ _ _ _).trans (by rw [tq205_35]; exact rfl)
theorem tq205_36 : tT g 205 36 = s_ast g (fun _ v => vI v = true) 205 37 20 := rfl
theorem A205_36 {L : AL} {r : List Value} {a : Nat} {i : Int32} {v : Value} : aw g 205 36 L (v :: .int i :: .ref a :: r) σ Q = (hty σ a = some 20 ∧ gB g ≤ a ∧ ¬ i < 0 ∧ i.toNatClampNeg < hln σ a ∧ vI v = true ∧ aw g 205 37 L r (hput σ 20 a i.toNatClampNeg v) Q) := (aw_eq g 205 36 _ _ _ _).trans (by rw [tq205_36]; exact rfl)
theorem tq205_37 : tT g 205 37 = s_dup 205 38 := rfl
theorem A205_37 {L : AL} {r : List Value} {v : Value} : aw g 205 37 L (v :: r) σ Q = (v.category = 1 ∧ aw g 205 38 L (v :: v :: r) σ Q) := (aw_eq g 205 37 _ _ _ _).trans (by rw [tq205_37]; exact rfl)
theorem tq205_38 : tT g 205 38 = s_const 205 39 (.int 1) := rfl
theorem A205_38 {L : AL} {r : List Value} : aw g 205 38 L r σ Q = aw g 205 39 L (.int 1 :: r) σ Q := (aw_eq g 205 38 _ _ _ _).trans (by rw [tq205_38]; exact rfl)
theorem tq205_39 : tT g 205 39 = s_const 205 40 (.int 3) := rfl
theorem A205_39 {L : AL} {r : List Value} : aw g 205 39 L r σ Q = aw g 205 40 L (.int 3 :: r) σ Q := (aw_eq g 205 39 _ _ _ _).trans (by rw [tq205_39]; exact rfl)
theorem tq205_40 : tT g 205 40 = s_ast g (fun _ v => vI v = true) 205 41 20 := rfl
theorem A205_40 {L : AL} {r : List Value} {a : Nat} {i : Int32} {v : Value} : aw g 205 40 L (v :: .int i :: .ref a :: r) σ Q = (hty σ a = some 20 ∧ gB g ≤ a ∧ ¬ i < 0 ∧ i.toNatClampNeg < hln σ a ∧ vI v = true ∧ aw g 205 41 L r (hput σ 20 a i.toNatClampNeg v) Q) := (aw_eq g 205 40 _ _ _ _).trans (by rw [tq205_40]; exact rfl)
theorem tq205_41 : tT g 205 41 = s_dup 205 42 := rfl
theorem A205_41 {L : AL} {r : List Value} {v : Value} : aw g 205 41 L (v :: r) σ Q = (v.category = 1 ∧ aw g 205 42 L (v :: v :: r) σ Q) := (aw_eq g 205 41 _ _ _ _).trans (by rw [tq205_41]; exact rfl)
theorem tq205_42 : tT g 205 42 = s_const 205 43 (.int 2) := rfl
theorem A205_42 {L : AL} {r : List Value} : aw g 205 42 L r σ Q = aw g 205 43 L (.int 2 :: r) σ Q := (aw_eq g 205 42 _ _ _ _).trans (by rw [tq205_42]; exact rfl)
theorem tq205_43 : tT g 205 43 = s_const 205 44 (.int 3) := rfl
theorem A205_43 {L : AL} {r : List Value} : aw g 205 43 L r σ Q = aw g 205 44 L (.int 3 :: r) σ Q := (aw_eq g 205 43 _ _ _ _).trans (by rw [tq205_43]; exact rfl)
theorem tq205_44 : tT g 205 44 = s_ast g (fun _ v => vI v = true) 205 45 20 := rfl
theorem A205_44 {L : AL} {r : List Value} {a : Nat} {i : Int32} {v : Value} : aw g 205 44 L (v :: .int i :: .ref a :: r) σ Q = (hty σ a = some 20 ∧ gB g ≤ a ∧ ¬ i < 0 ∧ i.toNatClampNeg < hln σ a ∧ vI v = true ∧ aw g 205 45 L r (hput σ 20 a i.toNatClampNeg v) Q) := (aw_eq g 205 44 _ _ _ _).trans (by rw [tq205_44]; exact rfl)
theorem tq205_45 : tT g 205 45 = s_dup 205 46 := rfl
theorem A205_45 {L : AL} {r : List Value} {v : Value} : aw g 205 45 L (v :: r) σ Q = (v.category = 1 ∧ aw g 205 46 L (v :: v :: r) σ Q) := (aw_eq g 205 45 _ _ _ _).trans (by rw [tq205_45]; exact rfl)
theorem tq205_46 : tT g 205 46 = s_const 205 47 (.int 3) := rfl
theorem A205_46 {L : AL} {r : List Value} : aw g 205 46 L r σ Q = aw g 205 47 L (.int 3 :: r) σ Q := (aw_eq g 205 46 _ _ _ _).trans (by rw [tq205_46]; exact rfl)
theorem tq205_47 : tT g 205 47 = s_const 205 48 (.int 3) := rfl
theorem A205_47 {L : AL} {r : List Value} : aw g 205 47 L r σ Q = aw g 205 48 L (.int 3 :: r) σ Q := (aw_eq g 205 47 _ _ _ _).trans (by rw [tq205_47]; exact rfl)
theorem tq205_48 : tT g 205 48 = s_ast g (fun _ v => vI v = true) 205 49 20 := rfl
theorem A205_48 {L : AL} {r : List Value} {a : Nat} {i : Int32} {v : Value} : aw g 205 48 L (v :: .int i :: .ref a :: r) σ Q = (hty σ a = some 20 ∧ gB g ≤ a ∧ ¬ i < 0 ∧ i.toNatClampNeg < hln σ a ∧ vI v = true ∧ aw g 205 49 L r (hput σ 20 a i.toNatClampNeg v) Q) := (aw_eq g 205 48 _ _ _ _).trans (by rw [tq205_48]; exact rfl)
theorem tq205_49 : tT g 205 49 = s_dup 205 50 := rfl
theorem A205_49 {L : AL} {r : List Value} {v : Value} : aw g 205 49 L (v :: r) σ Q = (v.category = 1 ∧ aw g 205 50 L (v :: v :: r) σ Q) := (aw_eq g 205 49 _ _ _ _).trans (by rw [tq205_49]; exact rfl)
theorem tq205_50 : tT g 205 50 = s_const 205 51 (.int 4) := rfl
theorem A205_50 {L : AL} {r : List Value} : aw g 205 50 L r σ Q = aw g 205 51 L (.int 4 :: r) σ Q := (aw_eq g 205 50 _ _ _ _).trans (by rw [tq205_50]; exact rfl)
theorem tq205_51 : tT g 205 51 = s_const 205 52 (.int 3) := rfl
theorem A205_51 {L : AL} {r : List Value} : aw g 205 51 L r σ Q = aw g 205 52 L (.int 3 :: r) σ Q := (aw_eq g 205 51 _ _ _ _).trans (by rw [tq205_51]; exact rfl)
theorem tq205_52 : tT g 205 52 = s_ast g (fun _ v => vI v = true) 205 53 20 := rfl
theorem A205_52 {L : AL} {r : List Value} {a : Nat} {i : Int32} {v : Value} : aw g 205 52 L (v :: .int i :: .ref a :: r) σ Q = (hty σ a = some 20 ∧ gB g ≤ a ∧ ¬ i < 0 ∧ i.toNatClampNeg < hln σ a ∧ vI v = true ∧ aw g 205 53 L r (hput σ 20 a i.toNatClampNeg v) Q) := (aw_eq g 205 52 _ _ _ _).trans (by rw [tq205_52]; exact rfl)
theorem tq205_53 : tT g 205 53 = s_dup 205 54 := rfl
theorem A205_53 {L : AL} {r : List Value} {v : Value} : aw g 205 53 L (v :: r) σ Q = (v.category = 1 ∧ aw g 205 54 L (v :: v :: r) σ Q) := (aw_eq g 205 53 _ _ _ _).trans (by rw [tq205_53]; exact rfl)
theorem tq205_54 : tT g 205 54 = s_const 205 55 (.int 5) := rfl
theorem A205_54 {L : AL} {r : List Value} : aw g 205 54 L r σ Q = aw g 205 55 L (.int 5 :: r) σ Q := (aw_eq g 205 54 _ _ _ _).trans (by rw [tq205_54]; exact rfl)
theorem tq205_55 : tT g 205 55 = s_const 205 56 (.int 3) := rfl
theorem A205_55 {L : AL} {r : List Value} : aw g 205 55 L r σ Q = aw g 205 56 L (.int 3 :: r) σ Q := (aw_eq g 205 55 _ _ _ _).trans (by rw [tq205_55]; exact rfl)
theorem tq205_56 : tT g 205 56 = s_ast g (fun _ v => vI v = true) 205 57 20 := rfl
theorem A205_56 {L : AL} {r : List Value} {a : Nat} {i : Int32} {v : Value} : aw g 205 56 L (v :: .int i :: .ref a :: r) σ Q = (hty σ a = some 20 ∧ gB g ≤ a ∧ ¬ i < 0 ∧ i.toNatClampNeg < hln σ a ∧ vI v = true ∧ aw g 205 57 L r (hput σ 20 a i.toNatClampNeg v) Q) := (aw_eq g 205 56 _ _ _ _).trans (by rw [tq205_56]; exact rfl)
theorem tq205_57 : tT g 205 57 = s_putf g pR 205 60 7 14 := rfl
theorem A205_57 {L : AL} {r : List Value} {a : Nat} {v : Value} : aw g 205 57 L (v :: .ref a :: r) σ Q = (hty σ a = some 7 ∧ gB g ≤ a ∧ pR v ∧ aw g 205 60 L r (hput σ 7 a 14 v) Q) := (aw_eq g 205 57 _ _ _ _).trans (by rw [tq205_57]; exact rfl)
theorem tq205_60 : tT g 205 60 = s_load vRf 205 61 0 := rfl
theorem A205_60  {x : Value} {r : List Value} : aw g 205 60 [some (x)] r σ Q = (vRf x = true ∧ aw g 205 61 [some (x)] (x :: r) σ Q) := (aw_eq g 205 60 _ _ _ _).trans (by rw [tq205_60]; exact h_load rfl)
theorem tq205_61 : tT g 205 61 = s_const 205 63 (.int 6) := rfl
theorem A205_61 {L : AL} {r : List Value} : aw g 205 61 L r σ Q = aw g 205 63 L (.int 6 :: r) σ Q := (aw_eq g 205 61 _ _ _ _).trans (by rw [tq205_61]; exact rfl)
theorem tq205_63 : tT g 205 63 = s_newa g 205 65 20 (.int 0) := rfl
theorem A205_63 {L : AL} {r : List Value} {x : Int32} : aw g 205 63 L (.int x :: r) σ Q = (¬ x < 0 ∧ x.toNatClampNeg ≤ 65536 ∧ hsz σ + 1 ≤ gC g ∧ hsl σ + x.toNatClampNeg ≤ gS g ∧ aw g 205 65 L (.ref (hsz σ) :: r) (hnew σ 20 x.toNatClampNeg (fun _ => .int 0) x.toNatClampNeg) Q) := (aw_eq g 205 63 _ _ _ _).trans (by rw [tq205_63]; exact rfl)
theorem tq205_65 : tT g 205 65 = s_putf g pR 205 68 7 15 := rfl
theorem A205_65 {L : AL} {r : List Value} {a : Nat} {v : Value} : aw g 205 65 L (v :: .ref a :: r) σ Q = (hty σ a = some 7 ∧ gB g ≤ a ∧ pR v ∧ aw g 205 68 L r (hput σ 7 a 15 v) Q) := (aw_eq g 205 65 _ _ _ _).trans (by rw [tq205_65]; exact rfl)
theorem tq205_68 : tT g 205 68 = s_load vRf 205 69 0 := rfl
theorem A205_68  {x : Value} {r : List Value} : aw g 205 68 [some (x)] r σ Q = (vRf x = true ∧ aw g 205 69 [some (x)] (x :: r) σ Q) := (aw_eq g 205 68 _ _ _ _).trans (by rw [tq205_68]; exact h_load rfl)
theorem tq205_69 : tT g 205 69 = s_const 205 71 (.int 6) := rfl
theorem A205_69 {L : AL} {r : List Value} : aw g 205 69 L r σ Q = aw g 205 71 L (.int 6 :: r) σ Q := (aw_eq g 205 69 _ _ _ _).trans (by rw [tq205_69]; exact rfl)
theorem tq205_71 : tT g 205 71 = s_newa g 205 73 20 (.int 0) := rfl
theorem A205_71 {L : AL} {r : List Value} {x : Int32} : aw g 205 71 L (.int x :: r) σ Q = (¬ x < 0 ∧ x.toNatClampNeg ≤ 65536 ∧ hsz σ + 1 ≤ gC g ∧ hsl σ + x.toNatClampNeg ≤ gS g ∧ aw g 205 73 L (.ref (hsz σ) :: r) (hnew σ 20 x.toNatClampNeg (fun _ => .int 0) x.toNatClampNeg) Q) := (aw_eq g 205 71 _ _ _ _).trans (by rw [tq205_71]; exact rfl)
theorem tq205_73 : tT g 205 73 = s_putf g pR 205 76 7 16 := rfl
theorem A205_73 {L : AL} {r : List Value} {a : Nat} {v : Value} : aw g 205 73 L (v :: .ref a :: r) σ Q = (hty σ a = some 7 ∧ gB g ≤ a ∧ pR v ∧ aw g 205 76 L r (hput σ 7 a 16 v) Q) := (aw_eq g 205 73 _ _ _ _).trans (by rw [tq205_73]; exact rfl)
theorem tq205_76 : tT g 205 76 = s_load vRf 205 77 0 := rfl
theorem A205_76  {x : Value} {r : List Value} : aw g 205 76 [some (x)] r σ Q = (vRf x = true ∧ aw g 205 77 [some (x)] (x :: r) σ Q) := (aw_eq g 205 76 _ _ _ _).trans (by rw [tq205_76]; exact h_load rfl)
theorem tq205_77 : tT g 205 77 = s_const 205 78 (.int 5) := rfl
theorem A205_77 {L : AL} {r : List Value} : aw g 205 77 L r σ Q = aw g 205 78 L (.int 5 :: r) σ Q := (aw_eq g 205 77 _ _ _ _).trans (by rw [tq205_77]; exact rfl)
theorem tq205_78 : tT g 205 78 = s_newa g 205 80 20 (.int 0) := rfl
theorem A205_78 {L : AL} {r : List Value} {x : Int32} : aw g 205 78 L (.int x :: r) σ Q = (¬ x < 0 ∧ x.toNatClampNeg ≤ 65536 ∧ hsz σ + 1 ≤ gC g ∧ hsl σ + x.toNatClampNeg ≤ gS g ∧ aw g 205 80 L (.ref (hsz σ) :: r) (hnew σ 20 x.toNatClampNeg (fun _ => .int 0) x.toNatClampNeg) Q) := (aw_eq g 205 78 _ _ _ _).trans (by rw [tq205_78]; exact rfl)
theorem tq205_80 : tT g 205 80 = s_putf g pR 205 83 7 17 := rfl
theorem A205_80 {L : AL} {r : List Value} {a : Nat} {v : Value} : aw g 205 80 L (v :: .ref a :: r) σ Q = (hty σ a = some 7 ∧ gB g ≤ a ∧ pR v ∧ aw g 205 83 L r (hput σ 7 a 17 v) Q) := (aw_eq g 205 80 _ _ _ _).trans (by rw [tq205_80]; exact rfl)
theorem tq205_83 : tT g 205 83 = s_load vRf 205 84 0 := rfl
theorem A205_83  {x : Value} {r : List Value} : aw g 205 83 [some (x)] r σ Q = (vRf x = true ∧ aw g 205 84 [some (x)] (x :: r) σ Q) := (aw_eq g 205 83 _ _ _ _).trans (by rw [tq205_83]; exact h_load rfl)
theorem tq205_84 : tT g 205 84 = s_const 205 86 (.int 6) := rfl
theorem A205_84 {L : AL} {r : List Value} : aw g 205 84 L r σ Q = aw g 205 86 L (.int 6 :: r) σ Q := (aw_eq g 205 84 _ _ _ _).trans (by rw [tq205_84]; exact rfl)
theorem tq205_86 : tT g 205 86 = s_newa g 205 88 20 (.int 0) := rfl
theorem A205_86 {L : AL} {r : List Value} {x : Int32} : aw g 205 86 L (.int x :: r) σ Q = (¬ x < 0 ∧ x.toNatClampNeg ≤ 65536 ∧ hsz σ + 1 ≤ gC g ∧ hsl σ + x.toNatClampNeg ≤ gS g ∧ aw g 205 88 L (.ref (hsz σ) :: r) (hnew σ 20 x.toNatClampNeg (fun _ => .int 0) x.toNatClampNeg) Q) := (aw_eq g 205 86 _ _ _ _).trans (by rw [tq205_86]; exact rfl)
theorem tq205_88 : tT g 205 88 = s_putf g pR 205 91 7 28 := rfl
theorem A205_88 {L : AL} {r : List Value} {a : Nat} {v : Value} : aw g 205 88 L (v :: .ref a :: r) σ Q = (hty σ a = some 7 ∧ gB g ≤ a ∧ pR v ∧ aw g 205 91 L r (hput σ 7 a 28 v) Q) := (aw_eq g 205 88 _ _ _ _).trans (by rw [tq205_88]; exact rfl)
theorem tq205_91 : tT g 205 91 = s_load vRf 205 92 0 := rfl
theorem A205_91  {x : Value} {r : List Value} : aw g 205 91 [some (x)] r σ Q = (vRf x = true ∧ aw g 205 92 [some (x)] (x :: r) σ Q) := (aw_eq g 205 91 _ _ _ _).trans (by rw [tq205_91]; exact h_load rfl)
theorem tq205_92 : tT g 205 92 = s_new g 205 95 10 3 (fun k => defaultValue (tyJ2 k)) := rfl
theorem A205_92 {L : AL} {r : List Value} : aw g 205 92 L r σ Q = (hsz σ + 1 ≤ gC g ∧ hsl σ + 3 ≤ gS g ∧ aw g 205 95 L (.ref (hsz σ) :: r) (hnew σ 10 0 (fun k => defaultValue (tyJ2 k)) 3) Q) := (aw_eq g 205 92 _ _ _ _).trans (by rw [tq205_92]; exact rfl)
theorem tq205_95 : tT g 205 95 = s_dup 205 96 := rfl
theorem A205_95 {L : AL} {r : List Value} {v : Value} : aw g 205 95 L (v :: r) σ Q = (v.category = 1 ∧ aw g 205 96 L (v :: v :: r) σ Q) := (aw_eq g 205 95 _ _ _ _).trans (by rw [tq205_95]; exact rfl)
theorem tq205_96 : tT g 205 96 = s_callik 205 99 14 [] 1 := rfl
theorem A205_96 {L : AL} {r : List Value} {a : Nat} : aw g 205 96 L (.ref a :: r) σ Q = (true = true ∧ csum r ≤ 8 ∧ aw g 14 0 [some (.ref a)] [] σ (kt (aw g) 205 99 L r Q)) := (aw_eq g 205 96 _ _ _ _).trans (by rw [tq205_96]; exact rfl)
theorem tq205_99 : tT g 205 99 = s_putf g pR 205 102 7 30 := rfl
theorem A205_99 {L : AL} {r : List Value} {a : Nat} {v : Value} : aw g 205 99 L (v :: .ref a :: r) σ Q = (hty σ a = some 7 ∧ gB g ≤ a ∧ pR v ∧ aw g 205 102 L r (hput σ 7 a 30 v) Q) := (aw_eq g 205 99 _ _ _ _).trans (by rw [tq205_99]; exact rfl)
theorem tq205_102 : tT g 205 102 = s_load vRf 205 103 0 := rfl
theorem A205_102  {x : Value} {r : List Value} : aw g 205 102 [some (x)] r σ Q = (vRf x = true ∧ aw g 205 103 [some (x)] (x :: r) σ Q) := (aw_eq g 205 102 _ _ _ _).trans (by rw [tq205_102]; exact h_load rfl)
theorem tq205_103 : tT g 205 103 = s_new g 205 106 10 3 (fun k => defaultValue (tyJ2 k)) := rfl
theorem A205_103 {L : AL} {r : List Value} : aw g 205 103 L r σ Q = (hsz σ + 1 ≤ gC g ∧ hsl σ + 3 ≤ gS g ∧ aw g 205 106 L (.ref (hsz σ) :: r) (hnew σ 10 0 (fun k => defaultValue (tyJ2 k)) 3) Q) := (aw_eq g 205 103 _ _ _ _).trans (by rw [tq205_103]; exact rfl)
theorem tq205_106 : tT g 205 106 = s_dup 205 107 := rfl
theorem A205_106 {L : AL} {r : List Value} {v : Value} : aw g 205 106 L (v :: r) σ Q = (v.category = 1 ∧ aw g 205 107 L (v :: v :: r) σ Q) := (aw_eq g 205 106 _ _ _ _).trans (by rw [tq205_106]; exact rfl)
theorem tq205_107 : tT g 205 107 = s_callik 205 110 14 [] 1 := rfl
theorem A205_107 {L : AL} {r : List Value} {a : Nat} : aw g 205 107 L (.ref a :: r) σ Q = (true = true ∧ csum r ≤ 8 ∧ aw g 14 0 [some (.ref a)] [] σ (kt (aw g) 205 110 L r Q)) := (aw_eq g 205 107 _ _ _ _).trans (by rw [tq205_107]; exact rfl)
theorem tq205_110 : tT g 205 110 = s_putf g pR 205 113 7 31 := rfl
theorem A205_110 {L : AL} {r : List Value} {a : Nat} {v : Value} : aw g 205 110 L (v :: .ref a :: r) σ Q = (hty σ a = some 7 ∧ gB g ≤ a ∧ pR v ∧ aw g 205 113 L r (hput σ 7 a 31 v) Q) := (aw_eq g 205 110 _ _ _ _).trans (by rw [tq205_110]; exact rfl)
theorem tq205_113 : tT g 205 113 = s_vret := rfl
theorem A205_113 {L : AL} : aw g 205 113 L [] σ Q = Q (.inl none) σ := (aw_eq g 205 113 _ _ _ _).trans (by rw [tq205_113]; exact rfl)
theorem tq206_0 : tT g 206 0 = s_const 206 1 (.int 0) := rfl
theorem A206_0 {L : AL} {r : List Value} : aw g 206 0 L r σ Q = aw g 206 1 L (.int 0 :: r) σ Q := (aw_eq g 206 0 _ _ _ _).trans (by rw [tq206_0]; exact rfl)
theorem tq206_1 : tT g 206 1 = s_store vI 206 2 2 := rfl
theorem A206_1 {l0 : Option Value} {l1 : Option Value} {l2 : Option Value} {l3 : Option Value} {x : Int32} {r : List Value} : aw g 206 1 [l0, l1, l2, l3] (.int x :: r) σ Q = (oc l1 = true ∧ aw g 206 2 [l0, l1, some (.int x), l3] r σ Q) := (aw_eq g 206 1 _ _ _ _).trans (by rw [tq206_1]; exact (h_store (o := oc l1) rfl rfl rfl).trans (propext ⟨fun z => z.2, fun z => ⟨rfl, z⟩⟩))
theorem tq206_2 : tT g 206 2 = s_const 206 3 (.int 0) := rfl
theorem A206_2 {L : AL} {r : List Value} : aw g 206 2 L r σ Q = aw g 206 3 L (.int 0 :: r) σ Q := (aw_eq g 206 2 _ _ _ _).trans (by rw [tq206_2]; exact rfl)
theorem tq206_3 : tT g 206 3 = s_store vI 206 4 3 := rfl
theorem A206_3 {l0 : Option Value} {l1 : Option Value} {l2 : Option Value} {l3 : Option Value} {x : Int32} {r : List Value} : aw g 206 3 [l0, l1, l2, l3] (.int x :: r) σ Q = (oc l2 = true ∧ aw g 206 4 [l0, l1, l2, some (.int x)] r σ Q) := (aw_eq g 206 3 _ _ _ _).trans (by rw [tq206_3]; exact (h_store (o := oc l2) rfl rfl rfl).trans (propext ⟨fun z => z.2, fun z => ⟨rfl, z⟩⟩))
theorem tq206_4 : tT g 206 4 = s_load vI 206 5 3 := rfl
theorem A206_4 {l0 : Option Value} {l1 : Option Value} {l2 : Option Value} {x : Int32} {r : List Value} : aw g 206 4 [l0, l1, l2, some (.int x)] r σ Q = aw g 206 5 [l0, l1, l2, some (.int x)] (.int x :: r) σ Q := (aw_eq g 206 4 _ _ _ _).trans (by rw [tq206_4]; exact (h_load rfl).trans (propext ⟨fun z => z.2, fun z => ⟨rfl, z⟩⟩))
theorem tq206_5 : tT g 206 5 = s_const 206 7 (.int 6) := rfl
theorem A206_5 {L : AL} {r : List Value} : aw g 206 5 L r σ Q = aw g 206 7 L (.int 6 :: r) σ Q := (aw_eq g 206 5 _ _ _ _).trans (by rw [tq206_5]; exact rfl)
theorem tq206_7 : tT g 206 7 = s_icmp 206 10 34 (fun a b => b ≤ a) := rfl
theorem A206_7 {L : AL} {r : List Value} {a b : Int32} : aw g 206 7 L (.int b :: .int a :: r) σ Q = ((b ≤ a → aw g 206 34 L r σ Q) ∧ (¬ b ≤ a → aw g 206 10 L r σ Q)) := (aw_eq g 206 7 _ _ _ _).trans (by rw [tq206_7]; exact rfl)
theorem tq206_10 : tT g 206 10 = s_load vI 206 11 2 := rfl
theorem A206_10 {l0 : Option Value} {l1 : Option Value} {l3 : Option Value} {x : Int32} {r : List Value} : aw g 206 10 [l0, l1, some (.int x), l3] r σ Q = aw g 206 11 [l0, l1, some (.int x), l3] (.int x :: r) σ Q := (aw_eq g 206 10 _ _ _ _).trans (by rw [tq206_10]; exact (h_load rfl).trans (propext ⟨fun z => z.2, fun z => ⟨rfl, z⟩⟩))
theorem tq206_11 : tT g 206 11 = s_load vRf 206 12 0 := rfl
theorem A206_11 {l1 : Option Value} {l2 : Option Value} {l3 : Option Value} {x : Value} {r : List Value} : aw g 206 11 [some (x), l1, l2, l3] r σ Q = (vRf x = true ∧ aw g 206 12 [some (x), l1, l2, l3] (x :: r) σ Q) := (aw_eq g 206 11 _ _ _ _).trans (by rw [tq206_11]; exact h_load rfl)
theorem tq206_12 : tT g 206 12 = s_getf 206 15 7 14 := rfl
theorem A206_12 {L : AL} {r : List Value} {a : Nat} : aw g 206 12 L (.ref a :: r) σ Q = (hty σ a = some 7 ∧ aw g 206 15 L (hv σ 7 a 14 :: r) σ Q) := (aw_eq g 206 12 _ _ _ _).trans (by rw [tq206_12]; exact rfl)
theorem tq206_15 : tT g 206 15 = s_load vI 206 16 3 := rfl
theorem A206_15 {l0 : Option Value} {l1 : Option Value} {l2 : Option Value} {x : Int32} {r : List Value} : aw g 206 15 [l0, l1, l2, some (.int x)] r σ Q = aw g 206 16 [l0, l1, l2, some (.int x)] (.int x :: r) σ Q := (aw_eq g 206 15 _ _ _ _).trans (by rw [tq206_15]; exact (h_load rfl).trans (propext ⟨fun z => z.2, fun z => ⟨rfl, z⟩⟩))
theorem tq206_16 : tT g 206 16 = s_ald 206 17 20 := rfl
theorem A206_16 {L : AL} {r : List Value} {a : Nat} {i : Int32} : aw g 206 16 L (.int i :: .ref a :: r) σ Q = (hty σ a = some 20 ∧ ¬ i < 0 ∧ i.toNatClampNeg < hln σ a ∧ aw g 206 17 L (hv σ 20 a i.toNatClampNeg :: r) σ Q) := (aw_eq g 206 16 _ _ _ _).trans (by rw [tq206_16]; exact rfl)
theorem tq206_17 : tT g 206 17 = s_load vI 206 18 1 := rfl
theorem A206_17 {l0 : Option Value} {l2 : Option Value} {l3 : Option Value} {x : Int32} {r : List Value} : aw g 206 17 [l0, some (.int x), l2, l3] r σ Q = aw g 206 18 [l0, some (.int x), l2, l3] (.int x :: r) σ Q := (aw_eq g 206 17 _ _ _ _).trans (by rw [tq206_17]; exact (h_load rfl).trans (propext ⟨fun z => z.2, fun z => ⟨rfl, z⟩⟩))
theorem tq206_18 : tT g 206 18 = s_icmp 206 25 21 (fun a b => a = b) := rfl
theorem A206_18 {L : AL} {r : List Value} {a b : Int32} : aw g 206 18 L (.int b :: .int a :: r) σ Q = ((a = b → aw g 206 21 L r σ Q) ∧ (¬ a = b → aw g 206 25 L r σ Q)) := (aw_eq g 206 18 _ _ _ _).trans (by rw [tq206_18]; exact rfl)
theorem tq206_21 : tT g 206 21 = s_const 206 22 (.int 1) := rfl
theorem A206_21 {L : AL} {r : List Value} : aw g 206 21 L r σ Q = aw g 206 22 L (.int 1 :: r) σ Q := (aw_eq g 206 21 _ _ _ _).trans (by rw [tq206_21]; exact rfl)
theorem tq206_22 : tT g 206 22 = s_goto 206 26 := rfl
theorem A206_22 {L : AL} {r : List Value} : aw g 206 22 L r σ Q = aw g 206 26 L r σ Q := (aw_eq g 206 22 _ _ _ _).trans (by rw [tq206_22]; exact rfl)
theorem tq206_25 : tT g 206 25 = s_const 206 26 (.int 0) := rfl
theorem A206_25 {L : AL} {r : List Value} : aw g 206 25 L r σ Q = aw g 206 26 L (.int 0 :: r) σ Q := (aw_eq g 206 25 _ _ _ _).trans (by rw [tq206_25]; exact rfl)
theorem tq206_26 : tT g 206 26 = s_bin 206 27 (fun a b => a + b) := rfl
theorem A206_26 {L : AL} {r : List Value} {a b : Int32} : aw g 206 26 L (.int b :: .int a :: r) σ Q = aw g 206 27 L (.int (a + b) :: r) σ Q := (aw_eq g 206 26 _ _ _ _).trans (by rw [tq206_26]; exact rfl)
theorem tq206_27 : tT g 206 27 = s_store vI 206 28 2 := rfl
theorem A206_27 {l0 : Option Value} {l1 : Option Value} {l2 : Option Value} {l3 : Option Value} {x : Int32} {r : List Value} : aw g 206 27 [l0, l1, l2, l3] (.int x :: r) σ Q = (oc l1 = true ∧ aw g 206 28 [l0, l1, some (.int x), l3] r σ Q) := (aw_eq g 206 27 _ _ _ _).trans (by rw [tq206_27]; exact (h_store (o := oc l1) rfl rfl rfl).trans (propext ⟨fun z => z.2, fun z => ⟨rfl, z⟩⟩))
theorem tq206_28 : tT g 206 28 = s_iinc 206 31 3 1 := rfl
theorem A206_28 {l0 : Option Value} {l1 : Option Value} {l2 : Option Value} {x : Int32} {r : List Value} : aw g 206 28 [l0, l1, l2, some (.int x)] r σ Q = (oc l2 = true ∧ aw g 206 31 [l0, l1, l2, some (.int (x + 1))] r σ Q) := (aw_eq g 206 28 _ _ _ _).trans (by rw [tq206_28]; exact (h_iinc (o := oc l2) rfl rfl rfl))
theorem tq206_31 : tT g 206 31 = s_goto 206 4 := rfl
theorem A206_31 {L : AL} {r : List Value} : aw g 206 31 L r σ Q = aw g 206 4 L r σ Q := (aw_eq g 206 31 _ _ _ _).trans (by rw [tq206_31]; exact rfl)
theorem tq206_34 : tT g 206 34 = s_load vI 206 35 2 := rfl
theorem A206_34 {l0 : Option Value} {l1 : Option Value} {l3 : Option Value} {x : Int32} {r : List Value} : aw g 206 34 [l0, l1, some (.int x), l3] r σ Q = aw g 206 35 [l0, l1, some (.int x), l3] (.int x :: r) σ Q := (aw_eq g 206 34 _ _ _ _).trans (by rw [tq206_34]; exact (h_load rfl).trans (propext ⟨fun z => z.2, fun z => ⟨rfl, z⟩⟩))
theorem tq206_35 : tT g 206 35 = s_ret pI := rfl
theorem A206_35 {L : AL} {v : Value} : aw g 206 35 L [v] σ Q = (pI v ∧ Q (.inl (some v)) σ) := (aw_eq g 206 35 _ _ _ _).trans (by rw [tq206_35]; exact rfl)
theorem tq207_0 : tT g 207 0 = s_load vRf 207 1 0 := rfl
theorem A207_0  {x : Value} {r : List Value} : aw g 207 0 [some (x)] r σ Q = (vRf x = true ∧ aw g 207 1 [some (x)] (x :: r) σ Q) := (aw_eq g 207 0 _ _ _ _).trans (by rw [tq207_0]; exact h_load rfl)
theorem tq207_1 : tT g 207 1 = s_dup 207 2 := rfl
theorem A207_1 {L : AL} {r : List Value} {v : Value} : aw g 207 1 L (v :: r) σ Q = (v.category = 1 ∧ aw g 207 2 L (v :: v :: r) σ Q) := (aw_eq g 207 1 _ _ _ _).trans (by rw [tq207_1]; exact rfl)
theorem tq207_2 : tT g 207 2 = s_getf 207 5 7 10 := rfl
theorem A207_2 {L : AL} {r : List Value} {a : Nat} : aw g 207 2 L (.ref a :: r) σ Q = (hty σ a = some 7 ∧ aw g 207 5 L (hv σ 7 a 10 :: r) σ Q) := (aw_eq g 207 2 _ _ _ _).trans (by rw [tq207_2]; exact rfl)
theorem tq207_5 : tT g 207 5 = s_const 207 6 (.int 1) := rfl
theorem A207_5 {L : AL} {r : List Value} : aw g 207 5 L r σ Q = aw g 207 6 L (.int 1 :: r) σ Q := (aw_eq g 207 5 _ _ _ _).trans (by rw [tq207_5]; exact rfl)
theorem tq207_6 : tT g 207 6 = s_bin 207 7 (fun a b => a + b) := rfl
theorem A207_6 {L : AL} {r : List Value} {a b : Int32} : aw g 207 6 L (.int b :: .int a :: r) σ Q = aw g 207 7 L (.int (a + b) :: r) σ Q := (aw_eq g 207 6 _ _ _ _).trans (by rw [tq207_6]; exact rfl)
theorem tq207_7 : tT g 207 7 = s_putf g pI 207 10 7 10 := rfl
theorem A207_7 {L : AL} {r : List Value} {a : Nat} {v : Value} : aw g 207 7 L (v :: .ref a :: r) σ Q = (hty σ a = some 7 ∧ gB g ≤ a ∧ pI v ∧ aw g 207 10 L r (hput σ 7 a 10 v) Q) := (aw_eq g 207 7 _ _ _ _).trans (by rw [tq207_7]; exact rfl)
theorem tq207_10 : tT g 207 10 = s_load vRf 207 11 0 := rfl
theorem A207_10  {x : Value} {r : List Value} : aw g 207 10 [some (x)] r σ Q = (vRf x = true ∧ aw g 207 11 [some (x)] (x :: r) σ Q) := (aw_eq g 207 10 _ _ _ _).trans (by rw [tq207_10]; exact h_load rfl)
theorem tq207_11 : tT g 207 11 = s_dup 207 12 := rfl
theorem A207_11 {L : AL} {r : List Value} {v : Value} : aw g 207 11 L (v :: r) σ Q = (v.category = 1 ∧ aw g 207 12 L (v :: v :: r) σ Q) := (aw_eq g 207 11 _ _ _ _).trans (by rw [tq207_11]; exact rfl)
theorem tq207_12 : tT g 207 12 = s_getf 207 15 7 29 := rfl
theorem A207_12 {L : AL} {r : List Value} {a : Nat} : aw g 207 12 L (.ref a :: r) σ Q = (hty σ a = some 7 ∧ aw g 207 15 L (hv σ 7 a 29 :: r) σ Q) := (aw_eq g 207 12 _ _ _ _).trans (by rw [tq207_12]; exact rfl)
theorem tq207_15 : tT g 207 15 = s_const 207 16 (.int 1) := rfl
theorem A207_15 {L : AL} {r : List Value} : aw g 207 15 L r σ Q = aw g 207 16 L (.int 1 :: r) σ Q := (aw_eq g 207 15 _ _ _ _).trans (by rw [tq207_15]; exact rfl)
theorem tq207_16 : tT g 207 16 = s_bin 207 17 (fun a b => a + b) := rfl
theorem A207_16 {L : AL} {r : List Value} {a b : Int32} : aw g 207 16 L (.int b :: .int a :: r) σ Q = aw g 207 17 L (.int (a + b) :: r) σ Q := (aw_eq g 207 16 _ _ _ _).trans (by rw [tq207_16]; exact rfl)
theorem tq207_17 : tT g 207 17 = s_putf g pI 207 20 7 29 := rfl
theorem A207_17 {L : AL} {r : List Value} {a : Nat} {v : Value} : aw g 207 17 L (v :: .ref a :: r) σ Q = (hty σ a = some 7 ∧ gB g ≤ a ∧ pI v ∧ aw g 207 20 L r (hput σ 7 a 29 v) Q) := (aw_eq g 207 17 _ _ _ _).trans (by rw [tq207_17]; exact rfl)
theorem tq207_20 : tT g 207 20 = s_load vRf 207 21 0 := rfl
theorem A207_20  {x : Value} {r : List Value} : aw g 207 20 [some (x)] r σ Q = (vRf x = true ∧ aw g 207 21 [some (x)] (x :: r) σ Q) := (aw_eq g 207 20 _ _ _ _).trans (by rw [tq207_20]; exact h_load rfl)
theorem tq207_21 : tT g 207 21 = s_load vRf 207 22 0 := rfl
theorem A207_21  {x : Value} {r : List Value} : aw g 207 21 [some (x)] r σ Q = (vRf x = true ∧ aw g 207 22 [some (x)] (x :: r) σ Q) := (aw_eq g 207 21 _ _ _ _).trans (by rw [tq207_21]; exact h_load rfl)
theorem tq207_22 : tT g 207 22 = s_getf 207 25 7 2 := rfl
theorem A207_22 {L : AL} {r : List Value} {a : Nat} : aw g 207 22 L (.ref a :: r) σ Q = (hty σ a = some 7 ∧ aw g 207 25 L (hv σ 7 a 2 :: r) σ Q) := (aw_eq g 207 22 _ _ _ _).trans (by rw [tq207_22]; exact rfl)
theorem tq207_25 : tT g 207 25 = s_const 207 26 (.int 1) := rfl
theorem A207_25 {L : AL} {r : List Value} : aw g 207 25 L r σ Q = aw g 207 26 L (.int 1 :: r) σ Q := (aw_eq g 207 25 _ _ _ _).trans (by rw [tq207_25]; exact rfl)
theorem tq207_26 : tT g 207 26 = s_bin 207 27 (fun a b => a + b) := rfl
theorem A207_26 {L : AL} {r : List Value} {a b : Int32} : aw g 207 26 L (.int b :: .int a :: r) σ Q = aw g 207 27 L (.int (a + b) :: r) σ Q := (aw_eq g 207 26 _ _ _ _).trans (by rw [tq207_26]; exact rfl)
theorem tq207_27 : tT g 207 27 = s_load vRf 207 28 0 := rfl
theorem A207_27  {x : Value} {r : List Value} : aw g 207 27 [some (x)] r σ Q = (vRf x = true ∧ aw g 207 28 [some (x)] (x :: r) σ Q) := (aw_eq g 207 27 _ _ _ _).trans (by rw [tq207_27]; exact h_load rfl)
theorem tq207_28 : tT g 207 28 = s_getf 207 31 7 1 := rfl
theorem A207_28 {L : AL} {r : List Value} {a : Nat} : aw g 207 28 L (.ref a :: r) σ Q = (hty σ a = some 7 ∧ aw g 207 31 L (hv σ 7 a 1 :: r) σ Q) := (aw_eq g 207 28 _ _ _ _).trans (by rw [tq207_28]; exact rfl)
theorem tq207_31 : tT g 207 31 = s_callvk 207 34 15 10 [] 1 := rfl
theorem A207_31 {L : AL} {r : List Value} {a : Nat} : aw g 207 31 L (.ref a :: r) σ Q = (hty σ a = some 10 ∧ true = true ∧ csum r ≤ 8 ∧ aw g 15 0 [some (.ref a)] [] σ (kt (aw g) 207 34 L r Q)) := (aw_eq g 207 31 _ _ _ _).trans (by rw [tq207_31]; exact rfl)
theorem tq207_34 : tT g 207 34 = s_div 207 35 (fun a b => a - a / b * b) := rfl
theorem A207_34 {L : AL} {r : List Value} {a b : Int32} : aw g 207 34 L (.int b :: .int a :: r) σ Q = (b ≠ 0 ∧ aw g 207 35 L (.int (a - a / b * b) :: r) σ Q) := (aw_eq g 207 34 _ _ _ _).trans (by rw [tq207_34]; exact rfl)
theorem tq207_35 : tT g 207 35 = s_putf g pI 207 38 7 2 := rfl
theorem A207_35 {L : AL} {r : List Value} {a : Nat} {v : Value} : aw g 207 35 L (v :: .ref a :: r) σ Q = (hty σ a = some 7 ∧ gB g ≤ a ∧ pI v ∧ aw g 207 38 L r (hput σ 7 a 2 v) Q) := (aw_eq g 207 35 _ _ _ _).trans (by rw [tq207_35]; exact rfl)
theorem tq207_38 : tT g 207 38 = s_vret := rfl
theorem A207_38 {L : AL} : aw g 207 38 L [] σ Q = Q (.inl none) σ := (aw_eq g 207 38 _ _ _ _).trans (by rw [tq207_38]; exact rfl)
theorem tq208_0 : tT g 208 0 = s_load vRf 208 1 0 := rfl
theorem A208_0 {l1 : Option Value} {x : Value} {r : List Value} : aw g 208 0 [some (x), l1] r σ Q = (vRf x = true ∧ aw g 208 1 [some (x), l1] (x :: r) σ Q) := (aw_eq g 208 0 _ _ _ _).trans (by rw [tq208_0]; exact h_load rfl)
theorem tq208_1 : tT g 208 1 = s_getf 208 4 7 25 := rfl
theorem A208_1 {L : AL} {r : List Value} {a : Nat} : aw g 208 1 L (.ref a :: r) σ Q = (hty σ a = some 7 ∧ aw g 208 4 L (hv σ 7 a 25 :: r) σ Q) := (aw_eq g 208 1 _ _ _ _).trans (by rw [tq208_1]; exact rfl)
theorem tq208_4 : tT g 208 4 = s_if 208 7 31 (fun a => a = 0) := rfl
theorem A208_4 {L : AL} {r : List Value} {a : Int32} : aw g 208 4 L (.int a :: r) σ Q = ((a = 0 → aw g 208 31 L r σ Q) ∧ (¬ a = 0 → aw g 208 7 L r σ Q)) := (aw_eq g 208 4 _ _ _ _).trans (by rw [tq208_4]; exact rfl)
theorem tq208_7 : tT g 208 7 = s_load vRf 208 8 0 := rfl
theorem A208_7 {l1 : Option Value} {x : Value} {r : List Value} : aw g 208 7 [some (x), l1] r σ Q = (vRf x = true ∧ aw g 208 8 [some (x), l1] (x :: r) σ Q) := (aw_eq g 208 7 _ _ _ _).trans (by rw [tq208_7]; exact h_load rfl)
theorem tq208_8 : tT g 208 8 = s_getf 208 11 7 30 := rfl
theorem A208_8 {L : AL} {r : List Value} {a : Nat} : aw g 208 8 L (.ref a :: r) σ Q = (hty σ a = some 7 ∧ aw g 208 11 L (hv σ 7 a 30 :: r) σ Q) := (aw_eq g 208 8 _ _ _ _).trans (by rw [tq208_8]; exact rfl)
theorem tq208_11 : tT g 208 11 = s_callvk 208 14 15 10 [] 1 := rfl
theorem A208_11 {L : AL} {r : List Value} {a : Nat} : aw g 208 11 L (.ref a :: r) σ Q = (hty σ a = some 10 ∧ true = true ∧ csum r ≤ 8 ∧ aw g 15 0 [some (.ref a)] [] σ (kt (aw g) 208 14 L r Q)) := (aw_eq g 208 11 _ _ _ _).trans (by rw [tq208_11]; exact rfl)
theorem tq208_14 : tT g 208 14 = s_const 208 16 (.int 60) := rfl
theorem A208_14 {L : AL} {r : List Value} : aw g 208 14 L r σ Q = aw g 208 16 L (.int 60 :: r) σ Q := (aw_eq g 208 14 _ _ _ _).trans (by rw [tq208_14]; exact rfl)
theorem tq208_16 : tT g 208 16 = s_icmp 208 19 31 (fun a b => b ≤ a) := rfl
theorem A208_16 {L : AL} {r : List Value} {a b : Int32} : aw g 208 16 L (.int b :: .int a :: r) σ Q = ((b ≤ a → aw g 208 31 L r σ Q) ∧ (¬ b ≤ a → aw g 208 19 L r σ Q)) := (aw_eq g 208 16 _ _ _ _).trans (by rw [tq208_16]; exact rfl)
theorem tq208_19 : tT g 208 19 = s_load vRf 208 20 0 := rfl
theorem A208_19 {l1 : Option Value} {x : Value} {r : List Value} : aw g 208 19 [some (x), l1] r σ Q = (vRf x = true ∧ aw g 208 20 [some (x), l1] (x :: r) σ Q) := (aw_eq g 208 19 _ _ _ _).trans (by rw [tq208_19]; exact h_load rfl)
theorem tq208_20 : tT g 208 20 = s_getf 208 23 7 30 := rfl
theorem A208_20 {L : AL} {r : List Value} {a : Nat} : aw g 208 20 L (.ref a :: r) σ Q = (hty σ a = some 7 ∧ aw g 208 23 L (hv σ 7 a 30 :: r) σ Q) := (aw_eq g 208 20 _ _ _ _).trans (by rw [tq208_20]; exact rfl)
theorem tq208_23 : tT g 208 23 = s_load vI 208 24 1 := rfl
theorem A208_23 {l0 : Option Value} {x : Int32} {r : List Value} : aw g 208 23 [l0, some (.int x)] r σ Q = aw g 208 24 [l0, some (.int x)] (.int x :: r) σ Q := (aw_eq g 208 23 _ _ _ _).trans (by rw [tq208_23]; exact (h_load rfl).trans (propext ⟨fun z => z.2, fun z => ⟨rfl, z⟩⟩))
theorem tq208_24 : tT g 208 24 = s_callk 208 27 9 [0] 1 := rfl
theorem A208_24 {L : AL} {r : List Value} {w0 : Value} : aw g 208 24 L (w0 :: r) σ Q = ((vI w0 && true) = true ∧ csum r ≤ 8 ∧ aw g 9 0 [some w0] [] σ (kt (aw g) 208 27 L r Q)) := (aw_eq g 208 24 _ _ _ _).trans (by rw [tq208_24]; exact rfl)
theorem tq208_27 : tT g 208 27 = s_callvk 208 30 18 10 [1] 2 := rfl
theorem A208_27 {L : AL} {r : List Value} {a : Nat} {w0 : Value} : aw g 208 27 L (w0 :: .ref a :: r) σ Q = (hty σ a = some 10 ∧ (vRf w0 && true) = true ∧ csum r ≤ 8 ∧ aw g 18 0 [some (.ref a), some w0] [] σ (kt (aw g) 208 30 L r Q)) := (aw_eq g 208 27 _ _ _ _).trans (by rw [tq208_27]; exact rfl)
theorem tq208_30 : tT g 208 30 = s_pop 208 31 := rfl
theorem A208_30 {L : AL} {r : List Value} {v : Value} : aw g 208 30 L (v :: r) σ Q = (v.category = 1 ∧ aw g 208 31 L r σ Q) := (aw_eq g 208 30 _ _ _ _).trans (by rw [tq208_30]; exact rfl)
theorem tq208_31 : tT g 208 31 = s_vret := rfl
theorem A208_31 {L : AL} : aw g 208 31 L [] σ Q = Q (.inl none) σ := (aw_eq g 208 31 _ _ _ _).trans (by rw [tq208_31]; exact rfl)
theorem tq209_0 : tT g 209 0 = s_load vRf 209 1 0 := rfl
theorem A209_0 {l1 : Option Value} {l2 : Option Value} {l3 : Option Value} {l4 : Option Value} {l5 : Option Value} {l6 : Option Value} {l7 : Option Value} {l8 : Option Value} {l9 : Option Value} {x : Value} {r : List Value} : aw g 209 0 [some (x), l1, l2, l3, l4, l5, l6, l7, l8, l9] r σ Q = (vRf x = true ∧ aw g 209 1 [some (x), l1, l2, l3, l4, l5, l6, l7, l8, l9] (x :: r) σ Q) := (aw_eq g 209 0 _ _ _ _).trans (by rw [tq209_0]; exact h_load rfl)
theorem tq209_1 : tT g 209 1 = s_getf 209 4 7 25 := rfl
theorem A209_1 {L : AL} {r : List Value} {a : Nat} : aw g 209 1 L (.ref a :: r) σ Q = (hty σ a = some 7 ∧ aw g 209 4 L (hv σ 7 a 25 :: r) σ Q) := (aw_eq g 209 1 _ _ _ _).trans (by rw [tq209_1]; exact rfl)
theorem tq209_4 : tT g 209 4 = s_if 209 7 15 (fun a => a = 0) := rfl
theorem A209_4 {L : AL} {r : List Value} {a : Int32} : aw g 209 4 L (.int a :: r) σ Q = ((a = 0 → aw g 209 15 L r σ Q) ∧ (¬ a = 0 → aw g 209 7 L r σ Q)) := (aw_eq g 209 4 _ _ _ _).trans (by rw [tq209_4]; exact rfl)
theorem tq209_7 : tT g 209 7 = s_load vI 209 8 1 := rfl
theorem A209_7 {l0 : Option Value} {l2 : Option Value} {l3 : Option Value} {l4 : Option Value} {l5 : Option Value} {l6 : Option Value} {l7 : Option Value} {l8 : Option Value} {l9 : Option Value} {x : Int32} {r : List Value} : aw g 209 7 [l0, some (.int x), l2, l3, l4, l5, l6, l7, l8, l9] r σ Q = aw g 209 8 [l0, some (.int x), l2, l3, l4, l5, l6, l7, l8, l9] (.int x :: r) σ Q := (aw_eq g 209 7 _ _ _ _).trans (by rw [tq209_7]; exact (h_load rfl).trans (propext ⟨fun z => z.2, fun z => ⟨rfl, z⟩⟩))
theorem tq209_8 : tT g 209 8 = s_load vRf 209 9 0 := rfl
theorem A209_8 {l1 : Option Value} {l2 : Option Value} {l3 : Option Value} {l4 : Option Value} {l5 : Option Value} {l6 : Option Value} {l7 : Option Value} {l8 : Option Value} {l9 : Option Value} {x : Value} {r : List Value} : aw g 209 8 [some (x), l1, l2, l3, l4, l5, l6, l7, l8, l9] r σ Q = (vRf x = true ∧ aw g 209 9 [some (x), l1, l2, l3, l4, l5, l6, l7, l8, l9] (x :: r) σ Q) := (aw_eq g 209 8 _ _ _ _).trans (by rw [tq209_8]; exact h_load rfl)
theorem tq209_9 : tT g 209 9 = s_getf 209 12 7 29 := rfl
theorem A209_9 {L : AL} {r : List Value} {a : Nat} : aw g 209 9 L (.ref a :: r) σ Q = (hty σ a = some 7 ∧ aw g 209 12 L (hv σ 7 a 29 :: r) σ Q) := (aw_eq g 209 9 _ _ _ _).trans (by rw [tq209_9]; exact rfl)
theorem tq209_12 : tT g 209 12 = s_icmp 209 15 17 (fun a b => a ≤ b) := rfl
theorem A209_12 {L : AL} {r : List Value} {a b : Int32} : aw g 209 12 L (.int b :: .int a :: r) σ Q = ((a ≤ b → aw g 209 17 L r σ Q) ∧ (¬ a ≤ b → aw g 209 15 L r σ Q)) := (aw_eq g 209 12 _ _ _ _).trans (by rw [tq209_12]; exact rfl)
theorem tq209_15 : tT g 209 15 = s_const 209 16 (.int (-1)) := rfl
theorem A209_15 {L : AL} {r : List Value} : aw g 209 15 L r σ Q = aw g 209 16 L (.int (-1) :: r) σ Q := (aw_eq g 209 15 _ _ _ _).trans (by rw [tq209_15]; exact rfl)
theorem tq209_16 : tT g 209 16 = s_ret pI := rfl
theorem A209_16 {L : AL} {v : Value} : aw g 209 16 L [v] σ Q = (pI v ∧ Q (.inl (some v)) σ) := (aw_eq g 209 16 _ _ _ _).trans (by rw [tq209_16]; exact rfl)
theorem tq209_17 : tT g 209 17 = s_load vRf 209 18 0 := rfl
theorem A209_17 {l1 : Option Value} {l2 : Option Value} {l3 : Option Value} {l4 : Option Value} {l5 : Option Value} {l6 : Option Value} {l7 : Option Value} {l8 : Option Value} {l9 : Option Value} {x : Value} {r : List Value} : aw g 209 17 [some (x), l1, l2, l3, l4, l5, l6, l7, l8, l9] r σ Q = (vRf x = true ∧ aw g 209 18 [some (x), l1, l2, l3, l4, l5, l6, l7, l8, l9] (x :: r) σ Q) := (aw_eq g 209 17 _ _ _ _).trans (by rw [tq209_17]; exact h_load rfl)
theorem tq209_18 : tT g 209 18 = s_getf 209 21 7 28 := rfl
theorem A209_18 {L : AL} {r : List Value} {a : Nat} : aw g 209 18 L (.ref a :: r) σ Q = (hty σ a = some 7 ∧ aw g 209 21 L (hv σ 7 a 28 :: r) σ Q) := (aw_eq g 209 18 _ _ _ _).trans (by rw [tq209_18]; exact rfl)
theorem tq209_21 : tT g 209 21 = s_clone g (fun _ v => vI v = true) 209 24 20 := rfl
theorem A209_21 {L : AL} {r : List Value} {a : Nat} : aw g 209 21 L (.ref a :: r) σ Q = (hty σ a = some 20 ∧ csum r ≤ 8 ∧ hsz σ + 1 ≤ gC g ∧ hsl σ + hln σ a ≤ gS g ∧ (∀ i, i < hln σ a → vI (hv σ 20 a i) = true) ∧ aw g 209 24 L (.ref (hsz σ) :: r) (hnew σ 20 (hln σ a) (hv σ 20 a) (hln σ a)) Q) := (aw_eq g 209 21 _ _ _ _).trans (by rw [tq209_21]; exact rfl)
theorem tq209_24 : tT g 209 24 = s_cast 209 27 [20] := rfl
theorem A209_24 {L : AL} {r : List Value} : aw g 209 24 L (.null :: r) σ Q = aw g 209 27 L (.null :: r) σ Q := (aw_eq g 209 24 _ _ _ _).trans (by rw [tq209_24]; exact rfl)
theorem A209_24r {L : AL} {r : List Value} {a : Nat} : aw g 209 24 L (.ref a :: r) σ Q = (hty σ a = some 20 ∧ aw g 209 27 L (.ref a :: r) σ Q) := (aw_eq g 209 24 _ _ _ _).trans (by rw [tq209_24]; exact propext ⟨fun z => (by obtain ⟨⟨u, hu, hu2⟩, z2⟩ := z; rw [List.mem_singleton] at hu; subst hu; exact ⟨hu2, z2⟩), fun z => ⟨⟨_, List.mem_cons_self, z.1⟩, z.2⟩⟩)
theorem tq209_27 : tT g 209 27 = s_store vRf 209 28 3 := rfl
theorem A209_27 {l0 : Option Value} {l1 : Option Value} {l2 : Option Value} {l3 : Option Value} {l4 : Option Value} {l5 : Option Value} {l6 : Option Value} {l7 : Option Value} {l8 : Option Value} {l9 : Option Value} {x : Value} {r : List Value} : aw g 209 27 [l0, l1, l2, l3, l4, l5, l6, l7, l8, l9] (x :: r) σ Q = (vRf x = true ∧ oc l2 = true ∧ aw g 209 28 [l0, l1, l2, some (x), l4, l5, l6, l7, l8, l9] r σ Q) := (aw_eq g 209 27 _ _ _ _).trans (by rw [tq209_27]; exact (h_store (o := oc l2) rfl rfl rfl))
theorem tq209_28 : tT g 209 28 = s_load vRf 209 29 0 := rfl
theorem A209_28 {l1 : Option Value} {l2 : Option Value} {l3 : Option Value} {l4 : Option Value} {l5 : Option Value} {l6 : Option Value} {l7 : Option Value} {l8 : Option Value} {l9 : Option Value} {x : Value} {r : List Value} : aw g 209 28 [some (x), l1, l2, l3, l4, l5, l6, l7, l8, l9] r σ Q = (vRf x = true ∧ aw g 209 29 [some (x), l1, l2, l3, l4, l5, l6, l7, l8, l9] (x :: r) σ Q) := (aw_eq g 209 28 _ _ _ _).trans (by rw [tq209_28]; exact h_load rfl)
theorem tq209_29 : tT g 209 29 = s_getf 209 32 7 27 := rfl
theorem A209_29 {L : AL} {r : List Value} {a : Nat} : aw g 209 29 L (.ref a :: r) σ Q = (hty σ a = some 7 ∧ aw g 209 32 L (hv σ 7 a 27 :: r) σ Q) := (aw_eq g 209 29 _ _ _ _).trans (by rw [tq209_29]; exact rfl)
theorem tq209_32 : tT g 209 32 = s_store vI 209 34 4 := rfl
theorem A209_32 {l0 : Option Value} {l1 : Option Value} {l2 : Option Value} {l3 : Option Value} {l4 : Option Value} {l5 : Option Value} {l6 : Option Value} {l7 : Option Value} {l8 : Option Value} {l9 : Option Value} {x : Int32} {r : List Value} : aw g 209 32 [l0, l1, l2, l3, l4, l5, l6, l7, l8, l9] (.int x :: r) σ Q = (oc l3 = true ∧ aw g 209 34 [l0, l1, l2, l3, some (.int x), l5, l6, l7, l8, l9] r σ Q) := (aw_eq g 209 32 _ _ _ _).trans (by rw [tq209_32]; exact (h_store (o := oc l3) rfl rfl rfl).trans (propext ⟨fun z => z.2, fun z => ⟨rfl, z⟩⟩))
theorem tq209_34 : tT g 209 34 = s_load vRf 209 35 0 := rfl
theorem A209_34 {l1 : Option Value} {l2 : Option Value} {l3 : Option Value} {l4 : Option Value} {l5 : Option Value} {l6 : Option Value} {l7 : Option Value} {l8 : Option Value} {l9 : Option Value} {x : Value} {r : List Value} : aw g 209 34 [some (x), l1, l2, l3, l4, l5, l6, l7, l8, l9] r σ Q = (vRf x = true ∧ aw g 209 35 [some (x), l1, l2, l3, l4, l5, l6, l7, l8, l9] (x :: r) σ Q) := (aw_eq g 209 34 _ _ _ _).trans (by rw [tq209_34]; exact h_load rfl)
theorem tq209_35 : tT g 209 35 = s_getf 209 38 7 26 := rfl
theorem A209_35 {L : AL} {r : List Value} {a : Nat} : aw g 209 35 L (.ref a :: r) σ Q = (hty σ a = some 7 ∧ aw g 209 38 L (hv σ 7 a 26 :: r) σ Q) := (aw_eq g 209 35 _ _ _ _).trans (by rw [tq209_35]; exact rfl)
theorem tq209_38 : tT g 209 38 = s_store vI 209 40 5 := rfl
theorem A209_38 {l0 : Option Value} {l1 : Option Value} {l2 : Option Value} {l3 : Option Value} {l4 : Option Value} {l5 : Option Value} {l6 : Option Value} {l7 : Option Value} {l8 : Option Value} {l9 : Option Value} {x : Int32} {r : List Value} : aw g 209 38 [l0, l1, l2, l3, l4, l5, l6, l7, l8, l9] (.int x :: r) σ Q = (oc l4 = true ∧ aw g 209 40 [l0, l1, l2, l3, l4, some (.int x), l6, l7, l8, l9] r σ Q) := (aw_eq g 209 38 _ _ _ _).trans (by rw [tq209_38]; exact (h_store (o := oc l4) rfl rfl rfl).trans (propext ⟨fun z => z.2, fun z => ⟨rfl, z⟩⟩))
theorem tq209_40 : tT g 209 40 = s_const 209 41 (.int 0) := rfl
theorem A209_40 {L : AL} {r : List Value} : aw g 209 40 L r σ Q = aw g 209 41 L (.int 0 :: r) σ Q := (aw_eq g 209 40 _ _ _ _).trans (by rw [tq209_40]; exact rfl)
theorem tq209_41 : tT g 209 41 = s_store vI 209 43 6 := rfl
theorem A209_41 {l0 : Option Value} {l1 : Option Value} {l2 : Option Value} {l3 : Option Value} {l4 : Option Value} {l5 : Option Value} {l6 : Option Value} {l7 : Option Value} {l8 : Option Value} {l9 : Option Value} {x : Int32} {r : List Value} : aw g 209 41 [l0, l1, l2, l3, l4, l5, l6, l7, l8, l9] (.int x :: r) σ Q = (oc l5 = true ∧ aw g 209 43 [l0, l1, l2, l3, l4, l5, some (.int x), l7, l8, l9] r σ Q) := (aw_eq g 209 41 _ _ _ _).trans (by rw [tq209_41]; exact (h_store (o := oc l5) rfl rfl rfl).trans (propext ⟨fun z => z.2, fun z => ⟨rfl, z⟩⟩))
theorem tq209_43 : tT g 209 43 = s_const 209 44 (.int 0) := rfl
theorem A209_43 {L : AL} {r : List Value} : aw g 209 43 L r σ Q = aw g 209 44 L (.int 0 :: r) σ Q := (aw_eq g 209 43 _ _ _ _).trans (by rw [tq209_43]; exact rfl)
theorem tq209_44 : tT g 209 44 = s_store vI 209 46 7 := rfl
theorem A209_44 {l0 : Option Value} {l1 : Option Value} {l2 : Option Value} {l3 : Option Value} {l4 : Option Value} {l5 : Option Value} {l6 : Option Value} {l7 : Option Value} {l8 : Option Value} {l9 : Option Value} {x : Int32} {r : List Value} : aw g 209 44 [l0, l1, l2, l3, l4, l5, l6, l7, l8, l9] (.int x :: r) σ Q = (oc l6 = true ∧ aw g 209 46 [l0, l1, l2, l3, l4, l5, l6, some (.int x), l8, l9] r σ Q) := (aw_eq g 209 44 _ _ _ _).trans (by rw [tq209_44]; exact (h_store (o := oc l6) rfl rfl rfl).trans (propext ⟨fun z => z.2, fun z => ⟨rfl, z⟩⟩))
theorem tq209_46 : tT g 209 46 = s_const 209 47 (.int 0) := rfl
theorem A209_46 {L : AL} {r : List Value} : aw g 209 46 L r σ Q = aw g 209 47 L (.int 0 :: r) σ Q := (aw_eq g 209 46 _ _ _ _).trans (by rw [tq209_46]; exact rfl)
theorem tq209_47 : tT g 209 47 = s_store vI 209 49 8 := rfl
theorem A209_47 {l0 : Option Value} {l1 : Option Value} {l2 : Option Value} {l3 : Option Value} {l4 : Option Value} {l5 : Option Value} {l6 : Option Value} {l7 : Option Value} {l8 : Option Value} {l9 : Option Value} {x : Int32} {r : List Value} : aw g 209 47 [l0, l1, l2, l3, l4, l5, l6, l7, l8, l9] (.int x :: r) σ Q = (oc l7 = true ∧ aw g 209 49 [l0, l1, l2, l3, l4, l5, l6, l7, some (.int x), l9] r σ Q) := (aw_eq g 209 47 _ _ _ _).trans (by rw [tq209_47]; exact (h_store (o := oc l7) rfl rfl rfl).trans (propext ⟨fun z => z.2, fun z => ⟨rfl, z⟩⟩))
theorem tq209_49 : tT g 209 49 = s_load vI 209 51 8 := rfl
theorem A209_49 {l0 : Option Value} {l1 : Option Value} {l2 : Option Value} {l3 : Option Value} {l4 : Option Value} {l5 : Option Value} {l6 : Option Value} {l7 : Option Value} {l9 : Option Value} {x : Int32} {r : List Value} : aw g 209 49 [l0, l1, l2, l3, l4, l5, l6, l7, some (.int x), l9] r σ Q = aw g 209 51 [l0, l1, l2, l3, l4, l5, l6, l7, some (.int x), l9] (.int x :: r) σ Q := (aw_eq g 209 49 _ _ _ _).trans (by rw [tq209_49]; exact (h_load rfl).trans (propext ⟨fun z => z.2, fun z => ⟨rfl, z⟩⟩))
theorem tq209_51 : tT g 209 51 = s_load vI 209 52 1 := rfl
theorem A209_51 {l0 : Option Value} {l2 : Option Value} {l3 : Option Value} {l4 : Option Value} {l5 : Option Value} {l6 : Option Value} {l7 : Option Value} {l8 : Option Value} {l9 : Option Value} {x : Int32} {r : List Value} : aw g 209 51 [l0, some (.int x), l2, l3, l4, l5, l6, l7, l8, l9] r σ Q = aw g 209 52 [l0, some (.int x), l2, l3, l4, l5, l6, l7, l8, l9] (.int x :: r) σ Q := (aw_eq g 209 51 _ _ _ _).trans (by rw [tq209_51]; exact (h_load rfl).trans (propext ⟨fun z => z.2, fun z => ⟨rfl, z⟩⟩))
theorem tq209_52 : tT g 209 52 = s_icmp 209 55 291 (fun a b => b < a) := rfl
theorem A209_52 {L : AL} {r : List Value} {a b : Int32} : aw g 209 52 L (.int b :: .int a :: r) σ Q = ((b < a → aw g 209 291 L r σ Q) ∧ (¬ b < a → aw g 209 55 L r σ Q)) := (aw_eq g 209 52 _ _ _ _).trans (by rw [tq209_52]; exact rfl)
theorem tq209_55 : tT g 209 55 = s_load vI 209 57 7 := rfl
theorem A209_55 {l0 : Option Value} {l1 : Option Value} {l2 : Option Value} {l3 : Option Value} {l4 : Option Value} {l5 : Option Value} {l6 : Option Value} {l8 : Option Value} {l9 : Option Value} {x : Int32} {r : List Value} : aw g 209 55 [l0, l1, l2, l3, l4, l5, l6, some (.int x), l8, l9] r σ Q = aw g 209 57 [l0, l1, l2, l3, l4, l5, l6, some (.int x), l8, l9] (.int x :: r) σ Q := (aw_eq g 209 55 _ _ _ _).trans (by rw [tq209_55]; exact (h_load rfl).trans (propext ⟨fun z => z.2, fun z => ⟨rfl, z⟩⟩))
theorem tq209_57 : tT g 209 57 = s_load vRf 209 58 0 := rfl
theorem A209_57 {l1 : Option Value} {l2 : Option Value} {l3 : Option Value} {l4 : Option Value} {l5 : Option Value} {l6 : Option Value} {l7 : Option Value} {l8 : Option Value} {l9 : Option Value} {x : Value} {r : List Value} : aw g 209 57 [some (x), l1, l2, l3, l4, l5, l6, l7, l8, l9] r σ Q = (vRf x = true ∧ aw g 209 58 [some (x), l1, l2, l3, l4, l5, l6, l7, l8, l9] (x :: r) σ Q) := (aw_eq g 209 57 _ _ _ _).trans (by rw [tq209_57]; exact h_load rfl)
theorem tq209_58 : tT g 209 58 = s_getf 209 61 7 31 := rfl
theorem A209_58 {L : AL} {r : List Value} {a : Nat} : aw g 209 58 L (.ref a :: r) σ Q = (hty σ a = some 7 ∧ aw g 209 61 L (hv σ 7 a 31 :: r) σ Q) := (aw_eq g 209 58 _ _ _ _).trans (by rw [tq209_58]; exact rfl)
theorem tq209_61 : tT g 209 61 = s_callvk 209 64 15 10 [] 1 := rfl
theorem A209_61 {L : AL} {r : List Value} {a : Nat} : aw g 209 61 L (.ref a :: r) σ Q = (hty σ a = some 10 ∧ true = true ∧ csum r ≤ 8 ∧ aw g 15 0 [some (.ref a)] [] σ (kt (aw g) 209 64 L r Q)) := (aw_eq g 209 61 _ _ _ _).trans (by rw [tq209_61]; exact rfl)
theorem tq209_64 : tT g 209 64 = s_icmp 209 67 109 (fun a b => b ≤ a) := rfl
theorem A209_64 {L : AL} {r : List Value} {a b : Int32} : aw g 209 64 L (.int b :: .int a :: r) σ Q = ((b ≤ a → aw g 209 109 L r σ Q) ∧ (¬ b ≤ a → aw g 209 67 L r σ Q)) := (aw_eq g 209 64 _ _ _ _).trans (by rw [tq209_64]; exact rfl)
theorem tq209_67 : tT g 209 67 = s_load vRf 209 68 0 := rfl
theorem A209_67 {l1 : Option Value} {l2 : Option Value} {l3 : Option Value} {l4 : Option Value} {l5 : Option Value} {l6 : Option Value} {l7 : Option Value} {l8 : Option Value} {l9 : Option Value} {x : Value} {r : List Value} : aw g 209 67 [some (x), l1, l2, l3, l4, l5, l6, l7, l8, l9] r σ Q = (vRf x = true ∧ aw g 209 68 [some (x), l1, l2, l3, l4, l5, l6, l7, l8, l9] (x :: r) σ Q) := (aw_eq g 209 67 _ _ _ _).trans (by rw [tq209_67]; exact h_load rfl)
theorem tq209_68 : tT g 209 68 = s_getf 209 71 7 31 := rfl
theorem A209_68 {L : AL} {r : List Value} {a : Nat} : aw g 209 68 L (.ref a :: r) σ Q = (hty σ a = some 7 ∧ aw g 209 71 L (hv σ 7 a 31 :: r) σ Q) := (aw_eq g 209 68 _ _ _ _).trans (by rw [tq209_68]; exact rfl)
theorem tq209_71 : tT g 209 71 = s_load vI 209 73 7 := rfl
theorem A209_71 {l0 : Option Value} {l1 : Option Value} {l2 : Option Value} {l3 : Option Value} {l4 : Option Value} {l5 : Option Value} {l6 : Option Value} {l8 : Option Value} {l9 : Option Value} {x : Int32} {r : List Value} : aw g 209 71 [l0, l1, l2, l3, l4, l5, l6, some (.int x), l8, l9] r σ Q = aw g 209 73 [l0, l1, l2, l3, l4, l5, l6, some (.int x), l8, l9] (.int x :: r) σ Q := (aw_eq g 209 71 _ _ _ _).trans (by rw [tq209_71]; exact (h_load rfl).trans (propext ⟨fun z => z.2, fun z => ⟨rfl, z⟩⟩))
theorem tq209_73 : tT g 209 73 = s_callvk 209 76 25 10 [0] 2 := rfl
theorem A209_73 {L : AL} {r : List Value} {a : Nat} {w0 : Value} : aw g 209 73 L (w0 :: .ref a :: r) σ Q = (hty σ a = some 10 ∧ (vI w0 && true) = true ∧ csum r ≤ 8 ∧ aw g 25 0 [some (.ref a), some w0] [] σ (kt (aw g) 209 76 L r Q)) := (aw_eq g 209 73 _ _ _ _).trans (by rw [tq209_73]; exact rfl)
theorem tq209_76 : tT g 209 76 = s_cast 209 79 [20] := rfl
theorem A209_76 {L : AL} {r : List Value} : aw g 209 76 L (.null :: r) σ Q = aw g 209 79 L (.null :: r) σ Q := (aw_eq g 209 76 _ _ _ _).trans (by rw [tq209_76]; exact rfl)
theorem A209_76r {L : AL} {r : List Value} {a : Nat} : aw g 209 76 L (.ref a :: r) σ Q = (hty σ a = some 20 ∧ aw g 209 79 L (.ref a :: r) σ Q) := (aw_eq g 209 76 _ _ _ _).trans (by rw [tq209_76]; exact propext ⟨fun z => (by obtain ⟨⟨u, hu, hu2⟩, z2⟩ := z; rw [List.mem_singleton] at hu; subst hu; exact ⟨hu2, z2⟩), fun z => ⟨⟨_, List.mem_cons_self, z.1⟩, z.2⟩⟩)
theorem tq209_79 : tT g 209 79 = s_const 209 80 (.int 0) := rfl
theorem A209_79 {L : AL} {r : List Value} : aw g 209 79 L r σ Q = aw g 209 80 L (.int 0 :: r) σ Q := (aw_eq g 209 79 _ _ _ _).trans (by rw [tq209_79]; exact rfl)
theorem tq209_80 : tT g 209 80 = s_ald 209 81 20 := rfl
theorem A209_80 {L : AL} {r : List Value} {a : Nat} {i : Int32} : aw g 209 80 L (.int i :: .ref a :: r) σ Q = (hty σ a = some 20 ∧ ¬ i < 0 ∧ i.toNatClampNeg < hln σ a ∧ aw g 209 81 L (hv σ 20 a i.toNatClampNeg :: r) σ Q) := (aw_eq g 209 80 _ _ _ _).trans (by rw [tq209_80]; exact rfl)
theorem tq209_81 : tT g 209 81 = s_load vI 209 83 8 := rfl
theorem A209_81 {l0 : Option Value} {l1 : Option Value} {l2 : Option Value} {l3 : Option Value} {l4 : Option Value} {l5 : Option Value} {l6 : Option Value} {l7 : Option Value} {l9 : Option Value} {x : Int32} {r : List Value} : aw g 209 81 [l0, l1, l2, l3, l4, l5, l6, l7, some (.int x), l9] r σ Q = aw g 209 83 [l0, l1, l2, l3, l4, l5, l6, l7, some (.int x), l9] (.int x :: r) σ Q := (aw_eq g 209 81 _ _ _ _).trans (by rw [tq209_81]; exact (h_load rfl).trans (propext ⟨fun z => z.2, fun z => ⟨rfl, z⟩⟩))
theorem tq209_83 : tT g 209 83 = s_icmp 209 109 86 (fun a b => a = b) := rfl
theorem A209_83 {L : AL} {r : List Value} {a b : Int32} : aw g 209 83 L (.int b :: .int a :: r) σ Q = ((a = b → aw g 209 86 L r σ Q) ∧ (¬ a = b → aw g 209 109 L r σ Q)) := (aw_eq g 209 83 _ _ _ _).trans (by rw [tq209_83]; exact rfl)
theorem tq209_86 : tT g 209 86 = s_load vRf 209 87 3 := rfl
theorem A209_86 {l0 : Option Value} {l1 : Option Value} {l2 : Option Value} {l4 : Option Value} {l5 : Option Value} {l6 : Option Value} {l7 : Option Value} {l8 : Option Value} {l9 : Option Value} {x : Value} {r : List Value} : aw g 209 86 [l0, l1, l2, some (x), l4, l5, l6, l7, l8, l9] r σ Q = (vRf x = true ∧ aw g 209 87 [l0, l1, l2, some (x), l4, l5, l6, l7, l8, l9] (x :: r) σ Q) := (aw_eq g 209 86 _ _ _ _).trans (by rw [tq209_86]; exact h_load rfl)
theorem tq209_87 : tT g 209 87 = s_load vRf 209 88 0 := rfl
theorem A209_87 {l1 : Option Value} {l2 : Option Value} {l3 : Option Value} {l4 : Option Value} {l5 : Option Value} {l6 : Option Value} {l7 : Option Value} {l8 : Option Value} {l9 : Option Value} {x : Value} {r : List Value} : aw g 209 87 [some (x), l1, l2, l3, l4, l5, l6, l7, l8, l9] r σ Q = (vRf x = true ∧ aw g 209 88 [some (x), l1, l2, l3, l4, l5, l6, l7, l8, l9] (x :: r) σ Q) := (aw_eq g 209 87 _ _ _ _).trans (by rw [tq209_87]; exact h_load rfl)
theorem tq209_88 : tT g 209 88 = s_getf 209 91 7 31 := rfl
theorem A209_88 {L : AL} {r : List Value} {a : Nat} : aw g 209 88 L (.ref a :: r) σ Q = (hty σ a = some 7 ∧ aw g 209 91 L (hv σ 7 a 31 :: r) σ Q) := (aw_eq g 209 88 _ _ _ _).trans (by rw [tq209_88]; exact rfl)
theorem tq209_91 : tT g 209 91 = s_load vI 209 93 7 := rfl
theorem A209_91 {l0 : Option Value} {l1 : Option Value} {l2 : Option Value} {l3 : Option Value} {l4 : Option Value} {l5 : Option Value} {l6 : Option Value} {l8 : Option Value} {l9 : Option Value} {x : Int32} {r : List Value} : aw g 209 91 [l0, l1, l2, l3, l4, l5, l6, some (.int x), l8, l9] r σ Q = aw g 209 93 [l0, l1, l2, l3, l4, l5, l6, some (.int x), l8, l9] (.int x :: r) σ Q := (aw_eq g 209 91 _ _ _ _).trans (by rw [tq209_91]; exact (h_load rfl).trans (propext ⟨fun z => z.2, fun z => ⟨rfl, z⟩⟩))
theorem tq209_93 : tT g 209 93 = s_callvk 209 96 25 10 [0] 2 := rfl
theorem A209_93 {L : AL} {r : List Value} {a : Nat} {w0 : Value} : aw g 209 93 L (w0 :: .ref a :: r) σ Q = (hty σ a = some 10 ∧ (vI w0 && true) = true ∧ csum r ≤ 8 ∧ aw g 25 0 [some (.ref a), some w0] [] σ (kt (aw g) 209 96 L r Q)) := (aw_eq g 209 93 _ _ _ _).trans (by rw [tq209_93]; exact rfl)
theorem tq209_96 : tT g 209 96 = s_cast 209 99 [20] := rfl
theorem A209_96 {L : AL} {r : List Value} : aw g 209 96 L (.null :: r) σ Q = aw g 209 99 L (.null :: r) σ Q := (aw_eq g 209 96 _ _ _ _).trans (by rw [tq209_96]; exact rfl)
theorem A209_96r {L : AL} {r : List Value} {a : Nat} : aw g 209 96 L (.ref a :: r) σ Q = (hty σ a = some 20 ∧ aw g 209 99 L (.ref a :: r) σ Q) := (aw_eq g 209 96 _ _ _ _).trans (by rw [tq209_96]; exact propext ⟨fun z => (by obtain ⟨⟨u, hu, hu2⟩, z2⟩ := z; rw [List.mem_singleton] at hu; subst hu; exact ⟨hu2, z2⟩), fun z => ⟨⟨_, List.mem_cons_self, z.1⟩, z.2⟩⟩)
theorem tq209_99 : tT g 209 99 = s_const 209 100 (.int 1) := rfl
theorem A209_99 {L : AL} {r : List Value} : aw g 209 99 L r σ Q = aw g 209 100 L (.int 1 :: r) σ Q := (aw_eq g 209 99 _ _ _ _).trans (by rw [tq209_99]; exact rfl)
theorem tq209_100 : tT g 209 100 = s_ald 209 101 20 := rfl
theorem A209_100 {L : AL} {r : List Value} {a : Nat} {i : Int32} : aw g 209 100 L (.int i :: .ref a :: r) σ Q = (hty σ a = some 20 ∧ ¬ i < 0 ∧ i.toNatClampNeg < hln σ a ∧ aw g 209 101 L (hv σ 20 a i.toNatClampNeg :: r) σ Q) := (aw_eq g 209 100 _ _ _ _).trans (by rw [tq209_100]; exact rfl)
theorem tq209_101 : tT g 209 101 = s_const 209 102 (.int 0) := rfl
theorem A209_101 {L : AL} {r : List Value} : aw g 209 101 L r σ Q = aw g 209 102 L (.int 0 :: r) σ Q := (aw_eq g 209 101 _ _ _ _).trans (by rw [tq209_101]; exact rfl)
theorem tq209_102 : tT g 209 102 = s_ast g (fun _ v => vI v = true) 209 103 20 := rfl
theorem A209_102 {L : AL} {r : List Value} {a : Nat} {i : Int32} {v : Value} : aw g 209 102 L (v :: .int i :: .ref a :: r) σ Q = (hty σ a = some 20 ∧ gB g ≤ a ∧ ¬ i < 0 ∧ i.toNatClampNeg < hln σ a ∧ vI v = true ∧ aw g 209 103 L r (hput σ 20 a i.toNatClampNeg v) Q) := (aw_eq g 209 102 _ _ _ _).trans (by rw [tq209_102]; exact rfl)
theorem tq209_103 : tT g 209 103 = s_iinc 209 106 7 1 := rfl
theorem A209_103 {l0 : Option Value} {l1 : Option Value} {l2 : Option Value} {l3 : Option Value} {l4 : Option Value} {l5 : Option Value} {l6 : Option Value} {l8 : Option Value} {l9 : Option Value} {x : Int32} {r : List Value} : aw g 209 103 [l0, l1, l2, l3, l4, l5, l6, some (.int x), l8, l9] r σ Q = (oc l6 = true ∧ aw g 209 106 [l0, l1, l2, l3, l4, l5, l6, some (.int (x + 1)), l8, l9] r σ Q) := (aw_eq g 209 103 _ _ _ _).trans (by rw [tq209_103]; exact (h_iinc (o := oc l6) rfl rfl rfl))
theorem tq209_106 : tT g 209 106 = s_goto 209 55 := rfl
theorem A209_106 {L : AL} {r : List Value} : aw g 209 106 L r σ Q = aw g 209 55 L r σ Q := (aw_eq g 209 106 _ _ _ _).trans (by rw [tq209_106]; exact rfl)
theorem tq209_109 : tT g 209 109 = s_load vI 209 111 8 := rfl
theorem A209_109 {l0 : Option Value} {l1 : Option Value} {l2 : Option Value} {l3 : Option Value} {l4 : Option Value} {l5 : Option Value} {l6 : Option Value} {l7 : Option Value} {l9 : Option Value} {x : Int32} {r : List Value} : aw g 209 109 [l0, l1, l2, l3, l4, l5, l6, l7, some (.int x), l9] r σ Q = aw g 209 111 [l0, l1, l2, l3, l4, l5, l6, l7, some (.int x), l9] (.int x :: r) σ Q := (aw_eq g 209 109 _ _ _ _).trans (by rw [tq209_109]; exact (h_load rfl).trans (propext ⟨fun z => z.2, fun z => ⟨rfl, z⟩⟩))
theorem tq209_111 : tT g 209 111 = s_load vI 209 112 1 := rfl
theorem A209_111 {l0 : Option Value} {l2 : Option Value} {l3 : Option Value} {l4 : Option Value} {l5 : Option Value} {l6 : Option Value} {l7 : Option Value} {l8 : Option Value} {l9 : Option Value} {x : Int32} {r : List Value} : aw g 209 111 [l0, some (.int x), l2, l3, l4, l5, l6, l7, l8, l9] r σ Q = aw g 209 112 [l0, some (.int x), l2, l3, l4, l5, l6, l7, l8, l9] (.int x :: r) σ Q := (aw_eq g 209 111 _ _ _ _).trans (by rw [tq209_111]; exact (h_load rfl).trans (propext ⟨fun z => z.2, fun z => ⟨rfl, z⟩⟩))
theorem tq209_112 : tT g 209 112 = s_icmp 209 118 115 (fun a b => a = b) := rfl
theorem A209_112 {L : AL} {r : List Value} {a b : Int32} : aw g 209 112 L (.int b :: .int a :: r) σ Q = ((a = b → aw g 209 115 L r σ Q) ∧ (¬ a = b → aw g 209 118 L r σ Q)) := (aw_eq g 209 112 _ _ _ _).trans (by rw [tq209_112]; exact rfl)
theorem tq209_115 : tT g 209 115 = s_goto 209 291 := rfl
theorem A209_115 {L : AL} {r : List Value} : aw g 209 115 L r σ Q = aw g 209 291 L r σ Q := (aw_eq g 209 115 _ _ _ _).trans (by rw [tq209_115]; exact rfl)
theorem tq209_118 : tT g 209 118 = s_load vRf 209 119 0 := rfl
theorem A209_118 {l1 : Option Value} {l2 : Option Value} {l3 : Option Value} {l4 : Option Value} {l5 : Option Value} {l6 : Option Value} {l7 : Option Value} {l8 : Option Value} {l9 : Option Value} {x : Value} {r : List Value} : aw g 209 118 [some (x), l1, l2, l3, l4, l5, l6, l7, l8, l9] r σ Q = (vRf x = true ∧ aw g 209 119 [some (x), l1, l2, l3, l4, l5, l6, l7, l8, l9] (x :: r) σ Q) := (aw_eq g 209 118 _ _ _ _).trans (by rw [tq209_118]; exact h_load rfl)
theorem tq209_119 : tT g 209 119 = s_getf 209 122 7 1 := rfl
theorem A209_119 {L : AL} {r : List Value} {a : Nat} : aw g 209 119 L (.ref a :: r) σ Q = (hty σ a = some 7 ∧ aw g 209 122 L (hv σ 7 a 1 :: r) σ Q) := (aw_eq g 209 119 _ _ _ _).trans (by rw [tq209_119]; exact rfl)
theorem tq209_122 : tT g 209 122 = s_load vI 209 124 5 := rfl
theorem A209_122 {l0 : Option Value} {l1 : Option Value} {l2 : Option Value} {l3 : Option Value} {l4 : Option Value} {l6 : Option Value} {l7 : Option Value} {l8 : Option Value} {l9 : Option Value} {x : Int32} {r : List Value} : aw g 209 122 [l0, l1, l2, l3, l4, some (.int x), l6, l7, l8, l9] r σ Q = aw g 209 124 [l0, l1, l2, l3, l4, some (.int x), l6, l7, l8, l9] (.int x :: r) σ Q := (aw_eq g 209 122 _ _ _ _).trans (by rw [tq209_122]; exact (h_load rfl).trans (propext ⟨fun z => z.2, fun z => ⟨rfl, z⟩⟩))
theorem tq209_124 : tT g 209 124 = s_callvk 209 127 25 10 [0] 2 := rfl
theorem A209_124 {L : AL} {r : List Value} {a : Nat} {w0 : Value} : aw g 209 124 L (w0 :: .ref a :: r) σ Q = (hty σ a = some 10 ∧ (vI w0 && true) = true ∧ csum r ≤ 8 ∧ aw g 25 0 [some (.ref a), some w0] [] σ (kt (aw g) 209 127 L r Q)) := (aw_eq g 209 124 _ _ _ _).trans (by rw [tq209_124]; exact rfl)
theorem tq209_127 : tT g 209 127 = s_cast 209 130 [20] := rfl
theorem A209_127 {L : AL} {r : List Value} : aw g 209 127 L (.null :: r) σ Q = aw g 209 130 L (.null :: r) σ Q := (aw_eq g 209 127 _ _ _ _).trans (by rw [tq209_127]; exact rfl)
theorem A209_127r {L : AL} {r : List Value} {a : Nat} : aw g 209 127 L (.ref a :: r) σ Q = (hty σ a = some 20 ∧ aw g 209 130 L (.ref a :: r) σ Q) := (aw_eq g 209 127 _ _ _ _).trans (by rw [tq209_127]; exact propext ⟨fun z => (by obtain ⟨⟨u, hu, hu2⟩, z2⟩ := z; rw [List.mem_singleton] at hu; subst hu; exact ⟨hu2, z2⟩), fun z => ⟨⟨_, List.mem_cons_self, z.1⟩, z.2⟩⟩)
theorem tq209_130 : tT g 209 130 = s_store vRf 209 132 9 := rfl
theorem A209_130 {l0 : Option Value} {l1 : Option Value} {l2 : Option Value} {l3 : Option Value} {l4 : Option Value} {l5 : Option Value} {l6 : Option Value} {l7 : Option Value} {l8 : Option Value} {l9 : Option Value} {x : Value} {r : List Value} : aw g 209 130 [l0, l1, l2, l3, l4, l5, l6, l7, l8, l9] (x :: r) σ Q = (vRf x = true ∧ oc l8 = true ∧ aw g 209 132 [l0, l1, l2, l3, l4, l5, l6, l7, l8, some (x)] r σ Q) := (aw_eq g 209 130 _ _ _ _).trans (by rw [tq209_130]; exact (h_store (o := oc l8) rfl rfl rfl))
theorem tq209_132 : tT g 209 132 = s_load vRf 209 134 9 := rfl
theorem A209_132 {l0 : Option Value} {l1 : Option Value} {l2 : Option Value} {l3 : Option Value} {l4 : Option Value} {l5 : Option Value} {l6 : Option Value} {l7 : Option Value} {l8 : Option Value} {x : Value} {r : List Value} : aw g 209 132 [l0, l1, l2, l3, l4, l5, l6, l7, l8, some (x)] r σ Q = (vRf x = true ∧ aw g 209 134 [l0, l1, l2, l3, l4, l5, l6, l7, l8, some (x)] (x :: r) σ Q) := (aw_eq g 209 132 _ _ _ _).trans (by rw [tq209_132]; exact h_load rfl)
theorem tq209_134 : tT g 209 134 = s_const 209 135 (.int 0) := rfl
theorem A209_134 {L : AL} {r : List Value} : aw g 209 134 L r σ Q = aw g 209 135 L (.int 0 :: r) σ Q := (aw_eq g 209 134 _ _ _ _).trans (by rw [tq209_134]; exact rfl)
theorem tq209_135 : tT g 209 135 = s_ald 209 136 20 := rfl
theorem A209_135 {L : AL} {r : List Value} {a : Nat} {i : Int32} : aw g 209 135 L (.int i :: .ref a :: r) σ Q = (hty σ a = some 20 ∧ ¬ i < 0 ∧ i.toNatClampNeg < hln σ a ∧ aw g 209 136 L (hv σ 20 a i.toNatClampNeg :: r) σ Q) := (aw_eq g 209 135 _ _ _ _).trans (by rw [tq209_135]; exact rfl)
theorem tq209_136 : tT g 209 136 = s_const 209 137 (.int 4) := rfl
theorem A209_136 {L : AL} {r : List Value} : aw g 209 136 L r σ Q = aw g 209 137 L (.int 4 :: r) σ Q := (aw_eq g 209 136 _ _ _ _).trans (by rw [tq209_136]; exact rfl)
theorem tq209_137 : tT g 209 137 = s_icmp 209 140 148 (fun a b => a = b) := rfl
theorem A209_137 {L : AL} {r : List Value} {a b : Int32} : aw g 209 137 L (.int b :: .int a :: r) σ Q = ((a = b → aw g 209 148 L r σ Q) ∧ (¬ a = b → aw g 209 140 L r σ Q)) := (aw_eq g 209 137 _ _ _ _).trans (by rw [tq209_137]; exact rfl)
theorem tq209_140 : tT g 209 140 = s_load vRf 209 142 9 := rfl
theorem A209_140 {l0 : Option Value} {l1 : Option Value} {l2 : Option Value} {l3 : Option Value} {l4 : Option Value} {l5 : Option Value} {l6 : Option Value} {l7 : Option Value} {l8 : Option Value} {x : Value} {r : List Value} : aw g 209 140 [l0, l1, l2, l3, l4, l5, l6, l7, l8, some (x)] r σ Q = (vRf x = true ∧ aw g 209 142 [l0, l1, l2, l3, l4, l5, l6, l7, l8, some (x)] (x :: r) σ Q) := (aw_eq g 209 140 _ _ _ _).trans (by rw [tq209_140]; exact h_load rfl)
theorem tq209_142 : tT g 209 142 = s_const 209 143 (.int 0) := rfl
theorem A209_142 {L : AL} {r : List Value} : aw g 209 142 L r σ Q = aw g 209 143 L (.int 0 :: r) σ Q := (aw_eq g 209 142 _ _ _ _).trans (by rw [tq209_142]; exact rfl)
theorem tq209_143 : tT g 209 143 = s_ald 209 144 20 := rfl
theorem A209_143 {L : AL} {r : List Value} {a : Nat} {i : Int32} : aw g 209 143 L (.int i :: .ref a :: r) σ Q = (hty σ a = some 20 ∧ ¬ i < 0 ∧ i.toNatClampNeg < hln σ a ∧ aw g 209 144 L (hv σ 20 a i.toNatClampNeg :: r) σ Q) := (aw_eq g 209 143 _ _ _ _).trans (by rw [tq209_143]; exact rfl)
theorem tq209_144 : tT g 209 144 = s_const 209 145 (.int 5) := rfl
theorem A209_144 {L : AL} {r : List Value} : aw g 209 144 L r σ Q = aw g 209 145 L (.int 5 :: r) σ Q := (aw_eq g 209 144 _ _ _ _).trans (by rw [tq209_144]; exact rfl)
theorem tq209_145 : tT g 209 145 = s_icmp 209 215 148 (fun a b => a = b) := rfl
theorem A209_145 {L : AL} {r : List Value} {a b : Int32} : aw g 209 145 L (.int b :: .int a :: r) σ Q = ((a = b → aw g 209 148 L r σ Q) ∧ (¬ a = b → aw g 209 215 L r σ Q)) := (aw_eq g 209 145 _ _ _ _).trans (by rw [tq209_145]; exact rfl)
theorem tq209_148 : tT g 209 148 = s_load vI 209 150 6 := rfl
theorem A209_148 {l0 : Option Value} {l1 : Option Value} {l2 : Option Value} {l3 : Option Value} {l4 : Option Value} {l5 : Option Value} {l7 : Option Value} {l8 : Option Value} {l9 : Option Value} {x : Int32} {r : List Value} : aw g 209 148 [l0, l1, l2, l3, l4, l5, some (.int x), l7, l8, l9] r σ Q = aw g 209 150 [l0, l1, l2, l3, l4, l5, some (.int x), l7, l8, l9] (.int x :: r) σ Q := (aw_eq g 209 148 _ _ _ _).trans (by rw [tq209_148]; exact (h_load rfl).trans (propext ⟨fun z => z.2, fun z => ⟨rfl, z⟩⟩))
theorem tq209_150 : tT g 209 150 = s_load vRf 209 151 0 := rfl
theorem A209_150 {l1 : Option Value} {l2 : Option Value} {l3 : Option Value} {l4 : Option Value} {l5 : Option Value} {l6 : Option Value} {l7 : Option Value} {l8 : Option Value} {l9 : Option Value} {x : Value} {r : List Value} : aw g 209 150 [some (x), l1, l2, l3, l4, l5, l6, l7, l8, l9] r σ Q = (vRf x = true ∧ aw g 209 151 [some (x), l1, l2, l3, l4, l5, l6, l7, l8, l9] (x :: r) σ Q) := (aw_eq g 209 150 _ _ _ _).trans (by rw [tq209_150]; exact h_load rfl)
theorem tq209_151 : tT g 209 151 = s_getf 209 154 7 30 := rfl
theorem A209_151 {L : AL} {r : List Value} {a : Nat} : aw g 209 151 L (.ref a :: r) σ Q = (hty σ a = some 7 ∧ aw g 209 154 L (hv σ 7 a 30 :: r) σ Q) := (aw_eq g 209 151 _ _ _ _).trans (by rw [tq209_151]; exact rfl)
theorem tq209_154 : tT g 209 154 = s_callvk 209 157 15 10 [] 1 := rfl
theorem A209_154 {L : AL} {r : List Value} {a : Nat} : aw g 209 154 L (.ref a :: r) σ Q = (hty σ a = some 10 ∧ true = true ∧ csum r ≤ 8 ∧ aw g 15 0 [some (.ref a)] [] σ (kt (aw g) 209 157 L r Q)) := (aw_eq g 209 154 _ _ _ _).trans (by rw [tq209_154]; exact rfl)
theorem tq209_157 : tT g 209 157 = s_icmp 209 162 160 (fun a b => a = b) := rfl
theorem A209_157 {L : AL} {r : List Value} {a b : Int32} : aw g 209 157 L (.int b :: .int a :: r) σ Q = ((a = b → aw g 209 160 L r σ Q) ∧ (¬ a = b → aw g 209 162 L r σ Q)) := (aw_eq g 209 157 _ _ _ _).trans (by rw [tq209_157]; exact rfl)
theorem tq209_160 : tT g 209 160 = s_const 209 161 (.int (-1)) := rfl
theorem A209_160 {L : AL} {r : List Value} : aw g 209 160 L r σ Q = aw g 209 161 L (.int (-1) :: r) σ Q := (aw_eq g 209 160 _ _ _ _).trans (by rw [tq209_160]; exact rfl)
theorem tq209_161 : tT g 209 161 = s_ret pI := rfl
theorem A209_161 {L : AL} {v : Value} : aw g 209 161 L [v] σ Q = (pI v ∧ Q (.inl (some v)) σ) := (aw_eq g 209 161 _ _ _ _).trans (by rw [tq209_161]; exact rfl)
theorem tq209_162 : tT g 209 162 = s_load vRf 209 164 9 := rfl
theorem A209_162 {l0 : Option Value} {l1 : Option Value} {l2 : Option Value} {l3 : Option Value} {l4 : Option Value} {l5 : Option Value} {l6 : Option Value} {l7 : Option Value} {l8 : Option Value} {x : Value} {r : List Value} : aw g 209 162 [l0, l1, l2, l3, l4, l5, l6, l7, l8, some (x)] r σ Q = (vRf x = true ∧ aw g 209 164 [l0, l1, l2, l3, l4, l5, l6, l7, l8, some (x)] (x :: r) σ Q) := (aw_eq g 209 162 _ _ _ _).trans (by rw [tq209_162]; exact h_load rfl)
theorem tq209_164 : tT g 209 164 = s_const 209 165 (.int 0) := rfl
theorem A209_164 {L : AL} {r : List Value} : aw g 209 164 L r σ Q = aw g 209 165 L (.int 0 :: r) σ Q := (aw_eq g 209 164 _ _ _ _).trans (by rw [tq209_164]; exact rfl)
theorem tq209_165 : tT g 209 165 = s_ald 209 166 20 := rfl
theorem A209_165 {L : AL} {r : List Value} {a : Nat} {i : Int32} : aw g 209 165 L (.int i :: .ref a :: r) σ Q = (hty σ a = some 20 ∧ ¬ i < 0 ∧ i.toNatClampNeg < hln σ a ∧ aw g 209 166 L (hv σ 20 a i.toNatClampNeg :: r) σ Q) := (aw_eq g 209 165 _ _ _ _).trans (by rw [tq209_165]; exact rfl)
theorem tq209_166 : tT g 209 166 = s_const 209 167 (.int 5) := rfl
theorem A209_166 {L : AL} {r : List Value} : aw g 209 166 L r σ Q = aw g 209 167 L (.int 5 :: r) σ Q := (aw_eq g 209 166 _ _ _ _).trans (by rw [tq209_166]; exact rfl)
theorem tq209_167 : tT g 209 167 = s_icmp 209 188 170 (fun a b => a = b) := rfl
theorem A209_167 {L : AL} {r : List Value} {a b : Int32} : aw g 209 167 L (.int b :: .int a :: r) σ Q = ((a = b → aw g 209 170 L r σ Q) ∧ (¬ a = b → aw g 209 188 L r σ Q)) := (aw_eq g 209 167 _ _ _ _).trans (by rw [tq209_167]; exact rfl)
theorem tq209_170 : tT g 209 170 = s_load vRf 209 171 0 := rfl
theorem A209_170 {l1 : Option Value} {l2 : Option Value} {l3 : Option Value} {l4 : Option Value} {l5 : Option Value} {l6 : Option Value} {l7 : Option Value} {l8 : Option Value} {l9 : Option Value} {x : Value} {r : List Value} : aw g 209 170 [some (x), l1, l2, l3, l4, l5, l6, l7, l8, l9] r σ Q = (vRf x = true ∧ aw g 209 171 [some (x), l1, l2, l3, l4, l5, l6, l7, l8, l9] (x :: r) σ Q) := (aw_eq g 209 170 _ _ _ _).trans (by rw [tq209_170]; exact h_load rfl)
theorem tq209_171 : tT g 209 171 = s_getf 209 174 7 30 := rfl
theorem A209_171 {L : AL} {r : List Value} {a : Nat} : aw g 209 171 L (.ref a :: r) σ Q = (hty σ a = some 7 ∧ aw g 209 174 L (hv σ 7 a 30 :: r) σ Q) := (aw_eq g 209 171 _ _ _ _).trans (by rw [tq209_171]; exact rfl)
theorem tq209_174 : tT g 209 174 = s_load vI 209 176 6 := rfl
theorem A209_174 {l0 : Option Value} {l1 : Option Value} {l2 : Option Value} {l3 : Option Value} {l4 : Option Value} {l5 : Option Value} {l7 : Option Value} {l8 : Option Value} {l9 : Option Value} {x : Int32} {r : List Value} : aw g 209 174 [l0, l1, l2, l3, l4, l5, some (.int x), l7, l8, l9] r σ Q = aw g 209 176 [l0, l1, l2, l3, l4, l5, some (.int x), l7, l8, l9] (.int x :: r) σ Q := (aw_eq g 209 174 _ _ _ _).trans (by rw [tq209_174]; exact (h_load rfl).trans (propext ⟨fun z => z.2, fun z => ⟨rfl, z⟩⟩))
theorem tq209_176 : tT g 209 176 = s_callvk 209 179 25 10 [0] 2 := rfl
theorem A209_176 {L : AL} {r : List Value} {a : Nat} {w0 : Value} : aw g 209 176 L (w0 :: .ref a :: r) σ Q = (hty σ a = some 10 ∧ (vI w0 && true) = true ∧ csum r ≤ 8 ∧ aw g 25 0 [some (.ref a), some w0] [] σ (kt (aw g) 209 179 L r Q)) := (aw_eq g 209 176 _ _ _ _).trans (by rw [tq209_176]; exact rfl)
theorem tq209_179 : tT g 209 179 = s_cast 209 182 [12] := rfl
theorem A209_179 {L : AL} {r : List Value} : aw g 209 179 L (.null :: r) σ Q = aw g 209 182 L (.null :: r) σ Q := (aw_eq g 209 179 _ _ _ _).trans (by rw [tq209_179]; exact rfl)
theorem A209_179r {L : AL} {r : List Value} {a : Nat} : aw g 209 179 L (.ref a :: r) σ Q = (hty σ a = some 12 ∧ aw g 209 182 L (.ref a :: r) σ Q) := (aw_eq g 209 179 _ _ _ _).trans (by rw [tq209_179]; exact propext ⟨fun z => (by obtain ⟨⟨u, hu, hu2⟩, z2⟩ := z; rw [List.mem_singleton] at hu; subst hu; exact ⟨hu2, z2⟩), fun z => ⟨⟨_, List.mem_cons_self, z.1⟩, z.2⟩⟩)
theorem tq209_182 : tT g 209 182 = s_callvk 209 185 8 12 [] 1 := rfl
theorem A209_182 {L : AL} {r : List Value} {a : Nat} : aw g 209 182 L (.ref a :: r) σ Q = (hty σ a = some 12 ∧ true = true ∧ csum r ≤ 8 ∧ aw g 8 0 [some (.ref a)] [] σ (kt (aw g) 209 185 L r Q)) := (aw_eq g 209 182 _ _ _ _).trans (by rw [tq209_182]; exact rfl)
theorem tq209_185 : tT g 209 185 = s_goto 209 210 := rfl
theorem A209_185 {L : AL} {r : List Value} : aw g 209 185 L r σ Q = aw g 209 210 L r σ Q := (aw_eq g 209 185 _ _ _ _).trans (by rw [tq209_185]; exact rfl)
theorem tq209_188 : tT g 209 188 = s_load vI 209 190 4 := rfl
theorem A209_188 {l0 : Option Value} {l1 : Option Value} {l2 : Option Value} {l3 : Option Value} {l5 : Option Value} {l6 : Option Value} {l7 : Option Value} {l8 : Option Value} {l9 : Option Value} {x : Int32} {r : List Value} : aw g 209 188 [l0, l1, l2, l3, some (.int x), l5, l6, l7, l8, l9] r σ Q = aw g 209 190 [l0, l1, l2, l3, some (.int x), l5, l6, l7, l8, l9] (.int x :: r) σ Q := (aw_eq g 209 188 _ _ _ _).trans (by rw [tq209_188]; exact (h_load rfl).trans (propext ⟨fun z => z.2, fun z => ⟨rfl, z⟩⟩))
theorem tq209_190 : tT g 209 190 = s_load vRf 209 191 0 := rfl
theorem A209_190 {l1 : Option Value} {l2 : Option Value} {l3 : Option Value} {l4 : Option Value} {l5 : Option Value} {l6 : Option Value} {l7 : Option Value} {l8 : Option Value} {l9 : Option Value} {x : Value} {r : List Value} : aw g 209 190 [some (x), l1, l2, l3, l4, l5, l6, l7, l8, l9] r σ Q = (vRf x = true ∧ aw g 209 191 [some (x), l1, l2, l3, l4, l5, l6, l7, l8, l9] (x :: r) σ Q) := (aw_eq g 209 190 _ _ _ _).trans (by rw [tq209_190]; exact h_load rfl)
theorem tq209_191 : tT g 209 191 = s_getf 209 194 7 30 := rfl
theorem A209_191 {L : AL} {r : List Value} {a : Nat} : aw g 209 191 L (.ref a :: r) σ Q = (hty σ a = some 7 ∧ aw g 209 194 L (hv σ 7 a 30 :: r) σ Q) := (aw_eq g 209 191 _ _ _ _).trans (by rw [tq209_191]; exact rfl)
theorem tq209_194 : tT g 209 194 = s_load vI 209 196 6 := rfl
theorem A209_194 {l0 : Option Value} {l1 : Option Value} {l2 : Option Value} {l3 : Option Value} {l4 : Option Value} {l5 : Option Value} {l7 : Option Value} {l8 : Option Value} {l9 : Option Value} {x : Int32} {r : List Value} : aw g 209 194 [l0, l1, l2, l3, l4, l5, some (.int x), l7, l8, l9] r σ Q = aw g 209 196 [l0, l1, l2, l3, l4, l5, some (.int x), l7, l8, l9] (.int x :: r) σ Q := (aw_eq g 209 194 _ _ _ _).trans (by rw [tq209_194]; exact (h_load rfl).trans (propext ⟨fun z => z.2, fun z => ⟨rfl, z⟩⟩))
theorem tq209_196 : tT g 209 196 = s_callvk 209 199 25 10 [0] 2 := rfl
theorem A209_196 {L : AL} {r : List Value} {a : Nat} {w0 : Value} : aw g 209 196 L (w0 :: .ref a :: r) σ Q = (hty σ a = some 10 ∧ (vI w0 && true) = true ∧ csum r ≤ 8 ∧ aw g 25 0 [some (.ref a), some w0] [] σ (kt (aw g) 209 199 L r Q)) := (aw_eq g 209 196 _ _ _ _).trans (by rw [tq209_196]; exact rfl)
theorem tq209_199 : tT g 209 199 = s_cast 209 202 [12] := rfl
theorem A209_199 {L : AL} {r : List Value} : aw g 209 199 L (.null :: r) σ Q = aw g 209 202 L (.null :: r) σ Q := (aw_eq g 209 199 _ _ _ _).trans (by rw [tq209_199]; exact rfl)
theorem A209_199r {L : AL} {r : List Value} {a : Nat} : aw g 209 199 L (.ref a :: r) σ Q = (hty σ a = some 12 ∧ aw g 209 202 L (.ref a :: r) σ Q) := (aw_eq g 209 199 _ _ _ _).trans (by rw [tq209_199]; exact propext ⟨fun z => (by obtain ⟨⟨u, hu, hu2⟩, z2⟩ := z; rw [List.mem_singleton] at hu; subst hu; exact ⟨hu2, z2⟩), fun z => ⟨⟨_, List.mem_cons_self, z.1⟩, z.2⟩⟩)
theorem tq209_202 : tT g 209 202 = s_callvk 209 205 8 12 [] 1 := rfl
theorem A209_202 {L : AL} {r : List Value} {a : Nat} : aw g 209 202 L (.ref a :: r) σ Q = (hty σ a = some 12 ∧ true = true ∧ csum r ≤ 8 ∧ aw g 8 0 [some (.ref a)] [] σ (kt (aw g) 209 205 L r Q)) := (aw_eq g 209 202 _ _ _ _).trans (by rw [tq209_202]; exact rfl)
theorem tq209_205 : tT g 209 205 = s_bin 209 206 (fun a b => a + b) := rfl
theorem A209_205 {L : AL} {r : List Value} {a b : Int32} : aw g 209 205 L (.int b :: .int a :: r) σ Q = aw g 209 206 L (.int (a + b) :: r) σ Q := (aw_eq g 209 205 _ _ _ _).trans (by rw [tq209_205]; exact rfl)
theorem tq209_206 : tT g 209 206 = s_const 209 209 (.int 1000) := rfl
theorem A209_206 {L : AL} {r : List Value} : aw g 209 206 L r σ Q = aw g 209 209 L (.int 1000 :: r) σ Q := (aw_eq g 209 206 _ _ _ _).trans (by rw [tq209_206]; exact rfl)
theorem tq209_209 : tT g 209 209 = s_div 209 210 (fun a b => a - a / b * b) := rfl
theorem A209_209 {L : AL} {r : List Value} {a b : Int32} : aw g 209 209 L (.int b :: .int a :: r) σ Q = (b ≠ 0 ∧ aw g 209 210 L (.int (a - a / b * b) :: r) σ Q) := (aw_eq g 209 209 _ _ _ _).trans (by rw [tq209_209]; exact rfl)
theorem tq209_210 : tT g 209 210 = s_store vI 209 212 4 := rfl
theorem A209_210 {l0 : Option Value} {l1 : Option Value} {l2 : Option Value} {l3 : Option Value} {l4 : Option Value} {l5 : Option Value} {l6 : Option Value} {l7 : Option Value} {l8 : Option Value} {l9 : Option Value} {x : Int32} {r : List Value} : aw g 209 210 [l0, l1, l2, l3, l4, l5, l6, l7, l8, l9] (.int x :: r) σ Q = (oc l3 = true ∧ aw g 209 212 [l0, l1, l2, l3, some (.int x), l5, l6, l7, l8, l9] r σ Q) := (aw_eq g 209 210 _ _ _ _).trans (by rw [tq209_210]; exact (h_store (o := oc l3) rfl rfl rfl).trans (propext ⟨fun z => z.2, fun z => ⟨rfl, z⟩⟩))
theorem tq209_212 : tT g 209 212 = s_iinc 209 215 6 1 := rfl
theorem A209_212 {l0 : Option Value} {l1 : Option Value} {l2 : Option Value} {l3 : Option Value} {l4 : Option Value} {l5 : Option Value} {l7 : Option Value} {l8 : Option Value} {l9 : Option Value} {x : Int32} {r : List Value} : aw g 209 212 [l0, l1, l2, l3, l4, l5, some (.int x), l7, l8, l9] r σ Q = (oc l5 = true ∧ aw g 209 215 [l0, l1, l2, l3, l4, l5, some (.int (x + 1)), l7, l8, l9] r σ Q) := (aw_eq g 209 212 _ _ _ _).trans (by rw [tq209_212]; exact (h_iinc (o := oc l5) rfl rfl rfl))
theorem tq209_215 : tT g 209 215 = s_load vRf 209 217 9 := rfl
theorem A209_215 {l0 : Option Value} {l1 : Option Value} {l2 : Option Value} {l3 : Option Value} {l4 : Option Value} {l5 : Option Value} {l6 : Option Value} {l7 : Option Value} {l8 : Option Value} {x : Value} {r : List Value} : aw g 209 215 [l0, l1, l2, l3, l4, l5, l6, l7, l8, some (x)] r σ Q = (vRf x = true ∧ aw g 209 217 [l0, l1, l2, l3, l4, l5, l6, l7, l8, some (x)] (x :: r) σ Q) := (aw_eq g 209 215 _ _ _ _).trans (by rw [tq209_215]; exact h_load rfl)
theorem tq209_217 : tT g 209 217 = s_const 209 218 (.int 0) := rfl
theorem A209_217 {L : AL} {r : List Value} : aw g 209 217 L r σ Q = aw g 209 218 L (.int 0 :: r) σ Q := (aw_eq g 209 217 _ _ _ _).trans (by rw [tq209_217]; exact rfl)
theorem tq209_218 : tT g 209 218 = s_ald 209 219 20 := rfl
theorem A209_218 {L : AL} {r : List Value} {a : Nat} {i : Int32} : aw g 209 218 L (.int i :: .ref a :: r) σ Q = (hty σ a = some 20 ∧ ¬ i < 0 ∧ i.toNatClampNeg < hln σ a ∧ aw g 209 219 L (hv σ 20 a i.toNatClampNeg :: r) σ Q) := (aw_eq g 209 218 _ _ _ _).trans (by rw [tq209_218]; exact rfl)
theorem tq209_219 : tT g 209 219 = s_const 209 220 (.int 1) := rfl
theorem A209_219 {L : AL} {r : List Value} : aw g 209 219 L r σ Q = aw g 209 220 L (.int 1 :: r) σ Q := (aw_eq g 209 219 _ _ _ _).trans (by rw [tq209_219]; exact rfl)
theorem tq209_220 : tT g 209 220 = s_icmp 209 240 223 (fun a b => a = b) := rfl
theorem A209_220 {L : AL} {r : List Value} {a b : Int32} : aw g 209 220 L (.int b :: .int a :: r) σ Q = ((a = b → aw g 209 223 L r σ Q) ∧ (¬ a = b → aw g 209 240 L r σ Q)) := (aw_eq g 209 220 _ _ _ _).trans (by rw [tq209_220]; exact rfl)
theorem tq209_223 : tT g 209 223 = s_load vI 209 225 4 := rfl
theorem A209_223 {l0 : Option Value} {l1 : Option Value} {l2 : Option Value} {l3 : Option Value} {l5 : Option Value} {l6 : Option Value} {l7 : Option Value} {l8 : Option Value} {l9 : Option Value} {x : Int32} {r : List Value} : aw g 209 223 [l0, l1, l2, l3, some (.int x), l5, l6, l7, l8, l9] r σ Q = aw g 209 225 [l0, l1, l2, l3, some (.int x), l5, l6, l7, l8, l9] (.int x :: r) σ Q := (aw_eq g 209 223 _ _ _ _).trans (by rw [tq209_223]; exact (h_load rfl).trans (propext ⟨fun z => z.2, fun z => ⟨rfl, z⟩⟩))
theorem tq209_225 : tT g 209 225 = s_load vRf 209 226 3 := rfl
theorem A209_225 {l0 : Option Value} {l1 : Option Value} {l2 : Option Value} {l4 : Option Value} {l5 : Option Value} {l6 : Option Value} {l7 : Option Value} {l8 : Option Value} {l9 : Option Value} {x : Value} {r : List Value} : aw g 209 225 [l0, l1, l2, some (x), l4, l5, l6, l7, l8, l9] r σ Q = (vRf x = true ∧ aw g 209 226 [l0, l1, l2, some (x), l4, l5, l6, l7, l8, l9] (x :: r) σ Q) := (aw_eq g 209 225 _ _ _ _).trans (by rw [tq209_225]; exact h_load rfl)
theorem tq209_226 : tT g 209 226 = s_load vRf 209 228 9 := rfl
theorem A209_226 {l0 : Option Value} {l1 : Option Value} {l2 : Option Value} {l3 : Option Value} {l4 : Option Value} {l5 : Option Value} {l6 : Option Value} {l7 : Option Value} {l8 : Option Value} {x : Value} {r : List Value} : aw g 209 226 [l0, l1, l2, l3, l4, l5, l6, l7, l8, some (x)] r σ Q = (vRf x = true ∧ aw g 209 228 [l0, l1, l2, l3, l4, l5, l6, l7, l8, some (x)] (x :: r) σ Q) := (aw_eq g 209 226 _ _ _ _).trans (by rw [tq209_226]; exact h_load rfl)
theorem tq209_228 : tT g 209 228 = s_const 209 229 (.int 1) := rfl
theorem A209_228 {L : AL} {r : List Value} : aw g 209 228 L r σ Q = aw g 209 229 L (.int 1 :: r) σ Q := (aw_eq g 209 228 _ _ _ _).trans (by rw [tq209_228]; exact rfl)
theorem tq209_229 : tT g 209 229 = s_ald 209 230 20 := rfl
theorem A209_229 {L : AL} {r : List Value} {a : Nat} {i : Int32} : aw g 209 229 L (.int i :: .ref a :: r) σ Q = (hty σ a = some 20 ∧ ¬ i < 0 ∧ i.toNatClampNeg < hln σ a ∧ aw g 209 230 L (hv σ 20 a i.toNatClampNeg :: r) σ Q) := (aw_eq g 209 229 _ _ _ _).trans (by rw [tq209_229]; exact rfl)
theorem tq209_230 : tT g 209 230 = s_ald 209 231 20 := rfl
theorem A209_230 {L : AL} {r : List Value} {a : Nat} {i : Int32} : aw g 209 230 L (.int i :: .ref a :: r) σ Q = (hty σ a = some 20 ∧ ¬ i < 0 ∧ i.toNatClampNeg < hln σ a ∧ aw g 209 231 L (hv σ 20 a i.toNatClampNeg :: r) σ Q) := (aw_eq g 209 230 _ _ _ _).trans (by rw [tq209_230]; exact rfl)
theorem tq209_231 : tT g 209 231 = s_bin 209 232 (fun a b => a + b) := rfl
theorem A209_231 {L : AL} {r : List Value} {a b : Int32} : aw g 209 231 L (.int b :: .int a :: r) σ Q = aw g 209 232 L (.int (a + b) :: r) σ Q := (aw_eq g 209 231 _ _ _ _).trans (by rw [tq209_231]; exact rfl)
theorem tq209_232 : tT g 209 232 = s_const 209 233 (.int 1) := rfl
theorem A209_232 {L : AL} {r : List Value} : aw g 209 232 L r σ Q = aw g 209 233 L (.int 1 :: r) σ Q := (aw_eq g 209 232 _ _ _ _).trans (by rw [tq209_232]; exact rfl)
theorem tq209_233 : tT g 209 233 = s_bin 209 234 (fun a b => a + b) := rfl
theorem A209_233 {L : AL} {r : List Value} {a b : Int32} : aw g 209 233 L (.int b :: .int a :: r) σ Q = aw g 209 234 L (.int (a + b) :: r) σ Q := (aw_eq g 209 233 _ _ _ _).trans (by rw [tq209_233]; exact rfl)
theorem tq209_234 : tT g 209 234 = s_const 209 237 (.int 1000) := rfl
theorem A209_234 {L : AL} {r : List Value} : aw g 209 234 L r σ Q = aw g 209 237 L (.int 1000 :: r) σ Q := (aw_eq g 209 234 _ _ _ _).trans (by rw [tq209_234]; exact rfl)
theorem tq209_237 : tT g 209 237 = s_div 209 238 (fun a b => a - a / b * b) := rfl
theorem A209_237 {L : AL} {r : List Value} {a b : Int32} : aw g 209 237 L (.int b :: .int a :: r) σ Q = (b ≠ 0 ∧ aw g 209 238 L (.int (a - a / b * b) :: r) σ Q) := (aw_eq g 209 237 _ _ _ _).trans (by rw [tq209_237]; exact rfl)
theorem tq209_238 : tT g 209 238 = s_store vI 209 240 4 := rfl
theorem A209_238 {l0 : Option Value} {l1 : Option Value} {l2 : Option Value} {l3 : Option Value} {l4 : Option Value} {l5 : Option Value} {l6 : Option Value} {l7 : Option Value} {l8 : Option Value} {l9 : Option Value} {x : Int32} {r : List Value} : aw g 209 238 [l0, l1, l2, l3, l4, l5, l6, l7, l8, l9] (.int x :: r) σ Q = (oc l3 = true ∧ aw g 209 240 [l0, l1, l2, l3, some (.int x), l5, l6, l7, l8, l9] r σ Q) := (aw_eq g 209 238 _ _ _ _).trans (by rw [tq209_238]; exact (h_store (o := oc l3) rfl rfl rfl).trans (propext ⟨fun z => z.2, fun z => ⟨rfl, z⟩⟩))
theorem tq209_240 : tT g 209 240 = s_load vRf 209 242 9 := rfl
theorem A209_240 {l0 : Option Value} {l1 : Option Value} {l2 : Option Value} {l3 : Option Value} {l4 : Option Value} {l5 : Option Value} {l6 : Option Value} {l7 : Option Value} {l8 : Option Value} {x : Value} {r : List Value} : aw g 209 240 [l0, l1, l2, l3, l4, l5, l6, l7, l8, some (x)] r σ Q = (vRf x = true ∧ aw g 209 242 [l0, l1, l2, l3, l4, l5, l6, l7, l8, some (x)] (x :: r) σ Q) := (aw_eq g 209 240 _ _ _ _).trans (by rw [tq209_240]; exact h_load rfl)
theorem tq209_242 : tT g 209 242 = s_const 209 243 (.int 0) := rfl
theorem A209_242 {L : AL} {r : List Value} : aw g 209 242 L r σ Q = aw g 209 243 L (.int 0 :: r) σ Q := (aw_eq g 209 242 _ _ _ _).trans (by rw [tq209_242]; exact rfl)
theorem tq209_243 : tT g 209 243 = s_ald 209 244 20 := rfl
theorem A209_243 {L : AL} {r : List Value} {a : Nat} {i : Int32} : aw g 209 243 L (.int i :: .ref a :: r) σ Q = (hty σ a = some 20 ∧ ¬ i < 0 ∧ i.toNatClampNeg < hln σ a ∧ aw g 209 244 L (hv σ 20 a i.toNatClampNeg :: r) σ Q) := (aw_eq g 209 243 _ _ _ _).trans (by rw [tq209_243]; exact rfl)
theorem tq209_244 : tT g 209 244 = s_const 209 245 (.int 2) := rfl
theorem A209_244 {L : AL} {r : List Value} : aw g 209 244 L r σ Q = aw g 209 245 L (.int 2 :: r) σ Q := (aw_eq g 209 244 _ _ _ _).trans (by rw [tq209_244]; exact rfl)
theorem tq209_245 : tT g 209 245 = s_icmp 209 271 248 (fun a b => a = b) := rfl
theorem A209_245 {L : AL} {r : List Value} {a b : Int32} : aw g 209 245 L (.int b :: .int a :: r) σ Q = ((a = b → aw g 209 248 L r σ Q) ∧ (¬ a = b → aw g 209 271 L r σ Q)) := (aw_eq g 209 245 _ _ _ _).trans (by rw [tq209_245]; exact rfl)
theorem tq209_248 : tT g 209 248 = s_load vRf 209 249 3 := rfl
theorem A209_248 {l0 : Option Value} {l1 : Option Value} {l2 : Option Value} {l4 : Option Value} {l5 : Option Value} {l6 : Option Value} {l7 : Option Value} {l8 : Option Value} {l9 : Option Value} {x : Value} {r : List Value} : aw g 209 248 [l0, l1, l2, some (x), l4, l5, l6, l7, l8, l9] r σ Q = (vRf x = true ∧ aw g 209 249 [l0, l1, l2, some (x), l4, l5, l6, l7, l8, l9] (x :: r) σ Q) := (aw_eq g 209 248 _ _ _ _).trans (by rw [tq209_248]; exact h_load rfl)
theorem tq209_249 : tT g 209 249 = s_load vRf 209 251 9 := rfl
theorem A209_249 {l0 : Option Value} {l1 : Option Value} {l2 : Option Value} {l3 : Option Value} {l4 : Option Value} {l5 : Option Value} {l6 : Option Value} {l7 : Option Value} {l8 : Option Value} {x : Value} {r : List Value} : aw g 209 249 [l0, l1, l2, l3, l4, l5, l6, l7, l8, some (x)] r σ Q = (vRf x = true ∧ aw g 209 251 [l0, l1, l2, l3, l4, l5, l6, l7, l8, some (x)] (x :: r) σ Q) := (aw_eq g 209 249 _ _ _ _).trans (by rw [tq209_249]; exact h_load rfl)
theorem tq209_251 : tT g 209 251 = s_const 209 252 (.int 1) := rfl
theorem A209_251 {L : AL} {r : List Value} : aw g 209 251 L r σ Q = aw g 209 252 L (.int 1 :: r) σ Q := (aw_eq g 209 251 _ _ _ _).trans (by rw [tq209_251]; exact rfl)
theorem tq209_252 : tT g 209 252 = s_ald 209 253 20 := rfl
theorem A209_252 {L : AL} {r : List Value} {a : Nat} {i : Int32} : aw g 209 252 L (.int i :: .ref a :: r) σ Q = (hty σ a = some 20 ∧ ¬ i < 0 ∧ i.toNatClampNeg < hln σ a ∧ aw g 209 253 L (hv σ 20 a i.toNatClampNeg :: r) σ Q) := (aw_eq g 209 252 _ _ _ _).trans (by rw [tq209_252]; exact rfl)
theorem tq209_253 : tT g 209 253 = s_const 209 254 (.int 3) := rfl
theorem A209_253 {L : AL} {r : List Value} : aw g 209 253 L r σ Q = aw g 209 254 L (.int 3 :: r) σ Q := (aw_eq g 209 253 _ _ _ _).trans (by rw [tq209_253]; exact rfl)
theorem tq209_254 : tT g 209 254 = s_load vRf 209 255 3 := rfl
theorem A209_254 {l0 : Option Value} {l1 : Option Value} {l2 : Option Value} {l4 : Option Value} {l5 : Option Value} {l6 : Option Value} {l7 : Option Value} {l8 : Option Value} {l9 : Option Value} {x : Value} {r : List Value} : aw g 209 254 [l0, l1, l2, some (x), l4, l5, l6, l7, l8, l9] r σ Q = (vRf x = true ∧ aw g 209 255 [l0, l1, l2, some (x), l4, l5, l6, l7, l8, l9] (x :: r) σ Q) := (aw_eq g 209 254 _ _ _ _).trans (by rw [tq209_254]; exact h_load rfl)
theorem tq209_255 : tT g 209 255 = s_load vRf 209 257 9 := rfl
theorem A209_255 {l0 : Option Value} {l1 : Option Value} {l2 : Option Value} {l3 : Option Value} {l4 : Option Value} {l5 : Option Value} {l6 : Option Value} {l7 : Option Value} {l8 : Option Value} {x : Value} {r : List Value} : aw g 209 255 [l0, l1, l2, l3, l4, l5, l6, l7, l8, some (x)] r σ Q = (vRf x = true ∧ aw g 209 257 [l0, l1, l2, l3, l4, l5, l6, l7, l8, some (x)] (x :: r) σ Q) := (aw_eq g 209 255 _ _ _ _).trans (by rw [tq209_255]; exact h_load rfl)
theorem tq209_257 : tT g 209 257 = s_const 209 258 (.int 1) := rfl
theorem A209_257 {L : AL} {r : List Value} : aw g 209 257 L r σ Q = aw g 209 258 L (.int 1 :: r) σ Q := (aw_eq g 209 257 _ _ _ _).trans (by rw [tq209_257]; exact rfl)
theorem tq209_258 : tT g 209 258 = s_ald 209 259 20 := rfl
theorem A209_258 {L : AL} {r : List Value} {a : Nat} {i : Int32} : aw g 209 258 L (.int i :: .ref a :: r) σ Q = (hty σ a = some 20 ∧ ¬ i < 0 ∧ i.toNatClampNeg < hln σ a ∧ aw g 209 259 L (hv σ 20 a i.toNatClampNeg :: r) σ Q) := (aw_eq g 209 258 _ _ _ _).trans (by rw [tq209_258]; exact rfl)
theorem tq209_259 : tT g 209 259 = s_ald 209 260 20 := rfl
theorem A209_259 {L : AL} {r : List Value} {a : Nat} {i : Int32} : aw g 209 259 L (.int i :: .ref a :: r) σ Q = (hty σ a = some 20 ∧ ¬ i < 0 ∧ i.toNatClampNeg < hln σ a ∧ aw g 209 260 L (hv σ 20 a i.toNatClampNeg :: r) σ Q) := (aw_eq g 209 259 _ _ _ _).trans (by rw [tq209_259]; exact rfl)
theorem tq209_260 : tT g 209 260 = s_bin 209 261 (fun a b => a * b) := rfl
theorem A209_260 {L : AL} {r : List Value} {a b : Int32} : aw g 209 260 L (.int b :: .int a :: r) σ Q = aw g 209 261 L (.int (a * b) :: r) σ Q := (aw_eq g 209 260 _ _ _ _).trans (by rw [tq209_260]; exact rfl)
theorem tq209_261 : tT g 209 261 = s_load vI 209 263 4 := rfl
theorem A209_261 {l0 : Option Value} {l1 : Option Value} {l2 : Option Value} {l3 : Option Value} {l5 : Option Value} {l6 : Option Value} {l7 : Option Value} {l8 : Option Value} {l9 : Option Value} {x : Int32} {r : List Value} : aw g 209 261 [l0, l1, l2, l3, some (.int x), l5, l6, l7, l8, l9] r σ Q = aw g 209 263 [l0, l1, l2, l3, some (.int x), l5, l6, l7, l8, l9] (.int x :: r) σ Q := (aw_eq g 209 261 _ _ _ _).trans (by rw [tq209_261]; exact (h_load rfl).trans (propext ⟨fun z => z.2, fun z => ⟨rfl, z⟩⟩))
theorem tq209_263 : tT g 209 263 = s_bin 209 264 (fun a b => a + b) := rfl
theorem A209_263 {L : AL} {r : List Value} {a b : Int32} : aw g 209 263 L (.int b :: .int a :: r) σ Q = aw g 209 264 L (.int (a + b) :: r) σ Q := (aw_eq g 209 263 _ _ _ _).trans (by rw [tq209_263]; exact rfl)
theorem tq209_264 : tT g 209 264 = s_const 209 265 (.int 1) := rfl
theorem A209_264 {L : AL} {r : List Value} : aw g 209 264 L r σ Q = aw g 209 265 L (.int 1 :: r) σ Q := (aw_eq g 209 264 _ _ _ _).trans (by rw [tq209_264]; exact rfl)
theorem tq209_265 : tT g 209 265 = s_bin 209 266 (fun a b => a + b) := rfl
theorem A209_265 {L : AL} {r : List Value} {a b : Int32} : aw g 209 265 L (.int b :: .int a :: r) σ Q = aw g 209 266 L (.int (a + b) :: r) σ Q := (aw_eq g 209 265 _ _ _ _).trans (by rw [tq209_265]; exact rfl)
theorem tq209_266 : tT g 209 266 = s_const 209 269 (.int 1000) := rfl
theorem A209_266 {L : AL} {r : List Value} : aw g 209 266 L r σ Q = aw g 209 269 L (.int 1000 :: r) σ Q := (aw_eq g 209 266 _ _ _ _).trans (by rw [tq209_266]; exact rfl)
theorem tq209_269 : tT g 209 269 = s_div 209 270 (fun a b => a - a / b * b) := rfl
theorem A209_269 {L : AL} {r : List Value} {a b : Int32} : aw g 209 269 L (.int b :: .int a :: r) σ Q = (b ≠ 0 ∧ aw g 209 270 L (.int (a - a / b * b) :: r) σ Q) := (aw_eq g 209 269 _ _ _ _).trans (by rw [tq209_269]; exact rfl)
theorem tq209_270 : tT g 209 270 = s_ast g (fun _ v => vI v = true) 209 271 20 := rfl
theorem A209_270 {L : AL} {r : List Value} {a : Nat} {i : Int32} {v : Value} : aw g 209 270 L (v :: .int i :: .ref a :: r) σ Q = (hty σ a = some 20 ∧ gB g ≤ a ∧ ¬ i < 0 ∧ i.toNatClampNeg < hln σ a ∧ vI v = true ∧ aw g 209 271 L r (hput σ 20 a i.toNatClampNeg v) Q) := (aw_eq g 209 270 _ _ _ _).trans (by rw [tq209_270]; exact rfl)
theorem tq209_271 : tT g 209 271 = s_load vI 209 273 5 := rfl
theorem A209_271 {l0 : Option Value} {l1 : Option Value} {l2 : Option Value} {l3 : Option Value} {l4 : Option Value} {l6 : Option Value} {l7 : Option Value} {l8 : Option Value} {l9 : Option Value} {x : Int32} {r : List Value} : aw g 209 271 [l0, l1, l2, l3, l4, some (.int x), l6, l7, l8, l9] r σ Q = aw g 209 273 [l0, l1, l2, l3, l4, some (.int x), l6, l7, l8, l9] (.int x :: r) σ Q := (aw_eq g 209 271 _ _ _ _).trans (by rw [tq209_271]; exact (h_load rfl).trans (propext ⟨fun z => z.2, fun z => ⟨rfl, z⟩⟩))
theorem tq209_273 : tT g 209 273 = s_const 209 274 (.int 1) := rfl
theorem A209_273 {L : AL} {r : List Value} : aw g 209 273 L r σ Q = aw g 209 274 L (.int 1 :: r) σ Q := (aw_eq g 209 273 _ _ _ _).trans (by rw [tq209_273]; exact rfl)
theorem tq209_274 : tT g 209 274 = s_bin 209 275 (fun a b => a + b) := rfl
theorem A209_274 {L : AL} {r : List Value} {a b : Int32} : aw g 209 274 L (.int b :: .int a :: r) σ Q = aw g 209 275 L (.int (a + b) :: r) σ Q := (aw_eq g 209 274 _ _ _ _).trans (by rw [tq209_274]; exact rfl)
theorem tq209_275 : tT g 209 275 = s_load vRf 209 276 0 := rfl
theorem A209_275 {l1 : Option Value} {l2 : Option Value} {l3 : Option Value} {l4 : Option Value} {l5 : Option Value} {l6 : Option Value} {l7 : Option Value} {l8 : Option Value} {l9 : Option Value} {x : Value} {r : List Value} : aw g 209 275 [some (x), l1, l2, l3, l4, l5, l6, l7, l8, l9] r σ Q = (vRf x = true ∧ aw g 209 276 [some (x), l1, l2, l3, l4, l5, l6, l7, l8, l9] (x :: r) σ Q) := (aw_eq g 209 275 _ _ _ _).trans (by rw [tq209_275]; exact h_load rfl)
theorem tq209_276 : tT g 209 276 = s_getf 209 279 7 1 := rfl
theorem A209_276 {L : AL} {r : List Value} {a : Nat} : aw g 209 276 L (.ref a :: r) σ Q = (hty σ a = some 7 ∧ aw g 209 279 L (hv σ 7 a 1 :: r) σ Q) := (aw_eq g 209 276 _ _ _ _).trans (by rw [tq209_276]; exact rfl)
theorem tq209_279 : tT g 209 279 = s_callvk 209 282 15 10 [] 1 := rfl
theorem A209_279 {L : AL} {r : List Value} {a : Nat} : aw g 209 279 L (.ref a :: r) σ Q = (hty σ a = some 10 ∧ true = true ∧ csum r ≤ 8 ∧ aw g 15 0 [some (.ref a)] [] σ (kt (aw g) 209 282 L r Q)) := (aw_eq g 209 279 _ _ _ _).trans (by rw [tq209_279]; exact rfl)
theorem tq209_282 : tT g 209 282 = s_div 209 283 (fun a b => a - a / b * b) := rfl
theorem A209_282 {L : AL} {r : List Value} {a b : Int32} : aw g 209 282 L (.int b :: .int a :: r) σ Q = (b ≠ 0 ∧ aw g 209 283 L (.int (a - a / b * b) :: r) σ Q) := (aw_eq g 209 282 _ _ _ _).trans (by rw [tq209_282]; exact rfl)
theorem tq209_283 : tT g 209 283 = s_store vI 209 285 5 := rfl
theorem A209_283 {l0 : Option Value} {l1 : Option Value} {l2 : Option Value} {l3 : Option Value} {l4 : Option Value} {l5 : Option Value} {l6 : Option Value} {l7 : Option Value} {l8 : Option Value} {l9 : Option Value} {x : Int32} {r : List Value} : aw g 209 283 [l0, l1, l2, l3, l4, l5, l6, l7, l8, l9] (.int x :: r) σ Q = (oc l4 = true ∧ aw g 209 285 [l0, l1, l2, l3, l4, some (.int x), l6, l7, l8, l9] r σ Q) := (aw_eq g 209 283 _ _ _ _).trans (by rw [tq209_283]; exact (h_store (o := oc l4) rfl rfl rfl).trans (propext ⟨fun z => z.2, fun z => ⟨rfl, z⟩⟩))
theorem tq209_285 : tT g 209 285 = s_iinc 209 288 8 1 := rfl
theorem A209_285 {l0 : Option Value} {l1 : Option Value} {l2 : Option Value} {l3 : Option Value} {l4 : Option Value} {l5 : Option Value} {l6 : Option Value} {l7 : Option Value} {l9 : Option Value} {x : Int32} {r : List Value} : aw g 209 285 [l0, l1, l2, l3, l4, l5, l6, l7, some (.int x), l9] r σ Q = (oc l7 = true ∧ aw g 209 288 [l0, l1, l2, l3, l4, l5, l6, l7, some (.int (x + 1)), l9] r σ Q) := (aw_eq g 209 285 _ _ _ _).trans (by rw [tq209_285]; exact (h_iinc (o := oc l7) rfl rfl rfl))
theorem tq209_288 : tT g 209 288 = s_goto 209 49 := rfl
theorem A209_288 {L : AL} {r : List Value} : aw g 209 288 L r σ Q = aw g 209 49 L r σ Q := (aw_eq g 209 288 _ _ _ _).trans (by rw [tq209_288]; exact rfl)
theorem tq209_291 : tT g 209 291 = s_load vI 209 292 2 := rfl
theorem A209_291 {l0 : Option Value} {l1 : Option Value} {l3 : Option Value} {l4 : Option Value} {l5 : Option Value} {l6 : Option Value} {l7 : Option Value} {l8 : Option Value} {l9 : Option Value} {x : Int32} {r : List Value} : aw g 209 291 [l0, l1, some (.int x), l3, l4, l5, l6, l7, l8, l9] r σ Q = aw g 209 292 [l0, l1, some (.int x), l3, l4, l5, l6, l7, l8, l9] (.int x :: r) σ Q := (aw_eq g 209 291 _ _ _ _).trans (by rw [tq209_291]; exact (h_load rfl).trans (propext ⟨fun z => z.2, fun z => ⟨rfl, z⟩⟩))
theorem tq209_292 : tT g 209 292 = s_const 209 293 (.int (-1)) := rfl
theorem A209_292 {L : AL} {r : List Value} : aw g 209 292 L r σ Q = aw g 209 293 L (.int (-1) :: r) σ Q := (aw_eq g 209 292 _ _ _ _).trans (by rw [tq209_292]; exact rfl)
theorem tq209_293 : tT g 209 293 = s_icmp 209 301 296 (fun a b => a = b) := rfl
theorem A209_293 {L : AL} {r : List Value} {a b : Int32} : aw g 209 293 L (.int b :: .int a :: r) σ Q = ((a = b → aw g 209 296 L r σ Q) ∧ (¬ a = b → aw g 209 301 L r σ Q)) := (aw_eq g 209 293 _ _ _ _).trans (by rw [tq209_293]; exact rfl)
theorem tq209_296 : tT g 209 296 = s_load vI 209 298 4 := rfl
theorem A209_296 {l0 : Option Value} {l1 : Option Value} {l2 : Option Value} {l3 : Option Value} {l5 : Option Value} {l6 : Option Value} {l7 : Option Value} {l8 : Option Value} {l9 : Option Value} {x : Int32} {r : List Value} : aw g 209 296 [l0, l1, l2, l3, some (.int x), l5, l6, l7, l8, l9] r σ Q = aw g 209 298 [l0, l1, l2, l3, some (.int x), l5, l6, l7, l8, l9] (.int x :: r) σ Q := (aw_eq g 209 296 _ _ _ _).trans (by rw [tq209_296]; exact (h_load rfl).trans (propext ⟨fun z => z.2, fun z => ⟨rfl, z⟩⟩))
theorem tq209_298 : tT g 209 298 = s_goto 209 304 := rfl
theorem A209_298 {L : AL} {r : List Value} : aw g 209 298 L r σ Q = aw g 209 304 L r σ Q := (aw_eq g 209 298 _ _ _ _).trans (by rw [tq209_298]; exact rfl)
theorem tq209_301 : tT g 209 301 = s_load vRf 209 302 3 := rfl
theorem A209_301 {l0 : Option Value} {l1 : Option Value} {l2 : Option Value} {l4 : Option Value} {l5 : Option Value} {l6 : Option Value} {l7 : Option Value} {l8 : Option Value} {l9 : Option Value} {x : Value} {r : List Value} : aw g 209 301 [l0, l1, l2, some (x), l4, l5, l6, l7, l8, l9] r σ Q = (vRf x = true ∧ aw g 209 302 [l0, l1, l2, some (x), l4, l5, l6, l7, l8, l9] (x :: r) σ Q) := (aw_eq g 209 301 _ _ _ _).trans (by rw [tq209_301]; exact h_load rfl)
theorem tq209_302 : tT g 209 302 = s_load vI 209 303 2 := rfl
theorem A209_302 {l0 : Option Value} {l1 : Option Value} {l3 : Option Value} {l4 : Option Value} {l5 : Option Value} {l6 : Option Value} {l7 : Option Value} {l8 : Option Value} {l9 : Option Value} {x : Int32} {r : List Value} : aw g 209 302 [l0, l1, some (.int x), l3, l4, l5, l6, l7, l8, l9] r σ Q = aw g 209 303 [l0, l1, some (.int x), l3, l4, l5, l6, l7, l8, l9] (.int x :: r) σ Q := (aw_eq g 209 302 _ _ _ _).trans (by rw [tq209_302]; exact (h_load rfl).trans (propext ⟨fun z => z.2, fun z => ⟨rfl, z⟩⟩))
theorem tq209_303 : tT g 209 303 = s_ald 209 304 20 := rfl
theorem A209_303 {L : AL} {r : List Value} {a : Nat} {i : Int32} : aw g 209 303 L (.int i :: .ref a :: r) σ Q = (hty σ a = some 20 ∧ ¬ i < 0 ∧ i.toNatClampNeg < hln σ a ∧ aw g 209 304 L (hv σ 20 a i.toNatClampNeg :: r) σ Q) := (aw_eq g 209 303 _ _ _ _).trans (by rw [tq209_303]; exact rfl)
theorem tq209_304 : tT g 209 304 = s_ret pI := rfl
theorem A209_304 {L : AL} {v : Value} : aw g 209 304 L [v] σ Q = (pI v ∧ Q (.inl (some v)) σ) := (aw_eq g 209 304 _ _ _ _).trans (by rw [tq209_304]; exact rfl)
theorem tq210_0 : tT g 210 0 = s_new g 210 3 7 32 (fun k => defaultValue (tyX8 k)) := rfl
theorem A210_0 {L : AL} {r : List Value} : aw g 210 0 L r σ Q = (hsz σ + 1 ≤ gC g ∧ hsl σ + 32 ≤ gS g ∧ aw g 210 3 L (.ref (hsz σ) :: r) (hnew σ 7 0 (fun k => defaultValue (tyX8 k)) 32) Q) := (aw_eq g 210 0 _ _ _ _).trans (by rw [tq210_0]; exact rfl)
theorem tq210_3 : tT g 210 3 = s_dup 210 4 := rfl
theorem A210_3 {L : AL} {r : List Value} {v : Value} : aw g 210 3 L (v :: r) σ Q = (v.category = 1 ∧ aw g 210 4 L (v :: v :: r) σ Q) := (aw_eq g 210 3 _ _ _ _).trans (by rw [tq210_3]; exact rfl)
theorem tq210_4 : tT g 210 4 = s_callik 210 7 205 [] 1 := rfl
theorem A210_4 {L : AL} {r : List Value} {a : Nat} : aw g 210 4 L (.ref a :: r) σ Q = (true = true ∧ csum r ≤ 8 ∧ aw g 205 0 [some (.ref a)] [] σ (kt (aw g) 210 7 L r Q)) := (aw_eq g 210 4 _ _ _ _).trans (by rw [tq210_4]; exact rfl)
theorem tq210_7 : tT g 210 7 = s_store vRf 210 8 1 := rfl
theorem A210_7 {l0 : Option Value} {l1 : Option Value} {l2 : Option Value} {l3 : Option Value} {l4 : Option Value} {x : Value} {r : List Value} : aw g 210 7 [l0, l1, l2, l3, l4] (x :: r) σ Q = (vRf x = true ∧ oc l0 = true ∧ aw g 210 8 [l0, some (x), l2, l3, l4] r σ Q) := (aw_eq g 210 7 _ _ _ _).trans (by rw [tq210_7]; exact (h_store (o := oc l0) rfl rfl rfl))
theorem tq210_8 : tT g 210 8 = s_load vRf 210 9 1 := rfl
theorem A210_8 {l0 : Option Value} {l2 : Option Value} {l3 : Option Value} {l4 : Option Value} {x : Value} {r : List Value} : aw g 210 8 [l0, some (x), l2, l3, l4] r σ Q = (vRf x = true ∧ aw g 210 9 [l0, some (x), l2, l3, l4] (x :: r) σ Q) := (aw_eq g 210 8 _ _ _ _).trans (by rw [tq210_8]; exact h_load rfl)
theorem tq210_9 : tT g 210 9 = s_load vRf 210 10 0 := rfl
theorem A210_9 {l1 : Option Value} {l2 : Option Value} {l3 : Option Value} {l4 : Option Value} {x : Value} {r : List Value} : aw g 210 9 [some (x), l1, l2, l3, l4] r σ Q = (vRf x = true ∧ aw g 210 10 [some (x), l1, l2, l3, l4] (x :: r) σ Q) := (aw_eq g 210 9 _ _ _ _).trans (by rw [tq210_9]; exact h_load rfl)
theorem tq210_10 : tT g 210 10 = s_getf 210 13 7 0 := rfl
theorem A210_10 {L : AL} {r : List Value} {a : Nat} : aw g 210 10 L (.ref a :: r) σ Q = (hty σ a = some 7 ∧ aw g 210 13 L (hv σ 7 a 0 :: r) σ Q) := (aw_eq g 210 10 _ _ _ _).trans (by rw [tq210_10]; exact rfl)
theorem tq210_13 : tT g 210 13 = s_putf g pI 210 16 7 0 := rfl
theorem A210_13 {L : AL} {r : List Value} {a : Nat} {v : Value} : aw g 210 13 L (v :: .ref a :: r) σ Q = (hty σ a = some 7 ∧ gB g ≤ a ∧ pI v ∧ aw g 210 16 L r (hput σ 7 a 0 v) Q) := (aw_eq g 210 13 _ _ _ _).trans (by rw [tq210_13]; exact rfl)
theorem tq210_16 : tT g 210 16 = s_load vRf 210 17 1 := rfl
theorem A210_16 {l0 : Option Value} {l2 : Option Value} {l3 : Option Value} {l4 : Option Value} {x : Value} {r : List Value} : aw g 210 16 [l0, some (x), l2, l3, l4] r σ Q = (vRf x = true ∧ aw g 210 17 [l0, some (x), l2, l3, l4] (x :: r) σ Q) := (aw_eq g 210 16 _ _ _ _).trans (by rw [tq210_16]; exact h_load rfl)
theorem tq210_17 : tT g 210 17 = s_new g 210 20 10 3 (fun k => defaultValue (tyJ2 k)) := rfl
theorem A210_17 {L : AL} {r : List Value} : aw g 210 17 L r σ Q = (hsz σ + 1 ≤ gC g ∧ hsl σ + 3 ≤ gS g ∧ aw g 210 20 L (.ref (hsz σ) :: r) (hnew σ 10 0 (fun k => defaultValue (tyJ2 k)) 3) Q) := (aw_eq g 210 17 _ _ _ _).trans (by rw [tq210_17]; exact rfl)
theorem tq210_20 : tT g 210 20 = s_dup 210 21 := rfl
theorem A210_20 {L : AL} {r : List Value} {v : Value} : aw g 210 20 L (v :: r) σ Q = (v.category = 1 ∧ aw g 210 21 L (v :: v :: r) σ Q) := (aw_eq g 210 20 _ _ _ _).trans (by rw [tq210_20]; exact rfl)
theorem tq210_21 : tT g 210 21 = s_load vRf 210 22 0 := rfl
theorem A210_21 {l1 : Option Value} {l2 : Option Value} {l3 : Option Value} {l4 : Option Value} {x : Value} {r : List Value} : aw g 210 21 [some (x), l1, l2, l3, l4] r σ Q = (vRf x = true ∧ aw g 210 22 [some (x), l1, l2, l3, l4] (x :: r) σ Q) := (aw_eq g 210 21 _ _ _ _).trans (by rw [tq210_21]; exact h_load rfl)
theorem tq210_22 : tT g 210 22 = s_getf 210 25 7 1 := rfl
theorem A210_22 {L : AL} {r : List Value} {a : Nat} : aw g 210 22 L (.ref a :: r) σ Q = (hty σ a = some 7 ∧ aw g 210 25 L (hv σ 7 a 1 :: r) σ Q) := (aw_eq g 210 22 _ _ _ _).trans (by rw [tq210_22]; exact rfl)
theorem tq210_25 : tT g 210 25 = s_callik 210 28 29 [1] 3 := rfl
theorem A210_25 {L : AL} {r : List Value} {a : Nat} {w0 : Value} : aw g 210 25 L (w0 :: .ref a :: r) σ Q = ((vRf w0 && true) = true ∧ csum r ≤ 8 ∧ aw g 29 0 [some (.ref a), some w0, none] [] σ (kt (aw g) 210 28 L r Q)) := (aw_eq g 210 25 _ _ _ _).trans (by rw [tq210_25]; exact rfl)
theorem tq210_28 : tT g 210 28 = s_putf g pR 210 31 7 1 := rfl
theorem A210_28 {L : AL} {r : List Value} {a : Nat} {v : Value} : aw g 210 28 L (v :: .ref a :: r) σ Q = (hty σ a = some 7 ∧ gB g ≤ a ∧ pR v ∧ aw g 210 31 L r (hput σ 7 a 1 v) Q) := (aw_eq g 210 28 _ _ _ _).trans (by rw [tq210_28]; exact rfl)
theorem tq210_31 : tT g 210 31 = s_load vRf 210 32 1 := rfl
theorem A210_31 {l0 : Option Value} {l2 : Option Value} {l3 : Option Value} {l4 : Option Value} {x : Value} {r : List Value} : aw g 210 31 [l0, some (x), l2, l3, l4] r σ Q = (vRf x = true ∧ aw g 210 32 [l0, some (x), l2, l3, l4] (x :: r) σ Q) := (aw_eq g 210 31 _ _ _ _).trans (by rw [tq210_31]; exact h_load rfl)
theorem tq210_32 : tT g 210 32 = s_load vRf 210 33 0 := rfl
theorem A210_32 {l1 : Option Value} {l2 : Option Value} {l3 : Option Value} {l4 : Option Value} {x : Value} {r : List Value} : aw g 210 32 [some (x), l1, l2, l3, l4] r σ Q = (vRf x = true ∧ aw g 210 33 [some (x), l1, l2, l3, l4] (x :: r) σ Q) := (aw_eq g 210 32 _ _ _ _).trans (by rw [tq210_32]; exact h_load rfl)
theorem tq210_33 : tT g 210 33 = s_getf 210 36 7 2 := rfl
theorem A210_33 {L : AL} {r : List Value} {a : Nat} : aw g 210 33 L (.ref a :: r) σ Q = (hty σ a = some 7 ∧ aw g 210 36 L (hv σ 7 a 2 :: r) σ Q) := (aw_eq g 210 33 _ _ _ _).trans (by rw [tq210_33]; exact rfl)
theorem tq210_36 : tT g 210 36 = s_putf g pI 210 39 7 2 := rfl
theorem A210_36 {L : AL} {r : List Value} {a : Nat} {v : Value} : aw g 210 36 L (v :: .ref a :: r) σ Q = (hty σ a = some 7 ∧ gB g ≤ a ∧ pI v ∧ aw g 210 39 L r (hput σ 7 a 2 v) Q) := (aw_eq g 210 36 _ _ _ _).trans (by rw [tq210_36]; exact rfl)
theorem tq210_39 : tT g 210 39 = s_load vRf 210 40 1 := rfl
theorem A210_39 {l0 : Option Value} {l2 : Option Value} {l3 : Option Value} {l4 : Option Value} {x : Value} {r : List Value} : aw g 210 39 [l0, some (x), l2, l3, l4] r σ Q = (vRf x = true ∧ aw g 210 40 [l0, some (x), l2, l3, l4] (x :: r) σ Q) := (aw_eq g 210 39 _ _ _ _).trans (by rw [tq210_39]; exact h_load rfl)
theorem tq210_40 : tT g 210 40 = s_load vRf 210 41 0 := rfl
theorem A210_40 {l1 : Option Value} {l2 : Option Value} {l3 : Option Value} {l4 : Option Value} {x : Value} {r : List Value} : aw g 210 40 [some (x), l1, l2, l3, l4] r σ Q = (vRf x = true ∧ aw g 210 41 [some (x), l1, l2, l3, l4] (x :: r) σ Q) := (aw_eq g 210 40 _ _ _ _).trans (by rw [tq210_40]; exact h_load rfl)
theorem tq210_41 : tT g 210 41 = s_getf 210 44 7 3 := rfl
theorem A210_41 {L : AL} {r : List Value} {a : Nat} : aw g 210 41 L (.ref a :: r) σ Q = (hty σ a = some 7 ∧ aw g 210 44 L (hv σ 7 a 3 :: r) σ Q) := (aw_eq g 210 41 _ _ _ _).trans (by rw [tq210_41]; exact rfl)
theorem tq210_44 : tT g 210 44 = s_putf g pI 210 47 7 3 := rfl
theorem A210_44 {L : AL} {r : List Value} {a : Nat} {v : Value} : aw g 210 44 L (v :: .ref a :: r) σ Q = (hty σ a = some 7 ∧ gB g ≤ a ∧ pI v ∧ aw g 210 47 L r (hput σ 7 a 3 v) Q) := (aw_eq g 210 44 _ _ _ _).trans (by rw [tq210_44]; exact rfl)
theorem tq210_47 : tT g 210 47 = s_load vRf 210 48 1 := rfl
theorem A210_47 {l0 : Option Value} {l2 : Option Value} {l3 : Option Value} {l4 : Option Value} {x : Value} {r : List Value} : aw g 210 47 [l0, some (x), l2, l3, l4] r σ Q = (vRf x = true ∧ aw g 210 48 [l0, some (x), l2, l3, l4] (x :: r) σ Q) := (aw_eq g 210 47 _ _ _ _).trans (by rw [tq210_47]; exact h_load rfl)
theorem tq210_48 : tT g 210 48 = s_load vRf 210 49 0 := rfl
theorem A210_48 {l1 : Option Value} {l2 : Option Value} {l3 : Option Value} {l4 : Option Value} {x : Value} {r : List Value} : aw g 210 48 [some (x), l1, l2, l3, l4] r σ Q = (vRf x = true ∧ aw g 210 49 [some (x), l1, l2, l3, l4] (x :: r) σ Q) := (aw_eq g 210 48 _ _ _ _).trans (by rw [tq210_48]; exact h_load rfl)
theorem tq210_49 : tT g 210 49 = s_getf 210 52 7 4 := rfl
theorem A210_49 {L : AL} {r : List Value} {a : Nat} : aw g 210 49 L (.ref a :: r) σ Q = (hty σ a = some 7 ∧ aw g 210 52 L (hv σ 7 a 4 :: r) σ Q) := (aw_eq g 210 49 _ _ _ _).trans (by rw [tq210_49]; exact rfl)
theorem tq210_52 : tT g 210 52 = s_putf g pI 210 55 7 4 := rfl
theorem A210_52 {L : AL} {r : List Value} {a : Nat} {v : Value} : aw g 210 52 L (v :: .ref a :: r) σ Q = (hty σ a = some 7 ∧ gB g ≤ a ∧ pI v ∧ aw g 210 55 L r (hput σ 7 a 4 v) Q) := (aw_eq g 210 52 _ _ _ _).trans (by rw [tq210_52]; exact rfl)
theorem tq210_55 : tT g 210 55 = s_load vRf 210 56 1 := rfl
theorem A210_55 {l0 : Option Value} {l2 : Option Value} {l3 : Option Value} {l4 : Option Value} {x : Value} {r : List Value} : aw g 210 55 [l0, some (x), l2, l3, l4] r σ Q = (vRf x = true ∧ aw g 210 56 [l0, some (x), l2, l3, l4] (x :: r) σ Q) := (aw_eq g 210 55 _ _ _ _).trans (by rw [tq210_55]; exact h_load rfl)
theorem tq210_56 : tT g 210 56 = s_load vRf 210 57 0 := rfl
theorem A210_56 {l1 : Option Value} {l2 : Option Value} {l3 : Option Value} {l4 : Option Value} {x : Value} {r : List Value} : aw g 210 56 [some (x), l1, l2, l3, l4] r σ Q = (vRf x = true ∧ aw g 210 57 [some (x), l1, l2, l3, l4] (x :: r) σ Q) := (aw_eq g 210 56 _ _ _ _).trans (by rw [tq210_56]; exact h_load rfl)
theorem tq210_57 : tT g 210 57 = s_getf 210 60 7 5 := rfl
theorem A210_57 {L : AL} {r : List Value} {a : Nat} : aw g 210 57 L (.ref a :: r) σ Q = (hty σ a = some 7 ∧ aw g 210 60 L (hv σ 7 a 5 :: r) σ Q) := (aw_eq g 210 57 _ _ _ _).trans (by rw [tq210_57]; exact rfl)
theorem tq210_60 : tT g 210 60 = s_putf g pI 210 63 7 5 := rfl
theorem A210_60 {L : AL} {r : List Value} {a : Nat} {v : Value} : aw g 210 60 L (v :: .ref a :: r) σ Q = (hty σ a = some 7 ∧ gB g ≤ a ∧ pI v ∧ aw g 210 63 L r (hput σ 7 a 5 v) Q) := (aw_eq g 210 60 _ _ _ _).trans (by rw [tq210_60]; exact rfl)
theorem tq210_63 : tT g 210 63 = s_load vRf 210 64 1 := rfl
theorem A210_63 {l0 : Option Value} {l2 : Option Value} {l3 : Option Value} {l4 : Option Value} {x : Value} {r : List Value} : aw g 210 63 [l0, some (x), l2, l3, l4] r σ Q = (vRf x = true ∧ aw g 210 64 [l0, some (x), l2, l3, l4] (x :: r) σ Q) := (aw_eq g 210 63 _ _ _ _).trans (by rw [tq210_63]; exact h_load rfl)
theorem tq210_64 : tT g 210 64 = s_load vRf 210 65 0 := rfl
theorem A210_64 {l1 : Option Value} {l2 : Option Value} {l3 : Option Value} {l4 : Option Value} {x : Value} {r : List Value} : aw g 210 64 [some (x), l1, l2, l3, l4] r σ Q = (vRf x = true ∧ aw g 210 65 [some (x), l1, l2, l3, l4] (x :: r) σ Q) := (aw_eq g 210 64 _ _ _ _).trans (by rw [tq210_64]; exact h_load rfl)
theorem tq210_65 : tT g 210 65 = s_getf 210 68 7 6 := rfl
theorem A210_65 {L : AL} {r : List Value} {a : Nat} : aw g 210 65 L (.ref a :: r) σ Q = (hty σ a = some 7 ∧ aw g 210 68 L (hv σ 7 a 6 :: r) σ Q) := (aw_eq g 210 65 _ _ _ _).trans (by rw [tq210_65]; exact rfl)
theorem tq210_68 : tT g 210 68 = s_putf g pI 210 71 7 6 := rfl
theorem A210_68 {L : AL} {r : List Value} {a : Nat} {v : Value} : aw g 210 68 L (v :: .ref a :: r) σ Q = (hty σ a = some 7 ∧ gB g ≤ a ∧ pI v ∧ aw g 210 71 L r (hput σ 7 a 6 v) Q) := (aw_eq g 210 68 _ _ _ _).trans (by rw [tq210_68]; exact rfl)
theorem tq210_71 : tT g 210 71 = s_load vRf 210 72 1 := rfl
theorem A210_71 {l0 : Option Value} {l2 : Option Value} {l3 : Option Value} {l4 : Option Value} {x : Value} {r : List Value} : aw g 210 71 [l0, some (x), l2, l3, l4] r σ Q = (vRf x = true ∧ aw g 210 72 [l0, some (x), l2, l3, l4] (x :: r) σ Q) := (aw_eq g 210 71 _ _ _ _).trans (by rw [tq210_71]; exact h_load rfl)
theorem tq210_72 : tT g 210 72 = s_load vRf 210 73 0 := rfl
theorem A210_72 {l1 : Option Value} {l2 : Option Value} {l3 : Option Value} {l4 : Option Value} {x : Value} {r : List Value} : aw g 210 72 [some (x), l1, l2, l3, l4] r σ Q = (vRf x = true ∧ aw g 210 73 [some (x), l1, l2, l3, l4] (x :: r) σ Q) := (aw_eq g 210 72 _ _ _ _).trans (by rw [tq210_72]; exact h_load rfl)
theorem tq210_73 : tT g 210 73 = s_getf 210 76 7 7 := rfl
theorem A210_73 {L : AL} {r : List Value} {a : Nat} : aw g 210 73 L (.ref a :: r) σ Q = (hty σ a = some 7 ∧ aw g 210 76 L (hv σ 7 a 7 :: r) σ Q) := (aw_eq g 210 73 _ _ _ _).trans (by rw [tq210_73]; exact rfl)
theorem tq210_76 : tT g 210 76 = s_putf g pI 210 79 7 7 := rfl
theorem A210_76 {L : AL} {r : List Value} {a : Nat} {v : Value} : aw g 210 76 L (v :: .ref a :: r) σ Q = (hty σ a = some 7 ∧ gB g ≤ a ∧ pI v ∧ aw g 210 79 L r (hput σ 7 a 7 v) Q) := (aw_eq g 210 76 _ _ _ _).trans (by rw [tq210_76]; exact rfl)
theorem tq210_79 : tT g 210 79 = s_load vRf 210 80 1 := rfl
theorem A210_79 {l0 : Option Value} {l2 : Option Value} {l3 : Option Value} {l4 : Option Value} {x : Value} {r : List Value} : aw g 210 79 [l0, some (x), l2, l3, l4] r σ Q = (vRf x = true ∧ aw g 210 80 [l0, some (x), l2, l3, l4] (x :: r) σ Q) := (aw_eq g 210 79 _ _ _ _).trans (by rw [tq210_79]; exact h_load rfl)
theorem tq210_80 : tT g 210 80 = s_load vRf 210 81 0 := rfl
theorem A210_80 {l1 : Option Value} {l2 : Option Value} {l3 : Option Value} {l4 : Option Value} {x : Value} {r : List Value} : aw g 210 80 [some (x), l1, l2, l3, l4] r σ Q = (vRf x = true ∧ aw g 210 81 [some (x), l1, l2, l3, l4] (x :: r) σ Q) := (aw_eq g 210 80 _ _ _ _).trans (by rw [tq210_80]; exact h_load rfl)
theorem tq210_81 : tT g 210 81 = s_getf 210 84 7 8 := rfl
theorem A210_81 {L : AL} {r : List Value} {a : Nat} : aw g 210 81 L (.ref a :: r) σ Q = (hty σ a = some 7 ∧ aw g 210 84 L (hv σ 7 a 8 :: r) σ Q) := (aw_eq g 210 81 _ _ _ _).trans (by rw [tq210_81]; exact rfl)
theorem tq210_84 : tT g 210 84 = s_putf g pI 210 87 7 8 := rfl
theorem A210_84 {L : AL} {r : List Value} {a : Nat} {v : Value} : aw g 210 84 L (v :: .ref a :: r) σ Q = (hty σ a = some 7 ∧ gB g ≤ a ∧ pI v ∧ aw g 210 87 L r (hput σ 7 a 8 v) Q) := (aw_eq g 210 84 _ _ _ _).trans (by rw [tq210_84]; exact rfl)
theorem tq210_87 : tT g 210 87 = s_load vRf 210 88 1 := rfl
theorem A210_87 {l0 : Option Value} {l2 : Option Value} {l3 : Option Value} {l4 : Option Value} {x : Value} {r : List Value} : aw g 210 87 [l0, some (x), l2, l3, l4] r σ Q = (vRf x = true ∧ aw g 210 88 [l0, some (x), l2, l3, l4] (x :: r) σ Q) := (aw_eq g 210 87 _ _ _ _).trans (by rw [tq210_87]; exact h_load rfl)
theorem tq210_88 : tT g 210 88 = s_load vRf 210 89 0 := rfl
theorem A210_88 {l1 : Option Value} {l2 : Option Value} {l3 : Option Value} {l4 : Option Value} {x : Value} {r : List Value} : aw g 210 88 [some (x), l1, l2, l3, l4] r σ Q = (vRf x = true ∧ aw g 210 89 [some (x), l1, l2, l3, l4] (x :: r) σ Q) := (aw_eq g 210 88 _ _ _ _).trans (by rw [tq210_88]; exact h_load rfl)
theorem tq210_89 : tT g 210 89 = s_getf 210 92 7 9 := rfl
theorem A210_89 {L : AL} {r : List Value} {a : Nat} : aw g 210 89 L (.ref a :: r) σ Q = (hty σ a = some 7 ∧ aw g 210 92 L (hv σ 7 a 9 :: r) σ Q) := (aw_eq g 210 89 _ _ _ _).trans (by rw [tq210_89]; exact rfl)
theorem tq210_92 : tT g 210 92 = s_putf g pI 210 95 7 9 := rfl
theorem A210_92 {L : AL} {r : List Value} {a : Nat} {v : Value} : aw g 210 92 L (v :: .ref a :: r) σ Q = (hty σ a = some 7 ∧ gB g ≤ a ∧ pI v ∧ aw g 210 95 L r (hput σ 7 a 9 v) Q) := (aw_eq g 210 92 _ _ _ _).trans (by rw [tq210_92]; exact rfl)
theorem tq210_95 : tT g 210 95 = s_load vRf 210 96 1 := rfl
theorem A210_95 {l0 : Option Value} {l2 : Option Value} {l3 : Option Value} {l4 : Option Value} {x : Value} {r : List Value} : aw g 210 95 [l0, some (x), l2, l3, l4] r σ Q = (vRf x = true ∧ aw g 210 96 [l0, some (x), l2, l3, l4] (x :: r) σ Q) := (aw_eq g 210 95 _ _ _ _).trans (by rw [tq210_95]; exact h_load rfl)
theorem tq210_96 : tT g 210 96 = s_load vRf 210 97 0 := rfl
theorem A210_96 {l1 : Option Value} {l2 : Option Value} {l3 : Option Value} {l4 : Option Value} {x : Value} {r : List Value} : aw g 210 96 [some (x), l1, l2, l3, l4] r σ Q = (vRf x = true ∧ aw g 210 97 [some (x), l1, l2, l3, l4] (x :: r) σ Q) := (aw_eq g 210 96 _ _ _ _).trans (by rw [tq210_96]; exact h_load rfl)
theorem tq210_97 : tT g 210 97 = s_getf 210 100 7 10 := rfl
theorem A210_97 {L : AL} {r : List Value} {a : Nat} : aw g 210 97 L (.ref a :: r) σ Q = (hty σ a = some 7 ∧ aw g 210 100 L (hv σ 7 a 10 :: r) σ Q) := (aw_eq g 210 97 _ _ _ _).trans (by rw [tq210_97]; exact rfl)
theorem tq210_100 : tT g 210 100 = s_putf g pI 210 103 7 10 := rfl
theorem A210_100 {L : AL} {r : List Value} {a : Nat} {v : Value} : aw g 210 100 L (v :: .ref a :: r) σ Q = (hty σ a = some 7 ∧ gB g ≤ a ∧ pI v ∧ aw g 210 103 L r (hput σ 7 a 10 v) Q) := (aw_eq g 210 100 _ _ _ _).trans (by rw [tq210_100]; exact rfl)
theorem tq210_103 : tT g 210 103 = s_load vRf 210 104 1 := rfl
theorem A210_103 {l0 : Option Value} {l2 : Option Value} {l3 : Option Value} {l4 : Option Value} {x : Value} {r : List Value} : aw g 210 103 [l0, some (x), l2, l3, l4] r σ Q = (vRf x = true ∧ aw g 210 104 [l0, some (x), l2, l3, l4] (x :: r) σ Q) := (aw_eq g 210 103 _ _ _ _).trans (by rw [tq210_103]; exact h_load rfl)
theorem tq210_104 : tT g 210 104 = s_load vRf 210 105 0 := rfl
theorem A210_104 {l1 : Option Value} {l2 : Option Value} {l3 : Option Value} {l4 : Option Value} {x : Value} {r : List Value} : aw g 210 104 [some (x), l1, l2, l3, l4] r σ Q = (vRf x = true ∧ aw g 210 105 [some (x), l1, l2, l3, l4] (x :: r) σ Q) := (aw_eq g 210 104 _ _ _ _).trans (by rw [tq210_104]; exact h_load rfl)
theorem tq210_105 : tT g 210 105 = s_getf 210 108 7 11 := rfl
theorem A210_105 {L : AL} {r : List Value} {a : Nat} : aw g 210 105 L (.ref a :: r) σ Q = (hty σ a = some 7 ∧ aw g 210 108 L (hv σ 7 a 11 :: r) σ Q) := (aw_eq g 210 105 _ _ _ _).trans (by rw [tq210_105]; exact rfl)
theorem tq210_108 : tT g 210 108 = s_putf g pI 210 111 7 11 := rfl
theorem A210_108 {L : AL} {r : List Value} {a : Nat} {v : Value} : aw g 210 108 L (v :: .ref a :: r) σ Q = (hty σ a = some 7 ∧ gB g ≤ a ∧ pI v ∧ aw g 210 111 L r (hput σ 7 a 11 v) Q) := (aw_eq g 210 108 _ _ _ _).trans (by rw [tq210_108]; exact rfl)
theorem tq210_111 : tT g 210 111 = s_load vRf 210 112 1 := rfl
theorem A210_111 {l0 : Option Value} {l2 : Option Value} {l3 : Option Value} {l4 : Option Value} {x : Value} {r : List Value} : aw g 210 111 [l0, some (x), l2, l3, l4] r σ Q = (vRf x = true ∧ aw g 210 112 [l0, some (x), l2, l3, l4] (x :: r) σ Q) := (aw_eq g 210 111 _ _ _ _).trans (by rw [tq210_111]; exact h_load rfl)
theorem tq210_112 : tT g 210 112 = s_load vRf 210 113 0 := rfl
theorem A210_112 {l1 : Option Value} {l2 : Option Value} {l3 : Option Value} {l4 : Option Value} {x : Value} {r : List Value} : aw g 210 112 [some (x), l1, l2, l3, l4] r σ Q = (vRf x = true ∧ aw g 210 113 [some (x), l1, l2, l3, l4] (x :: r) σ Q) := (aw_eq g 210 112 _ _ _ _).trans (by rw [tq210_112]; exact h_load rfl)
theorem tq210_113 : tT g 210 113 = s_getf 210 116 7 12 := rfl
theorem A210_113 {L : AL} {r : List Value} {a : Nat} : aw g 210 113 L (.ref a :: r) σ Q = (hty σ a = some 7 ∧ aw g 210 116 L (hv σ 7 a 12 :: r) σ Q) := (aw_eq g 210 113 _ _ _ _).trans (by rw [tq210_113]; exact rfl)
theorem tq210_116 : tT g 210 116 = s_putf g pI 210 119 7 12 := rfl
theorem A210_116 {L : AL} {r : List Value} {a : Nat} {v : Value} : aw g 210 116 L (v :: .ref a :: r) σ Q = (hty σ a = some 7 ∧ gB g ≤ a ∧ pI v ∧ aw g 210 119 L r (hput σ 7 a 12 v) Q) := (aw_eq g 210 116 _ _ _ _).trans (by rw [tq210_116]; exact rfl)
theorem tq210_119 : tT g 210 119 = s_const 210 120 (.int 5) := rfl
theorem A210_119 {L : AL} {r : List Value} : aw g 210 119 L r σ Q = aw g 210 120 L (.int 5 :: r) σ Q := (aw_eq g 210 119 _ _ _ _).trans (by rw [tq210_119]; exact rfl)
theorem tq210_120 : tT g 210 120 = s_newa g 210 123 25 (.null) := rfl
theorem A210_120 {L : AL} {r : List Value} {x : Int32} : aw g 210 120 L (.int x :: r) σ Q = (¬ x < 0 ∧ x.toNatClampNeg ≤ 65536 ∧ hsz σ + 1 ≤ gC g ∧ hsl σ + x.toNatClampNeg ≤ gS g ∧ aw g 210 123 L (.ref (hsz σ) :: r) (hnew σ 25 x.toNatClampNeg (fun _ => .null) x.toNatClampNeg) Q) := (aw_eq g 210 120 _ _ _ _).trans (by rw [tq210_120]; exact rfl)
theorem tq210_123 : tT g 210 123 = s_dup 210 124 := rfl
theorem A210_123 {L : AL} {r : List Value} {v : Value} : aw g 210 123 L (v :: r) σ Q = (v.category = 1 ∧ aw g 210 124 L (v :: v :: r) σ Q) := (aw_eq g 210 123 _ _ _ _).trans (by rw [tq210_123]; exact rfl)
theorem tq210_124 : tT g 210 124 = s_const 210 125 (.int 0) := rfl
theorem A210_124 {L : AL} {r : List Value} : aw g 210 124 L r σ Q = aw g 210 125 L (.int 0 :: r) σ Q := (aw_eq g 210 124 _ _ _ _).trans (by rw [tq210_124]; exact rfl)
theorem tq210_125 : tT g 210 125 = s_load vRf 210 126 0 := rfl
theorem A210_125 {l1 : Option Value} {l2 : Option Value} {l3 : Option Value} {l4 : Option Value} {x : Value} {r : List Value} : aw g 210 125 [some (x), l1, l2, l3, l4] r σ Q = (vRf x = true ∧ aw g 210 126 [some (x), l1, l2, l3, l4] (x :: r) σ Q) := (aw_eq g 210 125 _ _ _ _).trans (by rw [tq210_125]; exact h_load rfl)
theorem tq210_126 : tT g 210 126 = s_getf 210 129 7 13 := rfl
theorem A210_126 {L : AL} {r : List Value} {a : Nat} : aw g 210 126 L (.ref a :: r) σ Q = (hty σ a = some 7 ∧ aw g 210 129 L (hv σ 7 a 13 :: r) σ Q) := (aw_eq g 210 126 _ _ _ _).trans (by rw [tq210_126]; exact rfl)
theorem tq210_129 : tT g 210 129 = s_ast g vRow 210 130 25 := rfl
theorem A210_129 {L : AL} {r : List Value} {a : Nat} {i : Int32} {v : Value} : aw g 210 129 L (v :: .int i :: .ref a :: r) σ Q = (hty σ a = some 25 ∧ gB g ≤ a ∧ ¬ i < 0 ∧ i.toNatClampNeg < hln σ a ∧ vRow σ v ∧ aw g 210 130 L r (hput σ 25 a i.toNatClampNeg v) Q) := (aw_eq g 210 129 _ _ _ _).trans (by rw [tq210_129]; exact rfl)
theorem tq210_130 : tT g 210 130 = s_dup 210 131 := rfl
theorem A210_130 {L : AL} {r : List Value} {v : Value} : aw g 210 130 L (v :: r) σ Q = (v.category = 1 ∧ aw g 210 131 L (v :: v :: r) σ Q) := (aw_eq g 210 130 _ _ _ _).trans (by rw [tq210_130]; exact rfl)
theorem tq210_131 : tT g 210 131 = s_const 210 132 (.int 1) := rfl
theorem A210_131 {L : AL} {r : List Value} : aw g 210 131 L r σ Q = aw g 210 132 L (.int 1 :: r) σ Q := (aw_eq g 210 131 _ _ _ _).trans (by rw [tq210_131]; exact rfl)
theorem tq210_132 : tT g 210 132 = s_load vRf 210 133 0 := rfl
theorem A210_132 {l1 : Option Value} {l2 : Option Value} {l3 : Option Value} {l4 : Option Value} {x : Value} {r : List Value} : aw g 210 132 [some (x), l1, l2, l3, l4] r σ Q = (vRf x = true ∧ aw g 210 133 [some (x), l1, l2, l3, l4] (x :: r) σ Q) := (aw_eq g 210 132 _ _ _ _).trans (by rw [tq210_132]; exact h_load rfl)
theorem tq210_133 : tT g 210 133 = s_getf 210 136 7 14 := rfl
theorem A210_133 {L : AL} {r : List Value} {a : Nat} : aw g 210 133 L (.ref a :: r) σ Q = (hty σ a = some 7 ∧ aw g 210 136 L (hv σ 7 a 14 :: r) σ Q) := (aw_eq g 210 133 _ _ _ _).trans (by rw [tq210_133]; exact rfl)
theorem tq210_136 : tT g 210 136 = s_ast g vRow 210 137 25 := rfl
theorem A210_136 {L : AL} {r : List Value} {a : Nat} {i : Int32} {v : Value} : aw g 210 136 L (v :: .int i :: .ref a :: r) σ Q = (hty σ a = some 25 ∧ gB g ≤ a ∧ ¬ i < 0 ∧ i.toNatClampNeg < hln σ a ∧ vRow σ v ∧ aw g 210 137 L r (hput σ 25 a i.toNatClampNeg v) Q) := (aw_eq g 210 136 _ _ _ _).trans (by rw [tq210_136]; exact rfl)
theorem tq210_137 : tT g 210 137 = s_dup 210 138 := rfl
theorem A210_137 {L : AL} {r : List Value} {v : Value} : aw g 210 137 L (v :: r) σ Q = (v.category = 1 ∧ aw g 210 138 L (v :: v :: r) σ Q) := (aw_eq g 210 137 _ _ _ _).trans (by rw [tq210_137]; exact rfl)
theorem tq210_138 : tT g 210 138 = s_const 210 139 (.int 2) := rfl
theorem A210_138 {L : AL} {r : List Value} : aw g 210 138 L r σ Q = aw g 210 139 L (.int 2 :: r) σ Q := (aw_eq g 210 138 _ _ _ _).trans (by rw [tq210_138]; exact rfl)
theorem tq210_139 : tT g 210 139 = s_load vRf 210 140 0 := rfl
theorem A210_139 {l1 : Option Value} {l2 : Option Value} {l3 : Option Value} {l4 : Option Value} {x : Value} {r : List Value} : aw g 210 139 [some (x), l1, l2, l3, l4] r σ Q = (vRf x = true ∧ aw g 210 140 [some (x), l1, l2, l3, l4] (x :: r) σ Q) := (aw_eq g 210 139 _ _ _ _).trans (by rw [tq210_139]; exact h_load rfl)
theorem tq210_140 : tT g 210 140 = s_getf 210 143 7 15 := rfl
theorem A210_140 {L : AL} {r : List Value} {a : Nat} : aw g 210 140 L (.ref a :: r) σ Q = (hty σ a = some 7 ∧ aw g 210 143 L (hv σ 7 a 15 :: r) σ Q) := (aw_eq g 210 140 _ _ _ _).trans (by rw [tq210_140]; exact rfl)
theorem tq210_143 : tT g 210 143 = s_ast g vRow 210 144 25 := rfl
theorem A210_143 {L : AL} {r : List Value} {a : Nat} {i : Int32} {v : Value} : aw g 210 143 L (v :: .int i :: .ref a :: r) σ Q = (hty σ a = some 25 ∧ gB g ≤ a ∧ ¬ i < 0 ∧ i.toNatClampNeg < hln σ a ∧ vRow σ v ∧ aw g 210 144 L r (hput σ 25 a i.toNatClampNeg v) Q) := (aw_eq g 210 143 _ _ _ _).trans (by rw [tq210_143]; exact rfl)
theorem tq210_144 : tT g 210 144 = s_dup 210 145 := rfl
theorem A210_144 {L : AL} {r : List Value} {v : Value} : aw g 210 144 L (v :: r) σ Q = (v.category = 1 ∧ aw g 210 145 L (v :: v :: r) σ Q) := (aw_eq g 210 144 _ _ _ _).trans (by rw [tq210_144]; exact rfl)
theorem tq210_145 : tT g 210 145 = s_const 210 146 (.int 3) := rfl
theorem A210_145 {L : AL} {r : List Value} : aw g 210 145 L r σ Q = aw g 210 146 L (.int 3 :: r) σ Q := (aw_eq g 210 145 _ _ _ _).trans (by rw [tq210_145]; exact rfl)
theorem tq210_146 : tT g 210 146 = s_load vRf 210 147 0 := rfl
theorem A210_146 {l1 : Option Value} {l2 : Option Value} {l3 : Option Value} {l4 : Option Value} {x : Value} {r : List Value} : aw g 210 146 [some (x), l1, l2, l3, l4] r σ Q = (vRf x = true ∧ aw g 210 147 [some (x), l1, l2, l3, l4] (x :: r) σ Q) := (aw_eq g 210 146 _ _ _ _).trans (by rw [tq210_146]; exact h_load rfl)
theorem tq210_147 : tT g 210 147 = s_getf 210 150 7 16 := rfl
theorem A210_147 {L : AL} {r : List Value} {a : Nat} : aw g 210 147 L (.ref a :: r) σ Q = (hty σ a = some 7 ∧ aw g 210 150 L (hv σ 7 a 16 :: r) σ Q) := (aw_eq g 210 147 _ _ _ _).trans (by rw [tq210_147]; exact rfl)
theorem tq210_150 : tT g 210 150 = s_ast g vRow 210 151 25 := rfl
theorem A210_150 {L : AL} {r : List Value} {a : Nat} {i : Int32} {v : Value} : aw g 210 150 L (v :: .int i :: .ref a :: r) σ Q = (hty σ a = some 25 ∧ gB g ≤ a ∧ ¬ i < 0 ∧ i.toNatClampNeg < hln σ a ∧ vRow σ v ∧ aw g 210 151 L r (hput σ 25 a i.toNatClampNeg v) Q) := (aw_eq g 210 150 _ _ _ _).trans (by rw [tq210_150]; exact rfl)
theorem tq210_151 : tT g 210 151 = s_dup 210 152 := rfl
theorem A210_151 {L : AL} {r : List Value} {v : Value} : aw g 210 151 L (v :: r) σ Q = (v.category = 1 ∧ aw g 210 152 L (v :: v :: r) σ Q) := (aw_eq g 210 151 _ _ _ _).trans (by rw [tq210_151]; exact rfl)
theorem tq210_152 : tT g 210 152 = s_const 210 153 (.int 4) := rfl
theorem A210_152 {L : AL} {r : List Value} : aw g 210 152 L r σ Q = aw g 210 153 L (.int 4 :: r) σ Q := (aw_eq g 210 152 _ _ _ _).trans (by rw [tq210_152]; exact rfl)
theorem tq210_153 : tT g 210 153 = s_load vRf 210 154 0 := rfl
theorem A210_153 {l1 : Option Value} {l2 : Option Value} {l3 : Option Value} {l4 : Option Value} {x : Value} {r : List Value} : aw g 210 153 [some (x), l1, l2, l3, l4] r σ Q = (vRf x = true ∧ aw g 210 154 [some (x), l1, l2, l3, l4] (x :: r) σ Q) := (aw_eq g 210 153 _ _ _ _).trans (by rw [tq210_153]; exact h_load rfl)
theorem tq210_154 : tT g 210 154 = s_getf 210 157 7 28 := rfl
theorem A210_154 {L : AL} {r : List Value} {a : Nat} : aw g 210 154 L (.ref a :: r) σ Q = (hty σ a = some 7 ∧ aw g 210 157 L (hv σ 7 a 28 :: r) σ Q) := (aw_eq g 210 154 _ _ _ _).trans (by rw [tq210_154]; exact rfl)
theorem tq210_157 : tT g 210 157 = s_ast g vRow 210 158 25 := rfl
theorem A210_157 {L : AL} {r : List Value} {a : Nat} {i : Int32} {v : Value} : aw g 210 157 L (v :: .int i :: .ref a :: r) σ Q = (hty σ a = some 25 ∧ gB g ≤ a ∧ ¬ i < 0 ∧ i.toNatClampNeg < hln σ a ∧ vRow σ v ∧ aw g 210 158 L r (hput σ 25 a i.toNatClampNeg v) Q) := (aw_eq g 210 157 _ _ _ _).trans (by rw [tq210_157]; exact rfl)
theorem tq210_158 : tT g 210 158 = s_store vRf 210 159 2 := rfl
theorem A210_158 {l0 : Option Value} {l1 : Option Value} {l2 : Option Value} {l3 : Option Value} {l4 : Option Value} {x : Value} {r : List Value} : aw g 210 158 [l0, l1, l2, l3, l4] (x :: r) σ Q = (vRf x = true ∧ oc l1 = true ∧ aw g 210 159 [l0, l1, some (x), l3, l4] r σ Q) := (aw_eq g 210 158 _ _ _ _).trans (by rw [tq210_158]; exact (h_store (o := oc l1) rfl rfl rfl))
theorem tq210_159 : tT g 210 159 = s_const 210 160 (.int 5) := rfl
theorem A210_159 {L : AL} {r : List Value} : aw g 210 159 L r σ Q = aw g 210 160 L (.int 5 :: r) σ Q := (aw_eq g 210 159 _ _ _ _).trans (by rw [tq210_159]; exact rfl)
theorem tq210_160 : tT g 210 160 = s_newa g 210 163 25 (.null) := rfl
theorem A210_160 {L : AL} {r : List Value} {x : Int32} : aw g 210 160 L (.int x :: r) σ Q = (¬ x < 0 ∧ x.toNatClampNeg ≤ 65536 ∧ hsz σ + 1 ≤ gC g ∧ hsl σ + x.toNatClampNeg ≤ gS g ∧ aw g 210 163 L (.ref (hsz σ) :: r) (hnew σ 25 x.toNatClampNeg (fun _ => .null) x.toNatClampNeg) Q) := (aw_eq g 210 160 _ _ _ _).trans (by rw [tq210_160]; exact rfl)
theorem tq210_163 : tT g 210 163 = s_dup 210 164 := rfl
theorem A210_163 {L : AL} {r : List Value} {v : Value} : aw g 210 163 L (v :: r) σ Q = (v.category = 1 ∧ aw g 210 164 L (v :: v :: r) σ Q) := (aw_eq g 210 163 _ _ _ _).trans (by rw [tq210_163]; exact rfl)
theorem tq210_164 : tT g 210 164 = s_const 210 165 (.int 0) := rfl
theorem A210_164 {L : AL} {r : List Value} : aw g 210 164 L r σ Q = aw g 210 165 L (.int 0 :: r) σ Q := (aw_eq g 210 164 _ _ _ _).trans (by rw [tq210_164]; exact rfl)
theorem tq210_165 : tT g 210 165 = s_load vRf 210 166 1 := rfl
theorem A210_165 {l0 : Option Value} {l2 : Option Value} {l3 : Option Value} {l4 : Option Value} {x : Value} {r : List Value} : aw g 210 165 [l0, some (x), l2, l3, l4] r σ Q = (vRf x = true ∧ aw g 210 166 [l0, some (x), l2, l3, l4] (x :: r) σ Q) := (aw_eq g 210 165 _ _ _ _).trans (by rw [tq210_165]; exact h_load rfl)
theorem tq210_166 : tT g 210 166 = s_getf 210 169 7 13 := rfl
theorem A210_166 {L : AL} {r : List Value} {a : Nat} : aw g 210 166 L (.ref a :: r) σ Q = (hty σ a = some 7 ∧ aw g 210 169 L (hv σ 7 a 13 :: r) σ Q) := (aw_eq g 210 166 _ _ _ _).trans (by rw [tq210_166]; exact rfl)
theorem tq210_169 : tT g 210 169 = s_ast g vRow 210 170 25 := rfl
theorem A210_169 {L : AL} {r : List Value} {a : Nat} {i : Int32} {v : Value} : aw g 210 169 L (v :: .int i :: .ref a :: r) σ Q = (hty σ a = some 25 ∧ gB g ≤ a ∧ ¬ i < 0 ∧ i.toNatClampNeg < hln σ a ∧ vRow σ v ∧ aw g 210 170 L r (hput σ 25 a i.toNatClampNeg v) Q) := (aw_eq g 210 169 _ _ _ _).trans (by rw [tq210_169]; exact rfl)
theorem tq210_170 : tT g 210 170 = s_dup 210 171 := rfl
theorem A210_170 {L : AL} {r : List Value} {v : Value} : aw g 210 170 L (v :: r) σ Q = (v.category = 1 ∧ aw g 210 171 L (v :: v :: r) σ Q) := (aw_eq g 210 170 _ _ _ _).trans (by rw [tq210_170]; exact rfl)
theorem tq210_171 : tT g 210 171 = s_const 210 172 (.int 1) := rfl
theorem A210_171 {L : AL} {r : List Value} : aw g 210 171 L r σ Q = aw g 210 172 L (.int 1 :: r) σ Q := (aw_eq g 210 171 _ _ _ _).trans (by rw [tq210_171]; exact rfl)
theorem tq210_172 : tT g 210 172 = s_load vRf 210 173 1 := rfl
theorem A210_172 {l0 : Option Value} {l2 : Option Value} {l3 : Option Value} {l4 : Option Value} {x : Value} {r : List Value} : aw g 210 172 [l0, some (x), l2, l3, l4] r σ Q = (vRf x = true ∧ aw g 210 173 [l0, some (x), l2, l3, l4] (x :: r) σ Q) := (aw_eq g 210 172 _ _ _ _).trans (by rw [tq210_172]; exact h_load rfl)
theorem tq210_173 : tT g 210 173 = s_getf 210 176 7 14 := rfl
theorem A210_173 {L : AL} {r : List Value} {a : Nat} : aw g 210 173 L (.ref a :: r) σ Q = (hty σ a = some 7 ∧ aw g 210 176 L (hv σ 7 a 14 :: r) σ Q) := (aw_eq g 210 173 _ _ _ _).trans (by rw [tq210_173]; exact rfl)
theorem tq210_176 : tT g 210 176 = s_ast g vRow 210 177 25 := rfl
theorem A210_176 {L : AL} {r : List Value} {a : Nat} {i : Int32} {v : Value} : aw g 210 176 L (v :: .int i :: .ref a :: r) σ Q = (hty σ a = some 25 ∧ gB g ≤ a ∧ ¬ i < 0 ∧ i.toNatClampNeg < hln σ a ∧ vRow σ v ∧ aw g 210 177 L r (hput σ 25 a i.toNatClampNeg v) Q) := (aw_eq g 210 176 _ _ _ _).trans (by rw [tq210_176]; exact rfl)
theorem tq210_177 : tT g 210 177 = s_dup 210 178 := rfl
theorem A210_177 {L : AL} {r : List Value} {v : Value} : aw g 210 177 L (v :: r) σ Q = (v.category = 1 ∧ aw g 210 178 L (v :: v :: r) σ Q) := (aw_eq g 210 177 _ _ _ _).trans (by rw [tq210_177]; exact rfl)
theorem tq210_178 : tT g 210 178 = s_const 210 179 (.int 2) := rfl
theorem A210_178 {L : AL} {r : List Value} : aw g 210 178 L r σ Q = aw g 210 179 L (.int 2 :: r) σ Q := (aw_eq g 210 178 _ _ _ _).trans (by rw [tq210_178]; exact rfl)
theorem tq210_179 : tT g 210 179 = s_load vRf 210 180 1 := rfl
theorem A210_179 {l0 : Option Value} {l2 : Option Value} {l3 : Option Value} {l4 : Option Value} {x : Value} {r : List Value} : aw g 210 179 [l0, some (x), l2, l3, l4] r σ Q = (vRf x = true ∧ aw g 210 180 [l0, some (x), l2, l3, l4] (x :: r) σ Q) := (aw_eq g 210 179 _ _ _ _).trans (by rw [tq210_179]; exact h_load rfl)
theorem tq210_180 : tT g 210 180 = s_getf 210 183 7 15 := rfl
theorem A210_180 {L : AL} {r : List Value} {a : Nat} : aw g 210 180 L (.ref a :: r) σ Q = (hty σ a = some 7 ∧ aw g 210 183 L (hv σ 7 a 15 :: r) σ Q) := (aw_eq g 210 180 _ _ _ _).trans (by rw [tq210_180]; exact rfl)
theorem tq210_183 : tT g 210 183 = s_ast g vRow 210 184 25 := rfl
theorem A210_183 {L : AL} {r : List Value} {a : Nat} {i : Int32} {v : Value} : aw g 210 183 L (v :: .int i :: .ref a :: r) σ Q = (hty σ a = some 25 ∧ gB g ≤ a ∧ ¬ i < 0 ∧ i.toNatClampNeg < hln σ a ∧ vRow σ v ∧ aw g 210 184 L r (hput σ 25 a i.toNatClampNeg v) Q) := (aw_eq g 210 183 _ _ _ _).trans (by rw [tq210_183]; exact rfl)
theorem tq210_184 : tT g 210 184 = s_dup 210 185 := rfl
theorem A210_184 {L : AL} {r : List Value} {v : Value} : aw g 210 184 L (v :: r) σ Q = (v.category = 1 ∧ aw g 210 185 L (v :: v :: r) σ Q) := (aw_eq g 210 184 _ _ _ _).trans (by rw [tq210_184]; exact rfl)
theorem tq210_185 : tT g 210 185 = s_const 210 186 (.int 3) := rfl
theorem A210_185 {L : AL} {r : List Value} : aw g 210 185 L r σ Q = aw g 210 186 L (.int 3 :: r) σ Q := (aw_eq g 210 185 _ _ _ _).trans (by rw [tq210_185]; exact rfl)
theorem tq210_186 : tT g 210 186 = s_load vRf 210 187 1 := rfl
theorem A210_186 {l0 : Option Value} {l2 : Option Value} {l3 : Option Value} {l4 : Option Value} {x : Value} {r : List Value} : aw g 210 186 [l0, some (x), l2, l3, l4] r σ Q = (vRf x = true ∧ aw g 210 187 [l0, some (x), l2, l3, l4] (x :: r) σ Q) := (aw_eq g 210 186 _ _ _ _).trans (by rw [tq210_186]; exact h_load rfl)
theorem tq210_187 : tT g 210 187 = s_getf 210 190 7 16 := rfl
theorem A210_187 {L : AL} {r : List Value} {a : Nat} : aw g 210 187 L (.ref a :: r) σ Q = (hty σ a = some 7 ∧ aw g 210 190 L (hv σ 7 a 16 :: r) σ Q) := (aw_eq g 210 187 _ _ _ _).trans (by rw [tq210_187]; exact rfl)
theorem tq210_190 : tT g 210 190 = s_ast g vRow 210 191 25 := rfl
theorem A210_190 {L : AL} {r : List Value} {a : Nat} {i : Int32} {v : Value} : aw g 210 190 L (v :: .int i :: .ref a :: r) σ Q = (hty σ a = some 25 ∧ gB g ≤ a ∧ ¬ i < 0 ∧ i.toNatClampNeg < hln σ a ∧ vRow σ v ∧ aw g 210 191 L r (hput σ 25 a i.toNatClampNeg v) Q) := (aw_eq g 210 190 _ _ _ _).trans (by rw [tq210_190]; exact rfl)
theorem tq210_191 : tT g 210 191 = s_dup 210 192 := rfl
theorem A210_191 {L : AL} {r : List Value} {v : Value} : aw g 210 191 L (v :: r) σ Q = (v.category = 1 ∧ aw g 210 192 L (v :: v :: r) σ Q) := (aw_eq g 210 191 _ _ _ _).trans (by rw [tq210_191]; exact rfl)
theorem tq210_192 : tT g 210 192 = s_const 210 193 (.int 4) := rfl
theorem A210_192 {L : AL} {r : List Value} : aw g 210 192 L r σ Q = aw g 210 193 L (.int 4 :: r) σ Q := (aw_eq g 210 192 _ _ _ _).trans (by rw [tq210_192]; exact rfl)
theorem tq210_193 : tT g 210 193 = s_load vRf 210 194 1 := rfl
theorem A210_193 {l0 : Option Value} {l2 : Option Value} {l3 : Option Value} {l4 : Option Value} {x : Value} {r : List Value} : aw g 210 193 [l0, some (x), l2, l3, l4] r σ Q = (vRf x = true ∧ aw g 210 194 [l0, some (x), l2, l3, l4] (x :: r) σ Q) := (aw_eq g 210 193 _ _ _ _).trans (by rw [tq210_193]; exact h_load rfl)
theorem tq210_194 : tT g 210 194 = s_getf 210 197 7 28 := rfl
theorem A210_194 {L : AL} {r : List Value} {a : Nat} : aw g 210 194 L (.ref a :: r) σ Q = (hty σ a = some 7 ∧ aw g 210 197 L (hv σ 7 a 28 :: r) σ Q) := (aw_eq g 210 194 _ _ _ _).trans (by rw [tq210_194]; exact rfl)
theorem tq210_197 : tT g 210 197 = s_ast g vRow 210 198 25 := rfl
theorem A210_197 {L : AL} {r : List Value} {a : Nat} {i : Int32} {v : Value} : aw g 210 197 L (v :: .int i :: .ref a :: r) σ Q = (hty σ a = some 25 ∧ gB g ≤ a ∧ ¬ i < 0 ∧ i.toNatClampNeg < hln σ a ∧ vRow σ v ∧ aw g 210 198 L r (hput σ 25 a i.toNatClampNeg v) Q) := (aw_eq g 210 197 _ _ _ _).trans (by rw [tq210_197]; exact rfl)
theorem tq210_198 : tT g 210 198 = s_store vRf 210 199 3 := rfl
theorem A210_198 {l0 : Option Value} {l1 : Option Value} {l2 : Option Value} {l3 : Option Value} {l4 : Option Value} {x : Value} {r : List Value} : aw g 210 198 [l0, l1, l2, l3, l4] (x :: r) σ Q = (vRf x = true ∧ oc l2 = true ∧ aw g 210 199 [l0, l1, l2, some (x), l4] r σ Q) := (aw_eq g 210 198 _ _ _ _).trans (by rw [tq210_198]; exact (h_store (o := oc l2) rfl rfl rfl))
theorem tq210_199 : tT g 210 199 = s_const 210 200 (.int 0) := rfl
theorem A210_199 {L : AL} {r : List Value} : aw g 210 199 L r σ Q = aw g 210 200 L (.int 0 :: r) σ Q := (aw_eq g 210 199 _ _ _ _).trans (by rw [tq210_199]; exact rfl)
theorem tq210_200 : tT g 210 200 = s_store vI 210 202 4 := rfl
theorem A210_200 {l0 : Option Value} {l1 : Option Value} {l2 : Option Value} {l3 : Option Value} {l4 : Option Value} {x : Int32} {r : List Value} : aw g 210 200 [l0, l1, l2, l3, l4] (.int x :: r) σ Q = (oc l3 = true ∧ aw g 210 202 [l0, l1, l2, l3, some (.int x)] r σ Q) := (aw_eq g 210 200 _ _ _ _).trans (by rw [tq210_200]; exact (h_store (o := oc l3) rfl rfl rfl).trans (propext ⟨fun z => z.2, fun z => ⟨rfl, z⟩⟩))
theorem tq210_202 : tT g 210 202 = s_load vI 210 204 4 := rfl
theorem A210_202 {l0 : Option Value} {l1 : Option Value} {l2 : Option Value} {l3 : Option Value} {x : Int32} {r : List Value} : aw g 210 202 [l0, l1, l2, l3, some (.int x)] r σ Q = aw g 210 204 [l0, l1, l2, l3, some (.int x)] (.int x :: r) σ Q := (aw_eq g 210 202 _ _ _ _).trans (by rw [tq210_202]; exact (h_load rfl).trans (propext ⟨fun z => z.2, fun z => ⟨rfl, z⟩⟩))
theorem tq210_204 : tT g 210 204 = s_load vRf 210 205 2 := rfl
theorem A210_204 {l0 : Option Value} {l1 : Option Value} {l3 : Option Value} {l4 : Option Value} {x : Value} {r : List Value} : aw g 210 204 [l0, l1, some (x), l3, l4] r σ Q = (vRf x = true ∧ aw g 210 205 [l0, l1, some (x), l3, l4] (x :: r) σ Q) := (aw_eq g 210 204 _ _ _ _).trans (by rw [tq210_204]; exact h_load rfl)
theorem tq210_205 : tT g 210 205 = s_alen 210 206 25 := rfl
theorem A210_205 {L : AL} {r : List Value} {a : Nat} : aw g 210 205 L (.ref a :: r) σ Q = (hty σ a = some 25 ∧ aw g 210 206 L (.int (Int32.ofNat (hln σ a)) :: r) σ Q) := (aw_eq g 210 205 _ _ _ _).trans (by rw [tq210_205]; exact rfl)
theorem tq210_206 : tT g 210 206 = s_icmp 210 209 230 (fun a b => b ≤ a) := rfl
theorem A210_206 {L : AL} {r : List Value} {a b : Int32} : aw g 210 206 L (.int b :: .int a :: r) σ Q = ((b ≤ a → aw g 210 230 L r σ Q) ∧ (¬ b ≤ a → aw g 210 209 L r σ Q)) := (aw_eq g 210 206 _ _ _ _).trans (by rw [tq210_206]; exact rfl)
theorem tq210_209 : tT g 210 209 = s_load vRf 210 210 2 := rfl
theorem A210_209 {l0 : Option Value} {l1 : Option Value} {l3 : Option Value} {l4 : Option Value} {x : Value} {r : List Value} : aw g 210 209 [l0, l1, some (x), l3, l4] r σ Q = (vRf x = true ∧ aw g 210 210 [l0, l1, some (x), l3, l4] (x :: r) σ Q) := (aw_eq g 210 209 _ _ _ _).trans (by rw [tq210_209]; exact h_load rfl)
theorem tq210_210 : tT g 210 210 = s_load vI 210 212 4 := rfl
theorem A210_210 {l0 : Option Value} {l1 : Option Value} {l2 : Option Value} {l3 : Option Value} {x : Int32} {r : List Value} : aw g 210 210 [l0, l1, l2, l3, some (.int x)] r σ Q = aw g 210 212 [l0, l1, l2, l3, some (.int x)] (.int x :: r) σ Q := (aw_eq g 210 210 _ _ _ _).trans (by rw [tq210_210]; exact (h_load rfl).trans (propext ⟨fun z => z.2, fun z => ⟨rfl, z⟩⟩))
theorem tq210_212 : tT g 210 212 = s_ald 210 213 25 := rfl
theorem A210_212 {L : AL} {r : List Value} {a : Nat} {i : Int32} : aw g 210 212 L (.int i :: .ref a :: r) σ Q = (hty σ a = some 25 ∧ ¬ i < 0 ∧ i.toNatClampNeg < hln σ a ∧ aw g 210 213 L (hv σ 25 a i.toNatClampNeg :: r) σ Q) := (aw_eq g 210 212 _ _ _ _).trans (by rw [tq210_212]; exact rfl)
theorem tq210_213 : tT g 210 213 = s_const 210 214 (.int 0) := rfl
theorem A210_213 {L : AL} {r : List Value} : aw g 210 213 L r σ Q = aw g 210 214 L (.int 0 :: r) σ Q := (aw_eq g 210 213 _ _ _ _).trans (by rw [tq210_213]; exact rfl)
theorem tq210_214 : tT g 210 214 = s_load vRf 210 215 3 := rfl
theorem A210_214 {l0 : Option Value} {l1 : Option Value} {l2 : Option Value} {l4 : Option Value} {x : Value} {r : List Value} : aw g 210 214 [l0, l1, l2, some (x), l4] r σ Q = (vRf x = true ∧ aw g 210 215 [l0, l1, l2, some (x), l4] (x :: r) σ Q) := (aw_eq g 210 214 _ _ _ _).trans (by rw [tq210_214]; exact h_load rfl)
theorem tq210_215 : tT g 210 215 = s_load vI 210 217 4 := rfl
theorem A210_215 {l0 : Option Value} {l1 : Option Value} {l2 : Option Value} {l3 : Option Value} {x : Int32} {r : List Value} : aw g 210 215 [l0, l1, l2, l3, some (.int x)] r σ Q = aw g 210 217 [l0, l1, l2, l3, some (.int x)] (.int x :: r) σ Q := (aw_eq g 210 215 _ _ _ _).trans (by rw [tq210_215]; exact (h_load rfl).trans (propext ⟨fun z => z.2, fun z => ⟨rfl, z⟩⟩))
theorem tq210_217 : tT g 210 217 = s_ald 210 218 25 := rfl
theorem A210_217 {L : AL} {r : List Value} {a : Nat} {i : Int32} : aw g 210 217 L (.int i :: .ref a :: r) σ Q = (hty σ a = some 25 ∧ ¬ i < 0 ∧ i.toNatClampNeg < hln σ a ∧ aw g 210 218 L (hv σ 25 a i.toNatClampNeg :: r) σ Q) := (aw_eq g 210 217 _ _ _ _).trans (by rw [tq210_217]; exact rfl)
theorem tq210_218 : tT g 210 218 = s_const 210 219 (.int 0) := rfl
theorem A210_218 {L : AL} {r : List Value} : aw g 210 218 L r σ Q = aw g 210 219 L (.int 0 :: r) σ Q := (aw_eq g 210 218 _ _ _ _).trans (by rw [tq210_218]; exact rfl)
theorem tq210_219 : tT g 210 219 = s_const 210 221 (.int 6) := rfl
theorem A210_219 {L : AL} {r : List Value} : aw g 210 219 L r σ Q = aw g 210 221 L (.int 6 :: r) σ Q := (aw_eq g 210 219 _ _ _ _).trans (by rw [tq210_219]; exact rfl)
theorem tq210_221 : tT g 210 221 = s_acopy g (fun _ v => vI v = true) 210 224 20 := rfl
theorem A210_221 {L : AL} {r : List Value} {s e : Nat} {x z k : Int32} : aw g 210 221 L (.int k :: .int z :: .ref e :: .int x :: .ref s :: r) σ Q = (hty σ s = some 20 ∧ hty σ e = some 20 ∧ gB g ≤ e ∧ csum r ≤ 8 ∧ ¬ k < 0 ∧ ¬ x < 0 ∧ ¬ z < 0 ∧ x.toNatClampNeg + k.toNatClampNeg ≤ hln σ s ∧ z.toNatClampNeg + k.toNatClampNeg ≤ hln σ e ∧ (∀ i, i < k.toNatClampNeg → vI (hv σ 20 s (x.toNatClampNeg + i)) = true) ∧ aw g 210 224 L r (hcpy σ 20 s x.toNatClampNeg e z.toNatClampNeg k.toNatClampNeg) Q) := (aw_eq g 210 221 _ _ _ _).trans (by rw [tq210_221]; exact rfl)
theorem tq210_224 : tT g 210 224 = s_iinc 210 227 4 1 := rfl
theorem A210_224 {l0 : Option Value} {l1 : Option Value} {l2 : Option Value} {l3 : Option Value} {x : Int32} {r : List Value} : aw g 210 224 [l0, l1, l2, l3, some (.int x)] r σ Q = (oc l3 = true ∧ aw g 210 227 [l0, l1, l2, l3, some (.int (x + 1))] r σ Q) := (aw_eq g 210 224 _ _ _ _).trans (by rw [tq210_224]; exact (h_iinc (o := oc l3) rfl rfl rfl))
theorem tq210_227 : tT g 210 227 = s_goto 210 202 := rfl
theorem A210_227 {L : AL} {r : List Value} : aw g 210 227 L r σ Q = aw g 210 202 L r σ Q := (aw_eq g 210 227 _ _ _ _).trans (by rw [tq210_227]; exact rfl)
theorem tq210_230 : tT g 210 230 = s_load vRf 210 231 0 := rfl
theorem A210_230 {l1 : Option Value} {l2 : Option Value} {l3 : Option Value} {l4 : Option Value} {x : Value} {r : List Value} : aw g 210 230 [some (x), l1, l2, l3, l4] r σ Q = (vRf x = true ∧ aw g 210 231 [some (x), l1, l2, l3, l4] (x :: r) σ Q) := (aw_eq g 210 230 _ _ _ _).trans (by rw [tq210_230]; exact h_load rfl)
theorem tq210_231 : tT g 210 231 = s_getf 210 234 7 17 := rfl
theorem A210_231 {L : AL} {r : List Value} {a : Nat} : aw g 210 231 L (.ref a :: r) σ Q = (hty σ a = some 7 ∧ aw g 210 234 L (hv σ 7 a 17 :: r) σ Q) := (aw_eq g 210 231 _ _ _ _).trans (by rw [tq210_231]; exact rfl)
theorem tq210_234 : tT g 210 234 = s_const 210 235 (.int 0) := rfl
theorem A210_234 {L : AL} {r : List Value} : aw g 210 234 L r σ Q = aw g 210 235 L (.int 0 :: r) σ Q := (aw_eq g 210 234 _ _ _ _).trans (by rw [tq210_234]; exact rfl)
theorem tq210_235 : tT g 210 235 = s_load vRf 210 236 1 := rfl
theorem A210_235 {l0 : Option Value} {l2 : Option Value} {l3 : Option Value} {l4 : Option Value} {x : Value} {r : List Value} : aw g 210 235 [l0, some (x), l2, l3, l4] r σ Q = (vRf x = true ∧ aw g 210 236 [l0, some (x), l2, l3, l4] (x :: r) σ Q) := (aw_eq g 210 235 _ _ _ _).trans (by rw [tq210_235]; exact h_load rfl)
theorem tq210_236 : tT g 210 236 = s_getf 210 239 7 17 := rfl
theorem A210_236 {L : AL} {r : List Value} {a : Nat} : aw g 210 236 L (.ref a :: r) σ Q = (hty σ a = some 7 ∧ aw g 210 239 L (hv σ 7 a 17 :: r) σ Q) := (aw_eq g 210 236 _ _ _ _).trans (by rw [tq210_236]; exact rfl)
theorem tq210_239 : tT g 210 239 = s_const 210 240 (.int 0) := rfl
theorem A210_239 {L : AL} {r : List Value} : aw g 210 239 L r σ Q = aw g 210 240 L (.int 0 :: r) σ Q := (aw_eq g 210 239 _ _ _ _).trans (by rw [tq210_239]; exact rfl)
theorem tq210_240 : tT g 210 240 = s_const 210 241 (.int 5) := rfl
theorem A210_240 {L : AL} {r : List Value} : aw g 210 240 L r σ Q = aw g 210 241 L (.int 5 :: r) σ Q := (aw_eq g 210 240 _ _ _ _).trans (by rw [tq210_240]; exact rfl)
theorem tq210_241 : tT g 210 241 = s_acopy g (fun _ v => vI v = true) 210 244 20 := rfl
theorem A210_241 {L : AL} {r : List Value} {s e : Nat} {x z k : Int32} : aw g 210 241 L (.int k :: .int z :: .ref e :: .int x :: .ref s :: r) σ Q = (hty σ s = some 20 ∧ hty σ e = some 20 ∧ gB g ≤ e ∧ csum r ≤ 8 ∧ ¬ k < 0 ∧ ¬ x < 0 ∧ ¬ z < 0 ∧ x.toNatClampNeg + k.toNatClampNeg ≤ hln σ s ∧ z.toNatClampNeg + k.toNatClampNeg ≤ hln σ e ∧ (∀ i, i < k.toNatClampNeg → vI (hv σ 20 s (x.toNatClampNeg + i)) = true) ∧ aw g 210 244 L r (hcpy σ 20 s x.toNatClampNeg e z.toNatClampNeg k.toNatClampNeg) Q) := (aw_eq g 210 241 _ _ _ _).trans (by rw [tq210_241]; exact rfl)
theorem tq210_244 : tT g 210 244 = s_load vRf 210 245 1 := rfl
theorem A210_244 {l0 : Option Value} {l2 : Option Value} {l3 : Option Value} {l4 : Option Value} {x : Value} {r : List Value} : aw g 210 244 [l0, some (x), l2, l3, l4] r σ Q = (vRf x = true ∧ aw g 210 245 [l0, some (x), l2, l3, l4] (x :: r) σ Q) := (aw_eq g 210 244 _ _ _ _).trans (by rw [tq210_244]; exact h_load rfl)
theorem tq210_245 : tT g 210 245 = s_load vRf 210 246 0 := rfl
theorem A210_245 {l1 : Option Value} {l2 : Option Value} {l3 : Option Value} {l4 : Option Value} {x : Value} {r : List Value} : aw g 210 245 [some (x), l1, l2, l3, l4] r σ Q = (vRf x = true ∧ aw g 210 246 [some (x), l1, l2, l3, l4] (x :: r) σ Q) := (aw_eq g 210 245 _ _ _ _).trans (by rw [tq210_245]; exact h_load rfl)
theorem tq210_246 : tT g 210 246 = s_getf 210 249 7 18 := rfl
theorem A210_246 {L : AL} {r : List Value} {a : Nat} : aw g 210 246 L (.ref a :: r) σ Q = (hty σ a = some 7 ∧ aw g 210 249 L (hv σ 7 a 18 :: r) σ Q) := (aw_eq g 210 246 _ _ _ _).trans (by rw [tq210_246]; exact rfl)
theorem tq210_249 : tT g 210 249 = s_putf g vZ 210 252 7 18 := rfl
theorem A210_249 {L : AL} {r : List Value} {a : Nat} {v : Value} : aw g 210 249 L (v :: .ref a :: r) σ Q = (hty σ a = some 7 ∧ gB g ≤ a ∧ vZ v ∧ aw g 210 252 L r (hput σ 7 a 18 v) Q) := (aw_eq g 210 249 _ _ _ _).trans (by rw [tq210_249]; exact rfl)
theorem tq210_252 : tT g 210 252 = s_load vRf 210 253 1 := rfl
theorem A210_252 {l0 : Option Value} {l2 : Option Value} {l3 : Option Value} {l4 : Option Value} {x : Value} {r : List Value} : aw g 210 252 [l0, some (x), l2, l3, l4] r σ Q = (vRf x = true ∧ aw g 210 253 [l0, some (x), l2, l3, l4] (x :: r) σ Q) := (aw_eq g 210 252 _ _ _ _).trans (by rw [tq210_252]; exact h_load rfl)
theorem tq210_253 : tT g 210 253 = s_load vRf 210 254 0 := rfl
theorem A210_253 {l1 : Option Value} {l2 : Option Value} {l3 : Option Value} {l4 : Option Value} {x : Value} {r : List Value} : aw g 210 253 [some (x), l1, l2, l3, l4] r σ Q = (vRf x = true ∧ aw g 210 254 [some (x), l1, l2, l3, l4] (x :: r) σ Q) := (aw_eq g 210 253 _ _ _ _).trans (by rw [tq210_253]; exact h_load rfl)
theorem tq210_254 : tT g 210 254 = s_getf 210 257 7 19 := rfl
theorem A210_254 {L : AL} {r : List Value} {a : Nat} : aw g 210 254 L (.ref a :: r) σ Q = (hty σ a = some 7 ∧ aw g 210 257 L (hv σ 7 a 19 :: r) σ Q) := (aw_eq g 210 254 _ _ _ _).trans (by rw [tq210_254]; exact rfl)
theorem tq210_257 : tT g 210 257 = s_putf g vZ 210 260 7 19 := rfl
theorem A210_257 {L : AL} {r : List Value} {a : Nat} {v : Value} : aw g 210 257 L (v :: .ref a :: r) σ Q = (hty σ a = some 7 ∧ gB g ≤ a ∧ vZ v ∧ aw g 210 260 L r (hput σ 7 a 19 v) Q) := (aw_eq g 210 257 _ _ _ _).trans (by rw [tq210_257]; exact rfl)
theorem tq210_260 : tT g 210 260 = s_load vRf 210 261 1 := rfl
theorem A210_260 {l0 : Option Value} {l2 : Option Value} {l3 : Option Value} {l4 : Option Value} {x : Value} {r : List Value} : aw g 210 260 [l0, some (x), l2, l3, l4] r σ Q = (vRf x = true ∧ aw g 210 261 [l0, some (x), l2, l3, l4] (x :: r) σ Q) := (aw_eq g 210 260 _ _ _ _).trans (by rw [tq210_260]; exact h_load rfl)
theorem tq210_261 : tT g 210 261 = s_load vRf 210 262 0 := rfl
theorem A210_261 {l1 : Option Value} {l2 : Option Value} {l3 : Option Value} {l4 : Option Value} {x : Value} {r : List Value} : aw g 210 261 [some (x), l1, l2, l3, l4] r σ Q = (vRf x = true ∧ aw g 210 262 [some (x), l1, l2, l3, l4] (x :: r) σ Q) := (aw_eq g 210 261 _ _ _ _).trans (by rw [tq210_261]; exact h_load rfl)
theorem tq210_262 : tT g 210 262 = s_getf 210 265 7 20 := rfl
theorem A210_262 {L : AL} {r : List Value} {a : Nat} : aw g 210 262 L (.ref a :: r) σ Q = (hty σ a = some 7 ∧ aw g 210 265 L (hv σ 7 a 20 :: r) σ Q) := (aw_eq g 210 262 _ _ _ _).trans (by rw [tq210_262]; exact rfl)
theorem tq210_265 : tT g 210 265 = s_putf g vZ 210 268 7 20 := rfl
theorem A210_265 {L : AL} {r : List Value} {a : Nat} {v : Value} : aw g 210 265 L (v :: .ref a :: r) σ Q = (hty σ a = some 7 ∧ gB g ≤ a ∧ vZ v ∧ aw g 210 268 L r (hput σ 7 a 20 v) Q) := (aw_eq g 210 265 _ _ _ _).trans (by rw [tq210_265]; exact rfl)
theorem tq210_268 : tT g 210 268 = s_load vRf 210 269 1 := rfl
theorem A210_268 {l0 : Option Value} {l2 : Option Value} {l3 : Option Value} {l4 : Option Value} {x : Value} {r : List Value} : aw g 210 268 [l0, some (x), l2, l3, l4] r σ Q = (vRf x = true ∧ aw g 210 269 [l0, some (x), l2, l3, l4] (x :: r) σ Q) := (aw_eq g 210 268 _ _ _ _).trans (by rw [tq210_268]; exact h_load rfl)
theorem tq210_269 : tT g 210 269 = s_load vRf 210 270 0 := rfl
theorem A210_269 {l1 : Option Value} {l2 : Option Value} {l3 : Option Value} {l4 : Option Value} {x : Value} {r : List Value} : aw g 210 269 [some (x), l1, l2, l3, l4] r σ Q = (vRf x = true ∧ aw g 210 270 [some (x), l1, l2, l3, l4] (x :: r) σ Q) := (aw_eq g 210 269 _ _ _ _).trans (by rw [tq210_269]; exact h_load rfl)
theorem tq210_270 : tT g 210 270 = s_getf 210 273 7 21 := rfl
theorem A210_270 {L : AL} {r : List Value} {a : Nat} : aw g 210 270 L (.ref a :: r) σ Q = (hty σ a = some 7 ∧ aw g 210 273 L (hv σ 7 a 21 :: r) σ Q) := (aw_eq g 210 270 _ _ _ _).trans (by rw [tq210_270]; exact rfl)
theorem tq210_273 : tT g 210 273 = s_putf g pI 210 276 7 21 := rfl
theorem A210_273 {L : AL} {r : List Value} {a : Nat} {v : Value} : aw g 210 273 L (v :: .ref a :: r) σ Q = (hty σ a = some 7 ∧ gB g ≤ a ∧ pI v ∧ aw g 210 276 L r (hput σ 7 a 21 v) Q) := (aw_eq g 210 273 _ _ _ _).trans (by rw [tq210_273]; exact rfl)
theorem tq210_276 : tT g 210 276 = s_load vRf 210 277 1 := rfl
theorem A210_276 {l0 : Option Value} {l2 : Option Value} {l3 : Option Value} {l4 : Option Value} {x : Value} {r : List Value} : aw g 210 276 [l0, some (x), l2, l3, l4] r σ Q = (vRf x = true ∧ aw g 210 277 [l0, some (x), l2, l3, l4] (x :: r) σ Q) := (aw_eq g 210 276 _ _ _ _).trans (by rw [tq210_276]; exact h_load rfl)
theorem tq210_277 : tT g 210 277 = s_load vRf 210 278 0 := rfl
theorem A210_277 {l1 : Option Value} {l2 : Option Value} {l3 : Option Value} {l4 : Option Value} {x : Value} {r : List Value} : aw g 210 277 [some (x), l1, l2, l3, l4] r σ Q = (vRf x = true ∧ aw g 210 278 [some (x), l1, l2, l3, l4] (x :: r) σ Q) := (aw_eq g 210 277 _ _ _ _).trans (by rw [tq210_277]; exact h_load rfl)
theorem tq210_278 : tT g 210 278 = s_getf 210 281 7 22 := rfl
theorem A210_278 {L : AL} {r : List Value} {a : Nat} : aw g 210 278 L (.ref a :: r) σ Q = (hty σ a = some 7 ∧ aw g 210 281 L (hv σ 7 a 22 :: r) σ Q) := (aw_eq g 210 278 _ _ _ _).trans (by rw [tq210_278]; exact rfl)
theorem tq210_281 : tT g 210 281 = s_putf g pI 210 284 7 22 := rfl
theorem A210_281 {L : AL} {r : List Value} {a : Nat} {v : Value} : aw g 210 281 L (v :: .ref a :: r) σ Q = (hty σ a = some 7 ∧ gB g ≤ a ∧ pI v ∧ aw g 210 284 L r (hput σ 7 a 22 v) Q) := (aw_eq g 210 281 _ _ _ _).trans (by rw [tq210_281]; exact rfl)
theorem tq210_284 : tT g 210 284 = s_load vRf 210 285 1 := rfl
theorem A210_284 {l0 : Option Value} {l2 : Option Value} {l3 : Option Value} {l4 : Option Value} {x : Value} {r : List Value} : aw g 210 284 [l0, some (x), l2, l3, l4] r σ Q = (vRf x = true ∧ aw g 210 285 [l0, some (x), l2, l3, l4] (x :: r) σ Q) := (aw_eq g 210 284 _ _ _ _).trans (by rw [tq210_284]; exact h_load rfl)
theorem tq210_285 : tT g 210 285 = s_load vRf 210 286 0 := rfl
theorem A210_285 {l1 : Option Value} {l2 : Option Value} {l3 : Option Value} {l4 : Option Value} {x : Value} {r : List Value} : aw g 210 285 [some (x), l1, l2, l3, l4] r σ Q = (vRf x = true ∧ aw g 210 286 [some (x), l1, l2, l3, l4] (x :: r) σ Q) := (aw_eq g 210 285 _ _ _ _).trans (by rw [tq210_285]; exact h_load rfl)
theorem tq210_286 : tT g 210 286 = s_getf 210 289 7 23 := rfl
theorem A210_286 {L : AL} {r : List Value} {a : Nat} : aw g 210 286 L (.ref a :: r) σ Q = (hty σ a = some 7 ∧ aw g 210 289 L (hv σ 7 a 23 :: r) σ Q) := (aw_eq g 210 286 _ _ _ _).trans (by rw [tq210_286]; exact rfl)
theorem tq210_289 : tT g 210 289 = s_putf g pI 210 292 7 23 := rfl
theorem A210_289 {L : AL} {r : List Value} {a : Nat} {v : Value} : aw g 210 289 L (v :: .ref a :: r) σ Q = (hty σ a = some 7 ∧ gB g ≤ a ∧ pI v ∧ aw g 210 292 L r (hput σ 7 a 23 v) Q) := (aw_eq g 210 289 _ _ _ _).trans (by rw [tq210_289]; exact rfl)
theorem tq210_292 : tT g 210 292 = s_load vRf 210 293 1 := rfl
theorem A210_292 {l0 : Option Value} {l2 : Option Value} {l3 : Option Value} {l4 : Option Value} {x : Value} {r : List Value} : aw g 210 292 [l0, some (x), l2, l3, l4] r σ Q = (vRf x = true ∧ aw g 210 293 [l0, some (x), l2, l3, l4] (x :: r) σ Q) := (aw_eq g 210 292 _ _ _ _).trans (by rw [tq210_292]; exact h_load rfl)
theorem tq210_293 : tT g 210 293 = s_load vRf 210 294 0 := rfl
theorem A210_293 {l1 : Option Value} {l2 : Option Value} {l3 : Option Value} {l4 : Option Value} {x : Value} {r : List Value} : aw g 210 293 [some (x), l1, l2, l3, l4] r σ Q = (vRf x = true ∧ aw g 210 294 [some (x), l1, l2, l3, l4] (x :: r) σ Q) := (aw_eq g 210 293 _ _ _ _).trans (by rw [tq210_293]; exact h_load rfl)
theorem tq210_294 : tT g 210 294 = s_getf 210 297 7 24 := rfl
theorem A210_294 {L : AL} {r : List Value} {a : Nat} : aw g 210 294 L (.ref a :: r) σ Q = (hty σ a = some 7 ∧ aw g 210 297 L (hv σ 7 a 24 :: r) σ Q) := (aw_eq g 210 294 _ _ _ _).trans (by rw [tq210_294]; exact rfl)
theorem tq210_297 : tT g 210 297 = s_putf g pI 210 300 7 24 := rfl
theorem A210_297 {L : AL} {r : List Value} {a : Nat} {v : Value} : aw g 210 297 L (v :: .ref a :: r) σ Q = (hty σ a = some 7 ∧ gB g ≤ a ∧ pI v ∧ aw g 210 300 L r (hput σ 7 a 24 v) Q) := (aw_eq g 210 297 _ _ _ _).trans (by rw [tq210_297]; exact rfl)
theorem tq210_300 : tT g 210 300 = s_load vRf 210 301 1 := rfl
theorem A210_300 {l0 : Option Value} {l2 : Option Value} {l3 : Option Value} {l4 : Option Value} {x : Value} {r : List Value} : aw g 210 300 [l0, some (x), l2, l3, l4] r σ Q = (vRf x = true ∧ aw g 210 301 [l0, some (x), l2, l3, l4] (x :: r) σ Q) := (aw_eq g 210 300 _ _ _ _).trans (by rw [tq210_300]; exact h_load rfl)
theorem tq210_301 : tT g 210 301 = s_load vRf 210 302 0 := rfl
theorem A210_301 {l1 : Option Value} {l2 : Option Value} {l3 : Option Value} {l4 : Option Value} {x : Value} {r : List Value} : aw g 210 301 [some (x), l1, l2, l3, l4] r σ Q = (vRf x = true ∧ aw g 210 302 [some (x), l1, l2, l3, l4] (x :: r) σ Q) := (aw_eq g 210 301 _ _ _ _).trans (by rw [tq210_301]; exact h_load rfl)
theorem tq210_302 : tT g 210 302 = s_getf 210 305 7 25 := rfl
theorem A210_302 {L : AL} {r : List Value} {a : Nat} : aw g 210 302 L (.ref a :: r) σ Q = (hty σ a = some 7 ∧ aw g 210 305 L (hv σ 7 a 25 :: r) σ Q) := (aw_eq g 210 302 _ _ _ _).trans (by rw [tq210_302]; exact rfl)
theorem tq210_305 : tT g 210 305 = s_putf g vZ 210 308 7 25 := rfl
theorem A210_305 {L : AL} {r : List Value} {a : Nat} {v : Value} : aw g 210 305 L (v :: .ref a :: r) σ Q = (hty σ a = some 7 ∧ gB g ≤ a ∧ vZ v ∧ aw g 210 308 L r (hput σ 7 a 25 v) Q) := (aw_eq g 210 305 _ _ _ _).trans (by rw [tq210_305]; exact rfl)
theorem tq210_308 : tT g 210 308 = s_load vRf 210 309 1 := rfl
theorem A210_308 {l0 : Option Value} {l2 : Option Value} {l3 : Option Value} {l4 : Option Value} {x : Value} {r : List Value} : aw g 210 308 [l0, some (x), l2, l3, l4] r σ Q = (vRf x = true ∧ aw g 210 309 [l0, some (x), l2, l3, l4] (x :: r) σ Q) := (aw_eq g 210 308 _ _ _ _).trans (by rw [tq210_308]; exact h_load rfl)
theorem tq210_309 : tT g 210 309 = s_load vRf 210 310 0 := rfl
theorem A210_309 {l1 : Option Value} {l2 : Option Value} {l3 : Option Value} {l4 : Option Value} {x : Value} {r : List Value} : aw g 210 309 [some (x), l1, l2, l3, l4] r σ Q = (vRf x = true ∧ aw g 210 310 [some (x), l1, l2, l3, l4] (x :: r) σ Q) := (aw_eq g 210 309 _ _ _ _).trans (by rw [tq210_309]; exact h_load rfl)
theorem tq210_310 : tT g 210 310 = s_getf 210 313 7 26 := rfl
theorem A210_310 {L : AL} {r : List Value} {a : Nat} : aw g 210 310 L (.ref a :: r) σ Q = (hty σ a = some 7 ∧ aw g 210 313 L (hv σ 7 a 26 :: r) σ Q) := (aw_eq g 210 310 _ _ _ _).trans (by rw [tq210_310]; exact rfl)
theorem tq210_313 : tT g 210 313 = s_putf g pI 210 316 7 26 := rfl
theorem A210_313 {L : AL} {r : List Value} {a : Nat} {v : Value} : aw g 210 313 L (v :: .ref a :: r) σ Q = (hty σ a = some 7 ∧ gB g ≤ a ∧ pI v ∧ aw g 210 316 L r (hput σ 7 a 26 v) Q) := (aw_eq g 210 313 _ _ _ _).trans (by rw [tq210_313]; exact rfl)
theorem tq210_316 : tT g 210 316 = s_load vRf 210 317 1 := rfl
theorem A210_316 {l0 : Option Value} {l2 : Option Value} {l3 : Option Value} {l4 : Option Value} {x : Value} {r : List Value} : aw g 210 316 [l0, some (x), l2, l3, l4] r σ Q = (vRf x = true ∧ aw g 210 317 [l0, some (x), l2, l3, l4] (x :: r) σ Q) := (aw_eq g 210 316 _ _ _ _).trans (by rw [tq210_316]; exact h_load rfl)
theorem tq210_317 : tT g 210 317 = s_load vRf 210 318 0 := rfl
theorem A210_317 {l1 : Option Value} {l2 : Option Value} {l3 : Option Value} {l4 : Option Value} {x : Value} {r : List Value} : aw g 210 317 [some (x), l1, l2, l3, l4] r σ Q = (vRf x = true ∧ aw g 210 318 [some (x), l1, l2, l3, l4] (x :: r) σ Q) := (aw_eq g 210 317 _ _ _ _).trans (by rw [tq210_317]; exact h_load rfl)
theorem tq210_318 : tT g 210 318 = s_getf 210 321 7 27 := rfl
theorem A210_318 {L : AL} {r : List Value} {a : Nat} : aw g 210 318 L (.ref a :: r) σ Q = (hty σ a = some 7 ∧ aw g 210 321 L (hv σ 7 a 27 :: r) σ Q) := (aw_eq g 210 318 _ _ _ _).trans (by rw [tq210_318]; exact rfl)
theorem tq210_321 : tT g 210 321 = s_putf g pI 210 324 7 27 := rfl
theorem A210_321 {L : AL} {r : List Value} {a : Nat} {v : Value} : aw g 210 321 L (v :: .ref a :: r) σ Q = (hty σ a = some 7 ∧ gB g ≤ a ∧ pI v ∧ aw g 210 324 L r (hput σ 7 a 27 v) Q) := (aw_eq g 210 321 _ _ _ _).trans (by rw [tq210_321]; exact rfl)
theorem tq210_324 : tT g 210 324 = s_load vRf 210 325 1 := rfl
theorem A210_324 {l0 : Option Value} {l2 : Option Value} {l3 : Option Value} {l4 : Option Value} {x : Value} {r : List Value} : aw g 210 324 [l0, some (x), l2, l3, l4] r σ Q = (vRf x = true ∧ aw g 210 325 [l0, some (x), l2, l3, l4] (x :: r) σ Q) := (aw_eq g 210 324 _ _ _ _).trans (by rw [tq210_324]; exact h_load rfl)
theorem tq210_325 : tT g 210 325 = s_load vRf 210 326 0 := rfl
theorem A210_325 {l1 : Option Value} {l2 : Option Value} {l3 : Option Value} {l4 : Option Value} {x : Value} {r : List Value} : aw g 210 325 [some (x), l1, l2, l3, l4] r σ Q = (vRf x = true ∧ aw g 210 326 [some (x), l1, l2, l3, l4] (x :: r) σ Q) := (aw_eq g 210 325 _ _ _ _).trans (by rw [tq210_325]; exact h_load rfl)
theorem tq210_326 : tT g 210 326 = s_getf 210 329 7 29 := rfl
theorem A210_326 {L : AL} {r : List Value} {a : Nat} : aw g 210 326 L (.ref a :: r) σ Q = (hty σ a = some 7 ∧ aw g 210 329 L (hv σ 7 a 29 :: r) σ Q) := (aw_eq g 210 326 _ _ _ _).trans (by rw [tq210_326]; exact rfl)
theorem tq210_329 : tT g 210 329 = s_putf g pI 210 332 7 29 := rfl
theorem A210_329 {L : AL} {r : List Value} {a : Nat} {v : Value} : aw g 210 329 L (v :: .ref a :: r) σ Q = (hty σ a = some 7 ∧ gB g ≤ a ∧ pI v ∧ aw g 210 332 L r (hput σ 7 a 29 v) Q) := (aw_eq g 210 329 _ _ _ _).trans (by rw [tq210_329]; exact rfl)
theorem tq210_332 : tT g 210 332 = s_load vRf 210 333 1 := rfl
theorem A210_332 {l0 : Option Value} {l2 : Option Value} {l3 : Option Value} {l4 : Option Value} {x : Value} {r : List Value} : aw g 210 332 [l0, some (x), l2, l3, l4] r σ Q = (vRf x = true ∧ aw g 210 333 [l0, some (x), l2, l3, l4] (x :: r) σ Q) := (aw_eq g 210 332 _ _ _ _).trans (by rw [tq210_332]; exact h_load rfl)
theorem tq210_333 : tT g 210 333 = s_new g 210 336 10 3 (fun k => defaultValue (tyJ2 k)) := rfl
theorem A210_333 {L : AL} {r : List Value} : aw g 210 333 L r σ Q = (hsz σ + 1 ≤ gC g ∧ hsl σ + 3 ≤ gS g ∧ aw g 210 336 L (.ref (hsz σ) :: r) (hnew σ 10 0 (fun k => defaultValue (tyJ2 k)) 3) Q) := (aw_eq g 210 333 _ _ _ _).trans (by rw [tq210_333]; exact rfl)
theorem tq210_336 : tT g 210 336 = s_dup 210 337 := rfl
theorem A210_336 {L : AL} {r : List Value} {v : Value} : aw g 210 336 L (v :: r) σ Q = (v.category = 1 ∧ aw g 210 337 L (v :: v :: r) σ Q) := (aw_eq g 210 336 _ _ _ _).trans (by rw [tq210_336]; exact rfl)
theorem tq210_337 : tT g 210 337 = s_load vRf 210 338 0 := rfl
theorem A210_337 {l1 : Option Value} {l2 : Option Value} {l3 : Option Value} {l4 : Option Value} {x : Value} {r : List Value} : aw g 210 337 [some (x), l1, l2, l3, l4] r σ Q = (vRf x = true ∧ aw g 210 338 [some (x), l1, l2, l3, l4] (x :: r) σ Q) := (aw_eq g 210 337 _ _ _ _).trans (by rw [tq210_337]; exact h_load rfl)
theorem tq210_338 : tT g 210 338 = s_getf 210 341 7 30 := rfl
theorem A210_338 {L : AL} {r : List Value} {a : Nat} : aw g 210 338 L (.ref a :: r) σ Q = (hty σ a = some 7 ∧ aw g 210 341 L (hv σ 7 a 30 :: r) σ Q) := (aw_eq g 210 338 _ _ _ _).trans (by rw [tq210_338]; exact rfl)
theorem tq210_341 : tT g 210 341 = s_callik 210 344 29 [1] 3 := rfl
theorem A210_341 {L : AL} {r : List Value} {a : Nat} {w0 : Value} : aw g 210 341 L (w0 :: .ref a :: r) σ Q = ((vRf w0 && true) = true ∧ csum r ≤ 8 ∧ aw g 29 0 [some (.ref a), some w0, none] [] σ (kt (aw g) 210 344 L r Q)) := (aw_eq g 210 341 _ _ _ _).trans (by rw [tq210_341]; exact rfl)
theorem tq210_344 : tT g 210 344 = s_putf g pR 210 347 7 30 := rfl
theorem A210_344 {L : AL} {r : List Value} {a : Nat} {v : Value} : aw g 210 344 L (v :: .ref a :: r) σ Q = (hty σ a = some 7 ∧ gB g ≤ a ∧ pR v ∧ aw g 210 347 L r (hput σ 7 a 30 v) Q) := (aw_eq g 210 344 _ _ _ _).trans (by rw [tq210_344]; exact rfl)
theorem tq210_347 : tT g 210 347 = s_load vRf 210 348 1 := rfl
theorem A210_347 {l0 : Option Value} {l2 : Option Value} {l3 : Option Value} {l4 : Option Value} {x : Value} {r : List Value} : aw g 210 347 [l0, some (x), l2, l3, l4] r σ Q = (vRf x = true ∧ aw g 210 348 [l0, some (x), l2, l3, l4] (x :: r) σ Q) := (aw_eq g 210 347 _ _ _ _).trans (by rw [tq210_347]; exact h_load rfl)
theorem tq210_348 : tT g 210 348 = s_new g 210 351 10 3 (fun k => defaultValue (tyJ2 k)) := rfl
theorem A210_348 {L : AL} {r : List Value} : aw g 210 348 L r σ Q = (hsz σ + 1 ≤ gC g ∧ hsl σ + 3 ≤ gS g ∧ aw g 210 351 L (.ref (hsz σ) :: r) (hnew σ 10 0 (fun k => defaultValue (tyJ2 k)) 3) Q) := (aw_eq g 210 348 _ _ _ _).trans (by rw [tq210_348]; exact rfl)
theorem tq210_351 : tT g 210 351 = s_dup 210 352 := rfl
theorem A210_351 {L : AL} {r : List Value} {v : Value} : aw g 210 351 L (v :: r) σ Q = (v.category = 1 ∧ aw g 210 352 L (v :: v :: r) σ Q) := (aw_eq g 210 351 _ _ _ _).trans (by rw [tq210_351]; exact rfl)
theorem tq210_352 : tT g 210 352 = s_load vRf 210 353 0 := rfl
theorem A210_352 {l1 : Option Value} {l2 : Option Value} {l3 : Option Value} {l4 : Option Value} {x : Value} {r : List Value} : aw g 210 352 [some (x), l1, l2, l3, l4] r σ Q = (vRf x = true ∧ aw g 210 353 [some (x), l1, l2, l3, l4] (x :: r) σ Q) := (aw_eq g 210 352 _ _ _ _).trans (by rw [tq210_352]; exact h_load rfl)
theorem tq210_353 : tT g 210 353 = s_getf 210 356 7 31 := rfl
theorem A210_353 {L : AL} {r : List Value} {a : Nat} : aw g 210 353 L (.ref a :: r) σ Q = (hty σ a = some 7 ∧ aw g 210 356 L (hv σ 7 a 31 :: r) σ Q) := (aw_eq g 210 353 _ _ _ _).trans (by rw [tq210_353]; exact rfl)
theorem tq210_356 : tT g 210 356 = s_callik 210 359 29 [1] 3 := rfl
theorem A210_356 {L : AL} {r : List Value} {a : Nat} {w0 : Value} : aw g 210 356 L (w0 :: .ref a :: r) σ Q = ((vRf w0 && true) = true ∧ csum r ≤ 8 ∧ aw g 29 0 [some (.ref a), some w0, none] [] σ (kt (aw g) 210 359 L r Q)) := (aw_eq g 210 356 _ _ _ _).trans (by rw [tq210_356]; exact rfl)
theorem tq210_359 : tT g 210 359 = s_putf g pR 210 362 7 31 := rfl
theorem A210_359 {L : AL} {r : List Value} {a : Nat} {v : Value} : aw g 210 359 L (v :: .ref a :: r) σ Q = (hty σ a = some 7 ∧ gB g ≤ a ∧ pR v ∧ aw g 210 362 L r (hput σ 7 a 31 v) Q) := (aw_eq g 210 359 _ _ _ _).trans (by rw [tq210_359]; exact rfl)
theorem tq210_362 : tT g 210 362 = s_load vRf 210 363 1 := rfl
theorem A210_362 {l0 : Option Value} {l2 : Option Value} {l3 : Option Value} {l4 : Option Value} {x : Value} {r : List Value} : aw g 210 362 [l0, some (x), l2, l3, l4] r σ Q = (vRf x = true ∧ aw g 210 363 [l0, some (x), l2, l3, l4] (x :: r) σ Q) := (aw_eq g 210 362 _ _ _ _).trans (by rw [tq210_362]; exact h_load rfl)
theorem tq210_363 : tT g 210 363 = s_ret pR := rfl
theorem A210_363 {L : AL} {v : Value} : aw g 210 363 L [v] σ Q = (pR v ∧ Q (.inl (some v)) σ) := (aw_eq g 210 363 _ _ _ _).trans (by rw [tq210_363]; exact rfl)
end STEPS
