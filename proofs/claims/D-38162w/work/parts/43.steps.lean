/-! one step of an abstract run, as an equation: printed by gen.py -/
section STEPS
variable {g : GC} {σ : AH} {Q : AQ}
theorem tq137_0 : tT g 137 0 = s_load vRf 137 1 0 := rfl
theorem A137_0  {x : Value} {r : List Value} : aw g 137 0 [some (x)] r σ Q = (vRf x = true ∧ aw g 137 1 [some (x)] (x :: r) σ Q) := (aw_eq g 137 0 _ _ _ _).trans (by rw [tq137_0]; exact h_load rfl)
theorem tq137_1 : tT g 137 1 = s_oinit 137 4 := rfl
theorem A137_1 {L : AL} {r : List Value} {a : Nat} : aw g 137 1 L (.ref a :: r) σ Q = (csum r ≤ 8 ∧ aw g 137 4 L r σ Q) := (aw_eq g 137 1 _ _ _ _).trans (by rw [tq137_1]; exact rfl)
theorem tq137_4 : tT g 137 4 = s_load vRf 137 5 0 := rfl
theorem A137_4  {x : Value} {r : List Value} : aw g 137 4 [some (x)] r σ Q = (vRf x = true ∧ aw g 137 5 [some (x)] (x :: r) σ Q) := (aw_eq g 137 4 _ _ _ _).trans (by rw [tq137_4]; exact h_load rfl)
theorem tq137_5 : tT g 137 5 = s_new g 137 8 4 10 (fun k => defaultValue (tyX5 k)) := rfl
theorem A137_5 {L : AL} {r : List Value} : aw g 137 5 L r σ Q = (hsz σ + 1 ≤ gC g ∧ hsl σ + 10 ≤ gS g ∧ aw g 137 8 L (.ref (hsz σ) :: r) (hnew σ 4 0 (fun k => defaultValue (tyX5 k)) 10) Q) := (aw_eq g 137 5 _ _ _ _).trans (by rw [tq137_5]; exact rfl)
theorem tq137_8 : tT g 137 8 = s_dup 137 9 := rfl
theorem A137_8 {L : AL} {r : List Value} {v : Value} : aw g 137 8 L (v :: r) σ Q = (v.category = 1 ∧ aw g 137 9 L (v :: v :: r) σ Q) := (aw_eq g 137 8 _ _ _ _).trans (by rw [tq137_8]; exact rfl)
theorem tq137_9 : tT g 137 9 = s_callik 137 12 177 [] 1 := rfl
theorem A137_9 {L : AL} {r : List Value} {a : Nat} : aw g 137 9 L (.ref a :: r) σ Q = (true = true ∧ csum r ≤ 8 ∧ aw g 177 0 [some (.ref a)] [] σ (kt (aw g) 137 12 L r Q)) := (aw_eq g 137 9 _ _ _ _).trans (by rw [tq137_9]; exact rfl)
theorem tq137_12 : tT g 137 12 = s_putf g pR 137 15 3 1 := rfl
theorem A137_12 {L : AL} {r : List Value} {a : Nat} {v : Value} : aw g 137 12 L (v :: .ref a :: r) σ Q = (hty σ a = some 3 ∧ gB g ≤ a ∧ pR v ∧ aw g 137 15 L r (hput σ 3 a 1 v) Q) := (aw_eq g 137 12 _ _ _ _).trans (by rw [tq137_12]; exact rfl)
theorem tq137_15 : tT g 137 15 = s_vret := rfl
theorem A137_15 {L : AL} : aw g 137 15 L [] σ Q = Q (.inl none) σ := (aw_eq g 137 15 _ _ _ _).trans (by rw [tq137_15]; exact rfl)
theorem tq138_0 : tT g 138 0 = s_load vRf 138 1 0 := rfl
theorem A138_0  {x : Value} {r : List Value} : aw g 138 0 [some (x)] r σ Q = (vRf x = true ∧ aw g 138 1 [some (x)] (x :: r) σ Q) := (aw_eq g 138 0 _ _ _ _).trans (by rw [tq138_0]; exact h_load rfl)
theorem tq138_1 : tT g 138 1 = s_getf 138 4 3 0 := rfl
theorem A138_1 {L : AL} {r : List Value} {a : Nat} : aw g 138 1 L (.ref a :: r) σ Q = (hty σ a = some 3 ∧ aw g 138 4 L (hv σ 3 a 0 :: r) σ Q) := (aw_eq g 138 1 _ _ _ _).trans (by rw [tq138_1]; exact rfl)
theorem tq138_4 : tT g 138 4 = s_ret pI := rfl
theorem A138_4 {L : AL} {v : Value} : aw g 138 4 L [v] σ Q = (pI v ∧ Q (.inl (some v)) σ) := (aw_eq g 138 4 _ _ _ _).trans (by rw [tq138_4]; exact rfl)
theorem tq139_0 : tT g 139 0 = s_load vRf 139 1 0 := rfl
theorem A139_0 {l1 : Option Value} {l2 : Option Value} {x : Value} {r : List Value} : aw g 139 0 [some (x), l1, l2] r σ Q = (vRf x = true ∧ aw g 139 1 [some (x), l1, l2] (x :: r) σ Q) := (aw_eq g 139 0 _ _ _ _).trans (by rw [tq139_0]; exact h_load rfl)
theorem tq139_1 : tT g 139 1 = s_const 139 2 (.int 0) := rfl
theorem A139_1 {L : AL} {r : List Value} : aw g 139 1 L r σ Q = aw g 139 2 L (.int 0 :: r) σ Q := (aw_eq g 139 1 _ _ _ _).trans (by rw [tq139_1]; exact rfl)
theorem tq139_2 : tT g 139 2 = s_putf g pI 139 5 3 0 := rfl
theorem A139_2 {L : AL} {r : List Value} {a : Nat} {v : Value} : aw g 139 2 L (v :: .ref a :: r) σ Q = (hty σ a = some 3 ∧ gB g ≤ a ∧ pI v ∧ aw g 139 5 L r (hput σ 3 a 0 v) Q) := (aw_eq g 139 2 _ _ _ _).trans (by rw [tq139_2]; exact rfl)
theorem tq139_5 : tT g 139 5 = s_load vI 139 6 1 := rfl
theorem A139_5 {l0 : Option Value} {l2 : Option Value} {x : Int32} {r : List Value} : aw g 139 5 [l0, some (.int x), l2] r σ Q = aw g 139 6 [l0, some (.int x), l2] (.int x :: r) σ Q := (aw_eq g 139 5 _ _ _ _).trans (by rw [tq139_5]; exact (h_load rfl).trans (propext ⟨fun z => z.2, fun z => ⟨rfl, z⟩⟩))
theorem tq139_6 : tT g 139 6 = s_const 139 7 (.int 1) := rfl
theorem A139_6 {L : AL} {r : List Value} : aw g 139 6 L r σ Q = aw g 139 7 L (.int 1 :: r) σ Q := (aw_eq g 139 6 _ _ _ _).trans (by rw [tq139_6]; exact rfl)
theorem tq139_7 : tT g 139 7 = s_const 139 8 (.int 4) := rfl
theorem A139_7 {L : AL} {r : List Value} : aw g 139 7 L r σ Q = aw g 139 8 L (.int 4 :: r) σ Q := (aw_eq g 139 7 _ _ _ _).trans (by rw [tq139_7]; exact rfl)
theorem tq139_8 : tT g 139 8 = s_callk 139 11 140 [0, 0, 0] 3 := rfl
theorem A139_8 {L : AL} {r : List Value} {w0 w1 w2 : Value} : aw g 139 8 L (w2 :: w1 :: w0 :: r) σ Q = ((vI w0 && (vI w1 && (vI w2 && true))) = true ∧ csum r ≤ 8 ∧ aw g 140 0 [some w0, some w1, some w2] [] σ (kt (aw g) 139 11 L r Q)) := (aw_eq g 139 8 _ _ _ _).trans (by rw [tq139_8]; exact rfl)
theorem tq139_11 : tT g 139 11 = s_if 139 20 14 (fun a => a = 0) := rfl
theorem A139_11 {L : AL} {r : List Value} {a : Int32} : aw g 139 11 L (.int a :: r) σ Q = ((a = 0 → aw g 139 14 L r σ Q) ∧ (¬ a = 0 → aw g 139 20 L r σ Q)) := (aw_eq g 139 11 _ _ _ _).trans (by rw [tq139_11]; exact rfl)
theorem tq139_14 : tT g 139 14 = s_load vRf 139 15 0 := rfl
theorem A139_14 {l1 : Option Value} {l2 : Option Value} {x : Value} {r : List Value} : aw g 139 14 [some (x), l1, l2] r σ Q = (vRf x = true ∧ aw g 139 15 [some (x), l1, l2] (x :: r) σ Q) := (aw_eq g 139 14 _ _ _ _).trans (by rw [tq139_14]; exact h_load rfl)
theorem tq139_15 : tT g 139 15 = s_const 139 16 (.int 1) := rfl
theorem A139_15 {L : AL} {r : List Value} : aw g 139 15 L r σ Q = aw g 139 16 L (.int 1 :: r) σ Q := (aw_eq g 139 15 _ _ _ _).trans (by rw [tq139_15]; exact rfl)
theorem tq139_16 : tT g 139 16 = s_callvk 139 19 141 3 [0] 2 := rfl
theorem A139_16 {L : AL} {r : List Value} {a : Nat} {w0 : Value} : aw g 139 16 L (w0 :: .ref a :: r) σ Q = (hty σ a = some 3 ∧ (vI w0 && true) = true ∧ csum r ≤ 8 ∧ aw g 141 0 [some (.ref a), some w0] [] σ (kt (aw g) 139 19 L r Q)) := (aw_eq g 139 16 _ _ _ _).trans (by rw [tq139_16]; exact rfl)
theorem tq139_19 : tT g 139 19 = s_ret pI := rfl
theorem A139_19 {L : AL} {v : Value} : aw g 139 19 L [v] σ Q = (pI v ∧ Q (.inl (some v)) σ) := (aw_eq g 139 19 _ _ _ _).trans (by rw [tq139_19]; exact rfl)
theorem tq139_20 : tT g 139 20 = s_load vRf 139 21 0 := rfl
theorem A139_20 {l1 : Option Value} {l2 : Option Value} {x : Value} {r : List Value} : aw g 139 20 [some (x), l1, l2] r σ Q = (vRf x = true ∧ aw g 139 21 [some (x), l1, l2] (x :: r) σ Q) := (aw_eq g 139 20 _ _ _ _).trans (by rw [tq139_20]; exact h_load rfl)
theorem tq139_21 : tT g 139 21 = s_getf 139 24 3 1 := rfl
theorem A139_21 {L : AL} {r : List Value} {a : Nat} : aw g 139 21 L (.ref a :: r) σ Q = (hty σ a = some 3 ∧ aw g 139 24 L (hv σ 3 a 1 :: r) σ Q) := (aw_eq g 139 21 _ _ _ _).trans (by rw [tq139_21]; exact rfl)
theorem tq139_24 : tT g 139 24 = s_getf 139 27 4 0 := rfl
theorem A139_24 {L : AL} {r : List Value} {a : Nat} : aw g 139 24 L (.ref a :: r) σ Q = (hty σ a = some 4 ∧ aw g 139 27 L (hv σ 4 a 0 :: r) σ Q) := (aw_eq g 139 24 _ _ _ _).trans (by rw [tq139_24]; exact rfl)
theorem tq139_27 : tT g 139 27 = s_callvk 139 30 15 10 [] 1 := rfl
theorem A139_27 {L : AL} {r : List Value} {a : Nat} : aw g 139 27 L (.ref a :: r) σ Q = (hty σ a = some 10 ∧ true = true ∧ csum r ≤ 8 ∧ aw g 15 0 [some (.ref a)] [] σ (kt (aw g) 139 30 L r Q)) := (aw_eq g 139 27 _ _ _ _).trans (by rw [tq139_27]; exact rfl)
theorem tq139_30 : tT g 139 30 = s_const 139 31 (.int 3) := rfl
theorem A139_30 {L : AL} {r : List Value} : aw g 139 30 L r σ Q = aw g 139 31 L (.int 3 :: r) σ Q := (aw_eq g 139 30 _ _ _ _).trans (by rw [tq139_30]; exact rfl)
theorem tq139_31 : tT g 139 31 = s_icmp 139 40 34 (fun a b => a = b) := rfl
theorem A139_31 {L : AL} {r : List Value} {a b : Int32} : aw g 139 31 L (.int b :: .int a :: r) σ Q = ((a = b → aw g 139 34 L r σ Q) ∧ (¬ a = b → aw g 139 40 L r σ Q)) := (aw_eq g 139 31 _ _ _ _).trans (by rw [tq139_31]; exact rfl)
theorem tq139_34 : tT g 139 34 = s_load vRf 139 35 0 := rfl
theorem A139_34 {l1 : Option Value} {l2 : Option Value} {x : Value} {r : List Value} : aw g 139 34 [some (x), l1, l2] r σ Q = (vRf x = true ∧ aw g 139 35 [some (x), l1, l2] (x :: r) σ Q) := (aw_eq g 139 34 _ _ _ _).trans (by rw [tq139_34]; exact h_load rfl)
theorem tq139_35 : tT g 139 35 = s_const 139 36 (.int 2) := rfl
theorem A139_35 {L : AL} {r : List Value} : aw g 139 35 L r σ Q = aw g 139 36 L (.int 2 :: r) σ Q := (aw_eq g 139 35 _ _ _ _).trans (by rw [tq139_35]; exact rfl)
theorem tq139_36 : tT g 139 36 = s_callvk 139 39 141 3 [0] 2 := rfl
theorem A139_36 {L : AL} {r : List Value} {a : Nat} {w0 : Value} : aw g 139 36 L (w0 :: .ref a :: r) σ Q = (hty σ a = some 3 ∧ (vI w0 && true) = true ∧ csum r ≤ 8 ∧ aw g 141 0 [some (.ref a), some w0] [] σ (kt (aw g) 139 39 L r Q)) := (aw_eq g 139 36 _ _ _ _).trans (by rw [tq139_36]; exact rfl)
theorem tq139_39 : tT g 139 39 = s_ret pI := rfl
theorem A139_39 {L : AL} {v : Value} : aw g 139 39 L [v] σ Q = (pI v ∧ Q (.inl (some v)) σ) := (aw_eq g 139 39 _ _ _ _).trans (by rw [tq139_39]; exact rfl)
theorem tq139_40 : tT g 139 40 = s_new g 139 43 7 32 (fun k => defaultValue (tyX8 k)) := rfl
theorem A139_40 {L : AL} {r : List Value} : aw g 139 40 L r σ Q = (hsz σ + 1 ≤ gC g ∧ hsl σ + 32 ≤ gS g ∧ aw g 139 43 L (.ref (hsz σ) :: r) (hnew σ 7 0 (fun k => defaultValue (tyX8 k)) 32) Q) := (aw_eq g 139 40 _ _ _ _).trans (by rw [tq139_40]; exact rfl)
theorem tq139_43 : tT g 139 43 = s_dup 139 44 := rfl
theorem A139_43 {L : AL} {r : List Value} {v : Value} : aw g 139 43 L (v :: r) σ Q = (v.category = 1 ∧ aw g 139 44 L (v :: v :: r) σ Q) := (aw_eq g 139 43 _ _ _ _).trans (by rw [tq139_43]; exact rfl)
theorem tq139_44 : tT g 139 44 = s_callik 139 47 205 [] 1 := rfl
theorem A139_44 {L : AL} {r : List Value} {a : Nat} : aw g 139 44 L (.ref a :: r) σ Q = (true = true ∧ csum r ≤ 8 ∧ aw g 205 0 [some (.ref a)] [] σ (kt (aw g) 139 47 L r Q)) := (aw_eq g 139 44 _ _ _ _).trans (by rw [tq139_44]; exact rfl)
theorem tq139_47 : tT g 139 47 = s_store vRf 139 48 2 := rfl
theorem A139_47 {l0 : Option Value} {l1 : Option Value} {l2 : Option Value} {x : Value} {r : List Value} : aw g 139 47 [l0, l1, l2] (x :: r) σ Q = (vRf x = true ∧ oc l1 = true ∧ aw g 139 48 [l0, l1, some (x)] r σ Q) := (aw_eq g 139 47 _ _ _ _).trans (by rw [tq139_47]; exact (h_store (o := oc l1) rfl rfl rfl))
theorem tq139_48 : tT g 139 48 = s_load vRf 139 49 2 := rfl
theorem A139_48 {l0 : Option Value} {l1 : Option Value} {x : Value} {r : List Value} : aw g 139 48 [l0, l1, some (x)] r σ Q = (vRf x = true ∧ aw g 139 49 [l0, l1, some (x)] (x :: r) σ Q) := (aw_eq g 139 48 _ _ _ _).trans (by rw [tq139_48]; exact h_load rfl)
theorem tq139_49 : tT g 139 49 = s_load vI 139 50 1 := rfl
theorem A139_49 {l0 : Option Value} {l2 : Option Value} {x : Int32} {r : List Value} : aw g 139 49 [l0, some (.int x), l2] r σ Q = aw g 139 50 [l0, some (.int x), l2] (.int x :: r) σ Q := (aw_eq g 139 49 _ _ _ _).trans (by rw [tq139_49]; exact (h_load rfl).trans (propext ⟨fun z => z.2, fun z => ⟨rfl, z⟩⟩))
theorem tq139_50 : tT g 139 50 = s_putf g pI 139 53 7 0 := rfl
theorem A139_50 {L : AL} {r : List Value} {a : Nat} {v : Value} : aw g 139 50 L (v :: .ref a :: r) σ Q = (hty σ a = some 7 ∧ gB g ≤ a ∧ pI v ∧ aw g 139 53 L r (hput σ 7 a 0 v) Q) := (aw_eq g 139 50 _ _ _ _).trans (by rw [tq139_50]; exact rfl)
theorem tq139_53 : tT g 139 53 = s_load vRf 139 54 0 := rfl
theorem A139_53 {l1 : Option Value} {l2 : Option Value} {x : Value} {r : List Value} : aw g 139 53 [some (x), l1, l2] r σ Q = (vRf x = true ∧ aw g 139 54 [some (x), l1, l2] (x :: r) σ Q) := (aw_eq g 139 53 _ _ _ _).trans (by rw [tq139_53]; exact h_load rfl)
theorem tq139_54 : tT g 139 54 = s_getf 139 57 3 1 := rfl
theorem A139_54 {L : AL} {r : List Value} {a : Nat} : aw g 139 54 L (.ref a :: r) σ Q = (hty σ a = some 3 ∧ aw g 139 57 L (hv σ 3 a 1 :: r) σ Q) := (aw_eq g 139 54 _ _ _ _).trans (by rw [tq139_54]; exact rfl)
theorem tq139_57 : tT g 139 57 = s_getf 139 60 4 0 := rfl
theorem A139_57 {L : AL} {r : List Value} {a : Nat} : aw g 139 57 L (.ref a :: r) σ Q = (hty σ a = some 4 ∧ aw g 139 60 L (hv σ 4 a 0 :: r) σ Q) := (aw_eq g 139 57 _ _ _ _).trans (by rw [tq139_57]; exact rfl)
theorem tq139_60 : tT g 139 60 = s_load vRf 139 61 2 := rfl
theorem A139_60 {l0 : Option Value} {l1 : Option Value} {x : Value} {r : List Value} : aw g 139 60 [l0, l1, some (x)] r σ Q = (vRf x = true ∧ aw g 139 61 [l0, l1, some (x)] (x :: r) σ Q) := (aw_eq g 139 60 _ _ _ _).trans (by rw [tq139_60]; exact h_load rfl)
theorem tq139_61 : tT g 139 61 = s_callvk 139 64 18 10 [1] 2 := rfl
theorem A139_61 {L : AL} {r : List Value} {a : Nat} {w0 : Value} : aw g 139 61 L (w0 :: .ref a :: r) σ Q = (hty σ a = some 10 ∧ (vRf w0 && true) = true ∧ csum r ≤ 8 ∧ aw g 18 0 [some (.ref a), some w0] [] σ (kt (aw g) 139 64 L r Q)) := (aw_eq g 139 61 _ _ _ _).trans (by rw [tq139_61]; exact rfl)
theorem tq139_64 : tT g 139 64 = s_pop 139 65 := rfl
theorem A139_64 {L : AL} {r : List Value} {v : Value} : aw g 139 64 L (v :: r) σ Q = (v.category = 1 ∧ aw g 139 65 L r σ Q) := (aw_eq g 139 64 _ _ _ _).trans (by rw [tq139_64]; exact rfl)
theorem tq139_65 : tT g 139 65 = s_load vRf 139 66 0 := rfl
theorem A139_65 {l1 : Option Value} {l2 : Option Value} {x : Value} {r : List Value} : aw g 139 65 [some (x), l1, l2] r σ Q = (vRf x = true ∧ aw g 139 66 [some (x), l1, l2] (x :: r) σ Q) := (aw_eq g 139 65 _ _ _ _).trans (by rw [tq139_65]; exact h_load rfl)
theorem tq139_66 : tT g 139 66 = s_getf 139 69 3 1 := rfl
theorem A139_66 {L : AL} {r : List Value} {a : Nat} : aw g 139 66 L (.ref a :: r) σ Q = (hty σ a = some 3 ∧ aw g 139 69 L (hv σ 3 a 1 :: r) σ Q) := (aw_eq g 139 66 _ _ _ _).trans (by rw [tq139_66]; exact rfl)
theorem tq139_69 : tT g 139 69 = s_getf 139 72 4 0 := rfl
theorem A139_69 {L : AL} {r : List Value} {a : Nat} : aw g 139 69 L (.ref a :: r) σ Q = (hty σ a = some 4 ∧ aw g 139 72 L (hv σ 4 a 0 :: r) σ Q) := (aw_eq g 139 69 _ _ _ _).trans (by rw [tq139_69]; exact rfl)
theorem tq139_72 : tT g 139 72 = s_callvk 139 75 15 10 [] 1 := rfl
theorem A139_72 {L : AL} {r : List Value} {a : Nat} : aw g 139 72 L (.ref a :: r) σ Q = (hty σ a = some 10 ∧ true = true ∧ csum r ≤ 8 ∧ aw g 15 0 [some (.ref a)] [] σ (kt (aw g) 139 75 L r Q)) := (aw_eq g 139 72 _ _ _ _).trans (by rw [tq139_72]; exact rfl)
theorem tq139_75 : tT g 139 75 = s_const 139 76 (.int 1) := rfl
theorem A139_75 {L : AL} {r : List Value} : aw g 139 75 L r σ Q = aw g 139 76 L (.int 1 :: r) σ Q := (aw_eq g 139 75 _ _ _ _).trans (by rw [tq139_75]; exact rfl)
theorem tq139_76 : tT g 139 76 = s_bin 139 77 (fun a b => a - b) := rfl
theorem A139_76 {L : AL} {r : List Value} {a b : Int32} : aw g 139 76 L (.int b :: .int a :: r) σ Q = aw g 139 77 L (.int (a - b) :: r) σ Q := (aw_eq g 139 76 _ _ _ _).trans (by rw [tq139_76]; exact rfl)
theorem tq139_77 : tT g 139 77 = s_ret pI := rfl
theorem A139_77 {L : AL} {v : Value} : aw g 139 77 L [v] σ Q = (pI v ∧ Q (.inl (some v)) σ) := (aw_eq g 139 77 _ _ _ _).trans (by rw [tq139_77]; exact rfl)
theorem tq140_0 : tT g 140 0 = s_load vI 140 1 0 := rfl
theorem A140_0 {l1 : Option Value} {l2 : Option Value} {x : Int32} {r : List Value} : aw g 140 0 [some (.int x), l1, l2] r σ Q = aw g 140 1 [some (.int x), l1, l2] (.int x :: r) σ Q := (aw_eq g 140 0 _ _ _ _).trans (by rw [tq140_0]; exact (h_load rfl).trans (propext ⟨fun z => z.2, fun z => ⟨rfl, z⟩⟩))
theorem tq140_1 : tT g 140 1 = s_load vI 140 2 1 := rfl
theorem A140_1 {l0 : Option Value} {l2 : Option Value} {x : Int32} {r : List Value} : aw g 140 1 [l0, some (.int x), l2] r σ Q = aw g 140 2 [l0, some (.int x), l2] (.int x :: r) σ Q := (aw_eq g 140 1 _ _ _ _).trans (by rw [tq140_1]; exact (h_load rfl).trans (propext ⟨fun z => z.2, fun z => ⟨rfl, z⟩⟩))
theorem tq140_2 : tT g 140 2 = s_icmp 140 5 14 (fun a b => a < b) := rfl
theorem A140_2 {L : AL} {r : List Value} {a b : Int32} : aw g 140 2 L (.int b :: .int a :: r) σ Q = ((a < b → aw g 140 14 L r σ Q) ∧ (¬ a < b → aw g 140 5 L r σ Q)) := (aw_eq g 140 2 _ _ _ _).trans (by rw [tq140_2]; exact rfl)
theorem tq140_5 : tT g 140 5 = s_load vI 140 6 0 := rfl
theorem A140_5 {l1 : Option Value} {l2 : Option Value} {x : Int32} {r : List Value} : aw g 140 5 [some (.int x), l1, l2] r σ Q = aw g 140 6 [some (.int x), l1, l2] (.int x :: r) σ Q := (aw_eq g 140 5 _ _ _ _).trans (by rw [tq140_5]; exact (h_load rfl).trans (propext ⟨fun z => z.2, fun z => ⟨rfl, z⟩⟩))
theorem tq140_6 : tT g 140 6 = s_load vI 140 7 2 := rfl
theorem A140_6 {l0 : Option Value} {l1 : Option Value} {x : Int32} {r : List Value} : aw g 140 6 [l0, l1, some (.int x)] r σ Q = aw g 140 7 [l0, l1, some (.int x)] (.int x :: r) σ Q := (aw_eq g 140 6 _ _ _ _).trans (by rw [tq140_6]; exact (h_load rfl).trans (propext ⟨fun z => z.2, fun z => ⟨rfl, z⟩⟩))
theorem tq140_7 : tT g 140 7 = s_icmp 140 10 14 (fun a b => b < a) := rfl
theorem A140_7 {L : AL} {r : List Value} {a b : Int32} : aw g 140 7 L (.int b :: .int a :: r) σ Q = ((b < a → aw g 140 14 L r σ Q) ∧ (¬ b < a → aw g 140 10 L r σ Q)) := (aw_eq g 140 7 _ _ _ _).trans (by rw [tq140_7]; exact rfl)
theorem tq140_10 : tT g 140 10 = s_const 140 11 (.int 1) := rfl
theorem A140_10 {L : AL} {r : List Value} : aw g 140 10 L r σ Q = aw g 140 11 L (.int 1 :: r) σ Q := (aw_eq g 140 10 _ _ _ _).trans (by rw [tq140_10]; exact rfl)
theorem tq140_11 : tT g 140 11 = s_goto 140 15 := rfl
theorem A140_11 {L : AL} {r : List Value} : aw g 140 11 L r σ Q = aw g 140 15 L r σ Q := (aw_eq g 140 11 _ _ _ _).trans (by rw [tq140_11]; exact rfl)
theorem tq140_14 : tT g 140 14 = s_const 140 15 (.int 0) := rfl
theorem A140_14 {L : AL} {r : List Value} : aw g 140 14 L r σ Q = aw g 140 15 L (.int 0 :: r) σ Q := (aw_eq g 140 14 _ _ _ _).trans (by rw [tq140_14]; exact rfl)
theorem tq140_15 : tT g 140 15 = s_ret vZ := rfl
theorem A140_15 {L : AL} {v : Value} : aw g 140 15 L [v] σ Q = (vZ v ∧ Q (.inl (some v)) σ) := (aw_eq g 140 15 _ _ _ _).trans (by rw [tq140_15]; exact rfl)
theorem tq141_0 : tT g 141 0 = s_load vRf 141 1 0 := rfl
theorem A141_0 {l1 : Option Value} {x : Value} {r : List Value} : aw g 141 0 [some (x), l1] r σ Q = (vRf x = true ∧ aw g 141 1 [some (x), l1] (x :: r) σ Q) := (aw_eq g 141 0 _ _ _ _).trans (by rw [tq141_0]; exact h_load rfl)
theorem tq141_1 : tT g 141 1 = s_load vI 141 2 1 := rfl
theorem A141_1 {l0 : Option Value} {x : Int32} {r : List Value} : aw g 141 1 [l0, some (.int x)] r σ Q = aw g 141 2 [l0, some (.int x)] (.int x :: r) σ Q := (aw_eq g 141 1 _ _ _ _).trans (by rw [tq141_1]; exact (h_load rfl).trans (propext ⟨fun z => z.2, fun z => ⟨rfl, z⟩⟩))
theorem tq141_2 : tT g 141 2 = s_putf g pI 141 5 3 0 := rfl
theorem A141_2 {L : AL} {r : List Value} {a : Nat} {v : Value} : aw g 141 2 L (v :: .ref a :: r) σ Q = (hty σ a = some 3 ∧ gB g ≤ a ∧ pI v ∧ aw g 141 5 L r (hput σ 3 a 0 v) Q) := (aw_eq g 141 2 _ _ _ _).trans (by rw [tq141_2]; exact rfl)
theorem tq141_5 : tT g 141 5 = s_const 141 6 (.int 0) := rfl
theorem A141_5 {L : AL} {r : List Value} : aw g 141 5 L r σ Q = aw g 141 6 L (.int 0 :: r) σ Q := (aw_eq g 141 5 _ _ _ _).trans (by rw [tq141_5]; exact rfl)
theorem tq141_6 : tT g 141 6 = s_ret pI := rfl
theorem A141_6 {L : AL} {v : Value} : aw g 141 6 L [v] σ Q = (pI v ∧ Q (.inl (some v)) σ) := (aw_eq g 141 6 _ _ _ _).trans (by rw [tq141_6]; exact rfl)
theorem tq142_0 : tT g 142 0 = s_load vRf 142 1 0 := rfl
theorem A142_0 {l1 : Option Value} {l2 : Option Value} {l3 : Option Value} {l4 : Option Value} {l5 : Option Value} {x : Value} {r : List Value} : aw g 142 0 [some (x), l1, l2, l3, l4, l5] r σ Q = (vRf x = true ∧ aw g 142 1 [some (x), l1, l2, l3, l4, l5] (x :: r) σ Q) := (aw_eq g 142 0 _ _ _ _).trans (by rw [tq142_0]; exact h_load rfl)
theorem tq142_1 : tT g 142 1 = s_const 142 2 (.int 0) := rfl
theorem A142_1 {L : AL} {r : List Value} : aw g 142 1 L r σ Q = aw g 142 2 L (.int 0 :: r) σ Q := (aw_eq g 142 1 _ _ _ _).trans (by rw [tq142_1]; exact rfl)
theorem tq142_2 : tT g 142 2 = s_putf g pI 142 5 3 0 := rfl
theorem A142_2 {L : AL} {r : List Value} {a : Nat} {v : Value} : aw g 142 2 L (v :: .ref a :: r) σ Q = (hty σ a = some 3 ∧ gB g ≤ a ∧ pI v ∧ aw g 142 5 L r (hput σ 3 a 0 v) Q) := (aw_eq g 142 2 _ _ _ _).trans (by rw [tq142_2]; exact rfl)
theorem tq142_5 : tT g 142 5 = s_load vRf 142 6 0 := rfl
theorem A142_5 {l1 : Option Value} {l2 : Option Value} {l3 : Option Value} {l4 : Option Value} {l5 : Option Value} {x : Value} {r : List Value} : aw g 142 5 [some (x), l1, l2, l3, l4, l5] r σ Q = (vRf x = true ∧ aw g 142 6 [some (x), l1, l2, l3, l4, l5] (x :: r) σ Q) := (aw_eq g 142 5 _ _ _ _).trans (by rw [tq142_5]; exact h_load rfl)
theorem tq142_6 : tT g 142 6 = s_load vI 142 7 1 := rfl
theorem A142_6 {l0 : Option Value} {l2 : Option Value} {l3 : Option Value} {l4 : Option Value} {l5 : Option Value} {x : Int32} {r : List Value} : aw g 142 6 [l0, some (.int x), l2, l3, l4, l5] r σ Q = aw g 142 7 [l0, some (.int x), l2, l3, l4, l5] (.int x :: r) σ Q := (aw_eq g 142 6 _ _ _ _).trans (by rw [tq142_6]; exact (h_load rfl).trans (propext ⟨fun z => z.2, fun z => ⟨rfl, z⟩⟩))
theorem tq142_7 : tT g 142 7 = s_callvk 142 10 143 3 [0] 2 := rfl
theorem A142_7 {L : AL} {r : List Value} {a : Nat} {w0 : Value} : aw g 142 7 L (w0 :: .ref a :: r) σ Q = (hty σ a = some 3 ∧ (vI w0 && true) = true ∧ csum r ≤ 8 ∧ aw g 143 0 [some (.ref a), some w0] [] σ (kt (aw g) 142 10 L r Q)) := (aw_eq g 142 7 _ _ _ _).trans (by rw [tq142_7]; exact rfl)
theorem tq142_10 : tT g 142 10 = s_if 142 19 13 (fun a => a = 0) := rfl
theorem A142_10 {L : AL} {r : List Value} {a : Int32} : aw g 142 10 L (.int a :: r) σ Q = ((a = 0 → aw g 142 13 L r σ Q) ∧ (¬ a = 0 → aw g 142 19 L r σ Q)) := (aw_eq g 142 10 _ _ _ _).trans (by rw [tq142_10]; exact rfl)
theorem tq142_13 : tT g 142 13 = s_load vRf 142 14 0 := rfl
theorem A142_13 {l1 : Option Value} {l2 : Option Value} {l3 : Option Value} {l4 : Option Value} {l5 : Option Value} {x : Value} {r : List Value} : aw g 142 13 [some (x), l1, l2, l3, l4, l5] r σ Q = (vRf x = true ∧ aw g 142 14 [some (x), l1, l2, l3, l4, l5] (x :: r) σ Q) := (aw_eq g 142 13 _ _ _ _).trans (by rw [tq142_13]; exact h_load rfl)
theorem tq142_14 : tT g 142 14 = s_const 142 15 (.int 1) := rfl
theorem A142_14 {L : AL} {r : List Value} : aw g 142 14 L r σ Q = aw g 142 15 L (.int 1 :: r) σ Q := (aw_eq g 142 14 _ _ _ _).trans (by rw [tq142_14]; exact rfl)
theorem tq142_15 : tT g 142 15 = s_callvk 142 18 141 3 [0] 2 := rfl
theorem A142_15 {L : AL} {r : List Value} {a : Nat} {w0 : Value} : aw g 142 15 L (w0 :: .ref a :: r) σ Q = (hty σ a = some 3 ∧ (vI w0 && true) = true ∧ csum r ≤ 8 ∧ aw g 141 0 [some (.ref a), some w0] [] σ (kt (aw g) 142 18 L r Q)) := (aw_eq g 142 15 _ _ _ _).trans (by rw [tq142_15]; exact rfl)
theorem tq142_18 : tT g 142 18 = s_ret pI := rfl
theorem A142_18 {L : AL} {v : Value} : aw g 142 18 L [v] σ Q = (pI v ∧ Q (.inl (some v)) σ) := (aw_eq g 142 18 _ _ _ _).trans (by rw [tq142_18]; exact rfl)
theorem tq142_19 : tT g 142 19 = s_load vI 142 20 2 := rfl
theorem A142_19 {l0 : Option Value} {l1 : Option Value} {l3 : Option Value} {l4 : Option Value} {l5 : Option Value} {x : Int32} {r : List Value} : aw g 142 19 [l0, l1, some (.int x), l3, l4, l5] r σ Q = aw g 142 20 [l0, l1, some (.int x), l3, l4, l5] (.int x :: r) σ Q := (aw_eq g 142 19 _ _ _ _).trans (by rw [tq142_19]; exact (h_load rfl).trans (propext ⟨fun z => z.2, fun z => ⟨rfl, z⟩⟩))
theorem tq142_20 : tT g 142 20 = s_const 142 21 (.int 0) := rfl
theorem A142_20 {L : AL} {r : List Value} : aw g 142 20 L r σ Q = aw g 142 21 L (.int 0 :: r) σ Q := (aw_eq g 142 20 _ _ _ _).trans (by rw [tq142_20]; exact rfl)
theorem tq142_21 : tT g 142 21 = s_const 142 23 (.int 6) := rfl
theorem A142_21 {L : AL} {r : List Value} : aw g 142 21 L r σ Q = aw g 142 23 L (.int 6 :: r) σ Q := (aw_eq g 142 21 _ _ _ _).trans (by rw [tq142_21]; exact rfl)
theorem tq142_23 : tT g 142 23 = s_callk 142 26 140 [0, 0, 0] 3 := rfl
theorem A142_23 {L : AL} {r : List Value} {w0 w1 w2 : Value} : aw g 142 23 L (w2 :: w1 :: w0 :: r) σ Q = ((vI w0 && (vI w1 && (vI w2 && true))) = true ∧ csum r ≤ 8 ∧ aw g 140 0 [some w0, some w1, some w2] [] σ (kt (aw g) 142 26 L r Q)) := (aw_eq g 142 23 _ _ _ _).trans (by rw [tq142_23]; exact rfl)
theorem tq142_26 : tT g 142 26 = s_if 142 29 53 (fun a => a = 0) := rfl
theorem A142_26 {L : AL} {r : List Value} {a : Int32} : aw g 142 26 L (.int a :: r) σ Q = ((a = 0 → aw g 142 53 L r σ Q) ∧ (¬ a = 0 → aw g 142 29 L r σ Q)) := (aw_eq g 142 26 _ _ _ _).trans (by rw [tq142_26]; exact rfl)
theorem tq142_29 : tT g 142 29 = s_load vI 142 30 2 := rfl
theorem A142_29 {l0 : Option Value} {l1 : Option Value} {l3 : Option Value} {l4 : Option Value} {l5 : Option Value} {x : Int32} {r : List Value} : aw g 142 29 [l0, l1, some (.int x), l3, l4, l5] r σ Q = aw g 142 30 [l0, l1, some (.int x), l3, l4, l5] (.int x :: r) σ Q := (aw_eq g 142 29 _ _ _ _).trans (by rw [tq142_29]; exact (h_load rfl).trans (propext ⟨fun z => z.2, fun z => ⟨rfl, z⟩⟩))
theorem tq142_30 : tT g 142 30 = s_const 142 31 (.int 1) := rfl
theorem A142_30 {L : AL} {r : List Value} : aw g 142 30 L r σ Q = aw g 142 31 L (.int 1 :: r) σ Q := (aw_eq g 142 30 _ _ _ _).trans (by rw [tq142_30]; exact rfl)
theorem tq142_31 : tT g 142 31 = s_icmp 142 34 39 (fun a b => a = b) := rfl
theorem A142_31 {L : AL} {r : List Value} {a b : Int32} : aw g 142 31 L (.int b :: .int a :: r) σ Q = ((a = b → aw g 142 39 L r σ Q) ∧ (¬ a = b → aw g 142 34 L r σ Q)) := (aw_eq g 142 31 _ _ _ _).trans (by rw [tq142_31]; exact rfl)
theorem tq142_34 : tT g 142 34 = s_load vI 142 35 2 := rfl
theorem A142_34 {l0 : Option Value} {l1 : Option Value} {l3 : Option Value} {l4 : Option Value} {l5 : Option Value} {x : Int32} {r : List Value} : aw g 142 34 [l0, l1, some (.int x), l3, l4, l5] r σ Q = aw g 142 35 [l0, l1, some (.int x), l3, l4, l5] (.int x :: r) σ Q := (aw_eq g 142 34 _ _ _ _).trans (by rw [tq142_34]; exact (h_load rfl).trans (propext ⟨fun z => z.2, fun z => ⟨rfl, z⟩⟩))
theorem tq142_35 : tT g 142 35 = s_const 142 36 (.int 2) := rfl
theorem A142_35 {L : AL} {r : List Value} : aw g 142 35 L r σ Q = aw g 142 36 L (.int 2 :: r) σ Q := (aw_eq g 142 35 _ _ _ _).trans (by rw [tq142_35]; exact rfl)
theorem tq142_36 : tT g 142 36 = s_icmp 142 49 39 (fun a b => a = b) := rfl
theorem A142_36 {L : AL} {r : List Value} {a b : Int32} : aw g 142 36 L (.int b :: .int a :: r) σ Q = ((a = b → aw g 142 39 L r σ Q) ∧ (¬ a = b → aw g 142 49 L r σ Q)) := (aw_eq g 142 36 _ _ _ _).trans (by rw [tq142_36]; exact rfl)
theorem tq142_39 : tT g 142 39 = s_load vI 142 40 3 := rfl
theorem A142_39 {l0 : Option Value} {l1 : Option Value} {l2 : Option Value} {l4 : Option Value} {l5 : Option Value} {x : Int32} {r : List Value} : aw g 142 39 [l0, l1, l2, some (.int x), l4, l5] r σ Q = aw g 142 40 [l0, l1, l2, some (.int x), l4, l5] (.int x :: r) σ Q := (aw_eq g 142 39 _ _ _ _).trans (by rw [tq142_39]; exact (h_load rfl).trans (propext ⟨fun z => z.2, fun z => ⟨rfl, z⟩⟩))
theorem tq142_40 : tT g 142 40 = s_callk 142 43 144 [0] 1 := rfl
theorem A142_40 {L : AL} {r : List Value} {w0 : Value} : aw g 142 40 L (w0 :: r) σ Q = ((vI w0 && true) = true ∧ csum r ≤ 8 ∧ aw g 144 0 [some w0] [] σ (kt (aw g) 142 43 L r Q)) := (aw_eq g 142 40 _ _ _ _).trans (by rw [tq142_40]; exact rfl)
theorem tq142_43 : tT g 142 43 = s_if 142 46 53 (fun a => a = 0) := rfl
theorem A142_43 {L : AL} {r : List Value} {a : Int32} : aw g 142 43 L (.int a :: r) σ Q = ((a = 0 → aw g 142 53 L r σ Q) ∧ (¬ a = 0 → aw g 142 46 L r σ Q)) := (aw_eq g 142 43 _ _ _ _).trans (by rw [tq142_43]; exact rfl)
theorem tq142_46 : tT g 142 46 = s_goto 142 59 := rfl
theorem A142_46 {L : AL} {r : List Value} : aw g 142 46 L r σ Q = aw g 142 59 L r σ Q := (aw_eq g 142 46 _ _ _ _).trans (by rw [tq142_46]; exact rfl)
theorem tq142_49 : tT g 142 49 = s_load vI 142 50 3 := rfl
theorem A142_49 {l0 : Option Value} {l1 : Option Value} {l2 : Option Value} {l4 : Option Value} {l5 : Option Value} {x : Int32} {r : List Value} : aw g 142 49 [l0, l1, l2, some (.int x), l4, l5] r σ Q = aw g 142 50 [l0, l1, l2, some (.int x), l4, l5] (.int x :: r) σ Q := (aw_eq g 142 49 _ _ _ _).trans (by rw [tq142_49]; exact (h_load rfl).trans (propext ⟨fun z => z.2, fun z => ⟨rfl, z⟩⟩))
theorem tq142_50 : tT g 142 50 = s_if 142 53 59 (fun a => a = 0) := rfl
theorem A142_50 {L : AL} {r : List Value} {a : Int32} : aw g 142 50 L (.int a :: r) σ Q = ((a = 0 → aw g 142 59 L r σ Q) ∧ (¬ a = 0 → aw g 142 53 L r σ Q)) := (aw_eq g 142 50 _ _ _ _).trans (by rw [tq142_50]; exact rfl)
theorem tq142_53 : tT g 142 53 = s_load vRf 142 54 0 := rfl
theorem A142_53 {l1 : Option Value} {l2 : Option Value} {l3 : Option Value} {l4 : Option Value} {l5 : Option Value} {x : Value} {r : List Value} : aw g 142 53 [some (x), l1, l2, l3, l4, l5] r σ Q = (vRf x = true ∧ aw g 142 54 [some (x), l1, l2, l3, l4, l5] (x :: r) σ Q) := (aw_eq g 142 53 _ _ _ _).trans (by rw [tq142_53]; exact h_load rfl)
theorem tq142_54 : tT g 142 54 = s_const 142 55 (.int 2) := rfl
theorem A142_54 {L : AL} {r : List Value} : aw g 142 54 L r σ Q = aw g 142 55 L (.int 2 :: r) σ Q := (aw_eq g 142 54 _ _ _ _).trans (by rw [tq142_54]; exact rfl)
theorem tq142_55 : tT g 142 55 = s_callvk 142 58 141 3 [0] 2 := rfl
theorem A142_55 {L : AL} {r : List Value} {a : Nat} {w0 : Value} : aw g 142 55 L (w0 :: .ref a :: r) σ Q = (hty σ a = some 3 ∧ (vI w0 && true) = true ∧ csum r ≤ 8 ∧ aw g 141 0 [some (.ref a), some w0] [] σ (kt (aw g) 142 58 L r Q)) := (aw_eq g 142 55 _ _ _ _).trans (by rw [tq142_55]; exact rfl)
theorem tq142_58 : tT g 142 58 = s_ret pI := rfl
theorem A142_58 {L : AL} {v : Value} : aw g 142 58 L [v] σ Q = (pI v ∧ Q (.inl (some v)) σ) := (aw_eq g 142 58 _ _ _ _).trans (by rw [tq142_58]; exact rfl)
theorem tq142_59 : tT g 142 59 = s_load vRf 142 60 0 := rfl
theorem A142_59 {l1 : Option Value} {l2 : Option Value} {l3 : Option Value} {l4 : Option Value} {l5 : Option Value} {x : Value} {r : List Value} : aw g 142 59 [some (x), l1, l2, l3, l4, l5] r σ Q = (vRf x = true ∧ aw g 142 60 [some (x), l1, l2, l3, l4, l5] (x :: r) σ Q) := (aw_eq g 142 59 _ _ _ _).trans (by rw [tq142_59]; exact h_load rfl)
theorem tq142_60 : tT g 142 60 = s_getf 142 63 3 1 := rfl
theorem A142_60 {L : AL} {r : List Value} {a : Nat} : aw g 142 60 L (.ref a :: r) σ Q = (hty σ a = some 3 ∧ aw g 142 63 L (hv σ 3 a 1 :: r) σ Q) := (aw_eq g 142 60 _ _ _ _).trans (by rw [tq142_60]; exact rfl)
theorem tq142_63 : tT g 142 63 = s_getf 142 66 4 0 := rfl
theorem A142_63 {L : AL} {r : List Value} {a : Nat} : aw g 142 63 L (.ref a :: r) σ Q = (hty σ a = some 4 ∧ aw g 142 66 L (hv σ 4 a 0 :: r) σ Q) := (aw_eq g 142 63 _ _ _ _).trans (by rw [tq142_63]; exact rfl)
theorem tq142_66 : tT g 142 66 = s_load vI 142 67 1 := rfl
theorem A142_66 {l0 : Option Value} {l2 : Option Value} {l3 : Option Value} {l4 : Option Value} {l5 : Option Value} {x : Int32} {r : List Value} : aw g 142 66 [l0, some (.int x), l2, l3, l4, l5] r σ Q = aw g 142 67 [l0, some (.int x), l2, l3, l4, l5] (.int x :: r) σ Q := (aw_eq g 142 66 _ _ _ _).trans (by rw [tq142_66]; exact (h_load rfl).trans (propext ⟨fun z => z.2, fun z => ⟨rfl, z⟩⟩))
theorem tq142_67 : tT g 142 67 = s_callvk 142 70 25 10 [0] 2 := rfl
theorem A142_67 {L : AL} {r : List Value} {a : Nat} {w0 : Value} : aw g 142 67 L (w0 :: .ref a :: r) σ Q = (hty σ a = some 10 ∧ (vI w0 && true) = true ∧ csum r ≤ 8 ∧ aw g 25 0 [some (.ref a), some w0] [] σ (kt (aw g) 142 70 L r Q)) := (aw_eq g 142 67 _ _ _ _).trans (by rw [tq142_67]; exact rfl)
theorem tq142_70 : tT g 142 70 = s_cast 142 73 [7] := rfl
theorem A142_70 {L : AL} {r : List Value} : aw g 142 70 L (.null :: r) σ Q = aw g 142 73 L (.null :: r) σ Q := (aw_eq g 142 70 _ _ _ _).trans (by rw [tq142_70]; exact rfl)
theorem A142_70r {L : AL} {r : List Value} {a : Nat} : aw g 142 70 L (.ref a :: r) σ Q = (hty σ a = some 7 ∧ aw g 142 73 L (.ref a :: r) σ Q) := (aw_eq g 142 70 _ _ _ _).trans (by rw [tq142_70]; exact propext ⟨fun z => (by obtain ⟨⟨u, hu, hu2⟩, z2⟩ := z; rw [List.mem_singleton] at hu; subst hu; exact ⟨hu2, z2⟩), fun z => ⟨⟨_, List.mem_cons_self, z.1⟩, z.2⟩⟩)
theorem tq142_73 : tT g 142 73 = s_store vRf 142 75 4 := rfl
theorem A142_73 {l0 : Option Value} {l1 : Option Value} {l2 : Option Value} {l3 : Option Value} {l4 : Option Value} {l5 : Option Value} {x : Value} {r : List Value} : aw g 142 73 [l0, l1, l2, l3, l4, l5] (x :: r) σ Q = (vRf x = true ∧ oc l3 = true ∧ aw g 142 75 [l0, l1, l2, l3, some (x), l5] r σ Q) := (aw_eq g 142 73 _ _ _ _).trans (by rw [tq142_73]; exact (h_store (o := oc l3) rfl rfl rfl))
theorem tq142_75 : tT g 142 75 = s_load vRf 142 77 4 := rfl
theorem A142_75 {l0 : Option Value} {l1 : Option Value} {l2 : Option Value} {l3 : Option Value} {l5 : Option Value} {x : Value} {r : List Value} : aw g 142 75 [l0, l1, l2, l3, some (x), l5] r σ Q = (vRf x = true ∧ aw g 142 77 [l0, l1, l2, l3, some (x), l5] (x :: r) σ Q) := (aw_eq g 142 75 _ _ _ _).trans (by rw [tq142_75]; exact h_load rfl)
theorem tq142_77 : tT g 142 77 = s_getf 142 80 7 1 := rfl
theorem A142_77 {L : AL} {r : List Value} {a : Nat} : aw g 142 77 L (.ref a :: r) σ Q = (hty σ a = some 7 ∧ aw g 142 80 L (hv σ 7 a 1 :: r) σ Q) := (aw_eq g 142 77 _ _ _ _).trans (by rw [tq142_77]; exact rfl)
theorem tq142_80 : tT g 142 80 = s_callvk 142 83 15 10 [] 1 := rfl
theorem A142_80 {L : AL} {r : List Value} {a : Nat} : aw g 142 80 L (.ref a :: r) σ Q = (hty σ a = some 10 ∧ true = true ∧ csum r ≤ 8 ∧ aw g 15 0 [some (.ref a)] [] σ (kt (aw g) 142 83 L r Q)) := (aw_eq g 142 80 _ _ _ _).trans (by rw [tq142_80]; exact rfl)
theorem tq142_83 : tT g 142 83 = s_const 142 85 (.int 12) := rfl
theorem A142_83 {L : AL} {r : List Value} : aw g 142 83 L r σ Q = aw g 142 85 L (.int 12 :: r) σ Q := (aw_eq g 142 83 _ _ _ _).trans (by rw [tq142_83]; exact rfl)
theorem tq142_85 : tT g 142 85 = s_icmp 142 88 97 (fun a b => a = b) := rfl
theorem A142_85 {L : AL} {r : List Value} {a b : Int32} : aw g 142 85 L (.int b :: .int a :: r) σ Q = ((a = b → aw g 142 97 L r σ Q) ∧ (¬ a = b → aw g 142 88 L r σ Q)) := (aw_eq g 142 85 _ _ _ _).trans (by rw [tq142_85]; exact rfl)
theorem tq142_88 : tT g 142 88 = s_load vRf 142 90 4 := rfl
theorem A142_88 {l0 : Option Value} {l1 : Option Value} {l2 : Option Value} {l3 : Option Value} {l5 : Option Value} {x : Value} {r : List Value} : aw g 142 88 [l0, l1, l2, l3, some (x), l5] r σ Q = (vRf x = true ∧ aw g 142 90 [l0, l1, l2, l3, some (x), l5] (x :: r) σ Q) := (aw_eq g 142 88 _ _ _ _).trans (by rw [tq142_88]; exact h_load rfl)
theorem tq142_90 : tT g 142 90 = s_getf 142 93 7 6 := rfl
theorem A142_90 {L : AL} {r : List Value} {a : Nat} : aw g 142 90 L (.ref a :: r) σ Q = (hty σ a = some 7 ∧ aw g 142 93 L (hv σ 7 a 6 :: r) σ Q) := (aw_eq g 142 90 _ _ _ _).trans (by rw [tq142_90]; exact rfl)
theorem tq142_93 : tT g 142 93 = s_const 142 94 (.int 4) := rfl
theorem A142_93 {L : AL} {r : List Value} : aw g 142 93 L r σ Q = aw g 142 94 L (.int 4 :: r) σ Q := (aw_eq g 142 93 _ _ _ _).trans (by rw [tq142_93]; exact rfl)
theorem tq142_94 : tT g 142 94 = s_icmp 142 103 97 (fun a b => a = b) := rfl
theorem A142_94 {L : AL} {r : List Value} {a b : Int32} : aw g 142 94 L (.int b :: .int a :: r) σ Q = ((a = b → aw g 142 97 L r σ Q) ∧ (¬ a = b → aw g 142 103 L r σ Q)) := (aw_eq g 142 94 _ _ _ _).trans (by rw [tq142_94]; exact rfl)
theorem tq142_97 : tT g 142 97 = s_load vRf 142 98 0 := rfl
theorem A142_97 {l1 : Option Value} {l2 : Option Value} {l3 : Option Value} {l4 : Option Value} {l5 : Option Value} {x : Value} {r : List Value} : aw g 142 97 [some (x), l1, l2, l3, l4, l5] r σ Q = (vRf x = true ∧ aw g 142 98 [some (x), l1, l2, l3, l4, l5] (x :: r) σ Q) := (aw_eq g 142 97 _ _ _ _).trans (by rw [tq142_97]; exact h_load rfl)
theorem tq142_98 : tT g 142 98 = s_const 142 99 (.int 3) := rfl
theorem A142_98 {L : AL} {r : List Value} : aw g 142 98 L r σ Q = aw g 142 99 L (.int 3 :: r) σ Q := (aw_eq g 142 98 _ _ _ _).trans (by rw [tq142_98]; exact rfl)
theorem tq142_99 : tT g 142 99 = s_callvk 142 102 141 3 [0] 2 := rfl
theorem A142_99 {L : AL} {r : List Value} {a : Nat} {w0 : Value} : aw g 142 99 L (w0 :: .ref a :: r) σ Q = (hty σ a = some 3 ∧ (vI w0 && true) = true ∧ csum r ≤ 8 ∧ aw g 141 0 [some (.ref a), some w0] [] σ (kt (aw g) 142 102 L r Q)) := (aw_eq g 142 99 _ _ _ _).trans (by rw [tq142_99]; exact rfl)
theorem tq142_102 : tT g 142 102 = s_ret pI := rfl
theorem A142_102 {L : AL} {v : Value} : aw g 142 102 L [v] σ Q = (pI v ∧ Q (.inl (some v)) σ) := (aw_eq g 142 102 _ _ _ _).trans (by rw [tq142_102]; exact rfl)
theorem tq142_103 : tT g 142 103 = s_const 142 104 (.int 2) := rfl
theorem A142_103 {L : AL} {r : List Value} : aw g 142 103 L r σ Q = aw g 142 104 L (.int 2 :: r) σ Q := (aw_eq g 142 103 _ _ _ _).trans (by rw [tq142_103]; exact rfl)
theorem tq142_104 : tT g 142 104 = s_newa g 142 106 20 (.int 0) := rfl
theorem A142_104 {L : AL} {r : List Value} {x : Int32} : aw g 142 104 L (.int x :: r) σ Q = (¬ x < 0 ∧ x.toNatClampNeg ≤ 65536 ∧ hsz σ + 1 ≤ gC g ∧ hsl σ + x.toNatClampNeg ≤ gS g ∧ aw g 142 106 L (.ref (hsz σ) :: r) (hnew σ 20 x.toNatClampNeg (fun _ => .int 0) x.toNatClampNeg) Q) := (aw_eq g 142 104 _ _ _ _).trans (by rw [tq142_104]; exact rfl)
theorem tq142_106 : tT g 142 106 = s_dup 142 107 := rfl
theorem A142_106 {L : AL} {r : List Value} {v : Value} : aw g 142 106 L (v :: r) σ Q = (v.category = 1 ∧ aw g 142 107 L (v :: v :: r) σ Q) := (aw_eq g 142 106 _ _ _ _).trans (by rw [tq142_106]; exact rfl)
theorem tq142_107 : tT g 142 107 = s_const 142 108 (.int 0) := rfl
theorem A142_107 {L : AL} {r : List Value} : aw g 142 107 L r σ Q = aw g 142 108 L (.int 0 :: r) σ Q := (aw_eq g 142 107 _ _ _ _).trans (by rw [tq142_107]; exact rfl)
theorem tq142_108 : tT g 142 108 = s_load vI 142 109 2 := rfl
theorem A142_108 {l0 : Option Value} {l1 : Option Value} {l3 : Option Value} {l4 : Option Value} {l5 : Option Value} {x : Int32} {r : List Value} : aw g 142 108 [l0, l1, some (.int x), l3, l4, l5] r σ Q = aw g 142 109 [l0, l1, some (.int x), l3, l4, l5] (.int x :: r) σ Q := (aw_eq g 142 108 _ _ _ _).trans (by rw [tq142_108]; exact (h_load rfl).trans (propext ⟨fun z => z.2, fun z => ⟨rfl, z⟩⟩))
theorem tq142_109 : tT g 142 109 = s_ast g (fun _ v => vI v = true) 142 110 20 := rfl
theorem A142_109 {L : AL} {r : List Value} {a : Nat} {i : Int32} {v : Value} : aw g 142 109 L (v :: .int i :: .ref a :: r) σ Q = (hty σ a = some 20 ∧ gB g ≤ a ∧ ¬ i < 0 ∧ i.toNatClampNeg < hln σ a ∧ vI v = true ∧ aw g 142 110 L r (hput σ 20 a i.toNatClampNeg v) Q) := (aw_eq g 142 109 _ _ _ _).trans (by rw [tq142_109]; exact rfl)
theorem tq142_110 : tT g 142 110 = s_dup 142 111 := rfl
theorem A142_110 {L : AL} {r : List Value} {v : Value} : aw g 142 110 L (v :: r) σ Q = (v.category = 1 ∧ aw g 142 111 L (v :: v :: r) σ Q) := (aw_eq g 142 110 _ _ _ _).trans (by rw [tq142_110]; exact rfl)
theorem tq142_111 : tT g 142 111 = s_const 142 112 (.int 1) := rfl
theorem A142_111 {L : AL} {r : List Value} : aw g 142 111 L r σ Q = aw g 142 112 L (.int 1 :: r) σ Q := (aw_eq g 142 111 _ _ _ _).trans (by rw [tq142_111]; exact rfl)
theorem tq142_112 : tT g 142 112 = s_load vI 142 113 3 := rfl
theorem A142_112 {l0 : Option Value} {l1 : Option Value} {l2 : Option Value} {l4 : Option Value} {l5 : Option Value} {x : Int32} {r : List Value} : aw g 142 112 [l0, l1, l2, some (.int x), l4, l5] r σ Q = aw g 142 113 [l0, l1, l2, some (.int x), l4, l5] (.int x :: r) σ Q := (aw_eq g 142 112 _ _ _ _).trans (by rw [tq142_112]; exact (h_load rfl).trans (propext ⟨fun z => z.2, fun z => ⟨rfl, z⟩⟩))
theorem tq142_113 : tT g 142 113 = s_ast g (fun _ v => vI v = true) 142 114 20 := rfl
theorem A142_113 {L : AL} {r : List Value} {a : Nat} {i : Int32} {v : Value} : aw g 142 113 L (v :: .int i :: .ref a :: r) σ Q = (hty σ a = some 20 ∧ gB g ≤ a ∧ ¬ i < 0 ∧ i.toNatClampNeg < hln σ a ∧ vI v = true ∧ aw g 142 114 L r (hput σ 20 a i.toNatClampNeg v) Q) := (aw_eq g 142 113 _ _ _ _).trans (by rw [tq142_113]; exact rfl)
theorem tq142_114 : tT g 142 114 = s_store vRf 142 116 5 := rfl
theorem A142_114 {l0 : Option Value} {l1 : Option Value} {l2 : Option Value} {l3 : Option Value} {l4 : Option Value} {l5 : Option Value} {x : Value} {r : List Value} : aw g 142 114 [l0, l1, l2, l3, l4, l5] (x :: r) σ Q = (vRf x = true ∧ oc l4 = true ∧ aw g 142 116 [l0, l1, l2, l3, l4, some (x)] r σ Q) := (aw_eq g 142 114 _ _ _ _).trans (by rw [tq142_114]; exact (h_store (o := oc l4) rfl rfl rfl))
theorem tq142_116 : tT g 142 116 = s_load vRf 142 118 4 := rfl
theorem A142_116 {l0 : Option Value} {l1 : Option Value} {l2 : Option Value} {l3 : Option Value} {l5 : Option Value} {x : Value} {r : List Value} : aw g 142 116 [l0, l1, l2, l3, some (x), l5] r σ Q = (vRf x = true ∧ aw g 142 118 [l0, l1, l2, l3, some (x), l5] (x :: r) σ Q) := (aw_eq g 142 116 _ _ _ _).trans (by rw [tq142_116]; exact h_load rfl)
theorem tq142_118 : tT g 142 118 = s_getf 142 121 7 1 := rfl
theorem A142_118 {L : AL} {r : List Value} {a : Nat} : aw g 142 118 L (.ref a :: r) σ Q = (hty σ a = some 7 ∧ aw g 142 121 L (hv σ 7 a 1 :: r) σ Q) := (aw_eq g 142 118 _ _ _ _).trans (by rw [tq142_118]; exact rfl)
theorem tq142_121 : tT g 142 121 = s_load vRf 142 123 5 := rfl
theorem A142_121 {l0 : Option Value} {l1 : Option Value} {l2 : Option Value} {l3 : Option Value} {l4 : Option Value} {x : Value} {r : List Value} : aw g 142 121 [l0, l1, l2, l3, l4, some (x)] r σ Q = (vRf x = true ∧ aw g 142 123 [l0, l1, l2, l3, l4, some (x)] (x :: r) σ Q) := (aw_eq g 142 121 _ _ _ _).trans (by rw [tq142_121]; exact h_load rfl)
theorem tq142_123 : tT g 142 123 = s_callvk 142 126 18 10 [1] 2 := rfl
theorem A142_123 {L : AL} {r : List Value} {a : Nat} {w0 : Value} : aw g 142 123 L (w0 :: .ref a :: r) σ Q = (hty σ a = some 10 ∧ (vRf w0 && true) = true ∧ csum r ≤ 8 ∧ aw g 18 0 [some (.ref a), some w0] [] σ (kt (aw g) 142 126 L r Q)) := (aw_eq g 142 123 _ _ _ _).trans (by rw [tq142_123]; exact rfl)
theorem tq142_126 : tT g 142 126 = s_pop 142 127 := rfl
theorem A142_126 {L : AL} {r : List Value} {v : Value} : aw g 142 126 L (v :: r) σ Q = (v.category = 1 ∧ aw g 142 127 L r σ Q) := (aw_eq g 142 126 _ _ _ _).trans (by rw [tq142_126]; exact rfl)
theorem tq142_127 : tT g 142 127 = s_load vRf 142 129 4 := rfl
theorem A142_127 {l0 : Option Value} {l1 : Option Value} {l2 : Option Value} {l3 : Option Value} {l5 : Option Value} {x : Value} {r : List Value} : aw g 142 127 [l0, l1, l2, l3, some (x), l5] r σ Q = (vRf x = true ∧ aw g 142 129 [l0, l1, l2, l3, some (x), l5] (x :: r) σ Q) := (aw_eq g 142 127 _ _ _ _).trans (by rw [tq142_127]; exact h_load rfl)
theorem tq142_129 : tT g 142 129 = s_getf 142 132 7 6 := rfl
theorem A142_129 {L : AL} {r : List Value} {a : Nat} : aw g 142 129 L (.ref a :: r) σ Q = (hty σ a = some 7 ∧ aw g 142 132 L (hv σ 7 a 6 :: r) σ Q) := (aw_eq g 142 129 _ _ _ _).trans (by rw [tq142_129]; exact rfl)
theorem tq142_132 : tT g 142 132 = s_const 142 133 (.int 5) := rfl
theorem A142_132 {L : AL} {r : List Value} : aw g 142 132 L r σ Q = aw g 142 133 L (.int 5 :: r) σ Q := (aw_eq g 142 132 _ _ _ _).trans (by rw [tq142_132]; exact rfl)
theorem tq142_133 : tT g 142 133 = s_icmp 142 142 136 (fun a b => a = b) := rfl
theorem A142_133 {L : AL} {r : List Value} {a b : Int32} : aw g 142 133 L (.int b :: .int a :: r) σ Q = ((a = b → aw g 142 136 L r σ Q) ∧ (¬ a = b → aw g 142 142 L r σ Q)) := (aw_eq g 142 133 _ _ _ _).trans (by rw [tq142_133]; exact rfl)
theorem tq142_136 : tT g 142 136 = s_load vRf 142 138 4 := rfl
theorem A142_136 {l0 : Option Value} {l1 : Option Value} {l2 : Option Value} {l3 : Option Value} {l5 : Option Value} {x : Value} {r : List Value} : aw g 142 136 [l0, l1, l2, l3, some (x), l5] r σ Q = (vRf x = true ∧ aw g 142 138 [l0, l1, l2, l3, some (x), l5] (x :: r) σ Q) := (aw_eq g 142 136 _ _ _ _).trans (by rw [tq142_136]; exact h_load rfl)
theorem tq142_138 : tT g 142 138 = s_const 142 139 (.int 0) := rfl
theorem A142_138 {L : AL} {r : List Value} : aw g 142 138 L r σ Q = aw g 142 139 L (.int 0 :: r) σ Q := (aw_eq g 142 138 _ _ _ _).trans (by rw [tq142_138]; exact rfl)
theorem tq142_139 : tT g 142 139 = s_putf g pI 142 142 7 6 := rfl
theorem A142_139 {L : AL} {r : List Value} {a : Nat} {v : Value} : aw g 142 139 L (v :: .ref a :: r) σ Q = (hty σ a = some 7 ∧ gB g ≤ a ∧ pI v ∧ aw g 142 142 L r (hput σ 7 a 6 v) Q) := (aw_eq g 142 139 _ _ _ _).trans (by rw [tq142_139]; exact rfl)
theorem tq142_142 : tT g 142 142 = s_load vRf 142 144 4 := rfl
theorem A142_142 {l0 : Option Value} {l1 : Option Value} {l2 : Option Value} {l3 : Option Value} {l5 : Option Value} {x : Value} {r : List Value} : aw g 142 142 [l0, l1, l2, l3, some (x), l5] r σ Q = (vRf x = true ∧ aw g 142 144 [l0, l1, l2, l3, some (x), l5] (x :: r) σ Q) := (aw_eq g 142 142 _ _ _ _).trans (by rw [tq142_142]; exact h_load rfl)
theorem tq142_144 : tT g 142 144 = s_getf 142 147 7 6 := rfl
theorem A142_144 {L : AL} {r : List Value} {a : Nat} : aw g 142 144 L (.ref a :: r) σ Q = (hty σ a = some 7 ∧ aw g 142 147 L (hv σ 7 a 6 :: r) σ Q) := (aw_eq g 142 144 _ _ _ _).trans (by rw [tq142_144]; exact rfl)
theorem tq142_147 : tT g 142 147 = s_const 142 148 (.int 3) := rfl
theorem A142_147 {L : AL} {r : List Value} : aw g 142 147 L r σ Q = aw g 142 148 L (.int 3 :: r) σ Q := (aw_eq g 142 147 _ _ _ _).trans (by rw [tq142_147]; exact rfl)
theorem tq142_148 : tT g 142 148 = s_icmp 142 166 151 (fun a b => a = b) := rfl
theorem A142_148 {L : AL} {r : List Value} {a b : Int32} : aw g 142 148 L (.int b :: .int a :: r) σ Q = ((a = b → aw g 142 151 L r σ Q) ∧ (¬ a = b → aw g 142 166 L r σ Q)) := (aw_eq g 142 148 _ _ _ _).trans (by rw [tq142_148]; exact rfl)
theorem tq142_151 : tT g 142 151 = s_load vRf 142 153 4 := rfl
theorem A142_151 {l0 : Option Value} {l1 : Option Value} {l2 : Option Value} {l3 : Option Value} {l5 : Option Value} {x : Value} {r : List Value} : aw g 142 151 [l0, l1, l2, l3, some (x), l5] r σ Q = (vRf x = true ∧ aw g 142 153 [l0, l1, l2, l3, some (x), l5] (x :: r) σ Q) := (aw_eq g 142 151 _ _ _ _).trans (by rw [tq142_151]; exact h_load rfl)
theorem tq142_153 : tT g 142 153 = s_getf 142 156 7 7 := rfl
theorem A142_153 {L : AL} {r : List Value} {a : Nat} : aw g 142 153 L (.ref a :: r) σ Q = (hty σ a = some 7 ∧ aw g 142 156 L (hv σ 7 a 7 :: r) σ Q) := (aw_eq g 142 153 _ _ _ _).trans (by rw [tq142_153]; exact rfl)
theorem tq142_156 : tT g 142 156 = s_const 142 157 (.int 5) := rfl
theorem A142_156 {L : AL} {r : List Value} : aw g 142 156 L r σ Q = aw g 142 157 L (.int 5 :: r) σ Q := (aw_eq g 142 156 _ _ _ _).trans (by rw [tq142_156]; exact rfl)
theorem tq142_157 : tT g 142 157 = s_icmp 142 166 160 (fun a b => a = b) := rfl
theorem A142_157 {L : AL} {r : List Value} {a b : Int32} : aw g 142 157 L (.int b :: .int a :: r) σ Q = ((a = b → aw g 142 160 L r σ Q) ∧ (¬ a = b → aw g 142 166 L r σ Q)) := (aw_eq g 142 157 _ _ _ _).trans (by rw [tq142_157]; exact rfl)
theorem tq142_160 : tT g 142 160 = s_load vRf 142 162 4 := rfl
theorem A142_160 {l0 : Option Value} {l1 : Option Value} {l2 : Option Value} {l3 : Option Value} {l5 : Option Value} {x : Value} {r : List Value} : aw g 142 160 [l0, l1, l2, l3, some (x), l5] r σ Q = (vRf x = true ∧ aw g 142 162 [l0, l1, l2, l3, some (x), l5] (x :: r) σ Q) := (aw_eq g 142 160 _ _ _ _).trans (by rw [tq142_160]; exact h_load rfl)
theorem tq142_162 : tT g 142 162 = s_const 142 163 (.int 0) := rfl
theorem A142_162 {L : AL} {r : List Value} : aw g 142 162 L r σ Q = aw g 142 163 L (.int 0 :: r) σ Q := (aw_eq g 142 162 _ _ _ _).trans (by rw [tq142_162]; exact rfl)
theorem tq142_163 : tT g 142 163 = s_putf g pI 142 166 7 7 := rfl
theorem A142_163 {L : AL} {r : List Value} {a : Nat} {v : Value} : aw g 142 163 L (v :: .ref a :: r) σ Q = (hty σ a = some 7 ∧ gB g ≤ a ∧ pI v ∧ aw g 142 166 L r (hput σ 7 a 7 v) Q) := (aw_eq g 142 163 _ _ _ _).trans (by rw [tq142_163]; exact rfl)
theorem tq142_166 : tT g 142 166 = s_load vRf 142 168 4 := rfl
theorem A142_166 {l0 : Option Value} {l1 : Option Value} {l2 : Option Value} {l3 : Option Value} {l5 : Option Value} {x : Value} {r : List Value} : aw g 142 166 [l0, l1, l2, l3, some (x), l5] r σ Q = (vRf x = true ∧ aw g 142 168 [l0, l1, l2, l3, some (x), l5] (x :: r) σ Q) := (aw_eq g 142 166 _ _ _ _).trans (by rw [tq142_166]; exact h_load rfl)
theorem tq142_168 : tT g 142 168 = s_const 142 169 (.int 0) := rfl
theorem A142_168 {L : AL} {r : List Value} : aw g 142 168 L r σ Q = aw g 142 169 L (.int 0 :: r) σ Q := (aw_eq g 142 168 _ _ _ _).trans (by rw [tq142_168]; exact rfl)
theorem tq142_169 : tT g 142 169 = s_putf g vZ 142 172 7 25 := rfl
theorem A142_169 {L : AL} {r : List Value} {a : Nat} {v : Value} : aw g 142 169 L (v :: .ref a :: r) σ Q = (hty σ a = some 7 ∧ gB g ≤ a ∧ vZ v ∧ aw g 142 172 L r (hput σ 7 a 25 v) Q) := (aw_eq g 142 169 _ _ _ _).trans (by rw [tq142_169]; exact rfl)
theorem tq142_172 : tT g 142 172 = s_load vRf 142 174 4 := rfl
theorem A142_172 {l0 : Option Value} {l1 : Option Value} {l2 : Option Value} {l3 : Option Value} {l5 : Option Value} {x : Value} {r : List Value} : aw g 142 172 [l0, l1, l2, l3, some (x), l5] r σ Q = (vRf x = true ∧ aw g 142 174 [l0, l1, l2, l3, some (x), l5] (x :: r) σ Q) := (aw_eq g 142 172 _ _ _ _).trans (by rw [tq142_172]; exact h_load rfl)
theorem tq142_174 : tT g 142 174 = s_getf 142 177 7 1 := rfl
theorem A142_174 {L : AL} {r : List Value} {a : Nat} : aw g 142 174 L (.ref a :: r) σ Q = (hty σ a = some 7 ∧ aw g 142 177 L (hv σ 7 a 1 :: r) σ Q) := (aw_eq g 142 174 _ _ _ _).trans (by rw [tq142_174]; exact rfl)
theorem tq142_177 : tT g 142 177 = s_callvk 142 180 15 10 [] 1 := rfl
theorem A142_177 {L : AL} {r : List Value} {a : Nat} : aw g 142 177 L (.ref a :: r) σ Q = (hty σ a = some 10 ∧ true = true ∧ csum r ≤ 8 ∧ aw g 15 0 [some (.ref a)] [] σ (kt (aw g) 142 180 L r Q)) := (aw_eq g 142 177 _ _ _ _).trans (by rw [tq142_177]; exact rfl)
theorem tq142_180 : tT g 142 180 = s_ret pI := rfl
theorem A142_180 {L : AL} {v : Value} : aw g 142 180 L [v] σ Q = (pI v ∧ Q (.inl (some v)) σ) := (aw_eq g 142 180 _ _ _ _).trans (by rw [tq142_180]; exact rfl)
theorem tq143_0 : tT g 143 0 = s_load vI 143 1 1 := rfl
theorem A143_0 {l0 : Option Value} {x : Int32} {r : List Value} : aw g 143 0 [l0, some (.int x)] r σ Q = aw g 143 1 [l0, some (.int x)] (.int x :: r) σ Q := (aw_eq g 143 0 _ _ _ _).trans (by rw [tq143_0]; exact (h_load rfl).trans (propext ⟨fun z => z.2, fun z => ⟨rfl, z⟩⟩))
theorem tq143_1 : tT g 143 1 = s_const 143 2 (.int 0) := rfl
theorem A143_1 {L : AL} {r : List Value} : aw g 143 1 L r σ Q = aw g 143 2 L (.int 0 :: r) σ Q := (aw_eq g 143 1 _ _ _ _).trans (by rw [tq143_1]; exact rfl)
theorem tq143_2 : tT g 143 2 = s_load vRf 143 3 0 := rfl
theorem A143_2 {l1 : Option Value} {x : Value} {r : List Value} : aw g 143 2 [some (x), l1] r σ Q = (vRf x = true ∧ aw g 143 3 [some (x), l1] (x :: r) σ Q) := (aw_eq g 143 2 _ _ _ _).trans (by rw [tq143_2]; exact h_load rfl)
theorem tq143_3 : tT g 143 3 = s_getf 143 6 3 1 := rfl
theorem A143_3 {L : AL} {r : List Value} {a : Nat} : aw g 143 3 L (.ref a :: r) σ Q = (hty σ a = some 3 ∧ aw g 143 6 L (hv σ 3 a 1 :: r) σ Q) := (aw_eq g 143 3 _ _ _ _).trans (by rw [tq143_3]; exact rfl)
theorem tq143_6 : tT g 143 6 = s_getf 143 9 4 0 := rfl
theorem A143_6 {L : AL} {r : List Value} {a : Nat} : aw g 143 6 L (.ref a :: r) σ Q = (hty σ a = some 4 ∧ aw g 143 9 L (hv σ 4 a 0 :: r) σ Q) := (aw_eq g 143 6 _ _ _ _).trans (by rw [tq143_6]; exact rfl)
theorem tq143_9 : tT g 143 9 = s_callvk 143 12 15 10 [] 1 := rfl
theorem A143_9 {L : AL} {r : List Value} {a : Nat} : aw g 143 9 L (.ref a :: r) σ Q = (hty σ a = some 10 ∧ true = true ∧ csum r ≤ 8 ∧ aw g 15 0 [some (.ref a)] [] σ (kt (aw g) 143 12 L r Q)) := (aw_eq g 143 9 _ _ _ _).trans (by rw [tq143_9]; exact rfl)
theorem tq143_12 : tT g 143 12 = s_const 143 13 (.int 1) := rfl
theorem A143_12 {L : AL} {r : List Value} : aw g 143 12 L r σ Q = aw g 143 13 L (.int 1 :: r) σ Q := (aw_eq g 143 12 _ _ _ _).trans (by rw [tq143_12]; exact rfl)
theorem tq143_13 : tT g 143 13 = s_bin 143 14 (fun a b => a - b) := rfl
theorem A143_13 {L : AL} {r : List Value} {a b : Int32} : aw g 143 13 L (.int b :: .int a :: r) σ Q = aw g 143 14 L (.int (a - b) :: r) σ Q := (aw_eq g 143 13 _ _ _ _).trans (by rw [tq143_13]; exact rfl)
theorem tq143_14 : tT g 143 14 = s_callk 143 17 140 [0, 0, 0] 3 := rfl
theorem A143_14 {L : AL} {r : List Value} {w0 w1 w2 : Value} : aw g 143 14 L (w2 :: w1 :: w0 :: r) σ Q = ((vI w0 && (vI w1 && (vI w2 && true))) = true ∧ csum r ≤ 8 ∧ aw g 140 0 [some w0, some w1, some w2] [] σ (kt (aw g) 143 17 L r Q)) := (aw_eq g 143 14 _ _ _ _).trans (by rw [tq143_14]; exact rfl)
theorem tq143_17 : tT g 143 17 = s_ret vZ := rfl
theorem A143_17 {L : AL} {v : Value} : aw g 143 17 L [v] σ Q = (vZ v ∧ Q (.inl (some v)) σ) := (aw_eq g 143 17 _ _ _ _).trans (by rw [tq143_17]; exact rfl)
theorem tq144_0 : tT g 144 0 = s_load vI 144 1 0 := rfl
theorem A144_0  {x : Int32} {r : List Value} : aw g 144 0 [some (.int x)] r σ Q = aw g 144 1 [some (.int x)] (.int x :: r) σ Q := (aw_eq g 144 0 _ _ _ _).trans (by rw [tq144_0]; exact (h_load rfl).trans (propext ⟨fun z => z.2, fun z => ⟨rfl, z⟩⟩))
theorem tq144_1 : tT g 144 1 = s_const 144 2 (.int 0) := rfl
theorem A144_1 {L : AL} {r : List Value} : aw g 144 1 L r σ Q = aw g 144 2 L (.int 0 :: r) σ Q := (aw_eq g 144 1 _ _ _ _).trans (by rw [tq144_1]; exact rfl)
theorem tq144_2 : tT g 144 2 = s_const 144 3 (.int 5) := rfl
theorem A144_2 {L : AL} {r : List Value} : aw g 144 2 L r σ Q = aw g 144 3 L (.int 5 :: r) σ Q := (aw_eq g 144 2 _ _ _ _).trans (by rw [tq144_2]; exact rfl)
theorem tq144_3 : tT g 144 3 = s_callk 144 6 140 [0, 0, 0] 3 := rfl
theorem A144_3 {L : AL} {r : List Value} {w0 w1 w2 : Value} : aw g 144 3 L (w2 :: w1 :: w0 :: r) σ Q = ((vI w0 && (vI w1 && (vI w2 && true))) = true ∧ csum r ≤ 8 ∧ aw g 140 0 [some w0, some w1, some w2] [] σ (kt (aw g) 144 6 L r Q)) := (aw_eq g 144 3 _ _ _ _).trans (by rw [tq144_3]; exact rfl)
theorem tq144_6 : tT g 144 6 = s_ret vZ := rfl
theorem A144_6 {L : AL} {v : Value} : aw g 144 6 L [v] σ Q = (vZ v ∧ Q (.inl (some v)) σ) := (aw_eq g 144 6 _ _ _ _).trans (by rw [tq144_6]; exact rfl)
theorem tq145_0 : tT g 145 0 = s_load vRf 145 1 0 := rfl
theorem A145_0 {l1 : Option Value} {l2 : Option Value} {l3 : Option Value} {x : Value} {r : List Value} : aw g 145 0 [some (x), l1, l2, l3] r σ Q = (vRf x = true ∧ aw g 145 1 [some (x), l1, l2, l3] (x :: r) σ Q) := (aw_eq g 145 0 _ _ _ _).trans (by rw [tq145_0]; exact h_load rfl)
theorem tq145_1 : tT g 145 1 = s_const 145 2 (.int 0) := rfl
theorem A145_1 {L : AL} {r : List Value} : aw g 145 1 L r σ Q = aw g 145 2 L (.int 0 :: r) σ Q := (aw_eq g 145 1 _ _ _ _).trans (by rw [tq145_1]; exact rfl)
theorem tq145_2 : tT g 145 2 = s_putf g pI 145 5 3 0 := rfl
theorem A145_2 {L : AL} {r : List Value} {a : Nat} {v : Value} : aw g 145 2 L (v :: .ref a :: r) σ Q = (hty σ a = some 3 ∧ gB g ≤ a ∧ pI v ∧ aw g 145 5 L r (hput σ 3 a 0 v) Q) := (aw_eq g 145 2 _ _ _ _).trans (by rw [tq145_2]; exact rfl)
theorem tq145_5 : tT g 145 5 = s_load vRf 145 6 0 := rfl
theorem A145_5 {l1 : Option Value} {l2 : Option Value} {l3 : Option Value} {x : Value} {r : List Value} : aw g 145 5 [some (x), l1, l2, l3] r σ Q = (vRf x = true ∧ aw g 145 6 [some (x), l1, l2, l3] (x :: r) σ Q) := (aw_eq g 145 5 _ _ _ _).trans (by rw [tq145_5]; exact h_load rfl)
theorem tq145_6 : tT g 145 6 = s_load vI 145 7 1 := rfl
theorem A145_6 {l0 : Option Value} {l2 : Option Value} {l3 : Option Value} {x : Int32} {r : List Value} : aw g 145 6 [l0, some (.int x), l2, l3] r σ Q = aw g 145 7 [l0, some (.int x), l2, l3] (.int x :: r) σ Q := (aw_eq g 145 6 _ _ _ _).trans (by rw [tq145_6]; exact (h_load rfl).trans (propext ⟨fun z => z.2, fun z => ⟨rfl, z⟩⟩))
theorem tq145_7 : tT g 145 7 = s_callvk 145 10 143 3 [0] 2 := rfl
theorem A145_7 {L : AL} {r : List Value} {a : Nat} {w0 : Value} : aw g 145 7 L (w0 :: .ref a :: r) σ Q = (hty σ a = some 3 ∧ (vI w0 && true) = true ∧ csum r ≤ 8 ∧ aw g 143 0 [some (.ref a), some w0] [] σ (kt (aw g) 145 10 L r Q)) := (aw_eq g 145 7 _ _ _ _).trans (by rw [tq145_7]; exact rfl)
theorem tq145_10 : tT g 145 10 = s_if 145 19 13 (fun a => a = 0) := rfl
theorem A145_10 {L : AL} {r : List Value} {a : Int32} : aw g 145 10 L (.int a :: r) σ Q = ((a = 0 → aw g 145 13 L r σ Q) ∧ (¬ a = 0 → aw g 145 19 L r σ Q)) := (aw_eq g 145 10 _ _ _ _).trans (by rw [tq145_10]; exact rfl)
theorem tq145_13 : tT g 145 13 = s_load vRf 145 14 0 := rfl
theorem A145_13 {l1 : Option Value} {l2 : Option Value} {l3 : Option Value} {x : Value} {r : List Value} : aw g 145 13 [some (x), l1, l2, l3] r σ Q = (vRf x = true ∧ aw g 145 14 [some (x), l1, l2, l3] (x :: r) σ Q) := (aw_eq g 145 13 _ _ _ _).trans (by rw [tq145_13]; exact h_load rfl)
theorem tq145_14 : tT g 145 14 = s_const 145 15 (.int 1) := rfl
theorem A145_14 {L : AL} {r : List Value} : aw g 145 14 L r σ Q = aw g 145 15 L (.int 1 :: r) σ Q := (aw_eq g 145 14 _ _ _ _).trans (by rw [tq145_14]; exact rfl)
theorem tq145_15 : tT g 145 15 = s_callvk 145 18 141 3 [0] 2 := rfl
theorem A145_15 {L : AL} {r : List Value} {a : Nat} {w0 : Value} : aw g 145 15 L (w0 :: .ref a :: r) σ Q = (hty σ a = some 3 ∧ (vI w0 && true) = true ∧ csum r ≤ 8 ∧ aw g 141 0 [some (.ref a), some w0] [] σ (kt (aw g) 145 18 L r Q)) := (aw_eq g 145 15 _ _ _ _).trans (by rw [tq145_15]; exact rfl)
theorem tq145_18 : tT g 145 18 = s_ret pI := rfl
theorem A145_18 {L : AL} {v : Value} : aw g 145 18 L [v] σ Q = (pI v ∧ Q (.inl (some v)) σ) := (aw_eq g 145 18 _ _ _ _).trans (by rw [tq145_18]; exact rfl)
theorem tq145_19 : tT g 145 19 = s_load vI 145 20 2 := rfl
theorem A145_19 {l0 : Option Value} {l1 : Option Value} {l3 : Option Value} {x : Int32} {r : List Value} : aw g 145 19 [l0, l1, some (.int x), l3] r σ Q = aw g 145 20 [l0, l1, some (.int x), l3] (.int x :: r) σ Q := (aw_eq g 145 19 _ _ _ _).trans (by rw [tq145_19]; exact (h_load rfl).trans (propext ⟨fun z => z.2, fun z => ⟨rfl, z⟩⟩))
theorem tq145_20 : tT g 145 20 = s_const 145 21 (.int 1) := rfl
theorem A145_20 {L : AL} {r : List Value} : aw g 145 20 L r σ Q = aw g 145 21 L (.int 1 :: r) σ Q := (aw_eq g 145 20 _ _ _ _).trans (by rw [tq145_20]; exact rfl)
theorem tq145_21 : tT g 145 21 = s_const 145 22 (.int 4) := rfl
theorem A145_21 {L : AL} {r : List Value} : aw g 145 21 L r σ Q = aw g 145 22 L (.int 4 :: r) σ Q := (aw_eq g 145 21 _ _ _ _).trans (by rw [tq145_21]; exact rfl)
theorem tq145_22 : tT g 145 22 = s_callk 145 25 140 [0, 0, 0] 3 := rfl
theorem A145_22 {L : AL} {r : List Value} {w0 w1 w2 : Value} : aw g 145 22 L (w2 :: w1 :: w0 :: r) σ Q = ((vI w0 && (vI w1 && (vI w2 && true))) = true ∧ csum r ≤ 8 ∧ aw g 140 0 [some w0, some w1, some w2] [] σ (kt (aw g) 145 25 L r Q)) := (aw_eq g 145 22 _ _ _ _).trans (by rw [tq145_22]; exact rfl)
theorem tq145_25 : tT g 145 25 = s_if 145 34 28 (fun a => a = 0) := rfl
theorem A145_25 {L : AL} {r : List Value} {a : Int32} : aw g 145 25 L (.int a :: r) σ Q = ((a = 0 → aw g 145 28 L r σ Q) ∧ (¬ a = 0 → aw g 145 34 L r σ Q)) := (aw_eq g 145 25 _ _ _ _).trans (by rw [tq145_25]; exact rfl)
theorem tq145_28 : tT g 145 28 = s_load vRf 145 29 0 := rfl
theorem A145_28 {l1 : Option Value} {l2 : Option Value} {l3 : Option Value} {x : Value} {r : List Value} : aw g 145 28 [some (x), l1, l2, l3] r σ Q = (vRf x = true ∧ aw g 145 29 [some (x), l1, l2, l3] (x :: r) σ Q) := (aw_eq g 145 28 _ _ _ _).trans (by rw [tq145_28]; exact h_load rfl)
theorem tq145_29 : tT g 145 29 = s_const 145 30 (.int 2) := rfl
theorem A145_29 {L : AL} {r : List Value} : aw g 145 29 L r σ Q = aw g 145 30 L (.int 2 :: r) σ Q := (aw_eq g 145 29 _ _ _ _).trans (by rw [tq145_29]; exact rfl)
theorem tq145_30 : tT g 145 30 = s_callvk 145 33 141 3 [0] 2 := rfl
theorem A145_30 {L : AL} {r : List Value} {a : Nat} {w0 : Value} : aw g 145 30 L (w0 :: .ref a :: r) σ Q = (hty σ a = some 3 ∧ (vI w0 && true) = true ∧ csum r ≤ 8 ∧ aw g 141 0 [some (.ref a), some w0] [] σ (kt (aw g) 145 33 L r Q)) := (aw_eq g 145 30 _ _ _ _).trans (by rw [tq145_30]; exact rfl)
theorem tq145_33 : tT g 145 33 = s_ret pI := rfl
theorem A145_33 {L : AL} {v : Value} : aw g 145 33 L [v] σ Q = (pI v ∧ Q (.inl (some v)) σ) := (aw_eq g 145 33 _ _ _ _).trans (by rw [tq145_33]; exact rfl)
theorem tq145_34 : tT g 145 34 = s_load vRf 145 35 0 := rfl
theorem A145_34 {l1 : Option Value} {l2 : Option Value} {l3 : Option Value} {x : Value} {r : List Value} : aw g 145 34 [some (x), l1, l2, l3] r σ Q = (vRf x = true ∧ aw g 145 35 [some (x), l1, l2, l3] (x :: r) σ Q) := (aw_eq g 145 34 _ _ _ _).trans (by rw [tq145_34]; exact h_load rfl)
theorem tq145_35 : tT g 145 35 = s_getf 145 38 3 1 := rfl
theorem A145_35 {L : AL} {r : List Value} {a : Nat} : aw g 145 35 L (.ref a :: r) σ Q = (hty σ a = some 3 ∧ aw g 145 38 L (hv σ 3 a 1 :: r) σ Q) := (aw_eq g 145 35 _ _ _ _).trans (by rw [tq145_35]; exact rfl)
theorem tq145_38 : tT g 145 38 = s_getf 145 41 4 0 := rfl
theorem A145_38 {L : AL} {r : List Value} {a : Nat} : aw g 145 38 L (.ref a :: r) σ Q = (hty σ a = some 4 ∧ aw g 145 41 L (hv σ 4 a 0 :: r) σ Q) := (aw_eq g 145 38 _ _ _ _).trans (by rw [tq145_38]; exact rfl)
theorem tq145_41 : tT g 145 41 = s_load vI 145 42 1 := rfl
theorem A145_41 {l0 : Option Value} {l2 : Option Value} {l3 : Option Value} {x : Int32} {r : List Value} : aw g 145 41 [l0, some (.int x), l2, l3] r σ Q = aw g 145 42 [l0, some (.int x), l2, l3] (.int x :: r) σ Q := (aw_eq g 145 41 _ _ _ _).trans (by rw [tq145_41]; exact (h_load rfl).trans (propext ⟨fun z => z.2, fun z => ⟨rfl, z⟩⟩))
theorem tq145_42 : tT g 145 42 = s_callvk 145 45 25 10 [0] 2 := rfl
theorem A145_42 {L : AL} {r : List Value} {a : Nat} {w0 : Value} : aw g 145 42 L (w0 :: .ref a :: r) σ Q = (hty σ a = some 10 ∧ (vI w0 && true) = true ∧ csum r ≤ 8 ∧ aw g 25 0 [some (.ref a), some w0] [] σ (kt (aw g) 145 45 L r Q)) := (aw_eq g 145 42 _ _ _ _).trans (by rw [tq145_42]; exact rfl)
theorem tq145_45 : tT g 145 45 = s_cast 145 48 [7] := rfl
theorem A145_45 {L : AL} {r : List Value} : aw g 145 45 L (.null :: r) σ Q = aw g 145 48 L (.null :: r) σ Q := (aw_eq g 145 45 _ _ _ _).trans (by rw [tq145_45]; exact rfl)
theorem A145_45r {L : AL} {r : List Value} {a : Nat} : aw g 145 45 L (.ref a :: r) σ Q = (hty σ a = some 7 ∧ aw g 145 48 L (.ref a :: r) σ Q) := (aw_eq g 145 45 _ _ _ _).trans (by rw [tq145_45]; exact propext ⟨fun z => (by obtain ⟨⟨u, hu, hu2⟩, z2⟩ := z; rw [List.mem_singleton] at hu; subst hu; exact ⟨hu2, z2⟩), fun z => ⟨⟨_, List.mem_cons_self, z.1⟩, z.2⟩⟩)
theorem tq145_48 : tT g 145 48 = s_getf 145 51 7 0 := rfl
theorem A145_48 {L : AL} {r : List Value} {a : Nat} : aw g 145 48 L (.ref a :: r) σ Q = (hty σ a = some 7 ∧ aw g 145 51 L (hv σ 7 a 0 :: r) σ Q) := (aw_eq g 145 48 _ _ _ _).trans (by rw [tq145_48]; exact rfl)
theorem tq145_51 : tT g 145 51 = s_store vI 145 52 3 := rfl
theorem A145_51 {l0 : Option Value} {l1 : Option Value} {l2 : Option Value} {l3 : Option Value} {x : Int32} {r : List Value} : aw g 145 51 [l0, l1, l2, l3] (.int x :: r) σ Q = (oc l2 = true ∧ aw g 145 52 [l0, l1, l2, some (.int x)] r σ Q) := (aw_eq g 145 51 _ _ _ _).trans (by rw [tq145_51]; exact (h_store (o := oc l2) rfl rfl rfl).trans (propext ⟨fun z => z.2, fun z => ⟨rfl, z⟩⟩))
theorem tq145_52 : tT g 145 52 = s_load vRf 145 53 0 := rfl
theorem A145_52 {l1 : Option Value} {l2 : Option Value} {l3 : Option Value} {x : Value} {r : List Value} : aw g 145 52 [some (x), l1, l2, l3] r σ Q = (vRf x = true ∧ aw g 145 53 [some (x), l1, l2, l3] (x :: r) σ Q) := (aw_eq g 145 52 _ _ _ _).trans (by rw [tq145_52]; exact h_load rfl)
theorem tq145_53 : tT g 145 53 = s_getf 145 56 3 1 := rfl
theorem A145_53 {L : AL} {r : List Value} {a : Nat} : aw g 145 53 L (.ref a :: r) σ Q = (hty σ a = some 3 ∧ aw g 145 56 L (hv σ 3 a 1 :: r) σ Q) := (aw_eq g 145 53 _ _ _ _).trans (by rw [tq145_53]; exact rfl)
theorem tq145_56 : tT g 145 56 = s_getf 145 59 4 0 := rfl
theorem A145_56 {L : AL} {r : List Value} {a : Nat} : aw g 145 56 L (.ref a :: r) σ Q = (hty σ a = some 4 ∧ aw g 145 59 L (hv σ 4 a 0 :: r) σ Q) := (aw_eq g 145 56 _ _ _ _).trans (by rw [tq145_56]; exact rfl)
theorem tq145_59 : tT g 145 59 = s_load vI 145 60 1 := rfl
theorem A145_59 {l0 : Option Value} {l2 : Option Value} {l3 : Option Value} {x : Int32} {r : List Value} : aw g 145 59 [l0, some (.int x), l2, l3] r σ Q = aw g 145 60 [l0, some (.int x), l2, l3] (.int x :: r) σ Q := (aw_eq g 145 59 _ _ _ _).trans (by rw [tq145_59]; exact (h_load rfl).trans (propext ⟨fun z => z.2, fun z => ⟨rfl, z⟩⟩))
theorem tq145_60 : tT g 145 60 = s_callvk 145 63 25 10 [0] 2 := rfl
theorem A145_60 {L : AL} {r : List Value} {a : Nat} {w0 : Value} : aw g 145 60 L (w0 :: .ref a :: r) σ Q = (hty σ a = some 10 ∧ (vI w0 && true) = true ∧ csum r ≤ 8 ∧ aw g 25 0 [some (.ref a), some w0] [] σ (kt (aw g) 145 63 L r Q)) := (aw_eq g 145 60 _ _ _ _).trans (by rw [tq145_60]; exact rfl)
theorem tq145_63 : tT g 145 63 = s_cast 145 66 [7] := rfl
theorem A145_63 {L : AL} {r : List Value} : aw g 145 63 L (.null :: r) σ Q = aw g 145 66 L (.null :: r) σ Q := (aw_eq g 145 63 _ _ _ _).trans (by rw [tq145_63]; exact rfl)
theorem A145_63r {L : AL} {r : List Value} {a : Nat} : aw g 145 63 L (.ref a :: r) σ Q = (hty σ a = some 7 ∧ aw g 145 66 L (.ref a :: r) σ Q) := (aw_eq g 145 63 _ _ _ _).trans (by rw [tq145_63]; exact propext ⟨fun z => (by obtain ⟨⟨u, hu, hu2⟩, z2⟩ := z; rw [List.mem_singleton] at hu; subst hu; exact ⟨hu2, z2⟩), fun z => ⟨⟨_, List.mem_cons_self, z.1⟩, z.2⟩⟩)
theorem tq145_66 : tT g 145 66 = s_load vI 145 67 2 := rfl
theorem A145_66 {l0 : Option Value} {l1 : Option Value} {l3 : Option Value} {x : Int32} {r : List Value} : aw g 145 66 [l0, l1, some (.int x), l3] r σ Q = aw g 145 67 [l0, l1, some (.int x), l3] (.int x :: r) σ Q := (aw_eq g 145 66 _ _ _ _).trans (by rw [tq145_66]; exact (h_load rfl).trans (propext ⟨fun z => z.2, fun z => ⟨rfl, z⟩⟩))
theorem tq145_67 : tT g 145 67 = s_putf g pI 145 70 7 0 := rfl
theorem A145_67 {L : AL} {r : List Value} {a : Nat} {v : Value} : aw g 145 67 L (v :: .ref a :: r) σ Q = (hty σ a = some 7 ∧ gB g ≤ a ∧ pI v ∧ aw g 145 70 L r (hput σ 7 a 0 v) Q) := (aw_eq g 145 67 _ _ _ _).trans (by rw [tq145_67]; exact rfl)
theorem tq145_70 : tT g 145 70 = s_load vI 145 71 3 := rfl
theorem A145_70 {l0 : Option Value} {l1 : Option Value} {l2 : Option Value} {x : Int32} {r : List Value} : aw g 145 70 [l0, l1, l2, some (.int x)] r σ Q = aw g 145 71 [l0, l1, l2, some (.int x)] (.int x :: r) σ Q := (aw_eq g 145 70 _ _ _ _).trans (by rw [tq145_70]; exact (h_load rfl).trans (propext ⟨fun z => z.2, fun z => ⟨rfl, z⟩⟩))
theorem tq145_71 : tT g 145 71 = s_ret pI := rfl
theorem A145_71 {L : AL} {v : Value} : aw g 145 71 L [v] σ Q = (pI v ∧ Q (.inl (some v)) σ) := (aw_eq g 145 71 _ _ _ _).trans (by rw [tq145_71]; exact rfl)
theorem tq146_0 : tT g 146 0 = s_load vRf 146 1 0 := rfl
theorem A146_0 {l1 : Option Value} {l2 : Option Value} {l3 : Option Value} {l4 : Option Value} {x : Value} {r : List Value} : aw g 146 0 [some (x), l1, l2, l3, l4] r σ Q = (vRf x = true ∧ aw g 146 1 [some (x), l1, l2, l3, l4] (x :: r) σ Q) := (aw_eq g 146 0 _ _ _ _).trans (by rw [tq146_0]; exact h_load rfl)
theorem tq146_1 : tT g 146 1 = s_const 146 2 (.int 0) := rfl
theorem A146_1 {L : AL} {r : List Value} : aw g 146 1 L r σ Q = aw g 146 2 L (.int 0 :: r) σ Q := (aw_eq g 146 1 _ _ _ _).trans (by rw [tq146_1]; exact rfl)
theorem tq146_2 : tT g 146 2 = s_putf g pI 146 5 3 0 := rfl
theorem A146_2 {L : AL} {r : List Value} {a : Nat} {v : Value} : aw g 146 2 L (v :: .ref a :: r) σ Q = (hty σ a = some 3 ∧ gB g ≤ a ∧ pI v ∧ aw g 146 5 L r (hput σ 3 a 0 v) Q) := (aw_eq g 146 2 _ _ _ _).trans (by rw [tq146_2]; exact rfl)
theorem tq146_5 : tT g 146 5 = s_load vRf 146 6 0 := rfl
theorem A146_5 {l1 : Option Value} {l2 : Option Value} {l3 : Option Value} {l4 : Option Value} {x : Value} {r : List Value} : aw g 146 5 [some (x), l1, l2, l3, l4] r σ Q = (vRf x = true ∧ aw g 146 6 [some (x), l1, l2, l3, l4] (x :: r) σ Q) := (aw_eq g 146 5 _ _ _ _).trans (by rw [tq146_5]; exact h_load rfl)
theorem tq146_6 : tT g 146 6 = s_load vI 146 7 1 := rfl
theorem A146_6 {l0 : Option Value} {l2 : Option Value} {l3 : Option Value} {l4 : Option Value} {x : Int32} {r : List Value} : aw g 146 6 [l0, some (.int x), l2, l3, l4] r σ Q = aw g 146 7 [l0, some (.int x), l2, l3, l4] (.int x :: r) σ Q := (aw_eq g 146 6 _ _ _ _).trans (by rw [tq146_6]; exact (h_load rfl).trans (propext ⟨fun z => z.2, fun z => ⟨rfl, z⟩⟩))
theorem tq146_7 : tT g 146 7 = s_callvk 146 10 143 3 [0] 2 := rfl
theorem A146_7 {L : AL} {r : List Value} {a : Nat} {w0 : Value} : aw g 146 7 L (w0 :: .ref a :: r) σ Q = (hty σ a = some 3 ∧ (vI w0 && true) = true ∧ csum r ≤ 8 ∧ aw g 143 0 [some (.ref a), some w0] [] σ (kt (aw g) 146 10 L r Q)) := (aw_eq g 146 7 _ _ _ _).trans (by rw [tq146_7]; exact rfl)
theorem tq146_10 : tT g 146 10 = s_if 146 20 13 (fun a => a = 0) := rfl
theorem A146_10 {L : AL} {r : List Value} {a : Int32} : aw g 146 10 L (.int a :: r) σ Q = ((a = 0 → aw g 146 13 L r σ Q) ∧ (¬ a = 0 → aw g 146 20 L r σ Q)) := (aw_eq g 146 10 _ _ _ _).trans (by rw [tq146_10]; exact rfl)
theorem tq146_13 : tT g 146 13 = s_load vRf 146 14 0 := rfl
theorem A146_13 {l1 : Option Value} {l2 : Option Value} {l3 : Option Value} {l4 : Option Value} {x : Value} {r : List Value} : aw g 146 13 [some (x), l1, l2, l3, l4] r σ Q = (vRf x = true ∧ aw g 146 14 [some (x), l1, l2, l3, l4] (x :: r) σ Q) := (aw_eq g 146 13 _ _ _ _).trans (by rw [tq146_13]; exact h_load rfl)
theorem tq146_14 : tT g 146 14 = s_const 146 15 (.int 1) := rfl
theorem A146_14 {L : AL} {r : List Value} : aw g 146 14 L r σ Q = aw g 146 15 L (.int 1 :: r) σ Q := (aw_eq g 146 14 _ _ _ _).trans (by rw [tq146_14]; exact rfl)
theorem tq146_15 : tT g 146 15 = s_putf g pI 146 18 3 0 := rfl
theorem A146_15 {L : AL} {r : List Value} {a : Nat} {v : Value} : aw g 146 15 L (v :: .ref a :: r) σ Q = (hty σ a = some 3 ∧ gB g ≤ a ∧ pI v ∧ aw g 146 18 L r (hput σ 3 a 0 v) Q) := (aw_eq g 146 15 _ _ _ _).trans (by rw [tq146_15]; exact rfl)
theorem tq146_18 : tT g 146 18 = s_const 146 19 (.int 0) := rfl
theorem A146_18 {L : AL} {r : List Value} : aw g 146 18 L r σ Q = aw g 146 19 L (.int 0 :: r) σ Q := (aw_eq g 146 18 _ _ _ _).trans (by rw [tq146_18]; exact rfl)
theorem tq146_19 : tT g 146 19 = s_ret vZ := rfl
theorem A146_19 {L : AL} {v : Value} : aw g 146 19 L [v] σ Q = (vZ v ∧ Q (.inl (some v)) σ) := (aw_eq g 146 19 _ _ _ _).trans (by rw [tq146_19]; exact rfl)
theorem tq146_20 : tT g 146 20 = s_load vRf 146 21 0 := rfl
theorem A146_20 {l1 : Option Value} {l2 : Option Value} {l3 : Option Value} {l4 : Option Value} {x : Value} {r : List Value} : aw g 146 20 [some (x), l1, l2, l3, l4] r σ Q = (vRf x = true ∧ aw g 146 21 [some (x), l1, l2, l3, l4] (x :: r) σ Q) := (aw_eq g 146 20 _ _ _ _).trans (by rw [tq146_20]; exact h_load rfl)
theorem tq146_21 : tT g 146 21 = s_getf 146 24 3 1 := rfl
theorem A146_21 {L : AL} {r : List Value} {a : Nat} : aw g 146 21 L (.ref a :: r) σ Q = (hty σ a = some 3 ∧ aw g 146 24 L (hv σ 3 a 1 :: r) σ Q) := (aw_eq g 146 21 _ _ _ _).trans (by rw [tq146_21]; exact rfl)
theorem tq146_24 : tT g 146 24 = s_getf 146 27 4 0 := rfl
theorem A146_24 {L : AL} {r : List Value} {a : Nat} : aw g 146 24 L (.ref a :: r) σ Q = (hty σ a = some 4 ∧ aw g 146 27 L (hv σ 4 a 0 :: r) σ Q) := (aw_eq g 146 24 _ _ _ _).trans (by rw [tq146_24]; exact rfl)
theorem tq146_27 : tT g 146 27 = s_load vI 146 28 1 := rfl
theorem A146_27 {l0 : Option Value} {l2 : Option Value} {l3 : Option Value} {l4 : Option Value} {x : Int32} {r : List Value} : aw g 146 27 [l0, some (.int x), l2, l3, l4] r σ Q = aw g 146 28 [l0, some (.int x), l2, l3, l4] (.int x :: r) σ Q := (aw_eq g 146 27 _ _ _ _).trans (by rw [tq146_27]; exact (h_load rfl).trans (propext ⟨fun z => z.2, fun z => ⟨rfl, z⟩⟩))
theorem tq146_28 : tT g 146 28 = s_callvk 146 31 25 10 [0] 2 := rfl
theorem A146_28 {L : AL} {r : List Value} {a : Nat} {w0 : Value} : aw g 146 28 L (w0 :: .ref a :: r) σ Q = (hty σ a = some 10 ∧ (vI w0 && true) = true ∧ csum r ≤ 8 ∧ aw g 25 0 [some (.ref a), some w0] [] σ (kt (aw g) 146 31 L r Q)) := (aw_eq g 146 28 _ _ _ _).trans (by rw [tq146_28]; exact rfl)
theorem tq146_31 : tT g 146 31 = s_cast 146 34 [7] := rfl
theorem A146_31 {L : AL} {r : List Value} : aw g 146 31 L (.null :: r) σ Q = aw g 146 34 L (.null :: r) σ Q := (aw_eq g 146 31 _ _ _ _).trans (by rw [tq146_31]; exact rfl)
theorem A146_31r {L : AL} {r : List Value} {a : Nat} : aw g 146 31 L (.ref a :: r) σ Q = (hty σ a = some 7 ∧ aw g 146 34 L (.ref a :: r) σ Q) := (aw_eq g 146 31 _ _ _ _).trans (by rw [tq146_31]; exact propext ⟨fun z => (by obtain ⟨⟨u, hu, hu2⟩, z2⟩ := z; rw [List.mem_singleton] at hu; subst hu; exact ⟨hu2, z2⟩), fun z => ⟨⟨_, List.mem_cons_self, z.1⟩, z.2⟩⟩)
theorem tq146_34 : tT g 146 34 = s_store vRf 146 35 3 := rfl
theorem A146_34 {l0 : Option Value} {l1 : Option Value} {l2 : Option Value} {l3 : Option Value} {l4 : Option Value} {x : Value} {r : List Value} : aw g 146 34 [l0, l1, l2, l3, l4] (x :: r) σ Q = (vRf x = true ∧ oc l2 = true ∧ aw g 146 35 [l0, l1, l2, some (x), l4] r σ Q) := (aw_eq g 146 34 _ _ _ _).trans (by rw [tq146_34]; exact (h_store (o := oc l2) rfl rfl rfl))
theorem tq146_35 : tT g 146 35 = s_load vRf 146 36 3 := rfl
theorem A146_35 {l0 : Option Value} {l1 : Option Value} {l2 : Option Value} {l4 : Option Value} {x : Value} {r : List Value} : aw g 146 35 [l0, l1, l2, some (x), l4] r σ Q = (vRf x = true ∧ aw g 146 36 [l0, l1, l2, some (x), l4] (x :: r) σ Q) := (aw_eq g 146 35 _ _ _ _).trans (by rw [tq146_35]; exact h_load rfl)
theorem tq146_36 : tT g 146 36 = s_getf 146 39 7 6 := rfl
theorem A146_36 {L : AL} {r : List Value} {a : Nat} : aw g 146 36 L (.ref a :: r) σ Q = (hty σ a = some 7 ∧ aw g 146 39 L (hv σ 7 a 6 :: r) σ Q) := (aw_eq g 146 36 _ _ _ _).trans (by rw [tq146_36]; exact rfl)
theorem tq146_39 : tT g 146 39 = s_const 146 40 (.int 3) := rfl
theorem A146_39 {L : AL} {r : List Value} : aw g 146 39 L r σ Q = aw g 146 40 L (.int 3 :: r) σ Q := (aw_eq g 146 39 _ _ _ _).trans (by rw [tq146_39]; exact rfl)
theorem tq146_40 : tT g 146 40 = s_icmp 146 47 43 (fun a b => a = b) := rfl
theorem A146_40 {L : AL} {r : List Value} {a b : Int32} : aw g 146 40 L (.int b :: .int a :: r) σ Q = ((a = b → aw g 146 43 L r σ Q) ∧ (¬ a = b → aw g 146 47 L r σ Q)) := (aw_eq g 146 40 _ _ _ _).trans (by rw [tq146_40]; exact rfl)
theorem tq146_43 : tT g 146 43 = s_const 146 44 (.int 1) := rfl
theorem A146_43 {L : AL} {r : List Value} : aw g 146 43 L r σ Q = aw g 146 44 L (.int 1 :: r) σ Q := (aw_eq g 146 43 _ _ _ _).trans (by rw [tq146_43]; exact rfl)
theorem tq146_44 : tT g 146 44 = s_goto 146 48 := rfl
theorem A146_44 {L : AL} {r : List Value} : aw g 146 44 L r σ Q = aw g 146 48 L r σ Q := (aw_eq g 146 44 _ _ _ _).trans (by rw [tq146_44]; exact rfl)
theorem tq146_47 : tT g 146 47 = s_const 146 48 (.int 0) := rfl
theorem A146_47 {L : AL} {r : List Value} : aw g 146 47 L r σ Q = aw g 146 48 L (.int 0 :: r) σ Q := (aw_eq g 146 47 _ _ _ _).trans (by rw [tq146_47]; exact rfl)
theorem tq146_48 : tT g 146 48 = s_store vI 146 50 4 := rfl
theorem A146_48 {l0 : Option Value} {l1 : Option Value} {l2 : Option Value} {l3 : Option Value} {l4 : Option Value} {x : Int32} {r : List Value} : aw g 146 48 [l0, l1, l2, l3, l4] (.int x :: r) σ Q = (oc l3 = true ∧ aw g 146 50 [l0, l1, l2, l3, some (.int x)] r σ Q) := (aw_eq g 146 48 _ _ _ _).trans (by rw [tq146_48]; exact (h_store (o := oc l3) rfl rfl rfl).trans (propext ⟨fun z => z.2, fun z => ⟨rfl, z⟩⟩))
theorem tq146_50 : tT g 146 50 = s_load vRf 146 51 3 := rfl
theorem A146_50 {l0 : Option Value} {l1 : Option Value} {l2 : Option Value} {l4 : Option Value} {x : Value} {r : List Value} : aw g 146 50 [l0, l1, l2, some (x), l4] r σ Q = (vRf x = true ∧ aw g 146 51 [l0, l1, l2, some (x), l4] (x :: r) σ Q) := (aw_eq g 146 50 _ _ _ _).trans (by rw [tq146_50]; exact h_load rfl)
theorem tq146_51 : tT g 146 51 = s_getf 146 54 7 6 := rfl
theorem A146_51 {L : AL} {r : List Value} {a : Nat} : aw g 146 51 L (.ref a :: r) σ Q = (hty σ a = some 7 ∧ aw g 146 54 L (hv σ 7 a 6 :: r) σ Q) := (aw_eq g 146 51 _ _ _ _).trans (by rw [tq146_51]; exact rfl)
theorem tq146_54 : tT g 146 54 = s_const 146 55 (.int 4) := rfl
theorem A146_54 {L : AL} {r : List Value} : aw g 146 54 L r σ Q = aw g 146 55 L (.int 4 :: r) σ Q := (aw_eq g 146 54 _ _ _ _).trans (by rw [tq146_54]; exact rfl)
theorem tq146_55 : tT g 146 55 = s_icmp 146 58 74 (fun a b => a = b) := rfl
theorem A146_55 {L : AL} {r : List Value} {a b : Int32} : aw g 146 55 L (.int b :: .int a :: r) σ Q = ((a = b → aw g 146 74 L r σ Q) ∧ (¬ a = b → aw g 146 58 L r σ Q)) := (aw_eq g 146 55 _ _ _ _).trans (by rw [tq146_55]; exact rfl)
theorem tq146_58 : tT g 146 58 = s_load vI 146 59 2 := rfl
theorem A146_58 {l0 : Option Value} {l1 : Option Value} {l3 : Option Value} {l4 : Option Value} {x : Int32} {r : List Value} : aw g 146 58 [l0, l1, some (.int x), l3, l4] r σ Q = aw g 146 59 [l0, l1, some (.int x), l3, l4] (.int x :: r) σ Q := (aw_eq g 146 58 _ _ _ _).trans (by rw [tq146_58]; exact (h_load rfl).trans (propext ⟨fun z => z.2, fun z => ⟨rfl, z⟩⟩))
theorem tq146_59 : tT g 146 59 = s_if 146 81 62 (fun a => a = 0) := rfl
theorem A146_59 {L : AL} {r : List Value} {a : Int32} : aw g 146 59 L (.int a :: r) σ Q = ((a = 0 → aw g 146 62 L r σ Q) ∧ (¬ a = 0 → aw g 146 81 L r σ Q)) := (aw_eq g 146 59 _ _ _ _).trans (by rw [tq146_59]; exact rfl)
theorem tq146_62 : tT g 146 62 = s_load vI 146 64 4 := rfl
theorem A146_62 {l0 : Option Value} {l1 : Option Value} {l2 : Option Value} {l3 : Option Value} {x : Int32} {r : List Value} : aw g 146 62 [l0, l1, l2, l3, some (.int x)] r σ Q = aw g 146 64 [l0, l1, l2, l3, some (.int x)] (.int x :: r) σ Q := (aw_eq g 146 62 _ _ _ _).trans (by rw [tq146_62]; exact (h_load rfl).trans (propext ⟨fun z => z.2, fun z => ⟨rfl, z⟩⟩))
theorem tq146_64 : tT g 146 64 = s_if 146 67 81 (fun a => a = 0) := rfl
theorem A146_64 {L : AL} {r : List Value} {a : Int32} : aw g 146 64 L (.int a :: r) σ Q = ((a = 0 → aw g 146 81 L r σ Q) ∧ (¬ a = 0 → aw g 146 67 L r σ Q)) := (aw_eq g 146 64 _ _ _ _).trans (by rw [tq146_64]; exact rfl)
theorem tq146_67 : tT g 146 67 = s_load vRf 146 68 3 := rfl
theorem A146_67 {l0 : Option Value} {l1 : Option Value} {l2 : Option Value} {l4 : Option Value} {x : Value} {r : List Value} : aw g 146 67 [l0, l1, l2, some (x), l4] r σ Q = (vRf x = true ∧ aw g 146 68 [l0, l1, l2, some (x), l4] (x :: r) σ Q) := (aw_eq g 146 67 _ _ _ _).trans (by rw [tq146_67]; exact h_load rfl)
theorem tq146_68 : tT g 146 68 = s_getf 146 71 7 20 := rfl
theorem A146_68 {L : AL} {r : List Value} {a : Nat} : aw g 146 68 L (.ref a :: r) σ Q = (hty σ a = some 7 ∧ aw g 146 71 L (hv σ 7 a 20 :: r) σ Q) := (aw_eq g 146 68 _ _ _ _).trans (by rw [tq146_68]; exact rfl)
theorem tq146_71 : tT g 146 71 = s_if 146 74 81 (fun a => a = 0) := rfl
theorem A146_71 {L : AL} {r : List Value} {a : Int32} : aw g 146 71 L (.int a :: r) σ Q = ((a = 0 → aw g 146 81 L r σ Q) ∧ (¬ a = 0 → aw g 146 74 L r σ Q)) := (aw_eq g 146 71 _ _ _ _).trans (by rw [tq146_71]; exact rfl)
theorem tq146_74 : tT g 146 74 = s_load vRf 146 75 0 := rfl
theorem A146_74 {l1 : Option Value} {l2 : Option Value} {l3 : Option Value} {l4 : Option Value} {x : Value} {r : List Value} : aw g 146 74 [some (x), l1, l2, l3, l4] r σ Q = (vRf x = true ∧ aw g 146 75 [some (x), l1, l2, l3, l4] (x :: r) σ Q) := (aw_eq g 146 74 _ _ _ _).trans (by rw [tq146_74]; exact h_load rfl)
theorem tq146_75 : tT g 146 75 = s_const 146 76 (.int 2) := rfl
theorem A146_75 {L : AL} {r : List Value} : aw g 146 75 L r σ Q = aw g 146 76 L (.int 2 :: r) σ Q := (aw_eq g 146 75 _ _ _ _).trans (by rw [tq146_75]; exact rfl)
theorem tq146_76 : tT g 146 76 = s_putf g pI 146 79 3 0 := rfl
theorem A146_76 {L : AL} {r : List Value} {a : Nat} {v : Value} : aw g 146 76 L (v :: .ref a :: r) σ Q = (hty σ a = some 3 ∧ gB g ≤ a ∧ pI v ∧ aw g 146 79 L r (hput σ 3 a 0 v) Q) := (aw_eq g 146 76 _ _ _ _).trans (by rw [tq146_76]; exact rfl)
theorem tq146_79 : tT g 146 79 = s_const 146 80 (.int 0) := rfl
theorem A146_79 {L : AL} {r : List Value} : aw g 146 79 L r σ Q = aw g 146 80 L (.int 0 :: r) σ Q := (aw_eq g 146 79 _ _ _ _).trans (by rw [tq146_79]; exact rfl)
theorem tq146_80 : tT g 146 80 = s_ret vZ := rfl
theorem A146_80 {L : AL} {v : Value} : aw g 146 80 L [v] σ Q = (vZ v ∧ Q (.inl (some v)) σ) := (aw_eq g 146 80 _ _ _ _).trans (by rw [tq146_80]; exact rfl)
theorem tq146_81 : tT g 146 81 = s_load vI 146 82 2 := rfl
theorem A146_81 {l0 : Option Value} {l1 : Option Value} {l3 : Option Value} {l4 : Option Value} {x : Int32} {r : List Value} : aw g 146 81 [l0, l1, some (.int x), l3, l4] r σ Q = aw g 146 82 [l0, l1, some (.int x), l3, l4] (.int x :: r) σ Q := (aw_eq g 146 81 _ _ _ _).trans (by rw [tq146_81]; exact (h_load rfl).trans (propext ⟨fun z => z.2, fun z => ⟨rfl, z⟩⟩))
theorem tq146_82 : tT g 146 82 = s_if 146 85 96 (fun a => a = 0) := rfl
theorem A146_82 {L : AL} {r : List Value} {a : Int32} : aw g 146 82 L (.int a :: r) σ Q = ((a = 0 → aw g 146 96 L r σ Q) ∧ (¬ a = 0 → aw g 146 85 L r σ Q)) := (aw_eq g 146 82 _ _ _ _).trans (by rw [tq146_82]; exact rfl)
theorem tq146_85 : tT g 146 85 = s_load vRf 146 86 0 := rfl
theorem A146_85 {l1 : Option Value} {l2 : Option Value} {l3 : Option Value} {l4 : Option Value} {x : Value} {r : List Value} : aw g 146 85 [some (x), l1, l2, l3, l4] r σ Q = (vRf x = true ∧ aw g 146 86 [some (x), l1, l2, l3, l4] (x :: r) σ Q) := (aw_eq g 146 85 _ _ _ _).trans (by rw [tq146_85]; exact h_load rfl)
theorem tq146_86 : tT g 146 86 = s_getf 146 89 3 1 := rfl
theorem A146_86 {L : AL} {r : List Value} {a : Nat} : aw g 146 86 L (.ref a :: r) σ Q = (hty σ a = some 3 ∧ aw g 146 89 L (hv σ 3 a 1 :: r) σ Q) := (aw_eq g 146 86 _ _ _ _).trans (by rw [tq146_86]; exact rfl)
theorem tq146_89 : tT g 146 89 = s_load vRf 146 90 3 := rfl
theorem A146_89 {l0 : Option Value} {l1 : Option Value} {l2 : Option Value} {l4 : Option Value} {x : Value} {r : List Value} : aw g 146 89 [l0, l1, l2, some (x), l4] r σ Q = (vRf x = true ∧ aw g 146 90 [l0, l1, l2, some (x), l4] (x :: r) σ Q) := (aw_eq g 146 89 _ _ _ _).trans (by rw [tq146_89]; exact h_load rfl)
theorem tq146_90 : tT g 146 90 = s_callvk 146 93 178 4 [1] 2 := rfl
theorem A146_90 {L : AL} {r : List Value} {a : Nat} {w0 : Value} : aw g 146 90 L (w0 :: .ref a :: r) σ Q = (hty σ a = some 4 ∧ (vRf w0 && true) = true ∧ csum r ≤ 8 ∧ aw g 178 0 [some (.ref a), some w0] [] σ (kt (aw g) 146 93 L r Q)) := (aw_eq g 146 90 _ _ _ _).trans (by rw [tq146_90]; exact rfl)
theorem tq146_93 : tT g 146 93 = s_goto 146 106 := rfl
theorem A146_93 {L : AL} {r : List Value} : aw g 146 93 L r σ Q = aw g 146 106 L r σ Q := (aw_eq g 146 93 _ _ _ _).trans (by rw [tq146_93]; exact rfl)
theorem tq146_96 : tT g 146 96 = s_load vI 146 98 4 := rfl
theorem A146_96 {l0 : Option Value} {l1 : Option Value} {l2 : Option Value} {l3 : Option Value} {x : Int32} {r : List Value} : aw g 146 96 [l0, l1, l2, l3, some (.int x)] r σ Q = aw g 146 98 [l0, l1, l2, l3, some (.int x)] (.int x :: r) σ Q := (aw_eq g 146 96 _ _ _ _).trans (by rw [tq146_96]; exact (h_load rfl).trans (propext ⟨fun z => z.2, fun z => ⟨rfl, z⟩⟩))
theorem tq146_98 : tT g 146 98 = s_if 146 101 106 (fun a => a = 0) := rfl
theorem A146_98 {L : AL} {r : List Value} {a : Int32} : aw g 146 98 L (.int a :: r) σ Q = ((a = 0 → aw g 146 106 L r σ Q) ∧ (¬ a = 0 → aw g 146 101 L r σ Q)) := (aw_eq g 146 98 _ _ _ _).trans (by rw [tq146_98]; exact rfl)
theorem tq146_101 : tT g 146 101 = s_load vRf 146 102 0 := rfl
theorem A146_101 {l1 : Option Value} {l2 : Option Value} {l3 : Option Value} {l4 : Option Value} {x : Value} {r : List Value} : aw g 146 101 [some (x), l1, l2, l3, l4] r σ Q = (vRf x = true ∧ aw g 146 102 [some (x), l1, l2, l3, l4] (x :: r) σ Q) := (aw_eq g 146 101 _ _ _ _).trans (by rw [tq146_101]; exact h_load rfl)
theorem tq146_102 : tT g 146 102 = s_load vRf 146 103 3 := rfl
theorem A146_102 {l0 : Option Value} {l1 : Option Value} {l2 : Option Value} {l4 : Option Value} {x : Value} {r : List Value} : aw g 146 102 [l0, l1, l2, some (x), l4] r σ Q = (vRf x = true ∧ aw g 146 103 [l0, l1, l2, some (x), l4] (x :: r) σ Q) := (aw_eq g 146 102 _ _ _ _).trans (by rw [tq146_102]; exact h_load rfl)
theorem tq146_103 : tT g 146 103 = s_callvk 146 106 147 3 [1] 3 := rfl
theorem A146_103 {L : AL} {r : List Value} {a : Nat} {w0 : Value} : aw g 146 103 L (w0 :: .ref a :: r) σ Q = (hty σ a = some 3 ∧ (vRf w0 && true) = true ∧ csum r ≤ 8 ∧ aw g 147 0 [some (.ref a), some w0, none] [] σ (kt (aw g) 146 106 L r Q)) := (aw_eq g 146 103 _ _ _ _).trans (by rw [tq146_103]; exact rfl)
theorem tq146_106 : tT g 146 106 = s_load vI 146 108 4 := rfl
theorem A146_106 {l0 : Option Value} {l1 : Option Value} {l2 : Option Value} {l3 : Option Value} {x : Int32} {r : List Value} : aw g 146 106 [l0, l1, l2, l3, some (.int x)] r σ Q = aw g 146 108 [l0, l1, l2, l3, some (.int x)] (.int x :: r) σ Q := (aw_eq g 146 106 _ _ _ _).trans (by rw [tq146_106]; exact (h_load rfl).trans (propext ⟨fun z => z.2, fun z => ⟨rfl, z⟩⟩))
theorem tq146_108 : tT g 146 108 = s_ret vZ := rfl
theorem A146_108 {L : AL} {v : Value} : aw g 146 108 L [v] σ Q = (vZ v ∧ Q (.inl (some v)) σ) := (aw_eq g 146 108 _ _ _ _).trans (by rw [tq146_108]; exact rfl)
theorem tq147_0 : tT g 147 0 = s_load vRf 147 1 1 := rfl
theorem A147_0 {l0 : Option Value} {l2 : Option Value} {x : Value} {r : List Value} : aw g 147 0 [l0, some (x), l2] r σ Q = (vRf x = true ∧ aw g 147 1 [l0, some (x), l2] (x :: r) σ Q) := (aw_eq g 147 0 _ _ _ _).trans (by rw [tq147_0]; exact h_load rfl)
theorem tq147_1 : tT g 147 1 = s_getf 147 4 7 7 := rfl
theorem A147_1 {L : AL} {r : List Value} {a : Nat} : aw g 147 1 L (.ref a :: r) σ Q = (hty σ a = some 7 ∧ aw g 147 4 L (hv σ 7 a 7 :: r) σ Q) := (aw_eq g 147 1 _ _ _ _).trans (by rw [tq147_1]; exact rfl)
theorem tq147_4 : tT g 147 4 = s_const 147 5 (.int 1) := rfl
theorem A147_4 {L : AL} {r : List Value} : aw g 147 4 L r σ Q = aw g 147 5 L (.int 1 :: r) σ Q := (aw_eq g 147 4 _ _ _ _).trans (by rw [tq147_4]; exact rfl)
theorem tq147_5 : tT g 147 5 = s_icmp 147 15 8 (fun a b => a = b) := rfl
theorem A147_5 {L : AL} {r : List Value} {a b : Int32} : aw g 147 5 L (.int b :: .int a :: r) σ Q = ((a = b → aw g 147 8 L r σ Q) ∧ (¬ a = b → aw g 147 15 L r σ Q)) := (aw_eq g 147 5 _ _ _ _).trans (by rw [tq147_5]; exact rfl)
theorem tq147_8 : tT g 147 8 = s_load vRf 147 9 1 := rfl
theorem A147_8 {l0 : Option Value} {l2 : Option Value} {x : Value} {r : List Value} : aw g 147 8 [l0, some (x), l2] r σ Q = (vRf x = true ∧ aw g 147 9 [l0, some (x), l2] (x :: r) σ Q) := (aw_eq g 147 8 _ _ _ _).trans (by rw [tq147_8]; exact h_load rfl)
theorem tq147_9 : tT g 147 9 = s_getf 147 12 7 5 := rfl
theorem A147_9 {L : AL} {r : List Value} {a : Nat} : aw g 147 9 L (.ref a :: r) σ Q = (hty σ a = some 7 ∧ aw g 147 12 L (hv σ 7 a 5 :: r) σ Q) := (aw_eq g 147 9 _ _ _ _).trans (by rw [tq147_9]; exact rfl)
theorem tq147_12 : tT g 147 12 = s_if 147 15 37 (fun a => 0 < a) := rfl
theorem A147_12 {L : AL} {r : List Value} {a : Int32} : aw g 147 12 L (.int a :: r) σ Q = ((0 < a → aw g 147 37 L r σ Q) ∧ (¬ 0 < a → aw g 147 15 L r σ Q)) := (aw_eq g 147 12 _ _ _ _).trans (by rw [tq147_12]; exact rfl)
theorem tq147_15 : tT g 147 15 = s_load vRf 147 16 1 := rfl
theorem A147_15 {l0 : Option Value} {l2 : Option Value} {x : Value} {r : List Value} : aw g 147 15 [l0, some (x), l2] r σ Q = (vRf x = true ∧ aw g 147 16 [l0, some (x), l2] (x :: r) σ Q) := (aw_eq g 147 15 _ _ _ _).trans (by rw [tq147_15]; exact h_load rfl)
theorem tq147_16 : tT g 147 16 = s_getf 147 19 7 7 := rfl
theorem A147_16 {L : AL} {r : List Value} {a : Nat} : aw g 147 16 L (.ref a :: r) σ Q = (hty σ a = some 7 ∧ aw g 147 19 L (hv σ 7 a 7 :: r) σ Q) := (aw_eq g 147 16 _ _ _ _).trans (by rw [tq147_16]; exact rfl)
theorem tq147_19 : tT g 147 19 = s_const 147 20 (.int 2) := rfl
theorem A147_19 {L : AL} {r : List Value} : aw g 147 19 L r σ Q = aw g 147 20 L (.int 2 :: r) σ Q := (aw_eq g 147 19 _ _ _ _).trans (by rw [tq147_19]; exact rfl)
theorem tq147_20 : tT g 147 20 = s_icmp 147 41 23 (fun a b => a = b) := rfl
theorem A147_20 {L : AL} {r : List Value} {a b : Int32} : aw g 147 20 L (.int b :: .int a :: r) σ Q = ((a = b → aw g 147 23 L r σ Q) ∧ (¬ a = b → aw g 147 41 L r σ Q)) := (aw_eq g 147 20 _ _ _ _).trans (by rw [tq147_20]; exact rfl)
theorem tq147_23 : tT g 147 23 = s_load vRf 147 24 1 := rfl
theorem A147_23 {l0 : Option Value} {l2 : Option Value} {x : Value} {r : List Value} : aw g 147 23 [l0, some (x), l2] r σ Q = (vRf x = true ∧ aw g 147 24 [l0, some (x), l2] (x :: r) σ Q) := (aw_eq g 147 23 _ _ _ _).trans (by rw [tq147_23]; exact h_load rfl)
theorem tq147_24 : tT g 147 24 = s_getf 147 27 7 8 := rfl
theorem A147_24 {L : AL} {r : List Value} {a : Nat} : aw g 147 24 L (.ref a :: r) σ Q = (hty σ a = some 7 ∧ aw g 147 27 L (hv σ 7 a 8 :: r) σ Q) := (aw_eq g 147 24 _ _ _ _).trans (by rw [tq147_24]; exact rfl)
theorem tq147_27 : tT g 147 27 = s_load vRf 147 28 0 := rfl
theorem A147_27 {l1 : Option Value} {l2 : Option Value} {x : Value} {r : List Value} : aw g 147 27 [some (x), l1, l2] r σ Q = (vRf x = true ∧ aw g 147 28 [some (x), l1, l2] (x :: r) σ Q) := (aw_eq g 147 27 _ _ _ _).trans (by rw [tq147_27]; exact h_load rfl)
theorem tq147_28 : tT g 147 28 = s_getf 147 31 3 1 := rfl
theorem A147_28 {L : AL} {r : List Value} {a : Nat} : aw g 147 28 L (.ref a :: r) σ Q = (hty σ a = some 3 ∧ aw g 147 31 L (hv σ 3 a 1 :: r) σ Q) := (aw_eq g 147 28 _ _ _ _).trans (by rw [tq147_28]; exact rfl)
theorem tq147_31 : tT g 147 31 = s_getf 147 34 4 1 := rfl
theorem A147_31 {L : AL} {r : List Value} {a : Nat} : aw g 147 31 L (.ref a :: r) σ Q = (hty σ a = some 4 ∧ aw g 147 34 L (hv σ 4 a 1 :: r) σ Q) := (aw_eq g 147 31 _ _ _ _).trans (by rw [tq147_31]; exact rfl)
theorem tq147_34 : tT g 147 34 = s_icmp 147 37 41 (fun a b => b < a) := rfl
theorem A147_34 {L : AL} {r : List Value} {a b : Int32} : aw g 147 34 L (.int b :: .int a :: r) σ Q = ((b < a → aw g 147 41 L r σ Q) ∧ (¬ b < a → aw g 147 37 L r σ Q)) := (aw_eq g 147 34 _ _ _ _).trans (by rw [tq147_34]; exact rfl)
theorem tq147_37 : tT g 147 37 = s_const 147 38 (.int 1) := rfl
theorem A147_37 {L : AL} {r : List Value} : aw g 147 37 L r σ Q = aw g 147 38 L (.int 1 :: r) σ Q := (aw_eq g 147 37 _ _ _ _).trans (by rw [tq147_37]; exact rfl)
theorem tq147_38 : tT g 147 38 = s_goto 147 42 := rfl
theorem A147_38 {L : AL} {r : List Value} : aw g 147 38 L r σ Q = aw g 147 42 L r σ Q := (aw_eq g 147 38 _ _ _ _).trans (by rw [tq147_38]; exact rfl)
theorem tq147_41 : tT g 147 41 = s_const 147 42 (.int 0) := rfl
theorem A147_41 {L : AL} {r : List Value} : aw g 147 41 L r σ Q = aw g 147 42 L (.int 0 :: r) σ Q := (aw_eq g 147 41 _ _ _ _).trans (by rw [tq147_41]; exact rfl)
theorem tq147_42 : tT g 147 42 = s_store vI 147 43 2 := rfl
theorem A147_42 {l0 : Option Value} {l1 : Option Value} {l2 : Option Value} {x : Int32} {r : List Value} : aw g 147 42 [l0, l1, l2] (.int x :: r) σ Q = (oc l1 = true ∧ aw g 147 43 [l0, l1, some (.int x)] r σ Q) := (aw_eq g 147 42 _ _ _ _).trans (by rw [tq147_42]; exact (h_store (o := oc l1) rfl rfl rfl).trans (propext ⟨fun z => z.2, fun z => ⟨rfl, z⟩⟩))
theorem tq147_43 : tT g 147 43 = s_load vRf 147 44 1 := rfl
theorem A147_43 {l0 : Option Value} {l2 : Option Value} {x : Value} {r : List Value} : aw g 147 43 [l0, some (x), l2] r σ Q = (vRf x = true ∧ aw g 147 44 [l0, some (x), l2] (x :: r) σ Q) := (aw_eq g 147 43 _ _ _ _).trans (by rw [tq147_43]; exact h_load rfl)
theorem tq147_44 : tT g 147 44 = s_load vI 147 45 2 := rfl
theorem A147_44 {l0 : Option Value} {l1 : Option Value} {x : Int32} {r : List Value} : aw g 147 44 [l0, l1, some (.int x)] r σ Q = aw g 147 45 [l0, l1, some (.int x)] (.int x :: r) σ Q := (aw_eq g 147 44 _ _ _ _).trans (by rw [tq147_44]; exact (h_load rfl).trans (propext ⟨fun z => z.2, fun z => ⟨rfl, z⟩⟩))
theorem tq147_45 : tT g 147 45 = s_if 147 48 52 (fun a => a = 0) := rfl
theorem A147_45 {L : AL} {r : List Value} {a : Int32} : aw g 147 45 L (.int a :: r) σ Q = ((a = 0 → aw g 147 52 L r σ Q) ∧ (¬ a = 0 → aw g 147 48 L r σ Q)) := (aw_eq g 147 45 _ _ _ _).trans (by rw [tq147_45]; exact rfl)
theorem tq147_48 : tT g 147 48 = s_const 147 49 (.int 0) := rfl
theorem A147_48 {L : AL} {r : List Value} : aw g 147 48 L r σ Q = aw g 147 49 L (.int 0 :: r) σ Q := (aw_eq g 147 48 _ _ _ _).trans (by rw [tq147_48]; exact rfl)
theorem tq147_49 : tT g 147 49 = s_goto 147 56 := rfl
theorem A147_49 {L : AL} {r : List Value} : aw g 147 49 L r σ Q = aw g 147 56 L r σ Q := (aw_eq g 147 49 _ _ _ _).trans (by rw [tq147_49]; exact rfl)
theorem tq147_52 : tT g 147 52 = s_load vRf 147 53 1 := rfl
theorem A147_52 {l0 : Option Value} {l2 : Option Value} {x : Value} {r : List Value} : aw g 147 52 [l0, some (x), l2] r σ Q = (vRf x = true ∧ aw g 147 53 [l0, some (x), l2] (x :: r) σ Q) := (aw_eq g 147 52 _ _ _ _).trans (by rw [tq147_52]; exact h_load rfl)
theorem tq147_53 : tT g 147 53 = s_getf 147 56 7 7 := rfl
theorem A147_53 {L : AL} {r : List Value} {a : Nat} : aw g 147 53 L (.ref a :: r) σ Q = (hty σ a = some 7 ∧ aw g 147 56 L (hv σ 7 a 7 :: r) σ Q) := (aw_eq g 147 53 _ _ _ _).trans (by rw [tq147_53]; exact rfl)
theorem tq147_56 : tT g 147 56 = s_putf g pI 147 59 7 6 := rfl
theorem A147_56 {L : AL} {r : List Value} {a : Nat} {v : Value} : aw g 147 56 L (v :: .ref a :: r) σ Q = (hty σ a = some 7 ∧ gB g ≤ a ∧ pI v ∧ aw g 147 59 L r (hput σ 7 a 6 v) Q) := (aw_eq g 147 56 _ _ _ _).trans (by rw [tq147_56]; exact rfl)
theorem tq147_59 : tT g 147 59 = s_vret := rfl
theorem A147_59 {L : AL} : aw g 147 59 L [] σ Q = Q (.inl none) σ := (aw_eq g 147 59 _ _ _ _).trans (by rw [tq147_59]; exact rfl)
theorem tq148_0 : tT g 148 0 = s_load vRf 148 1 0 := rfl
theorem A148_0 {l1 : Option Value} {l2 : Option Value} {l3 : Option Value} {x : Value} {r : List Value} : aw g 148 0 [some (x), l1, l2, l3] r σ Q = (vRf x = true ∧ aw g 148 1 [some (x), l1, l2, l3] (x :: r) σ Q) := (aw_eq g 148 0 _ _ _ _).trans (by rw [tq148_0]; exact h_load rfl)
theorem tq148_1 : tT g 148 1 = s_const 148 2 (.int 0) := rfl
theorem A148_1 {L : AL} {r : List Value} : aw g 148 1 L r σ Q = aw g 148 2 L (.int 0 :: r) σ Q := (aw_eq g 148 1 _ _ _ _).trans (by rw [tq148_1]; exact rfl)
theorem tq148_2 : tT g 148 2 = s_putf g pI 148 5 3 0 := rfl
theorem A148_2 {L : AL} {r : List Value} {a : Nat} {v : Value} : aw g 148 2 L (v :: .ref a :: r) σ Q = (hty σ a = some 3 ∧ gB g ≤ a ∧ pI v ∧ aw g 148 5 L r (hput σ 3 a 0 v) Q) := (aw_eq g 148 2 _ _ _ _).trans (by rw [tq148_2]; exact rfl)
theorem tq148_5 : tT g 148 5 = s_load vI 148 6 1 := rfl
theorem A148_5 {l0 : Option Value} {l2 : Option Value} {l3 : Option Value} {x : Int32} {r : List Value} : aw g 148 5 [l0, some (.int x), l2, l3] r σ Q = aw g 148 6 [l0, some (.int x), l2, l3] (.int x :: r) σ Q := (aw_eq g 148 5 _ _ _ _).trans (by rw [tq148_5]; exact (h_load rfl).trans (propext ⟨fun z => z.2, fun z => ⟨rfl, z⟩⟩))
theorem tq148_6 : tT g 148 6 = s_const 148 7 (.int 1) := rfl
theorem A148_6 {L : AL} {r : List Value} : aw g 148 6 L r σ Q = aw g 148 7 L (.int 1 :: r) σ Q := (aw_eq g 148 6 _ _ _ _).trans (by rw [tq148_6]; exact rfl)
theorem tq148_7 : tT g 148 7 = s_const 148 9 (.int 10) := rfl
theorem A148_7 {L : AL} {r : List Value} : aw g 148 7 L r σ Q = aw g 148 9 L (.int 10 :: r) σ Q := (aw_eq g 148 7 _ _ _ _).trans (by rw [tq148_7]; exact rfl)
theorem tq148_9 : tT g 148 9 = s_callk 148 12 140 [0, 0, 0] 3 := rfl
theorem A148_9 {L : AL} {r : List Value} {w0 w1 w2 : Value} : aw g 148 9 L (w2 :: w1 :: w0 :: r) σ Q = ((vI w0 && (vI w1 && (vI w2 && true))) = true ∧ csum r ≤ 8 ∧ aw g 140 0 [some w0, some w1, some w2] [] σ (kt (aw g) 148 12 L r Q)) := (aw_eq g 148 9 _ _ _ _).trans (by rw [tq148_9]; exact rfl)
theorem tq148_12 : tT g 148 12 = s_if 148 21 15 (fun a => a = 0) := rfl
theorem A148_12 {L : AL} {r : List Value} {a : Int32} : aw g 148 12 L (.int a :: r) σ Q = ((a = 0 → aw g 148 15 L r σ Q) ∧ (¬ a = 0 → aw g 148 21 L r σ Q)) := (aw_eq g 148 12 _ _ _ _).trans (by rw [tq148_12]; exact rfl)
theorem tq148_15 : tT g 148 15 = s_load vRf 148 16 0 := rfl
theorem A148_15 {l1 : Option Value} {l2 : Option Value} {l3 : Option Value} {x : Value} {r : List Value} : aw g 148 15 [some (x), l1, l2, l3] r σ Q = (vRf x = true ∧ aw g 148 16 [some (x), l1, l2, l3] (x :: r) σ Q) := (aw_eq g 148 15 _ _ _ _).trans (by rw [tq148_15]; exact h_load rfl)
theorem tq148_16 : tT g 148 16 = s_const 148 17 (.int 1) := rfl
theorem A148_16 {L : AL} {r : List Value} : aw g 148 16 L r σ Q = aw g 148 17 L (.int 1 :: r) σ Q := (aw_eq g 148 16 _ _ _ _).trans (by rw [tq148_16]; exact rfl)
theorem tq148_17 : tT g 148 17 = s_callvk 148 20 141 3 [0] 2 := rfl
theorem A148_17 {L : AL} {r : List Value} {a : Nat} {w0 : Value} : aw g 148 17 L (w0 :: .ref a :: r) σ Q = (hty σ a = some 3 ∧ (vI w0 && true) = true ∧ csum r ≤ 8 ∧ aw g 141 0 [some (.ref a), some w0] [] σ (kt (aw g) 148 20 L r Q)) := (aw_eq g 148 17 _ _ _ _).trans (by rw [tq148_17]; exact rfl)
theorem tq148_20 : tT g 148 20 = s_ret pI := rfl
theorem A148_20 {L : AL} {v : Value} : aw g 148 20 L [v] σ Q = (pI v ∧ Q (.inl (some v)) σ) := (aw_eq g 148 20 _ _ _ _).trans (by rw [tq148_20]; exact rfl)
theorem tq148_21 : tT g 148 21 = s_const 148 22 (.int 0) := rfl
theorem A148_21 {L : AL} {r : List Value} : aw g 148 21 L r σ Q = aw g 148 22 L (.int 0 :: r) σ Q := (aw_eq g 148 21 _ _ _ _).trans (by rw [tq148_21]; exact rfl)
theorem tq148_22 : tT g 148 22 = s_store vI 148 23 2 := rfl
theorem A148_22 {l0 : Option Value} {l1 : Option Value} {l2 : Option Value} {l3 : Option Value} {x : Int32} {r : List Value} : aw g 148 22 [l0, l1, l2, l3] (.int x :: r) σ Q = (oc l1 = true ∧ aw g 148 23 [l0, l1, some (.int x), l3] r σ Q) := (aw_eq g 148 22 _ _ _ _).trans (by rw [tq148_22]; exact (h_store (o := oc l1) rfl rfl rfl).trans (propext ⟨fun z => z.2, fun z => ⟨rfl, z⟩⟩))
theorem tq148_23 : tT g 148 23 = s_load vRf 148 24 0 := rfl
theorem A148_23 {l1 : Option Value} {l2 : Option Value} {l3 : Option Value} {x : Value} {r : List Value} : aw g 148 23 [some (x), l1, l2, l3] r σ Q = (vRf x = true ∧ aw g 148 24 [some (x), l1, l2, l3] (x :: r) σ Q) := (aw_eq g 148 23 _ _ _ _).trans (by rw [tq148_23]; exact h_load rfl)
theorem tq148_24 : tT g 148 24 = s_getf 148 27 3 1 := rfl
theorem A148_24 {L : AL} {r : List Value} {a : Nat} : aw g 148 24 L (.ref a :: r) σ Q = (hty σ a = some 3 ∧ aw g 148 27 L (hv σ 3 a 1 :: r) σ Q) := (aw_eq g 148 24 _ _ _ _).trans (by rw [tq148_24]; exact rfl)
theorem tq148_27 : tT g 148 27 = s_getf 148 30 4 2 := rfl
theorem A148_27 {L : AL} {r : List Value} {a : Nat} : aw g 148 27 L (.ref a :: r) σ Q = (hty σ a = some 4 ∧ aw g 148 30 L (hv σ 4 a 2 :: r) σ Q) := (aw_eq g 148 27 _ _ _ _).trans (by rw [tq148_27]; exact rfl)
theorem tq148_30 : tT g 148 30 = s_const 148 31 (.int 1) := rfl
theorem A148_30 {L : AL} {r : List Value} : aw g 148 30 L r σ Q = aw g 148 31 L (.int 1 :: r) σ Q := (aw_eq g 148 30 _ _ _ _).trans (by rw [tq148_30]; exact rfl)
theorem tq148_31 : tT g 148 31 = s_bin 148 32 (fun a b => a - b) := rfl
theorem A148_31 {L : AL} {r : List Value} {a b : Int32} : aw g 148 31 L (.int b :: .int a :: r) σ Q = aw g 148 32 L (.int (a - b) :: r) σ Q := (aw_eq g 148 31 _ _ _ _).trans (by rw [tq148_31]; exact rfl)
theorem tq148_32 : tT g 148 32 = s_store vI 148 33 3 := rfl
theorem A148_32 {l0 : Option Value} {l1 : Option Value} {l2 : Option Value} {l3 : Option Value} {x : Int32} {r : List Value} : aw g 148 32 [l0, l1, l2, l3] (.int x :: r) σ Q = (oc l2 = true ∧ aw g 148 33 [l0, l1, l2, some (.int x)] r σ Q) := (aw_eq g 148 32 _ _ _ _).trans (by rw [tq148_32]; exact (h_store (o := oc l2) rfl rfl rfl).trans (propext ⟨fun z => z.2, fun z => ⟨rfl, z⟩⟩))
theorem tq148_33 : tT g 148 33 = s_load vI 148 34 3 := rfl
theorem A148_33 {l0 : Option Value} {l1 : Option Value} {l2 : Option Value} {x : Int32} {r : List Value} : aw g 148 33 [l0, l1, l2, some (.int x)] r σ Q = aw g 148 34 [l0, l1, l2, some (.int x)] (.int x :: r) σ Q := (aw_eq g 148 33 _ _ _ _).trans (by rw [tq148_33]; exact (h_load rfl).trans (propext ⟨fun z => z.2, fun z => ⟨rfl, z⟩⟩))
theorem tq148_34 : tT g 148 34 = s_load vI 148 35 1 := rfl
theorem A148_34 {l0 : Option Value} {l2 : Option Value} {l3 : Option Value} {x : Int32} {r : List Value} : aw g 148 34 [l0, some (.int x), l2, l3] r σ Q = aw g 148 35 [l0, some (.int x), l2, l3] (.int x :: r) σ Q := (aw_eq g 148 34 _ _ _ _).trans (by rw [tq148_34]; exact (h_load rfl).trans (propext ⟨fun z => z.2, fun z => ⟨rfl, z⟩⟩))
theorem tq148_35 : tT g 148 35 = s_icmp 148 38 63 (fun a b => a < b) := rfl
theorem A148_35 {L : AL} {r : List Value} {a b : Int32} : aw g 148 35 L (.int b :: .int a :: r) σ Q = ((a < b → aw g 148 63 L r σ Q) ∧ (¬ a < b → aw g 148 38 L r σ Q)) := (aw_eq g 148 35 _ _ _ _).trans (by rw [tq148_35]; exact rfl)
theorem tq148_38 : tT g 148 38 = s_load vI 148 39 2 := rfl
theorem A148_38 {l0 : Option Value} {l1 : Option Value} {l3 : Option Value} {x : Int32} {r : List Value} : aw g 148 38 [l0, l1, some (.int x), l3] r σ Q = aw g 148 39 [l0, l1, some (.int x), l3] (.int x :: r) σ Q := (aw_eq g 148 38 _ _ _ _).trans (by rw [tq148_38]; exact (h_load rfl).trans (propext ⟨fun z => z.2, fun z => ⟨rfl, z⟩⟩))
theorem tq148_39 : tT g 148 39 = s_load vRf 148 40 0 := rfl
theorem A148_39 {l1 : Option Value} {l2 : Option Value} {l3 : Option Value} {x : Value} {r : List Value} : aw g 148 39 [some (x), l1, l2, l3] r σ Q = (vRf x = true ∧ aw g 148 40 [some (x), l1, l2, l3] (x :: r) σ Q) := (aw_eq g 148 39 _ _ _ _).trans (by rw [tq148_39]; exact h_load rfl)
theorem tq148_40 : tT g 148 40 = s_getf 148 43 3 1 := rfl
theorem A148_40 {L : AL} {r : List Value} {a : Nat} : aw g 148 40 L (.ref a :: r) σ Q = (hty σ a = some 3 ∧ aw g 148 43 L (hv σ 3 a 1 :: r) σ Q) := (aw_eq g 148 40 _ _ _ _).trans (by rw [tq148_40]; exact rfl)
theorem tq148_43 : tT g 148 43 = s_load vI 148 44 3 := rfl
theorem A148_43 {l0 : Option Value} {l1 : Option Value} {l2 : Option Value} {x : Int32} {r : List Value} : aw g 148 43 [l0, l1, l2, some (.int x)] r σ Q = aw g 148 44 [l0, l1, l2, some (.int x)] (.int x :: r) σ Q := (aw_eq g 148 43 _ _ _ _).trans (by rw [tq148_43]; exact (h_load rfl).trans (propext ⟨fun z => z.2, fun z => ⟨rfl, z⟩⟩))
theorem tq148_44 : tT g 148 44 = s_callvk 148 47 179 4 [0] 3 := rfl
theorem A148_44 {L : AL} {r : List Value} {a : Nat} {w0 : Value} : aw g 148 44 L (w0 :: .ref a :: r) σ Q = (hty σ a = some 4 ∧ (vI w0 && true) = true ∧ csum r ≤ 8 ∧ aw g 179 0 [some (.ref a), some w0, none] [] σ (kt (aw g) 148 47 L r Q)) := (aw_eq g 148 44 _ _ _ _).trans (by rw [tq148_44]; exact rfl)
theorem tq148_47 : tT g 148 47 = s_if 148 50 54 (fun a => a = 0) := rfl
theorem A148_47 {L : AL} {r : List Value} {a : Int32} : aw g 148 47 L (.int a :: r) σ Q = ((a = 0 → aw g 148 54 L r σ Q) ∧ (¬ a = 0 → aw g 148 50 L r σ Q)) := (aw_eq g 148 47 _ _ _ _).trans (by rw [tq148_47]; exact rfl)
theorem tq148_50 : tT g 148 50 = s_const 148 51 (.int 1) := rfl
theorem A148_50 {L : AL} {r : List Value} : aw g 148 50 L r σ Q = aw g 148 51 L (.int 1 :: r) σ Q := (aw_eq g 148 50 _ _ _ _).trans (by rw [tq148_50]; exact rfl)
theorem tq148_51 : tT g 148 51 = s_goto 148 55 := rfl
theorem A148_51 {L : AL} {r : List Value} : aw g 148 51 L r σ Q = aw g 148 55 L r σ Q := (aw_eq g 148 51 _ _ _ _).trans (by rw [tq148_51]; exact rfl)
theorem tq148_54 : tT g 148 54 = s_const 148 55 (.int 0) := rfl
theorem A148_54 {L : AL} {r : List Value} : aw g 148 54 L r σ Q = aw g 148 55 L (.int 0 :: r) σ Q := (aw_eq g 148 54 _ _ _ _).trans (by rw [tq148_54]; exact rfl)
theorem tq148_55 : tT g 148 55 = s_bin 148 56 (fun a b => a + b) := rfl
theorem A148_55 {L : AL} {r : List Value} {a b : Int32} : aw g 148 55 L (.int b :: .int a :: r) σ Q = aw g 148 56 L (.int (a + b) :: r) σ Q := (aw_eq g 148 55 _ _ _ _).trans (by rw [tq148_55]; exact rfl)
theorem tq148_56 : tT g 148 56 = s_store vI 148 57 2 := rfl
theorem A148_56 {l0 : Option Value} {l1 : Option Value} {l2 : Option Value} {l3 : Option Value} {x : Int32} {r : List Value} : aw g 148 56 [l0, l1, l2, l3] (.int x :: r) σ Q = (oc l1 = true ∧ aw g 148 57 [l0, l1, some (.int x), l3] r σ Q) := (aw_eq g 148 56 _ _ _ _).trans (by rw [tq148_56]; exact (h_store (o := oc l1) rfl rfl rfl).trans (propext ⟨fun z => z.2, fun z => ⟨rfl, z⟩⟩))
theorem tq148_57 : tT g 148 57 = s_iinc 148 60 3 (-1) := rfl
theorem A148_57 {l0 : Option Value} {l1 : Option Value} {l2 : Option Value} {x : Int32} {r : List Value} : aw g 148 57 [l0, l1, l2, some (.int x)] r σ Q = (oc l2 = true ∧ aw g 148 60 [l0, l1, l2, some (.int (x + (-1)))] r σ Q) := (aw_eq g 148 57 _ _ _ _).trans (by rw [tq148_57]; exact (h_iinc (o := oc l2) rfl rfl rfl))
theorem tq148_60 : tT g 148 60 = s_goto 148 33 := rfl
theorem A148_60 {L : AL} {r : List Value} : aw g 148 60 L r σ Q = aw g 148 33 L r σ Q := (aw_eq g 148 60 _ _ _ _).trans (by rw [tq148_60]; exact rfl)
theorem tq148_63 : tT g 148 63 = s_load vRf 148 64 0 := rfl
theorem A148_63 {l1 : Option Value} {l2 : Option Value} {l3 : Option Value} {x : Value} {r : List Value} : aw g 148 63 [some (x), l1, l2, l3] r σ Q = (vRf x = true ∧ aw g 148 64 [some (x), l1, l2, l3] (x :: r) σ Q) := (aw_eq g 148 63 _ _ _ _).trans (by rw [tq148_63]; exact h_load rfl)
theorem tq148_64 : tT g 148 64 = s_getf 148 67 3 1 := rfl
theorem A148_64 {L : AL} {r : List Value} {a : Nat} : aw g 148 64 L (.ref a :: r) σ Q = (hty σ a = some 3 ∧ aw g 148 67 L (hv σ 3 a 1 :: r) σ Q) := (aw_eq g 148 64 _ _ _ _).trans (by rw [tq148_64]; exact rfl)
theorem tq148_67 : tT g 148 67 = s_load vI 148 68 1 := rfl
theorem A148_67 {l0 : Option Value} {l2 : Option Value} {l3 : Option Value} {x : Int32} {r : List Value} : aw g 148 67 [l0, some (.int x), l2, l3] r σ Q = aw g 148 68 [l0, some (.int x), l2, l3] (.int x :: r) σ Q := (aw_eq g 148 67 _ _ _ _).trans (by rw [tq148_67]; exact (h_load rfl).trans (propext ⟨fun z => z.2, fun z => ⟨rfl, z⟩⟩))
theorem tq148_68 : tT g 148 68 = s_putf g pI 148 71 4 2 := rfl
theorem A148_68 {L : AL} {r : List Value} {a : Nat} {v : Value} : aw g 148 68 L (v :: .ref a :: r) σ Q = (hty σ a = some 4 ∧ gB g ≤ a ∧ pI v ∧ aw g 148 71 L r (hput σ 4 a 2 v) Q) := (aw_eq g 148 68 _ _ _ _).trans (by rw [tq148_68]; exact rfl)
theorem tq148_71 : tT g 148 71 = s_load vI 148 72 2 := rfl
theorem A148_71 {l0 : Option Value} {l1 : Option Value} {l3 : Option Value} {x : Int32} {r : List Value} : aw g 148 71 [l0, l1, some (.int x), l3] r σ Q = aw g 148 72 [l0, l1, some (.int x), l3] (.int x :: r) σ Q := (aw_eq g 148 71 _ _ _ _).trans (by rw [tq148_71]; exact (h_load rfl).trans (propext ⟨fun z => z.2, fun z => ⟨rfl, z⟩⟩))
theorem tq148_72 : tT g 148 72 = s_ret pI := rfl
theorem A148_72 {L : AL} {v : Value} : aw g 148 72 L [v] σ Q = (pI v ∧ Q (.inl (some v)) σ) := (aw_eq g 148 72 _ _ _ _).trans (by rw [tq148_72]; exact rfl)
theorem tq149_0 : tT g 149 0 = s_load vRf 149 1 0 := rfl
theorem A149_0 {l1 : Option Value} {l2 : Option Value} {l3 : Option Value} {l4 : Option Value} {l5 : Option Value} {l6 : Option Value} {l7 : Option Value} {x : Value} {r : List Value} : aw g 149 0 [some (x), l1, l2, l3, l4, l5, l6, l7] r σ Q = (vRf x = true ∧ aw g 149 1 [some (x), l1, l2, l3, l4, l5, l6, l7] (x :: r) σ Q) := (aw_eq g 149 0 _ _ _ _).trans (by rw [tq149_0]; exact h_load rfl)
theorem tq149_1 : tT g 149 1 = s_const 149 2 (.int 0) := rfl
theorem A149_1 {L : AL} {r : List Value} : aw g 149 1 L r σ Q = aw g 149 2 L (.int 0 :: r) σ Q := (aw_eq g 149 1 _ _ _ _).trans (by rw [tq149_1]; exact rfl)
theorem tq149_2 : tT g 149 2 = s_putf g pI 149 5 3 0 := rfl
theorem A149_2 {L : AL} {r : List Value} {a : Nat} {v : Value} : aw g 149 2 L (v :: .ref a :: r) σ Q = (hty σ a = some 3 ∧ gB g ≤ a ∧ pI v ∧ aw g 149 5 L r (hput σ 3 a 0 v) Q) := (aw_eq g 149 2 _ _ _ _).trans (by rw [tq149_2]; exact rfl)
theorem tq149_5 : tT g 149 5 = s_load vRf 149 6 0 := rfl
theorem A149_5 {l1 : Option Value} {l2 : Option Value} {l3 : Option Value} {l4 : Option Value} {l5 : Option Value} {l6 : Option Value} {l7 : Option Value} {x : Value} {r : List Value} : aw g 149 5 [some (x), l1, l2, l3, l4, l5, l6, l7] r σ Q = (vRf x = true ∧ aw g 149 6 [some (x), l1, l2, l3, l4, l5, l6, l7] (x :: r) σ Q) := (aw_eq g 149 5 _ _ _ _).trans (by rw [tq149_5]; exact h_load rfl)
theorem tq149_6 : tT g 149 6 = s_load vI 149 7 1 := rfl
theorem A149_6 {l0 : Option Value} {l2 : Option Value} {l3 : Option Value} {l4 : Option Value} {l5 : Option Value} {l6 : Option Value} {l7 : Option Value} {x : Int32} {r : List Value} : aw g 149 6 [l0, some (.int x), l2, l3, l4, l5, l6, l7] r σ Q = aw g 149 7 [l0, some (.int x), l2, l3, l4, l5, l6, l7] (.int x :: r) σ Q := (aw_eq g 149 6 _ _ _ _).trans (by rw [tq149_6]; exact (h_load rfl).trans (propext ⟨fun z => z.2, fun z => ⟨rfl, z⟩⟩))
theorem tq149_7 : tT g 149 7 = s_callvk 149 10 143 3 [0] 2 := rfl
theorem A149_7 {L : AL} {r : List Value} {a : Nat} {w0 : Value} : aw g 149 7 L (w0 :: .ref a :: r) σ Q = (hty σ a = some 3 ∧ (vI w0 && true) = true ∧ csum r ≤ 8 ∧ aw g 143 0 [some (.ref a), some w0] [] σ (kt (aw g) 149 10 L r Q)) := (aw_eq g 149 7 _ _ _ _).trans (by rw [tq149_7]; exact rfl)
theorem tq149_10 : tT g 149 10 = s_if 149 19 13 (fun a => a = 0) := rfl
theorem A149_10 {L : AL} {r : List Value} {a : Int32} : aw g 149 10 L (.int a :: r) σ Q = ((a = 0 → aw g 149 13 L r σ Q) ∧ (¬ a = 0 → aw g 149 19 L r σ Q)) := (aw_eq g 149 10 _ _ _ _).trans (by rw [tq149_10]; exact rfl)
theorem tq149_13 : tT g 149 13 = s_load vRf 149 14 0 := rfl
theorem A149_13 {l1 : Option Value} {l2 : Option Value} {l3 : Option Value} {l4 : Option Value} {l5 : Option Value} {l6 : Option Value} {l7 : Option Value} {x : Value} {r : List Value} : aw g 149 13 [some (x), l1, l2, l3, l4, l5, l6, l7] r σ Q = (vRf x = true ∧ aw g 149 14 [some (x), l1, l2, l3, l4, l5, l6, l7] (x :: r) σ Q) := (aw_eq g 149 13 _ _ _ _).trans (by rw [tq149_13]; exact h_load rfl)
theorem tq149_14 : tT g 149 14 = s_const 149 15 (.int 1) := rfl
theorem A149_14 {L : AL} {r : List Value} : aw g 149 14 L r σ Q = aw g 149 15 L (.int 1 :: r) σ Q := (aw_eq g 149 14 _ _ _ _).trans (by rw [tq149_14]; exact rfl)
theorem tq149_15 : tT g 149 15 = s_callvk 149 18 141 3 [0] 2 := rfl
theorem A149_15 {L : AL} {r : List Value} {a : Nat} {w0 : Value} : aw g 149 15 L (w0 :: .ref a :: r) σ Q = (hty σ a = some 3 ∧ (vI w0 && true) = true ∧ csum r ≤ 8 ∧ aw g 141 0 [some (.ref a), some w0] [] σ (kt (aw g) 149 18 L r Q)) := (aw_eq g 149 15 _ _ _ _).trans (by rw [tq149_15]; exact rfl)
theorem tq149_18 : tT g 149 18 = s_ret pI := rfl
theorem A149_18 {L : AL} {v : Value} : aw g 149 18 L [v] σ Q = (pI v ∧ Q (.inl (some v)) σ) := (aw_eq g 149 18 _ _ _ _).trans (by rw [tq149_18]; exact rfl)
theorem tq149_19 : tT g 149 19 = s_load vI 149 20 2 := rfl
theorem A149_19 {l0 : Option Value} {l1 : Option Value} {l3 : Option Value} {l4 : Option Value} {l5 : Option Value} {l6 : Option Value} {l7 : Option Value} {x : Int32} {r : List Value} : aw g 149 19 [l0, l1, some (.int x), l3, l4, l5, l6, l7] r σ Q = aw g 149 20 [l0, l1, some (.int x), l3, l4, l5, l6, l7] (.int x :: r) σ Q := (aw_eq g 149 19 _ _ _ _).trans (by rw [tq149_19]; exact (h_load rfl).trans (propext ⟨fun z => z.2, fun z => ⟨rfl, z⟩⟩))
theorem tq149_20 : tT g 149 20 = s_const 149 21 (.int 1) := rfl
theorem A149_20 {L : AL} {r : List Value} : aw g 149 20 L r σ Q = aw g 149 21 L (.int 1 :: r) σ Q := (aw_eq g 149 20 _ _ _ _).trans (by rw [tq149_20]; exact rfl)
theorem tq149_21 : tT g 149 21 = s_const 149 23 (.int 6) := rfl
theorem A149_21 {L : AL} {r : List Value} : aw g 149 21 L r σ Q = aw g 149 23 L (.int 6 :: r) σ Q := (aw_eq g 149 21 _ _ _ _).trans (by rw [tq149_21]; exact rfl)
theorem tq149_23 : tT g 149 23 = s_callk 149 26 140 [0, 0, 0] 3 := rfl
theorem A149_23 {L : AL} {r : List Value} {w0 w1 w2 : Value} : aw g 149 23 L (w2 :: w1 :: w0 :: r) σ Q = ((vI w0 && (vI w1 && (vI w2 && true))) = true ∧ csum r ≤ 8 ∧ aw g 140 0 [some w0, some w1, some w2] [] σ (kt (aw g) 149 26 L r Q)) := (aw_eq g 149 23 _ _ _ _).trans (by rw [tq149_23]; exact rfl)
theorem tq149_26 : tT g 149 26 = s_if 149 35 29 (fun a => a = 0) := rfl
theorem A149_26 {L : AL} {r : List Value} {a : Int32} : aw g 149 26 L (.int a :: r) σ Q = ((a = 0 → aw g 149 29 L r σ Q) ∧ (¬ a = 0 → aw g 149 35 L r σ Q)) := (aw_eq g 149 26 _ _ _ _).trans (by rw [tq149_26]; exact rfl)
theorem tq149_29 : tT g 149 29 = s_load vRf 149 30 0 := rfl
theorem A149_29 {l1 : Option Value} {l2 : Option Value} {l3 : Option Value} {l4 : Option Value} {l5 : Option Value} {l6 : Option Value} {l7 : Option Value} {x : Value} {r : List Value} : aw g 149 29 [some (x), l1, l2, l3, l4, l5, l6, l7] r σ Q = (vRf x = true ∧ aw g 149 30 [some (x), l1, l2, l3, l4, l5, l6, l7] (x :: r) σ Q) := (aw_eq g 149 29 _ _ _ _).trans (by rw [tq149_29]; exact h_load rfl)
theorem tq149_30 : tT g 149 30 = s_const 149 31 (.int 2) := rfl
theorem A149_30 {L : AL} {r : List Value} : aw g 149 30 L r σ Q = aw g 149 31 L (.int 2 :: r) σ Q := (aw_eq g 149 30 _ _ _ _).trans (by rw [tq149_30]; exact rfl)
theorem tq149_31 : tT g 149 31 = s_callvk 149 34 141 3 [0] 2 := rfl
theorem A149_31 {L : AL} {r : List Value} {a : Nat} {w0 : Value} : aw g 149 31 L (w0 :: .ref a :: r) σ Q = (hty σ a = some 3 ∧ (vI w0 && true) = true ∧ csum r ≤ 8 ∧ aw g 141 0 [some (.ref a), some w0] [] σ (kt (aw g) 149 34 L r Q)) := (aw_eq g 149 31 _ _ _ _).trans (by rw [tq149_31]; exact rfl)
theorem tq149_34 : tT g 149 34 = s_ret pI := rfl
theorem A149_34 {L : AL} {v : Value} : aw g 149 34 L [v] σ Q = (pI v ∧ Q (.inl (some v)) σ) := (aw_eq g 149 34 _ _ _ _).trans (by rw [tq149_34]; exact rfl)
theorem tq149_35 : tT g 149 35 = s_load vRf 149 36 0 := rfl
theorem A149_35 {l1 : Option Value} {l2 : Option Value} {l3 : Option Value} {l4 : Option Value} {l5 : Option Value} {l6 : Option Value} {l7 : Option Value} {x : Value} {r : List Value} : aw g 149 35 [some (x), l1, l2, l3, l4, l5, l6, l7] r σ Q = (vRf x = true ∧ aw g 149 36 [some (x), l1, l2, l3, l4, l5, l6, l7] (x :: r) σ Q) := (aw_eq g 149 35 _ _ _ _).trans (by rw [tq149_35]; exact h_load rfl)
theorem tq149_36 : tT g 149 36 = s_getf 149 39 3 1 := rfl
theorem A149_36 {L : AL} {r : List Value} {a : Nat} : aw g 149 36 L (.ref a :: r) σ Q = (hty σ a = some 3 ∧ aw g 149 39 L (hv σ 3 a 1 :: r) σ Q) := (aw_eq g 149 36 _ _ _ _).trans (by rw [tq149_36]; exact rfl)
theorem tq149_39 : tT g 149 39 = s_getf 149 42 4 0 := rfl
theorem A149_39 {L : AL} {r : List Value} {a : Nat} : aw g 149 39 L (.ref a :: r) σ Q = (hty σ a = some 4 ∧ aw g 149 42 L (hv σ 4 a 0 :: r) σ Q) := (aw_eq g 149 39 _ _ _ _).trans (by rw [tq149_39]; exact rfl)
theorem tq149_42 : tT g 149 42 = s_load vI 149 43 1 := rfl
theorem A149_42 {l0 : Option Value} {l2 : Option Value} {l3 : Option Value} {l4 : Option Value} {l5 : Option Value} {l6 : Option Value} {l7 : Option Value} {x : Int32} {r : List Value} : aw g 149 42 [l0, some (.int x), l2, l3, l4, l5, l6, l7] r σ Q = aw g 149 43 [l0, some (.int x), l2, l3, l4, l5, l6, l7] (.int x :: r) σ Q := (aw_eq g 149 42 _ _ _ _).trans (by rw [tq149_42]; exact (h_load rfl).trans (propext ⟨fun z => z.2, fun z => ⟨rfl, z⟩⟩))
theorem tq149_43 : tT g 149 43 = s_callvk 149 46 25 10 [0] 2 := rfl
theorem A149_43 {L : AL} {r : List Value} {a : Nat} {w0 : Value} : aw g 149 43 L (w0 :: .ref a :: r) σ Q = (hty σ a = some 10 ∧ (vI w0 && true) = true ∧ csum r ≤ 8 ∧ aw g 25 0 [some (.ref a), some w0] [] σ (kt (aw g) 149 46 L r Q)) := (aw_eq g 149 43 _ _ _ _).trans (by rw [tq149_43]; exact rfl)
theorem tq149_46 : tT g 149 46 = s_cast 149 49 [7] := rfl
theorem A149_46 {L : AL} {r : List Value} : aw g 149 46 L (.null :: r) σ Q = aw g 149 49 L (.null :: r) σ Q := (aw_eq g 149 46 _ _ _ _).trans (by rw [tq149_46]; exact rfl)
theorem A149_46r {L : AL} {r : List Value} {a : Nat} : aw g 149 46 L (.ref a :: r) σ Q = (hty σ a = some 7 ∧ aw g 149 49 L (.ref a :: r) σ Q) := (aw_eq g 149 46 _ _ _ _).trans (by rw [tq149_46]; exact propext ⟨fun z => (by obtain ⟨⟨u, hu, hu2⟩, z2⟩ := z; rw [List.mem_singleton] at hu; subst hu; exact ⟨hu2, z2⟩), fun z => ⟨⟨_, List.mem_cons_self, z.1⟩, z.2⟩⟩)
theorem tq149_49 : tT g 149 49 = s_store vRf 149 50 3 := rfl
theorem A149_49 {l0 : Option Value} {l1 : Option Value} {l2 : Option Value} {l3 : Option Value} {l4 : Option Value} {l5 : Option Value} {l6 : Option Value} {l7 : Option Value} {x : Value} {r : List Value} : aw g 149 49 [l0, l1, l2, l3, l4, l5, l6, l7] (x :: r) σ Q = (vRf x = true ∧ oc l2 = true ∧ aw g 149 50 [l0, l1, l2, some (x), l4, l5, l6, l7] r σ Q) := (aw_eq g 149 49 _ _ _ _).trans (by rw [tq149_49]; exact (h_store (o := oc l2) rfl rfl rfl))
theorem tq149_50 : tT g 149 50 = s_load vRf 149 51 3 := rfl
theorem A149_50 {l0 : Option Value} {l1 : Option Value} {l2 : Option Value} {l4 : Option Value} {l5 : Option Value} {l6 : Option Value} {l7 : Option Value} {x : Value} {r : List Value} : aw g 149 50 [l0, l1, l2, some (x), l4, l5, l6, l7] r σ Q = (vRf x = true ∧ aw g 149 51 [l0, l1, l2, some (x), l4, l5, l6, l7] (x :: r) σ Q) := (aw_eq g 149 50 _ _ _ _).trans (by rw [tq149_50]; exact h_load rfl)
theorem tq149_51 : tT g 149 51 = s_getf 149 54 7 6 := rfl
theorem A149_51 {L : AL} {r : List Value} {a : Nat} : aw g 149 51 L (.ref a :: r) σ Q = (hty σ a = some 7 ∧ aw g 149 54 L (hv σ 7 a 6 :: r) σ Q) := (aw_eq g 149 51 _ _ _ _).trans (by rw [tq149_51]; exact rfl)
theorem tq149_54 : tT g 149 54 = s_const 149 55 (.int 4) := rfl
theorem A149_54 {L : AL} {r : List Value} : aw g 149 54 L r σ Q = aw g 149 55 L (.int 4 :: r) σ Q := (aw_eq g 149 54 _ _ _ _).trans (by rw [tq149_54]; exact rfl)
theorem tq149_55 : tT g 149 55 = s_icmp 149 64 58 (fun a b => a = b) := rfl
theorem A149_55 {L : AL} {r : List Value} {a b : Int32} : aw g 149 55 L (.int b :: .int a :: r) σ Q = ((a = b → aw g 149 58 L r σ Q) ∧ (¬ a = b → aw g 149 64 L r σ Q)) := (aw_eq g 149 55 _ _ _ _).trans (by rw [tq149_55]; exact rfl)
theorem tq149_58 : tT g 149 58 = s_load vRf 149 59 0 := rfl
theorem A149_58 {l1 : Option Value} {l2 : Option Value} {l3 : Option Value} {l4 : Option Value} {l5 : Option Value} {l6 : Option Value} {l7 : Option Value} {x : Value} {r : List Value} : aw g 149 58 [some (x), l1, l2, l3, l4, l5, l6, l7] r σ Q = (vRf x = true ∧ aw g 149 59 [some (x), l1, l2, l3, l4, l5, l6, l7] (x :: r) σ Q) := (aw_eq g 149 58 _ _ _ _).trans (by rw [tq149_58]; exact h_load rfl)
theorem tq149_59 : tT g 149 59 = s_const 149 60 (.int 3) := rfl
theorem A149_59 {L : AL} {r : List Value} : aw g 149 59 L r σ Q = aw g 149 60 L (.int 3 :: r) σ Q := (aw_eq g 149 59 _ _ _ _).trans (by rw [tq149_59]; exact rfl)
theorem tq149_60 : tT g 149 60 = s_callvk 149 63 141 3 [0] 2 := rfl
theorem A149_60 {L : AL} {r : List Value} {a : Nat} {w0 : Value} : aw g 149 60 L (w0 :: .ref a :: r) σ Q = (hty σ a = some 3 ∧ (vI w0 && true) = true ∧ csum r ≤ 8 ∧ aw g 141 0 [some (.ref a), some w0] [] σ (kt (aw g) 149 63 L r Q)) := (aw_eq g 149 60 _ _ _ _).trans (by rw [tq149_60]; exact rfl)
theorem tq149_63 : tT g 149 63 = s_ret pI := rfl
theorem A149_63 {L : AL} {v : Value} : aw g 149 63 L [v] σ Q = (pI v ∧ Q (.inl (some v)) σ) := (aw_eq g 149 63 _ _ _ _).trans (by rw [tq149_63]; exact rfl)
theorem tq149_64 : tT g 149 64 = s_load vI 149 65 2 := rfl
theorem A149_64 {l0 : Option Value} {l1 : Option Value} {l3 : Option Value} {l4 : Option Value} {l5 : Option Value} {l6 : Option Value} {l7 : Option Value} {x : Int32} {r : List Value} : aw g 149 64 [l0, l1, some (.int x), l3, l4, l5, l6, l7] r σ Q = aw g 149 65 [l0, l1, some (.int x), l3, l4, l5, l6, l7] (.int x :: r) σ Q := (aw_eq g 149 64 _ _ _ _).trans (by rw [tq149_64]; exact (h_load rfl).trans (propext ⟨fun z => z.2, fun z => ⟨rfl, z⟩⟩))
theorem tq149_65 : tT g 149 65 = s_load vRf 149 66 3 := rfl
theorem A149_65 {l0 : Option Value} {l1 : Option Value} {l2 : Option Value} {l4 : Option Value} {l5 : Option Value} {l6 : Option Value} {l7 : Option Value} {x : Value} {r : List Value} : aw g 149 65 [l0, l1, l2, some (x), l4, l5, l6, l7] r σ Q = (vRf x = true ∧ aw g 149 66 [l0, l1, l2, some (x), l4, l5, l6, l7] (x :: r) σ Q) := (aw_eq g 149 65 _ _ _ _).trans (by rw [tq149_65]; exact h_load rfl)
theorem tq149_66 : tT g 149 66 = s_const 149 67 (.int 0) := rfl
theorem A149_66 {L : AL} {r : List Value} : aw g 149 66 L r σ Q = aw g 149 67 L (.int 0 :: r) σ Q := (aw_eq g 149 66 _ _ _ _).trans (by rw [tq149_66]; exact rfl)
theorem tq149_67 : tT g 149 67 = s_callvk 149 70 206 7 [0] 4 := rfl
theorem A149_67 {L : AL} {r : List Value} {a : Nat} {w0 : Value} : aw g 149 67 L (w0 :: .ref a :: r) σ Q = (hty σ a = some 7 ∧ (vI w0 && true) = true ∧ csum r ≤ 8 ∧ aw g 206 0 [some (.ref a), some w0, none, none] [] σ (kt (aw g) 149 70 L r Q)) := (aw_eq g 149 67 _ _ _ _).trans (by rw [tq149_67]; exact rfl)
theorem tq149_70 : tT g 149 70 = s_callk 149 73 35 [0, 0] 2 := rfl
theorem A149_70 {L : AL} {r : List Value} {w0 w1 : Value} : aw g 149 70 L (w1 :: w0 :: r) σ Q = ((vI w0 && (vI w1 && true)) = true ∧ csum r ≤ 8 ∧ aw g 35 0 [some w0, some w1] [] σ (kt (aw g) 149 73 L r Q)) := (aw_eq g 149 70 _ _ _ _).trans (by rw [tq149_70]; exact rfl)
theorem tq149_73 : tT g 149 73 = s_store vI 149 75 4 := rfl
theorem A149_73 {l0 : Option Value} {l1 : Option Value} {l2 : Option Value} {l3 : Option Value} {l4 : Option Value} {l5 : Option Value} {l6 : Option Value} {l7 : Option Value} {x : Int32} {r : List Value} : aw g 149 73 [l0, l1, l2, l3, l4, l5, l6, l7] (.int x :: r) σ Q = (oc l3 = true ∧ aw g 149 75 [l0, l1, l2, l3, some (.int x), l5, l6, l7] r σ Q) := (aw_eq g 149 73 _ _ _ _).trans (by rw [tq149_73]; exact (h_store (o := oc l3) rfl rfl rfl).trans (propext ⟨fun z => z.2, fun z => ⟨rfl, z⟩⟩))
theorem tq149_75 : tT g 149 75 = s_const 149 76 (.int 0) := rfl
theorem A149_75 {L : AL} {r : List Value} : aw g 149 75 L r σ Q = aw g 149 76 L (.int 0 :: r) σ Q := (aw_eq g 149 75 _ _ _ _).trans (by rw [tq149_75]; exact rfl)
theorem tq149_76 : tT g 149 76 = s_store vI 149 78 5 := rfl
theorem A149_76 {l0 : Option Value} {l1 : Option Value} {l2 : Option Value} {l3 : Option Value} {l4 : Option Value} {l5 : Option Value} {l6 : Option Value} {l7 : Option Value} {x : Int32} {r : List Value} : aw g 149 76 [l0, l1, l2, l3, l4, l5, l6, l7] (.int x :: r) σ Q = (oc l4 = true ∧ aw g 149 78 [l0, l1, l2, l3, l4, some (.int x), l6, l7] r σ Q) := (aw_eq g 149 76 _ _ _ _).trans (by rw [tq149_76]; exact (h_store (o := oc l4) rfl rfl rfl).trans (propext ⟨fun z => z.2, fun z => ⟨rfl, z⟩⟩))
theorem tq149_78 : tT g 149 78 = s_load vI 149 80 5 := rfl
theorem A149_78 {l0 : Option Value} {l1 : Option Value} {l2 : Option Value} {l3 : Option Value} {l4 : Option Value} {l6 : Option Value} {l7 : Option Value} {x : Int32} {r : List Value} : aw g 149 78 [l0, l1, l2, l3, l4, some (.int x), l6, l7] r σ Q = aw g 149 80 [l0, l1, l2, l3, l4, some (.int x), l6, l7] (.int x :: r) σ Q := (aw_eq g 149 78 _ _ _ _).trans (by rw [tq149_78]; exact (h_load rfl).trans (propext ⟨fun z => z.2, fun z => ⟨rfl, z⟩⟩))
theorem tq149_80 : tT g 149 80 = s_load vI 149 82 4 := rfl
theorem A149_80 {l0 : Option Value} {l1 : Option Value} {l2 : Option Value} {l3 : Option Value} {l5 : Option Value} {l6 : Option Value} {l7 : Option Value} {x : Int32} {r : List Value} : aw g 149 80 [l0, l1, l2, l3, some (.int x), l5, l6, l7] r σ Q = aw g 149 82 [l0, l1, l2, l3, some (.int x), l5, l6, l7] (.int x :: r) σ Q := (aw_eq g 149 80 _ _ _ _).trans (by rw [tq149_80]; exact (h_load rfl).trans (propext ⟨fun z => z.2, fun z => ⟨rfl, z⟩⟩))
theorem tq149_82 : tT g 149 82 = s_icmp 149 85 212 (fun a b => b ≤ a) := rfl
theorem A149_82 {L : AL} {r : List Value} {a b : Int32} : aw g 149 82 L (.int b :: .int a :: r) σ Q = ((b ≤ a → aw g 149 212 L r σ Q) ∧ (¬ b ≤ a → aw g 149 85 L r σ Q)) := (aw_eq g 149 82 _ _ _ _).trans (by rw [tq149_82]; exact rfl)
theorem tq149_85 : tT g 149 85 = s_const 149 86 (.int (-1)) := rfl
theorem A149_85 {L : AL} {r : List Value} : aw g 149 85 L r σ Q = aw g 149 86 L (.int (-1) :: r) σ Q := (aw_eq g 149 85 _ _ _ _).trans (by rw [tq149_85]; exact rfl)
theorem tq149_86 : tT g 149 86 = s_store vI 149 88 6 := rfl
theorem A149_86 {l0 : Option Value} {l1 : Option Value} {l2 : Option Value} {l3 : Option Value} {l4 : Option Value} {l5 : Option Value} {l6 : Option Value} {l7 : Option Value} {x : Int32} {r : List Value} : aw g 149 86 [l0, l1, l2, l3, l4, l5, l6, l7] (.int x :: r) σ Q = (oc l5 = true ∧ aw g 149 88 [l0, l1, l2, l3, l4, l5, some (.int x), l7] r σ Q) := (aw_eq g 149 86 _ _ _ _).trans (by rw [tq149_86]; exact (h_store (o := oc l5) rfl rfl rfl).trans (propext ⟨fun z => z.2, fun z => ⟨rfl, z⟩⟩))
theorem tq149_88 : tT g 149 88 = s_const 149 89 (.int 0) := rfl
theorem A149_88 {L : AL} {r : List Value} : aw g 149 88 L r σ Q = aw g 149 89 L (.int 0 :: r) σ Q := (aw_eq g 149 88 _ _ _ _).trans (by rw [tq149_88]; exact rfl)
theorem tq149_89 : tT g 149 89 = s_store vI 149 91 7 := rfl
theorem A149_89 {l0 : Option Value} {l1 : Option Value} {l2 : Option Value} {l3 : Option Value} {l4 : Option Value} {l5 : Option Value} {l6 : Option Value} {l7 : Option Value} {x : Int32} {r : List Value} : aw g 149 89 [l0, l1, l2, l3, l4, l5, l6, l7] (.int x :: r) σ Q = (oc l6 = true ∧ aw g 149 91 [l0, l1, l2, l3, l4, l5, l6, some (.int x)] r σ Q) := (aw_eq g 149 89 _ _ _ _).trans (by rw [tq149_89]; exact (h_store (o := oc l6) rfl rfl rfl).trans (propext ⟨fun z => z.2, fun z => ⟨rfl, z⟩⟩))
theorem tq149_91 : tT g 149 91 = s_load vI 149 93 7 := rfl
theorem A149_91 {l0 : Option Value} {l1 : Option Value} {l2 : Option Value} {l3 : Option Value} {l4 : Option Value} {l5 : Option Value} {l6 : Option Value} {x : Int32} {r : List Value} : aw g 149 91 [l0, l1, l2, l3, l4, l5, l6, some (.int x)] r σ Q = aw g 149 93 [l0, l1, l2, l3, l4, l5, l6, some (.int x)] (.int x :: r) σ Q := (aw_eq g 149 91 _ _ _ _).trans (by rw [tq149_91]; exact (h_load rfl).trans (propext ⟨fun z => z.2, fun z => ⟨rfl, z⟩⟩))
theorem tq149_93 : tT g 149 93 = s_const 149 95 (.int 6) := rfl
theorem A149_93 {L : AL} {r : List Value} : aw g 149 93 L r σ Q = aw g 149 95 L (.int 6 :: r) σ Q := (aw_eq g 149 93 _ _ _ _).trans (by rw [tq149_93]; exact rfl)
theorem tq149_95 : tT g 149 95 = s_icmp 149 98 141 (fun a b => b ≤ a) := rfl
theorem A149_95 {L : AL} {r : List Value} {a b : Int32} : aw g 149 95 L (.int b :: .int a :: r) σ Q = ((b ≤ a → aw g 149 141 L r σ Q) ∧ (¬ b ≤ a → aw g 149 98 L r σ Q)) := (aw_eq g 149 95 _ _ _ _).trans (by rw [tq149_95]; exact rfl)
theorem tq149_98 : tT g 149 98 = s_load vRf 149 99 3 := rfl
theorem A149_98 {l0 : Option Value} {l1 : Option Value} {l2 : Option Value} {l4 : Option Value} {l5 : Option Value} {l6 : Option Value} {l7 : Option Value} {x : Value} {r : List Value} : aw g 149 98 [l0, l1, l2, some (x), l4, l5, l6, l7] r σ Q = (vRf x = true ∧ aw g 149 99 [l0, l1, l2, some (x), l4, l5, l6, l7] (x :: r) σ Q) := (aw_eq g 149 98 _ _ _ _).trans (by rw [tq149_98]; exact h_load rfl)
theorem tq149_99 : tT g 149 99 = s_getf 149 102 7 14 := rfl
theorem A149_99 {L : AL} {r : List Value} {a : Nat} : aw g 149 99 L (.ref a :: r) σ Q = (hty σ a = some 7 ∧ aw g 149 102 L (hv σ 7 a 14 :: r) σ Q) := (aw_eq g 149 99 _ _ _ _).trans (by rw [tq149_99]; exact rfl)
theorem tq149_102 : tT g 149 102 = s_load vI 149 104 7 := rfl
theorem A149_102 {l0 : Option Value} {l1 : Option Value} {l2 : Option Value} {l3 : Option Value} {l4 : Option Value} {l5 : Option Value} {l6 : Option Value} {x : Int32} {r : List Value} : aw g 149 102 [l0, l1, l2, l3, l4, l5, l6, some (.int x)] r σ Q = aw g 149 104 [l0, l1, l2, l3, l4, l5, l6, some (.int x)] (.int x :: r) σ Q := (aw_eq g 149 102 _ _ _ _).trans (by rw [tq149_102]; exact (h_load rfl).trans (propext ⟨fun z => z.2, fun z => ⟨rfl, z⟩⟩))
theorem tq149_104 : tT g 149 104 = s_ald 149 105 20 := rfl
theorem A149_104 {L : AL} {r : List Value} {a : Nat} {i : Int32} : aw g 149 104 L (.int i :: .ref a :: r) σ Q = (hty σ a = some 20 ∧ ¬ i < 0 ∧ i.toNatClampNeg < hln σ a ∧ aw g 149 105 L (hv σ 20 a i.toNatClampNeg :: r) σ Q) := (aw_eq g 149 104 _ _ _ _).trans (by rw [tq149_104]; exact rfl)
theorem tq149_105 : tT g 149 105 = s_if 149 135 108 (fun a => a = 0) := rfl
theorem A149_105 {L : AL} {r : List Value} {a : Int32} : aw g 149 105 L (.int a :: r) σ Q = ((a = 0 → aw g 149 108 L r σ Q) ∧ (¬ a = 0 → aw g 149 135 L r σ Q)) := (aw_eq g 149 105 _ _ _ _).trans (by rw [tq149_105]; exact rfl)
theorem tq149_108 : tT g 149 108 = s_load vI 149 110 6 := rfl
theorem A149_108 {l0 : Option Value} {l1 : Option Value} {l2 : Option Value} {l3 : Option Value} {l4 : Option Value} {l5 : Option Value} {l7 : Option Value} {x : Int32} {r : List Value} : aw g 149 108 [l0, l1, l2, l3, l4, l5, some (.int x), l7] r σ Q = aw g 149 110 [l0, l1, l2, l3, l4, l5, some (.int x), l7] (.int x :: r) σ Q := (aw_eq g 149 108 _ _ _ _).trans (by rw [tq149_108]; exact (h_load rfl).trans (propext ⟨fun z => z.2, fun z => ⟨rfl, z⟩⟩))
theorem tq149_110 : tT g 149 110 = s_const 149 111 (.int (-1)) := rfl
theorem A149_110 {L : AL} {r : List Value} : aw g 149 110 L r σ Q = aw g 149 111 L (.int (-1) :: r) σ Q := (aw_eq g 149 110 _ _ _ _).trans (by rw [tq149_110]; exact rfl)
theorem tq149_111 : tT g 149 111 = s_icmp 149 114 131 (fun a b => a = b) := rfl
theorem A149_111 {L : AL} {r : List Value} {a b : Int32} : aw g 149 111 L (.int b :: .int a :: r) σ Q = ((a = b → aw g 149 131 L r σ Q) ∧ (¬ a = b → aw g 149 114 L r σ Q)) := (aw_eq g 149 111 _ _ _ _).trans (by rw [tq149_111]; exact rfl)
theorem tq149_114 : tT g 149 114 = s_load vRf 149 115 3 := rfl
theorem A149_114 {l0 : Option Value} {l1 : Option Value} {l2 : Option Value} {l4 : Option Value} {l5 : Option Value} {l6 : Option Value} {l7 : Option Value} {x : Value} {r : List Value} : aw g 149 114 [l0, l1, l2, some (x), l4, l5, l6, l7] r σ Q = (vRf x = true ∧ aw g 149 115 [l0, l1, l2, some (x), l4, l5, l6, l7] (x :: r) σ Q) := (aw_eq g 149 114 _ _ _ _).trans (by rw [tq149_114]; exact h_load rfl)
theorem tq149_115 : tT g 149 115 = s_getf 149 118 7 16 := rfl
theorem A149_115 {L : AL} {r : List Value} {a : Nat} : aw g 149 115 L (.ref a :: r) σ Q = (hty σ a = some 7 ∧ aw g 149 118 L (hv σ 7 a 16 :: r) σ Q) := (aw_eq g 149 115 _ _ _ _).trans (by rw [tq149_115]; exact rfl)
theorem tq149_118 : tT g 149 118 = s_load vI 149 120 7 := rfl
theorem A149_118 {l0 : Option Value} {l1 : Option Value} {l2 : Option Value} {l3 : Option Value} {l4 : Option Value} {l5 : Option Value} {l6 : Option Value} {x : Int32} {r : List Value} : aw g 149 118 [l0, l1, l2, l3, l4, l5, l6, some (.int x)] r σ Q = aw g 149 120 [l0, l1, l2, l3, l4, l5, l6, some (.int x)] (.int x :: r) σ Q := (aw_eq g 149 118 _ _ _ _).trans (by rw [tq149_118]; exact (h_load rfl).trans (propext ⟨fun z => z.2, fun z => ⟨rfl, z⟩⟩))
theorem tq149_120 : tT g 149 120 = s_ald 149 121 20 := rfl
theorem A149_120 {L : AL} {r : List Value} {a : Nat} {i : Int32} : aw g 149 120 L (.int i :: .ref a :: r) σ Q = (hty σ a = some 20 ∧ ¬ i < 0 ∧ i.toNatClampNeg < hln σ a ∧ aw g 149 121 L (hv σ 20 a i.toNatClampNeg :: r) σ Q) := (aw_eq g 149 120 _ _ _ _).trans (by rw [tq149_120]; exact rfl)
theorem tq149_121 : tT g 149 121 = s_load vRf 149 122 3 := rfl
theorem A149_121 {l0 : Option Value} {l1 : Option Value} {l2 : Option Value} {l4 : Option Value} {l5 : Option Value} {l6 : Option Value} {l7 : Option Value} {x : Value} {r : List Value} : aw g 149 121 [l0, l1, l2, some (x), l4, l5, l6, l7] r σ Q = (vRf x = true ∧ aw g 149 122 [l0, l1, l2, some (x), l4, l5, l6, l7] (x :: r) σ Q) := (aw_eq g 149 121 _ _ _ _).trans (by rw [tq149_121]; exact h_load rfl)
theorem tq149_122 : tT g 149 122 = s_getf 149 125 7 16 := rfl
theorem A149_122 {L : AL} {r : List Value} {a : Nat} : aw g 149 122 L (.ref a :: r) σ Q = (hty σ a = some 7 ∧ aw g 149 125 L (hv σ 7 a 16 :: r) σ Q) := (aw_eq g 149 122 _ _ _ _).trans (by rw [tq149_122]; exact rfl)
theorem tq149_125 : tT g 149 125 = s_load vI 149 127 6 := rfl
theorem A149_125 {l0 : Option Value} {l1 : Option Value} {l2 : Option Value} {l3 : Option Value} {l4 : Option Value} {l5 : Option Value} {l7 : Option Value} {x : Int32} {r : List Value} : aw g 149 125 [l0, l1, l2, l3, l4, l5, some (.int x), l7] r σ Q = aw g 149 127 [l0, l1, l2, l3, l4, l5, some (.int x), l7] (.int x :: r) σ Q := (aw_eq g 149 125 _ _ _ _).trans (by rw [tq149_125]; exact (h_load rfl).trans (propext ⟨fun z => z.2, fun z => ⟨rfl, z⟩⟩))
theorem tq149_127 : tT g 149 127 = s_ald 149 128 20 := rfl
theorem A149_127 {L : AL} {r : List Value} {a : Nat} {i : Int32} : aw g 149 127 L (.int i :: .ref a :: r) σ Q = (hty σ a = some 20 ∧ ¬ i < 0 ∧ i.toNatClampNeg < hln σ a ∧ aw g 149 128 L (hv σ 20 a i.toNatClampNeg :: r) σ Q) := (aw_eq g 149 127 _ _ _ _).trans (by rw [tq149_127]; exact rfl)
theorem tq149_128 : tT g 149 128 = s_icmp 149 131 135 (fun a b => b ≤ a) := rfl
theorem A149_128 {L : AL} {r : List Value} {a b : Int32} : aw g 149 128 L (.int b :: .int a :: r) σ Q = ((b ≤ a → aw g 149 135 L r σ Q) ∧ (¬ b ≤ a → aw g 149 131 L r σ Q)) := (aw_eq g 149 128 _ _ _ _).trans (by rw [tq149_128]; exact rfl)
theorem tq149_131 : tT g 149 131 = s_load vI 149 133 7 := rfl
theorem A149_131 {l0 : Option Value} {l1 : Option Value} {l2 : Option Value} {l3 : Option Value} {l4 : Option Value} {l5 : Option Value} {l6 : Option Value} {x : Int32} {r : List Value} : aw g 149 131 [l0, l1, l2, l3, l4, l5, l6, some (.int x)] r σ Q = aw g 149 133 [l0, l1, l2, l3, l4, l5, l6, some (.int x)] (.int x :: r) σ Q := (aw_eq g 149 131 _ _ _ _).trans (by rw [tq149_131]; exact (h_load rfl).trans (propext ⟨fun z => z.2, fun z => ⟨rfl, z⟩⟩))
theorem tq149_133 : tT g 149 133 = s_store vI 149 135 6 := rfl
theorem A149_133 {l0 : Option Value} {l1 : Option Value} {l2 : Option Value} {l3 : Option Value} {l4 : Option Value} {l5 : Option Value} {l6 : Option Value} {l7 : Option Value} {x : Int32} {r : List Value} : aw g 149 133 [l0, l1, l2, l3, l4, l5, l6, l7] (.int x :: r) σ Q = (oc l5 = true ∧ aw g 149 135 [l0, l1, l2, l3, l4, l5, some (.int x), l7] r σ Q) := (aw_eq g 149 133 _ _ _ _).trans (by rw [tq149_133]; exact (h_store (o := oc l5) rfl rfl rfl).trans (propext ⟨fun z => z.2, fun z => ⟨rfl, z⟩⟩))
theorem tq149_135 : tT g 149 135 = s_iinc 149 138 7 1 := rfl
theorem A149_135 {l0 : Option Value} {l1 : Option Value} {l2 : Option Value} {l3 : Option Value} {l4 : Option Value} {l5 : Option Value} {l6 : Option Value} {x : Int32} {r : List Value} : aw g 149 135 [l0, l1, l2, l3, l4, l5, l6, some (.int x)] r σ Q = (oc l6 = true ∧ aw g 149 138 [l0, l1, l2, l3, l4, l5, l6, some (.int (x + 1))] r σ Q) := (aw_eq g 149 135 _ _ _ _).trans (by rw [tq149_135]; exact (h_iinc (o := oc l6) rfl rfl rfl))
theorem tq149_138 : tT g 149 138 = s_goto 149 91 := rfl
theorem A149_138 {L : AL} {r : List Value} : aw g 149 138 L r σ Q = aw g 149 91 L r σ Q := (aw_eq g 149 138 _ _ _ _).trans (by rw [tq149_138]; exact rfl)
theorem tq149_141 : tT g 149 141 = s_load vRf 149 142 3 := rfl
theorem A149_141 {l0 : Option Value} {l1 : Option Value} {l2 : Option Value} {l4 : Option Value} {l5 : Option Value} {l6 : Option Value} {l7 : Option Value} {x : Value} {r : List Value} : aw g 149 141 [l0, l1, l2, some (x), l4, l5, l6, l7] r σ Q = (vRf x = true ∧ aw g 149 142 [l0, l1, l2, some (x), l4, l5, l6, l7] (x :: r) σ Q) := (aw_eq g 149 141 _ _ _ _).trans (by rw [tq149_141]; exact h_load rfl)
theorem tq149_142 : tT g 149 142 = s_getf 149 145 7 14 := rfl
theorem A149_142 {L : AL} {r : List Value} {a : Nat} : aw g 149 142 L (.ref a :: r) σ Q = (hty σ a = some 7 ∧ aw g 149 145 L (hv σ 7 a 14 :: r) σ Q) := (aw_eq g 149 142 _ _ _ _).trans (by rw [tq149_142]; exact rfl)
theorem tq149_145 : tT g 149 145 = s_load vI 149 147 6 := rfl
theorem A149_145 {l0 : Option Value} {l1 : Option Value} {l2 : Option Value} {l3 : Option Value} {l4 : Option Value} {l5 : Option Value} {l7 : Option Value} {x : Int32} {r : List Value} : aw g 149 145 [l0, l1, l2, l3, l4, l5, some (.int x), l7] r σ Q = aw g 149 147 [l0, l1, l2, l3, l4, l5, some (.int x), l7] (.int x :: r) σ Q := (aw_eq g 149 145 _ _ _ _).trans (by rw [tq149_145]; exact (h_load rfl).trans (propext ⟨fun z => z.2, fun z => ⟨rfl, z⟩⟩))
theorem tq149_147 : tT g 149 147 = s_const 149 148 (.int 2) := rfl
theorem A149_147 {L : AL} {r : List Value} : aw g 149 147 L r σ Q = aw g 149 148 L (.int 2 :: r) σ Q := (aw_eq g 149 147 _ _ _ _).trans (by rw [tq149_147]; exact rfl)
theorem tq149_148 : tT g 149 148 = s_ast g (fun _ v => vI v = true) 149 149 20 := rfl
theorem A149_148 {L : AL} {r : List Value} {a : Nat} {i : Int32} {v : Value} : aw g 149 148 L (v :: .int i :: .ref a :: r) σ Q = (hty σ a = some 20 ∧ gB g ≤ a ∧ ¬ i < 0 ∧ i.toNatClampNeg < hln σ a ∧ vI v = true ∧ aw g 149 149 L r (hput σ 20 a i.toNatClampNeg v) Q) := (aw_eq g 149 148 _ _ _ _).trans (by rw [tq149_148]; exact rfl)
theorem tq149_149 : tT g 149 149 = s_load vRf 149 150 3 := rfl
theorem A149_149 {l0 : Option Value} {l1 : Option Value} {l2 : Option Value} {l4 : Option Value} {l5 : Option Value} {l6 : Option Value} {l7 : Option Value} {x : Value} {r : List Value} : aw g 149 149 [l0, l1, l2, some (x), l4, l5, l6, l7] r σ Q = (vRf x = true ∧ aw g 149 150 [l0, l1, l2, some (x), l4, l5, l6, l7] (x :: r) σ Q) := (aw_eq g 149 149 _ _ _ _).trans (by rw [tq149_149]; exact h_load rfl)
theorem tq149_150 : tT g 149 150 = s_getf 149 153 7 13 := rfl
theorem A149_150 {L : AL} {r : List Value} {a : Nat} : aw g 149 150 L (.ref a :: r) σ Q = (hty σ a = some 7 ∧ aw g 149 153 L (hv σ 7 a 13 :: r) σ Q) := (aw_eq g 149 150 _ _ _ _).trans (by rw [tq149_150]; exact rfl)
theorem tq149_153 : tT g 149 153 = s_load vI 149 155 6 := rfl
theorem A149_153 {l0 : Option Value} {l1 : Option Value} {l2 : Option Value} {l3 : Option Value} {l4 : Option Value} {l5 : Option Value} {l7 : Option Value} {x : Int32} {r : List Value} : aw g 149 153 [l0, l1, l2, l3, l4, l5, some (.int x), l7] r σ Q = aw g 149 155 [l0, l1, l2, l3, l4, l5, some (.int x), l7] (.int x :: r) σ Q := (aw_eq g 149 153 _ _ _ _).trans (by rw [tq149_153]; exact (h_load rfl).trans (propext ⟨fun z => z.2, fun z => ⟨rfl, z⟩⟩))
theorem tq149_155 : tT g 149 155 = s_const 149 156 (.int 0) := rfl
theorem A149_155 {L : AL} {r : List Value} : aw g 149 155 L r σ Q = aw g 149 156 L (.int 0 :: r) σ Q := (aw_eq g 149 155 _ _ _ _).trans (by rw [tq149_155]; exact rfl)
theorem tq149_156 : tT g 149 156 = s_ast g (fun _ v => vI v = true) 149 157 20 := rfl
theorem A149_156 {L : AL} {r : List Value} {a : Nat} {i : Int32} {v : Value} : aw g 149 156 L (v :: .int i :: .ref a :: r) σ Q = (hty σ a = some 20 ∧ gB g ≤ a ∧ ¬ i < 0 ∧ i.toNatClampNeg < hln σ a ∧ vI v = true ∧ aw g 149 157 L r (hput σ 20 a i.toNatClampNeg v) Q) := (aw_eq g 149 156 _ _ _ _).trans (by rw [tq149_156]; exact rfl)
theorem tq149_157 : tT g 149 157 = s_load vRf 149 158 3 := rfl
theorem A149_157 {l0 : Option Value} {l1 : Option Value} {l2 : Option Value} {l4 : Option Value} {l5 : Option Value} {l6 : Option Value} {l7 : Option Value} {x : Value} {r : List Value} : aw g 149 157 [l0, l1, l2, some (x), l4, l5, l6, l7] r σ Q = (vRf x = true ∧ aw g 149 158 [l0, l1, l2, some (x), l4, l5, l6, l7] (x :: r) σ Q) := (aw_eq g 149 157 _ _ _ _).trans (by rw [tq149_157]; exact h_load rfl)
theorem tq149_158 : tT g 149 158 = s_dup 149 159 := rfl
theorem A149_158 {L : AL} {r : List Value} {v : Value} : aw g 149 158 L (v :: r) σ Q = (v.category = 1 ∧ aw g 149 159 L (v :: v :: r) σ Q) := (aw_eq g 149 158 _ _ _ _).trans (by rw [tq149_158]; exact rfl)
theorem tq149_159 : tT g 149 159 = s_getf 149 162 7 22 := rfl
theorem A149_159 {L : AL} {r : List Value} {a : Nat} : aw g 149 159 L (.ref a :: r) σ Q = (hty σ a = some 7 ∧ aw g 149 162 L (hv σ 7 a 22 :: r) σ Q) := (aw_eq g 149 159 _ _ _ _).trans (by rw [tq149_159]; exact rfl)
theorem tq149_162 : tT g 149 162 = s_const 149 163 (.int 1) := rfl
theorem A149_162 {L : AL} {r : List Value} : aw g 149 162 L r σ Q = aw g 149 163 L (.int 1 :: r) σ Q := (aw_eq g 149 162 _ _ _ _).trans (by rw [tq149_162]; exact rfl)
theorem tq149_163 : tT g 149 163 = s_load vI 149 165 6 := rfl
theorem A149_163 {l0 : Option Value} {l1 : Option Value} {l2 : Option Value} {l3 : Option Value} {l4 : Option Value} {l5 : Option Value} {l7 : Option Value} {x : Int32} {r : List Value} : aw g 149 163 [l0, l1, l2, l3, l4, l5, some (.int x), l7] r σ Q = aw g 149 165 [l0, l1, l2, l3, l4, l5, some (.int x), l7] (.int x :: r) σ Q := (aw_eq g 149 163 _ _ _ _).trans (by rw [tq149_163]; exact (h_load rfl).trans (propext ⟨fun z => z.2, fun z => ⟨rfl, z⟩⟩))
theorem tq149_165 : tT g 149 165 = s_bin 149 166 (fun a b => a <<< (b &&& 31)) := rfl
theorem A149_165 {L : AL} {r : List Value} {a b : Int32} : aw g 149 165 L (.int b :: .int a :: r) σ Q = aw g 149 166 L (.int (a <<< (b &&& 31)) :: r) σ Q := (aw_eq g 149 165 _ _ _ _).trans (by rw [tq149_165]; exact rfl)
theorem tq149_166 : tT g 149 166 = s_const 149 167 (.int (-1)) := rfl
theorem A149_166 {L : AL} {r : List Value} : aw g 149 166 L r σ Q = aw g 149 167 L (.int (-1) :: r) σ Q := (aw_eq g 149 166 _ _ _ _).trans (by rw [tq149_166]; exact rfl)
theorem tq149_167 : tT g 149 167 = s_bin 149 168 (fun a b => a ^^^ b) := rfl
theorem A149_167 {L : AL} {r : List Value} {a b : Int32} : aw g 149 167 L (.int b :: .int a :: r) σ Q = aw g 149 168 L (.int (a ^^^ b) :: r) σ Q := (aw_eq g 149 167 _ _ _ _).trans (by rw [tq149_167]; exact rfl)
theorem tq149_168 : tT g 149 168 = s_bin 149 169 (fun a b => a &&& b) := rfl
theorem A149_168 {L : AL} {r : List Value} {a b : Int32} : aw g 149 168 L (.int b :: .int a :: r) σ Q = aw g 149 169 L (.int (a &&& b) :: r) σ Q := (aw_eq g 149 168 _ _ _ _).trans (by rw [tq149_168]; exact rfl)
theorem tq149_169 : tT g 149 169 = s_putf g pI 149 172 7 22 := rfl
theorem A149_169 {L : AL} {r : List Value} {a : Nat} {v : Value} : aw g 149 169 L (v :: .ref a :: r) σ Q = (hty σ a = some 7 ∧ gB g ≤ a ∧ pI v ∧ aw g 149 172 L r (hput σ 7 a 22 v) Q) := (aw_eq g 149 169 _ _ _ _).trans (by rw [tq149_169]; exact rfl)
theorem tq149_172 : tT g 149 172 = s_const 149 173 (.int 2) := rfl
theorem A149_172 {L : AL} {r : List Value} : aw g 149 172 L r σ Q = aw g 149 173 L (.int 2 :: r) σ Q := (aw_eq g 149 172 _ _ _ _).trans (by rw [tq149_172]; exact rfl)
theorem tq149_173 : tT g 149 173 = s_newa g 149 175 20 (.int 0) := rfl
theorem A149_173 {L : AL} {r : List Value} {x : Int32} : aw g 149 173 L (.int x :: r) σ Q = (¬ x < 0 ∧ x.toNatClampNeg ≤ 65536 ∧ hsz σ + 1 ≤ gC g ∧ hsl σ + x.toNatClampNeg ≤ gS g ∧ aw g 149 175 L (.ref (hsz σ) :: r) (hnew σ 20 x.toNatClampNeg (fun _ => .int 0) x.toNatClampNeg) Q) := (aw_eq g 149 173 _ _ _ _).trans (by rw [tq149_173]; exact rfl)
theorem tq149_175 : tT g 149 175 = s_dup 149 176 := rfl
theorem A149_175 {L : AL} {r : List Value} {v : Value} : aw g 149 175 L (v :: r) σ Q = (v.category = 1 ∧ aw g 149 176 L (v :: v :: r) σ Q) := (aw_eq g 149 175 _ _ _ _).trans (by rw [tq149_175]; exact rfl)
theorem tq149_176 : tT g 149 176 = s_const 149 177 (.int 0) := rfl
theorem A149_176 {L : AL} {r : List Value} : aw g 149 176 L r σ Q = aw g 149 177 L (.int 0 :: r) σ Q := (aw_eq g 149 176 _ _ _ _).trans (by rw [tq149_176]; exact rfl)
theorem tq149_177 : tT g 149 177 = s_load vRf 149 178 3 := rfl
theorem A149_177 {l0 : Option Value} {l1 : Option Value} {l2 : Option Value} {l4 : Option Value} {l5 : Option Value} {l6 : Option Value} {l7 : Option Value} {x : Value} {r : List Value} : aw g 149 177 [l0, l1, l2, some (x), l4, l5, l6, l7] r σ Q = (vRf x = true ∧ aw g 149 178 [l0, l1, l2, some (x), l4, l5, l6, l7] (x :: r) σ Q) := (aw_eq g 149 177 _ _ _ _).trans (by rw [tq149_177]; exact h_load rfl)
theorem tq149_178 : tT g 149 178 = s_getf 149 181 7 29 := rfl
theorem A149_178 {L : AL} {r : List Value} {a : Nat} : aw g 149 178 L (.ref a :: r) σ Q = (hty σ a = some 7 ∧ aw g 149 181 L (hv σ 7 a 29 :: r) σ Q) := (aw_eq g 149 178 _ _ _ _).trans (by rw [tq149_178]; exact rfl)
theorem tq149_181 : tT g 149 181 = s_ast g (fun _ v => vI v = true) 149 182 20 := rfl
theorem A149_181 {L : AL} {r : List Value} {a : Nat} {i : Int32} {v : Value} : aw g 149 181 L (v :: .int i :: .ref a :: r) σ Q = (hty σ a = some 20 ∧ gB g ≤ a ∧ ¬ i < 0 ∧ i.toNatClampNeg < hln σ a ∧ vI v = true ∧ aw g 149 182 L r (hput σ 20 a i.toNatClampNeg v) Q) := (aw_eq g 149 181 _ _ _ _).trans (by rw [tq149_181]; exact rfl)
theorem tq149_182 : tT g 149 182 = s_dup 149 183 := rfl
theorem A149_182 {L : AL} {r : List Value} {v : Value} : aw g 149 182 L (v :: r) σ Q = (v.category = 1 ∧ aw g 149 183 L (v :: v :: r) σ Q) := (aw_eq g 149 182 _ _ _ _).trans (by rw [tq149_182]; exact rfl)
theorem tq149_183 : tT g 149 183 = s_const 149 184 (.int 1) := rfl
theorem A149_183 {L : AL} {r : List Value} : aw g 149 183 L r σ Q = aw g 149 184 L (.int 1 :: r) σ Q := (aw_eq g 149 183 _ _ _ _).trans (by rw [tq149_183]; exact rfl)
theorem tq149_184 : tT g 149 184 = s_load vI 149 186 6 := rfl
theorem A149_184 {l0 : Option Value} {l1 : Option Value} {l2 : Option Value} {l3 : Option Value} {l4 : Option Value} {l5 : Option Value} {l7 : Option Value} {x : Int32} {r : List Value} : aw g 149 184 [l0, l1, l2, l3, l4, l5, some (.int x), l7] r σ Q = aw g 149 186 [l0, l1, l2, l3, l4, l5, some (.int x), l7] (.int x :: r) σ Q := (aw_eq g 149 184 _ _ _ _).trans (by rw [tq149_184]; exact (h_load rfl).trans (propext ⟨fun z => z.2, fun z => ⟨rfl, z⟩⟩))
theorem tq149_186 : tT g 149 186 = s_ast g (fun _ v => vI v = true) 149 187 20 := rfl
theorem A149_186 {L : AL} {r : List Value} {a : Nat} {i : Int32} {v : Value} : aw g 149 186 L (v :: .int i :: .ref a :: r) σ Q = (hty σ a = some 20 ∧ gB g ≤ a ∧ ¬ i < 0 ∧ i.toNatClampNeg < hln σ a ∧ vI v = true ∧ aw g 149 187 L r (hput σ 20 a i.toNatClampNeg v) Q) := (aw_eq g 149 186 _ _ _ _).trans (by rw [tq149_186]; exact rfl)
theorem tq149_187 : tT g 149 187 = s_store vRf 149 189 7 := rfl
theorem A149_187 {l0 : Option Value} {l1 : Option Value} {l2 : Option Value} {l3 : Option Value} {l4 : Option Value} {l5 : Option Value} {l6 : Option Value} {l7 : Option Value} {x : Value} {r : List Value} : aw g 149 187 [l0, l1, l2, l3, l4, l5, l6, l7] (x :: r) σ Q = (vRf x = true ∧ oc l6 = true ∧ aw g 149 189 [l0, l1, l2, l3, l4, l5, l6, some (x)] r σ Q) := (aw_eq g 149 187 _ _ _ _).trans (by rw [tq149_187]; exact (h_store (o := oc l6) rfl rfl rfl))
theorem tq149_189 : tT g 149 189 = s_load vRf 149 190 3 := rfl
theorem A149_189 {l0 : Option Value} {l1 : Option Value} {l2 : Option Value} {l4 : Option Value} {l5 : Option Value} {l6 : Option Value} {l7 : Option Value} {x : Value} {r : List Value} : aw g 149 189 [l0, l1, l2, some (x), l4, l5, l6, l7] r σ Q = (vRf x = true ∧ aw g 149 190 [l0, l1, l2, some (x), l4, l5, l6, l7] (x :: r) σ Q) := (aw_eq g 149 189 _ _ _ _).trans (by rw [tq149_189]; exact h_load rfl)
theorem tq149_190 : tT g 149 190 = s_getf 149 193 7 25 := rfl
theorem A149_190 {L : AL} {r : List Value} {a : Nat} : aw g 149 190 L (.ref a :: r) σ Q = (hty σ a = some 7 ∧ aw g 149 193 L (hv σ 7 a 25 :: r) σ Q) := (aw_eq g 149 190 _ _ _ _).trans (by rw [tq149_190]; exact rfl)
theorem tq149_193 : tT g 149 193 = s_if 149 196 206 (fun a => a = 0) := rfl
theorem A149_193 {L : AL} {r : List Value} {a : Int32} : aw g 149 193 L (.int a :: r) σ Q = ((a = 0 → aw g 149 206 L r σ Q) ∧ (¬ a = 0 → aw g 149 196 L r σ Q)) := (aw_eq g 149 193 _ _ _ _).trans (by rw [tq149_193]; exact rfl)
theorem tq149_196 : tT g 149 196 = s_load vRf 149 197 3 := rfl
theorem A149_196 {l0 : Option Value} {l1 : Option Value} {l2 : Option Value} {l4 : Option Value} {l5 : Option Value} {l6 : Option Value} {l7 : Option Value} {x : Value} {r : List Value} : aw g 149 196 [l0, l1, l2, some (x), l4, l5, l6, l7] r σ Q = (vRf x = true ∧ aw g 149 197 [l0, l1, l2, some (x), l4, l5, l6, l7] (x :: r) σ Q) := (aw_eq g 149 196 _ _ _ _).trans (by rw [tq149_196]; exact h_load rfl)
theorem tq149_197 : tT g 149 197 = s_getf 149 200 7 31 := rfl
theorem A149_197 {L : AL} {r : List Value} {a : Nat} : aw g 149 197 L (.ref a :: r) σ Q = (hty σ a = some 7 ∧ aw g 149 200 L (hv σ 7 a 31 :: r) σ Q) := (aw_eq g 149 197 _ _ _ _).trans (by rw [tq149_197]; exact rfl)
theorem tq149_200 : tT g 149 200 = s_load vRf 149 202 7 := rfl
theorem A149_200 {l0 : Option Value} {l1 : Option Value} {l2 : Option Value} {l3 : Option Value} {l4 : Option Value} {l5 : Option Value} {l6 : Option Value} {x : Value} {r : List Value} : aw g 149 200 [l0, l1, l2, l3, l4, l5, l6, some (x)] r σ Q = (vRf x = true ∧ aw g 149 202 [l0, l1, l2, l3, l4, l5, l6, some (x)] (x :: r) σ Q) := (aw_eq g 149 200 _ _ _ _).trans (by rw [tq149_200]; exact h_load rfl)
theorem tq149_202 : tT g 149 202 = s_callvk 149 205 18 10 [1] 2 := rfl
theorem A149_202 {L : AL} {r : List Value} {a : Nat} {w0 : Value} : aw g 149 202 L (w0 :: .ref a :: r) σ Q = (hty σ a = some 10 ∧ (vRf w0 && true) = true ∧ csum r ≤ 8 ∧ aw g 18 0 [some (.ref a), some w0] [] σ (kt (aw g) 149 205 L r Q)) := (aw_eq g 149 202 _ _ _ _).trans (by rw [tq149_202]; exact rfl)
theorem tq149_205 : tT g 149 205 = s_pop 149 206 := rfl
theorem A149_205 {L : AL} {r : List Value} {v : Value} : aw g 149 205 L (v :: r) σ Q = (v.category = 1 ∧ aw g 149 206 L r σ Q) := (aw_eq g 149 205 _ _ _ _).trans (by rw [tq149_205]; exact rfl)
theorem tq149_206 : tT g 149 206 = s_iinc 149 209 5 1 := rfl
theorem A149_206 {l0 : Option Value} {l1 : Option Value} {l2 : Option Value} {l3 : Option Value} {l4 : Option Value} {l6 : Option Value} {l7 : Option Value} {x : Int32} {r : List Value} : aw g 149 206 [l0, l1, l2, l3, l4, some (.int x), l6, l7] r σ Q = (oc l4 = true ∧ aw g 149 209 [l0, l1, l2, l3, l4, some (.int (x + 1)), l6, l7] r σ Q) := (aw_eq g 149 206 _ _ _ _).trans (by rw [tq149_206]; exact (h_iinc (o := oc l4) rfl rfl rfl))
theorem tq149_209 : tT g 149 209 = s_goto 149 78 := rfl
theorem A149_209 {L : AL} {r : List Value} : aw g 149 209 L r σ Q = aw g 149 78 L r σ Q := (aw_eq g 149 209 _ _ _ _).trans (by rw [tq149_209]; exact rfl)
theorem tq149_212 : tT g 149 212 = s_load vI 149 214 4 := rfl
theorem A149_212 {l0 : Option Value} {l1 : Option Value} {l2 : Option Value} {l3 : Option Value} {l5 : Option Value} {l6 : Option Value} {l7 : Option Value} {x : Int32} {r : List Value} : aw g 149 212 [l0, l1, l2, l3, some (.int x), l5, l6, l7] r σ Q = aw g 149 214 [l0, l1, l2, l3, some (.int x), l5, l6, l7] (.int x :: r) σ Q := (aw_eq g 149 212 _ _ _ _).trans (by rw [tq149_212]; exact (h_load rfl).trans (propext ⟨fun z => z.2, fun z => ⟨rfl, z⟩⟩))
theorem tq149_214 : tT g 149 214 = s_ret pI := rfl
theorem A149_214 {L : AL} {v : Value} : aw g 149 214 L [v] σ Q = (pI v ∧ Q (.inl (some v)) σ) := (aw_eq g 149 214 _ _ _ _).trans (by rw [tq149_214]; exact rfl)
theorem tq150_0 : tT g 150 0 = s_load vRf 150 1 0 := rfl
theorem A150_0 {l1 : Option Value} {l2 : Option Value} {x : Value} {r : List Value} : aw g 150 0 [some (x), l1, l2] r σ Q = (vRf x = true ∧ aw g 150 1 [some (x), l1, l2] (x :: r) σ Q) := (aw_eq g 150 0 _ _ _ _).trans (by rw [tq150_0]; exact h_load rfl)
theorem tq150_1 : tT g 150 1 = s_const 150 2 (.int 0) := rfl
theorem A150_1 {L : AL} {r : List Value} : aw g 150 1 L r σ Q = aw g 150 2 L (.int 0 :: r) σ Q := (aw_eq g 150 1 _ _ _ _).trans (by rw [tq150_1]; exact rfl)
theorem tq150_2 : tT g 150 2 = s_putf g pI 150 5 3 0 := rfl
theorem A150_2 {L : AL} {r : List Value} {a : Nat} {v : Value} : aw g 150 2 L (v :: .ref a :: r) σ Q = (hty σ a = some 3 ∧ gB g ≤ a ∧ pI v ∧ aw g 150 5 L r (hput σ 3 a 0 v) Q) := (aw_eq g 150 2 _ _ _ _).trans (by rw [tq150_2]; exact rfl)
theorem tq150_5 : tT g 150 5 = s_load vRf 150 6 0 := rfl
theorem A150_5 {l1 : Option Value} {l2 : Option Value} {x : Value} {r : List Value} : aw g 150 5 [some (x), l1, l2] r σ Q = (vRf x = true ∧ aw g 150 6 [some (x), l1, l2] (x :: r) σ Q) := (aw_eq g 150 5 _ _ _ _).trans (by rw [tq150_5]; exact h_load rfl)
theorem tq150_6 : tT g 150 6 = s_load vI 150 7 1 := rfl
theorem A150_6 {l0 : Option Value} {l2 : Option Value} {x : Int32} {r : List Value} : aw g 150 6 [l0, some (.int x), l2] r σ Q = aw g 150 7 [l0, some (.int x), l2] (.int x :: r) σ Q := (aw_eq g 150 6 _ _ _ _).trans (by rw [tq150_6]; exact (h_load rfl).trans (propext ⟨fun z => z.2, fun z => ⟨rfl, z⟩⟩))
theorem tq150_7 : tT g 150 7 = s_callvk 150 10 143 3 [0] 2 := rfl
theorem A150_7 {L : AL} {r : List Value} {a : Nat} {w0 : Value} : aw g 150 7 L (w0 :: .ref a :: r) σ Q = (hty σ a = some 3 ∧ (vI w0 && true) = true ∧ csum r ≤ 8 ∧ aw g 143 0 [some (.ref a), some w0] [] σ (kt (aw g) 150 10 L r Q)) := (aw_eq g 150 7 _ _ _ _).trans (by rw [tq150_7]; exact rfl)
theorem tq150_10 : tT g 150 10 = s_if 150 19 13 (fun a => a = 0) := rfl
theorem A150_10 {L : AL} {r : List Value} {a : Int32} : aw g 150 10 L (.int a :: r) σ Q = ((a = 0 → aw g 150 13 L r σ Q) ∧ (¬ a = 0 → aw g 150 19 L r σ Q)) := (aw_eq g 150 10 _ _ _ _).trans (by rw [tq150_10]; exact rfl)
theorem tq150_13 : tT g 150 13 = s_load vRf 150 14 0 := rfl
theorem A150_13 {l1 : Option Value} {l2 : Option Value} {x : Value} {r : List Value} : aw g 150 13 [some (x), l1, l2] r σ Q = (vRf x = true ∧ aw g 150 14 [some (x), l1, l2] (x :: r) σ Q) := (aw_eq g 150 13 _ _ _ _).trans (by rw [tq150_13]; exact h_load rfl)
theorem tq150_14 : tT g 150 14 = s_const 150 15 (.int 1) := rfl
theorem A150_14 {L : AL} {r : List Value} : aw g 150 14 L r σ Q = aw g 150 15 L (.int 1 :: r) σ Q := (aw_eq g 150 14 _ _ _ _).trans (by rw [tq150_14]; exact rfl)
theorem tq150_15 : tT g 150 15 = s_callvk 150 18 141 3 [0] 2 := rfl
theorem A150_15 {L : AL} {r : List Value} {a : Nat} {w0 : Value} : aw g 150 15 L (w0 :: .ref a :: r) σ Q = (hty σ a = some 3 ∧ (vI w0 && true) = true ∧ csum r ≤ 8 ∧ aw g 141 0 [some (.ref a), some w0] [] σ (kt (aw g) 150 18 L r Q)) := (aw_eq g 150 15 _ _ _ _).trans (by rw [tq150_15]; exact rfl)
theorem tq150_18 : tT g 150 18 = s_ret pI := rfl
theorem A150_18 {L : AL} {v : Value} : aw g 150 18 L [v] σ Q = (pI v ∧ Q (.inl (some v)) σ) := (aw_eq g 150 18 _ _ _ _).trans (by rw [tq150_18]; exact rfl)
theorem tq150_19 : tT g 150 19 = s_load vI 150 20 2 := rfl
theorem A150_19 {l0 : Option Value} {l1 : Option Value} {x : Int32} {r : List Value} : aw g 150 19 [l0, l1, some (.int x)] r σ Q = aw g 150 20 [l0, l1, some (.int x)] (.int x :: r) σ Q := (aw_eq g 150 19 _ _ _ _).trans (by rw [tq150_19]; exact (h_load rfl).trans (propext ⟨fun z => z.2, fun z => ⟨rfl, z⟩⟩))
theorem tq150_20 : tT g 150 20 = s_callk 150 23 151 [0] 1 := rfl
theorem A150_20 {L : AL} {r : List Value} {w0 : Value} : aw g 150 20 L (w0 :: r) σ Q = ((vI w0 && true) = true ∧ csum r ≤ 8 ∧ aw g 151 0 [some w0] [] σ (kt (aw g) 150 23 L r Q)) := (aw_eq g 150 20 _ _ _ _).trans (by rw [tq150_20]; exact rfl)
theorem tq150_23 : tT g 150 23 = s_if 150 32 26 (fun a => a = 0) := rfl
theorem A150_23 {L : AL} {r : List Value} {a : Int32} : aw g 150 23 L (.int a :: r) σ Q = ((a = 0 → aw g 150 26 L r σ Q) ∧ (¬ a = 0 → aw g 150 32 L r σ Q)) := (aw_eq g 150 23 _ _ _ _).trans (by rw [tq150_23]; exact rfl)
theorem tq150_26 : tT g 150 26 = s_load vRf 150 27 0 := rfl
theorem A150_26 {l1 : Option Value} {l2 : Option Value} {x : Value} {r : List Value} : aw g 150 26 [some (x), l1, l2] r σ Q = (vRf x = true ∧ aw g 150 27 [some (x), l1, l2] (x :: r) σ Q) := (aw_eq g 150 26 _ _ _ _).trans (by rw [tq150_26]; exact h_load rfl)
theorem tq150_27 : tT g 150 27 = s_const 150 28 (.int 2) := rfl
theorem A150_27 {L : AL} {r : List Value} : aw g 150 27 L r σ Q = aw g 150 28 L (.int 2 :: r) σ Q := (aw_eq g 150 27 _ _ _ _).trans (by rw [tq150_27]; exact rfl)
theorem tq150_28 : tT g 150 28 = s_callvk 150 31 141 3 [0] 2 := rfl
theorem A150_28 {L : AL} {r : List Value} {a : Nat} {w0 : Value} : aw g 150 28 L (w0 :: .ref a :: r) σ Q = (hty σ a = some 3 ∧ (vI w0 && true) = true ∧ csum r ≤ 8 ∧ aw g 141 0 [some (.ref a), some w0] [] σ (kt (aw g) 150 31 L r Q)) := (aw_eq g 150 28 _ _ _ _).trans (by rw [tq150_28]; exact rfl)
theorem tq150_31 : tT g 150 31 = s_ret pI := rfl
theorem A150_31 {L : AL} {v : Value} : aw g 150 31 L [v] σ Q = (pI v ∧ Q (.inl (some v)) σ) := (aw_eq g 150 31 _ _ _ _).trans (by rw [tq150_31]; exact rfl)
theorem tq150_32 : tT g 150 32 = s_load vRf 150 33 0 := rfl
theorem A150_32 {l1 : Option Value} {l2 : Option Value} {x : Value} {r : List Value} : aw g 150 32 [some (x), l1, l2] r σ Q = (vRf x = true ∧ aw g 150 33 [some (x), l1, l2] (x :: r) σ Q) := (aw_eq g 150 32 _ _ _ _).trans (by rw [tq150_32]; exact h_load rfl)
theorem tq150_33 : tT g 150 33 = s_load vI 150 34 1 := rfl
theorem A150_33 {l0 : Option Value} {l2 : Option Value} {x : Int32} {r : List Value} : aw g 150 33 [l0, some (.int x), l2] r σ Q = aw g 150 34 [l0, some (.int x), l2] (.int x :: r) σ Q := (aw_eq g 150 33 _ _ _ _).trans (by rw [tq150_33]; exact (h_load rfl).trans (propext ⟨fun z => z.2, fun z => ⟨rfl, z⟩⟩))
theorem tq150_34 : tT g 150 34 = s_callvk 150 37 152 3 [0] 2 := rfl
theorem A150_34 {L : AL} {r : List Value} {a : Nat} {w0 : Value} : aw g 150 34 L (w0 :: .ref a :: r) σ Q = (hty σ a = some 3 ∧ (vI w0 && true) = true ∧ csum r ≤ 8 ∧ aw g 152 0 [some (.ref a), some w0] [] σ (kt (aw g) 150 37 L r Q)) := (aw_eq g 150 34 _ _ _ _).trans (by rw [tq150_34]; exact rfl)
theorem tq150_37 : tT g 150 37 = s_if 150 40 52 (fun a => a = 0) := rfl
theorem A150_37 {L : AL} {r : List Value} {a : Int32} : aw g 150 37 L (.int a :: r) σ Q = ((a = 0 → aw g 150 52 L r σ Q) ∧ (¬ a = 0 → aw g 150 40 L r σ Q)) := (aw_eq g 150 37 _ _ _ _).trans (by rw [tq150_37]; exact rfl)
theorem tq150_40 : tT g 150 40 = s_load vRf 150 41 0 := rfl
theorem A150_40 {l1 : Option Value} {l2 : Option Value} {x : Value} {r : List Value} : aw g 150 40 [some (x), l1, l2] r σ Q = (vRf x = true ∧ aw g 150 41 [some (x), l1, l2] (x :: r) σ Q) := (aw_eq g 150 40 _ _ _ _).trans (by rw [tq150_40]; exact h_load rfl)
theorem tq150_41 : tT g 150 41 = s_getf 150 44 3 1 := rfl
theorem A150_41 {L : AL} {r : List Value} {a : Nat} : aw g 150 41 L (.ref a :: r) σ Q = (hty σ a = some 3 ∧ aw g 150 44 L (hv σ 3 a 1 :: r) σ Q) := (aw_eq g 150 41 _ _ _ _).trans (by rw [tq150_41]; exact rfl)
theorem tq150_44 : tT g 150 44 = s_load vI 150 45 1 := rfl
theorem A150_44 {l0 : Option Value} {l2 : Option Value} {x : Int32} {r : List Value} : aw g 150 44 [l0, some (.int x), l2] r σ Q = aw g 150 45 [l0, some (.int x), l2] (.int x :: r) σ Q := (aw_eq g 150 44 _ _ _ _).trans (by rw [tq150_44]; exact (h_load rfl).trans (propext ⟨fun z => z.2, fun z => ⟨rfl, z⟩⟩))
theorem tq150_45 : tT g 150 45 = s_load vI 150 46 2 := rfl
theorem A150_45 {l0 : Option Value} {l1 : Option Value} {x : Int32} {r : List Value} : aw g 150 45 [l0, l1, some (.int x)] r σ Q = aw g 150 46 [l0, l1, some (.int x)] (.int x :: r) σ Q := (aw_eq g 150 45 _ _ _ _).trans (by rw [tq150_45]; exact (h_load rfl).trans (propext ⟨fun z => z.2, fun z => ⟨rfl, z⟩⟩))
theorem tq150_46 : tT g 150 46 = s_callvk 150 49 181 4 [0, 0] 5 := rfl
theorem A150_46 {L : AL} {r : List Value} {a : Nat} {w0 w1 : Value} : aw g 150 46 L (w1 :: w0 :: .ref a :: r) σ Q = (hty σ a = some 4 ∧ (vI w0 && (vI w1 && true)) = true ∧ csum r ≤ 8 ∧ aw g 181 0 [some (.ref a), some w0, some w1, none, none] [] σ (kt (aw g) 150 49 L r Q)) := (aw_eq g 150 46 _ _ _ _).trans (by rw [tq150_46]; exact rfl)
theorem tq150_49 : tT g 150 49 = s_goto 150 57 := rfl
theorem A150_49 {L : AL} {r : List Value} : aw g 150 49 L r σ Q = aw g 150 57 L r σ Q := (aw_eq g 150 49 _ _ _ _).trans (by rw [tq150_49]; exact rfl)
theorem tq150_52 : tT g 150 52 = s_load vRf 150 53 0 := rfl
theorem A150_52 {l1 : Option Value} {l2 : Option Value} {x : Value} {r : List Value} : aw g 150 52 [some (x), l1, l2] r σ Q = (vRf x = true ∧ aw g 150 53 [some (x), l1, l2] (x :: r) σ Q) := (aw_eq g 150 52 _ _ _ _).trans (by rw [tq150_52]; exact h_load rfl)
theorem tq150_53 : tT g 150 53 = s_const 150 54 (.int 3) := rfl
theorem A150_53 {L : AL} {r : List Value} : aw g 150 53 L r σ Q = aw g 150 54 L (.int 3 :: r) σ Q := (aw_eq g 150 53 _ _ _ _).trans (by rw [tq150_53]; exact rfl)
theorem tq150_54 : tT g 150 54 = s_callvk 150 57 141 3 [0] 2 := rfl
theorem A150_54 {L : AL} {r : List Value} {a : Nat} {w0 : Value} : aw g 150 54 L (w0 :: .ref a :: r) σ Q = (hty σ a = some 3 ∧ (vI w0 && true) = true ∧ csum r ≤ 8 ∧ aw g 141 0 [some (.ref a), some w0] [] σ (kt (aw g) 150 57 L r Q)) := (aw_eq g 150 54 _ _ _ _).trans (by rw [tq150_54]; exact rfl)
theorem tq150_57 : tT g 150 57 = s_ret pI := rfl
theorem A150_57 {L : AL} {v : Value} : aw g 150 57 L [v] σ Q = (pI v ∧ Q (.inl (some v)) σ) := (aw_eq g 150 57 _ _ _ _).trans (by rw [tq150_57]; exact rfl)
theorem tq151_0 : tT g 151 0 = s_load vI 151 1 0 := rfl
theorem A151_0  {x : Int32} {r : List Value} : aw g 151 0 [some (.int x)] r σ Q = aw g 151 1 [some (.int x)] (.int x :: r) σ Q := (aw_eq g 151 0 _ _ _ _).trans (by rw [tq151_0]; exact (h_load rfl).trans (propext ⟨fun z => z.2, fun z => ⟨rfl, z⟩⟩))
theorem tq151_1 : tT g 151 1 = s_const 151 2 (.int 1) := rfl
theorem A151_1 {L : AL} {r : List Value} : aw g 151 1 L r σ Q = aw g 151 2 L (.int 1 :: r) σ Q := (aw_eq g 151 1 _ _ _ _).trans (by rw [tq151_1]; exact rfl)
theorem tq151_2 : tT g 151 2 = s_const 151 3 (.int 3) := rfl
theorem A151_2 {L : AL} {r : List Value} : aw g 151 2 L r σ Q = aw g 151 3 L (.int 3 :: r) σ Q := (aw_eq g 151 2 _ _ _ _).trans (by rw [tq151_2]; exact rfl)
theorem tq151_3 : tT g 151 3 = s_callk 151 6 140 [0, 0, 0] 3 := rfl
theorem A151_3 {L : AL} {r : List Value} {w0 w1 w2 : Value} : aw g 151 3 L (w2 :: w1 :: w0 :: r) σ Q = ((vI w0 && (vI w1 && (vI w2 && true))) = true ∧ csum r ≤ 8 ∧ aw g 140 0 [some w0, some w1, some w2] [] σ (kt (aw g) 151 6 L r Q)) := (aw_eq g 151 3 _ _ _ _).trans (by rw [tq151_3]; exact rfl)
theorem tq151_6 : tT g 151 6 = s_ret vZ := rfl
theorem A151_6 {L : AL} {v : Value} : aw g 151 6 L [v] σ Q = (vZ v ∧ Q (.inl (some v)) σ) := (aw_eq g 151 6 _ _ _ _).trans (by rw [tq151_6]; exact rfl)
theorem tq152_0 : tT g 152 0 = s_load vRf 152 1 0 := rfl
theorem A152_0 {l1 : Option Value} {x : Value} {r : List Value} : aw g 152 0 [some (x), l1] r σ Q = (vRf x = true ∧ aw g 152 1 [some (x), l1] (x :: r) σ Q) := (aw_eq g 152 0 _ _ _ _).trans (by rw [tq152_0]; exact h_load rfl)
theorem tq152_1 : tT g 152 1 = s_getf 152 4 3 1 := rfl
theorem A152_1 {L : AL} {r : List Value} {a : Nat} : aw g 152 1 L (.ref a :: r) σ Q = (hty σ a = some 3 ∧ aw g 152 4 L (hv σ 3 a 1 :: r) σ Q) := (aw_eq g 152 1 _ _ _ _).trans (by rw [tq152_1]; exact rfl)
theorem tq152_4 : tT g 152 4 = s_getf 152 7 4 0 := rfl
theorem A152_4 {L : AL} {r : List Value} {a : Nat} : aw g 152 4 L (.ref a :: r) σ Q = (hty σ a = some 4 ∧ aw g 152 7 L (hv σ 4 a 0 :: r) σ Q) := (aw_eq g 152 4 _ _ _ _).trans (by rw [tq152_4]; exact rfl)
theorem tq152_7 : tT g 152 7 = s_load vI 152 8 1 := rfl
theorem A152_7 {l0 : Option Value} {x : Int32} {r : List Value} : aw g 152 7 [l0, some (.int x)] r σ Q = aw g 152 8 [l0, some (.int x)] (.int x :: r) σ Q := (aw_eq g 152 7 _ _ _ _).trans (by rw [tq152_7]; exact (h_load rfl).trans (propext ⟨fun z => z.2, fun z => ⟨rfl, z⟩⟩))
theorem tq152_8 : tT g 152 8 = s_callvk 152 11 25 10 [0] 2 := rfl
theorem A152_8 {L : AL} {r : List Value} {a : Nat} {w0 : Value} : aw g 152 8 L (w0 :: .ref a :: r) σ Q = (hty σ a = some 10 ∧ (vI w0 && true) = true ∧ csum r ≤ 8 ∧ aw g 25 0 [some (.ref a), some w0] [] σ (kt (aw g) 152 11 L r Q)) := (aw_eq g 152 8 _ _ _ _).trans (by rw [tq152_8]; exact rfl)
theorem tq152_11 : tT g 152 11 = s_cast 152 14 [7] := rfl
theorem A152_11 {L : AL} {r : List Value} : aw g 152 11 L (.null :: r) σ Q = aw g 152 14 L (.null :: r) σ Q := (aw_eq g 152 11 _ _ _ _).trans (by rw [tq152_11]; exact rfl)
theorem A152_11r {L : AL} {r : List Value} {a : Nat} : aw g 152 11 L (.ref a :: r) σ Q = (hty σ a = some 7 ∧ aw g 152 14 L (.ref a :: r) σ Q) := (aw_eq g 152 11 _ _ _ _).trans (by rw [tq152_11]; exact propext ⟨fun z => (by obtain ⟨⟨u, hu, hu2⟩, z2⟩ := z; rw [List.mem_singleton] at hu; subst hu; exact ⟨hu2, z2⟩), fun z => ⟨⟨_, List.mem_cons_self, z.1⟩, z.2⟩⟩)
theorem tq152_14 : tT g 152 14 = s_getf 152 17 7 6 := rfl
theorem A152_14 {L : AL} {r : List Value} {a : Nat} : aw g 152 14 L (.ref a :: r) σ Q = (hty σ a = some 7 ∧ aw g 152 17 L (hv σ 7 a 6 :: r) σ Q) := (aw_eq g 152 14 _ _ _ _).trans (by rw [tq152_14]; exact rfl)
theorem tq152_17 : tT g 152 17 = s_const 152 18 (.int 4) := rfl
theorem A152_17 {L : AL} {r : List Value} : aw g 152 17 L r σ Q = aw g 152 18 L (.int 4 :: r) σ Q := (aw_eq g 152 17 _ _ _ _).trans (by rw [tq152_17]; exact rfl)
theorem tq152_18 : tT g 152 18 = s_icmp 152 21 45 (fun a b => a = b) := rfl
theorem A152_18 {L : AL} {r : List Value} {a b : Int32} : aw g 152 18 L (.int b :: .int a :: r) σ Q = ((a = b → aw g 152 45 L r σ Q) ∧ (¬ a = b → aw g 152 21 L r σ Q)) := (aw_eq g 152 18 _ _ _ _).trans (by rw [tq152_18]; exact rfl)
theorem tq152_21 : tT g 152 21 = s_load vRf 152 22 0 := rfl
theorem A152_21 {l1 : Option Value} {x : Value} {r : List Value} : aw g 152 21 [some (x), l1] r σ Q = (vRf x = true ∧ aw g 152 22 [some (x), l1] (x :: r) σ Q) := (aw_eq g 152 21 _ _ _ _).trans (by rw [tq152_21]; exact h_load rfl)
theorem tq152_22 : tT g 152 22 = s_getf 152 25 3 1 := rfl
theorem A152_22 {L : AL} {r : List Value} {a : Nat} : aw g 152 22 L (.ref a :: r) σ Q = (hty σ a = some 3 ∧ aw g 152 25 L (hv σ 3 a 1 :: r) σ Q) := (aw_eq g 152 22 _ _ _ _).trans (by rw [tq152_22]; exact rfl)
theorem tq152_25 : tT g 152 25 = s_getf 152 28 4 0 := rfl
theorem A152_25 {L : AL} {r : List Value} {a : Nat} : aw g 152 25 L (.ref a :: r) σ Q = (hty σ a = some 4 ∧ aw g 152 28 L (hv σ 4 a 0 :: r) σ Q) := (aw_eq g 152 25 _ _ _ _).trans (by rw [tq152_25]; exact rfl)
theorem tq152_28 : tT g 152 28 = s_load vI 152 29 1 := rfl
theorem A152_28 {l0 : Option Value} {x : Int32} {r : List Value} : aw g 152 28 [l0, some (.int x)] r σ Q = aw g 152 29 [l0, some (.int x)] (.int x :: r) σ Q := (aw_eq g 152 28 _ _ _ _).trans (by rw [tq152_28]; exact (h_load rfl).trans (propext ⟨fun z => z.2, fun z => ⟨rfl, z⟩⟩))
theorem tq152_29 : tT g 152 29 = s_callvk 152 32 25 10 [0] 2 := rfl
theorem A152_29 {L : AL} {r : List Value} {a : Nat} {w0 : Value} : aw g 152 29 L (w0 :: .ref a :: r) σ Q = (hty σ a = some 10 ∧ (vI w0 && true) = true ∧ csum r ≤ 8 ∧ aw g 25 0 [some (.ref a), some w0] [] σ (kt (aw g) 152 32 L r Q)) := (aw_eq g 152 29 _ _ _ _).trans (by rw [tq152_29]; exact rfl)
theorem tq152_32 : tT g 152 32 = s_cast 152 35 [7] := rfl
theorem A152_32 {L : AL} {r : List Value} : aw g 152 32 L (.null :: r) σ Q = aw g 152 35 L (.null :: r) σ Q := (aw_eq g 152 32 _ _ _ _).trans (by rw [tq152_32]; exact rfl)
theorem A152_32r {L : AL} {r : List Value} {a : Nat} : aw g 152 32 L (.ref a :: r) σ Q = (hty σ a = some 7 ∧ aw g 152 35 L (.ref a :: r) σ Q) := (aw_eq g 152 32 _ _ _ _).trans (by rw [tq152_32]; exact propext ⟨fun z => (by obtain ⟨⟨u, hu, hu2⟩, z2⟩ := z; rw [List.mem_singleton] at hu; subst hu; exact ⟨hu2, z2⟩), fun z => ⟨⟨_, List.mem_cons_self, z.1⟩, z.2⟩⟩)
theorem tq152_35 : tT g 152 35 = s_getf 152 38 7 18 := rfl
theorem A152_35 {L : AL} {r : List Value} {a : Nat} : aw g 152 35 L (.ref a :: r) σ Q = (hty σ a = some 7 ∧ aw g 152 38 L (hv σ 7 a 18 :: r) σ Q) := (aw_eq g 152 35 _ _ _ _).trans (by rw [tq152_35]; exact rfl)
theorem tq152_38 : tT g 152 38 = s_if 152 45 41 (fun a => a = 0) := rfl
theorem A152_38 {L : AL} {r : List Value} {a : Int32} : aw g 152 38 L (.int a :: r) σ Q = ((a = 0 → aw g 152 41 L r σ Q) ∧ (¬ a = 0 → aw g 152 45 L r σ Q)) := (aw_eq g 152 38 _ _ _ _).trans (by rw [tq152_38]; exact rfl)
theorem tq152_41 : tT g 152 41 = s_const 152 42 (.int 1) := rfl
theorem A152_41 {L : AL} {r : List Value} : aw g 152 41 L r σ Q = aw g 152 42 L (.int 1 :: r) σ Q := (aw_eq g 152 41 _ _ _ _).trans (by rw [tq152_41]; exact rfl)
theorem tq152_42 : tT g 152 42 = s_goto 152 46 := rfl
theorem A152_42 {L : AL} {r : List Value} : aw g 152 42 L r σ Q = aw g 152 46 L r σ Q := (aw_eq g 152 42 _ _ _ _).trans (by rw [tq152_42]; exact rfl)
theorem tq152_45 : tT g 152 45 = s_const 152 46 (.int 0) := rfl
theorem A152_45 {L : AL} {r : List Value} : aw g 152 45 L r σ Q = aw g 152 46 L (.int 0 :: r) σ Q := (aw_eq g 152 45 _ _ _ _).trans (by rw [tq152_45]; exact rfl)
theorem tq152_46 : tT g 152 46 = s_ret vZ := rfl
theorem A152_46 {L : AL} {v : Value} : aw g 152 46 L [v] σ Q = (vZ v ∧ Q (.inl (some v)) σ) := (aw_eq g 152 46 _ _ _ _).trans (by rw [tq152_46]; exact rfl)
theorem tq153_0 : tT g 153 0 = s_load vRf 153 1 0 := rfl
theorem A153_0 {l1 : Option Value} {l2 : Option Value} {l3 : Option Value} {x : Value} {r : List Value} : aw g 153 0 [some (x), l1, l2, l3] r σ Q = (vRf x = true ∧ aw g 153 1 [some (x), l1, l2, l3] (x :: r) σ Q) := (aw_eq g 153 0 _ _ _ _).trans (by rw [tq153_0]; exact h_load rfl)
theorem tq153_1 : tT g 153 1 = s_const 153 2 (.int 0) := rfl
theorem A153_1 {L : AL} {r : List Value} : aw g 153 1 L r σ Q = aw g 153 2 L (.int 0 :: r) σ Q := (aw_eq g 153 1 _ _ _ _).trans (by rw [tq153_1]; exact rfl)
theorem tq153_2 : tT g 153 2 = s_putf g pI 153 5 3 0 := rfl
theorem A153_2 {L : AL} {r : List Value} {a : Nat} {v : Value} : aw g 153 2 L (v :: .ref a :: r) σ Q = (hty σ a = some 3 ∧ gB g ≤ a ∧ pI v ∧ aw g 153 5 L r (hput σ 3 a 0 v) Q) := (aw_eq g 153 2 _ _ _ _).trans (by rw [tq153_2]; exact rfl)
theorem tq153_5 : tT g 153 5 = s_load vRf 153 6 0 := rfl
theorem A153_5 {l1 : Option Value} {l2 : Option Value} {l3 : Option Value} {x : Value} {r : List Value} : aw g 153 5 [some (x), l1, l2, l3] r σ Q = (vRf x = true ∧ aw g 153 6 [some (x), l1, l2, l3] (x :: r) σ Q) := (aw_eq g 153 5 _ _ _ _).trans (by rw [tq153_5]; exact h_load rfl)
theorem tq153_6 : tT g 153 6 = s_load vI 153 7 1 := rfl
theorem A153_6 {l0 : Option Value} {l2 : Option Value} {l3 : Option Value} {x : Int32} {r : List Value} : aw g 153 6 [l0, some (.int x), l2, l3] r σ Q = aw g 153 7 [l0, some (.int x), l2, l3] (.int x :: r) σ Q := (aw_eq g 153 6 _ _ _ _).trans (by rw [tq153_6]; exact (h_load rfl).trans (propext ⟨fun z => z.2, fun z => ⟨rfl, z⟩⟩))
theorem tq153_7 : tT g 153 7 = s_callvk 153 10 143 3 [0] 2 := rfl
theorem A153_7 {L : AL} {r : List Value} {a : Nat} {w0 : Value} : aw g 153 7 L (w0 :: .ref a :: r) σ Q = (hty σ a = some 3 ∧ (vI w0 && true) = true ∧ csum r ≤ 8 ∧ aw g 143 0 [some (.ref a), some w0] [] σ (kt (aw g) 153 10 L r Q)) := (aw_eq g 153 7 _ _ _ _).trans (by rw [tq153_7]; exact rfl)
theorem tq153_10 : tT g 153 10 = s_if 153 19 13 (fun a => a = 0) := rfl
theorem A153_10 {L : AL} {r : List Value} {a : Int32} : aw g 153 10 L (.int a :: r) σ Q = ((a = 0 → aw g 153 13 L r σ Q) ∧ (¬ a = 0 → aw g 153 19 L r σ Q)) := (aw_eq g 153 10 _ _ _ _).trans (by rw [tq153_10]; exact rfl)
theorem tq153_13 : tT g 153 13 = s_load vRf 153 14 0 := rfl
theorem A153_13 {l1 : Option Value} {l2 : Option Value} {l3 : Option Value} {x : Value} {r : List Value} : aw g 153 13 [some (x), l1, l2, l3] r σ Q = (vRf x = true ∧ aw g 153 14 [some (x), l1, l2, l3] (x :: r) σ Q) := (aw_eq g 153 13 _ _ _ _).trans (by rw [tq153_13]; exact h_load rfl)
theorem tq153_14 : tT g 153 14 = s_const 153 15 (.int 1) := rfl
theorem A153_14 {L : AL} {r : List Value} : aw g 153 14 L r σ Q = aw g 153 15 L (.int 1 :: r) σ Q := (aw_eq g 153 14 _ _ _ _).trans (by rw [tq153_14]; exact rfl)
theorem tq153_15 : tT g 153 15 = s_callvk 153 18 141 3 [0] 2 := rfl
theorem A153_15 {L : AL} {r : List Value} {a : Nat} {w0 : Value} : aw g 153 15 L (w0 :: .ref a :: r) σ Q = (hty σ a = some 3 ∧ (vI w0 && true) = true ∧ csum r ≤ 8 ∧ aw g 141 0 [some (.ref a), some w0] [] σ (kt (aw g) 153 18 L r Q)) := (aw_eq g 153 15 _ _ _ _).trans (by rw [tq153_15]; exact rfl)
theorem tq153_18 : tT g 153 18 = s_ret pI := rfl
theorem A153_18 {L : AL} {v : Value} : aw g 153 18 L [v] σ Q = (pI v ∧ Q (.inl (some v)) σ) := (aw_eq g 153 18 _ _ _ _).trans (by rw [tq153_18]; exact rfl)
theorem tq153_19 : tT g 153 19 = s_load vRf 153 20 0 := rfl
theorem A153_19 {l1 : Option Value} {l2 : Option Value} {l3 : Option Value} {x : Value} {r : List Value} : aw g 153 19 [some (x), l1, l2, l3] r σ Q = (vRf x = true ∧ aw g 153 20 [some (x), l1, l2, l3] (x :: r) σ Q) := (aw_eq g 153 19 _ _ _ _).trans (by rw [tq153_19]; exact h_load rfl)
theorem tq153_20 : tT g 153 20 = s_getf 153 23 3 1 := rfl
theorem A153_20 {L : AL} {r : List Value} {a : Nat} : aw g 153 20 L (.ref a :: r) σ Q = (hty σ a = some 3 ∧ aw g 153 23 L (hv σ 3 a 1 :: r) σ Q) := (aw_eq g 153 20 _ _ _ _).trans (by rw [tq153_20]; exact rfl)
theorem tq153_23 : tT g 153 23 = s_getf 153 26 4 0 := rfl
theorem A153_23 {L : AL} {r : List Value} {a : Nat} : aw g 153 23 L (.ref a :: r) σ Q = (hty σ a = some 4 ∧ aw g 153 26 L (hv σ 4 a 0 :: r) σ Q) := (aw_eq g 153 23 _ _ _ _).trans (by rw [tq153_23]; exact rfl)
theorem tq153_26 : tT g 153 26 = s_load vI 153 27 1 := rfl
theorem A153_26 {l0 : Option Value} {l2 : Option Value} {l3 : Option Value} {x : Int32} {r : List Value} : aw g 153 26 [l0, some (.int x), l2, l3] r σ Q = aw g 153 27 [l0, some (.int x), l2, l3] (.int x :: r) σ Q := (aw_eq g 153 26 _ _ _ _).trans (by rw [tq153_26]; exact (h_load rfl).trans (propext ⟨fun z => z.2, fun z => ⟨rfl, z⟩⟩))
theorem tq153_27 : tT g 153 27 = s_callvk 153 30 25 10 [0] 2 := rfl
theorem A153_27 {L : AL} {r : List Value} {a : Nat} {w0 : Value} : aw g 153 27 L (w0 :: .ref a :: r) σ Q = (hty σ a = some 10 ∧ (vI w0 && true) = true ∧ csum r ≤ 8 ∧ aw g 25 0 [some (.ref a), some w0] [] σ (kt (aw g) 153 30 L r Q)) := (aw_eq g 153 27 _ _ _ _).trans (by rw [tq153_27]; exact rfl)
theorem tq153_30 : tT g 153 30 = s_cast 153 33 [7] := rfl
theorem A153_30 {L : AL} {r : List Value} : aw g 153 30 L (.null :: r) σ Q = aw g 153 33 L (.null :: r) σ Q := (aw_eq g 153 30 _ _ _ _).trans (by rw [tq153_30]; exact rfl)
theorem A153_30r {L : AL} {r : List Value} {a : Nat} : aw g 153 30 L (.ref a :: r) σ Q = (hty σ a = some 7 ∧ aw g 153 33 L (.ref a :: r) σ Q) := (aw_eq g 153 30 _ _ _ _).trans (by rw [tq153_30]; exact propext ⟨fun z => (by obtain ⟨⟨u, hu, hu2⟩, z2⟩ := z; rw [List.mem_singleton] at hu; subst hu; exact ⟨hu2, z2⟩), fun z => ⟨⟨_, List.mem_cons_self, z.1⟩, z.2⟩⟩)
theorem tq153_33 : tT g 153 33 = s_store vRf 153 34 2 := rfl
theorem A153_33 {l0 : Option Value} {l1 : Option Value} {l2 : Option Value} {l3 : Option Value} {x : Value} {r : List Value} : aw g 153 33 [l0, l1, l2, l3] (x :: r) σ Q = (vRf x = true ∧ oc l1 = true ∧ aw g 153 34 [l0, l1, some (x), l3] r σ Q) := (aw_eq g 153 33 _ _ _ _).trans (by rw [tq153_33]; exact (h_store (o := oc l1) rfl rfl rfl))
theorem tq153_34 : tT g 153 34 = s_load vRf 153 35 2 := rfl
theorem A153_34 {l0 : Option Value} {l1 : Option Value} {l3 : Option Value} {x : Value} {r : List Value} : aw g 153 34 [l0, l1, some (x), l3] r σ Q = (vRf x = true ∧ aw g 153 35 [l0, l1, some (x), l3] (x :: r) σ Q) := (aw_eq g 153 34 _ _ _ _).trans (by rw [tq153_34]; exact h_load rfl)
theorem tq153_35 : tT g 153 35 = s_getf 153 38 7 6 := rfl
theorem A153_35 {L : AL} {r : List Value} {a : Nat} : aw g 153 35 L (.ref a :: r) σ Q = (hty σ a = some 7 ∧ aw g 153 38 L (hv σ 7 a 6 :: r) σ Q) := (aw_eq g 153 35 _ _ _ _).trans (by rw [tq153_35]; exact rfl)
theorem tq153_38 : tT g 153 38 = s_const 153 39 (.int 4) := rfl
theorem A153_38 {L : AL} {r : List Value} : aw g 153 38 L r σ Q = aw g 153 39 L (.int 4 :: r) σ Q := (aw_eq g 153 38 _ _ _ _).trans (by rw [tq153_38]; exact rfl)
theorem tq153_39 : tT g 153 39 = s_icmp 153 48 42 (fun a b => a = b) := rfl
theorem A153_39 {L : AL} {r : List Value} {a b : Int32} : aw g 153 39 L (.int b :: .int a :: r) σ Q = ((a = b → aw g 153 42 L r σ Q) ∧ (¬ a = b → aw g 153 48 L r σ Q)) := (aw_eq g 153 39 _ _ _ _).trans (by rw [tq153_39]; exact rfl)
theorem tq153_42 : tT g 153 42 = s_load vRf 153 43 0 := rfl
theorem A153_42 {l1 : Option Value} {l2 : Option Value} {l3 : Option Value} {x : Value} {r : List Value} : aw g 153 42 [some (x), l1, l2, l3] r σ Q = (vRf x = true ∧ aw g 153 43 [some (x), l1, l2, l3] (x :: r) σ Q) := (aw_eq g 153 42 _ _ _ _).trans (by rw [tq153_42]; exact h_load rfl)
theorem tq153_43 : tT g 153 43 = s_const 153 44 (.int 2) := rfl
theorem A153_43 {L : AL} {r : List Value} : aw g 153 43 L r σ Q = aw g 153 44 L (.int 2 :: r) σ Q := (aw_eq g 153 43 _ _ _ _).trans (by rw [tq153_43]; exact rfl)
theorem tq153_44 : tT g 153 44 = s_callvk 153 47 141 3 [0] 2 := rfl
theorem A153_44 {L : AL} {r : List Value} {a : Nat} {w0 : Value} : aw g 153 44 L (w0 :: .ref a :: r) σ Q = (hty σ a = some 3 ∧ (vI w0 && true) = true ∧ csum r ≤ 8 ∧ aw g 141 0 [some (.ref a), some w0] [] σ (kt (aw g) 153 47 L r Q)) := (aw_eq g 153 44 _ _ _ _).trans (by rw [tq153_44]; exact rfl)
theorem tq153_47 : tT g 153 47 = s_ret pI := rfl
theorem A153_47 {L : AL} {v : Value} : aw g 153 47 L [v] σ Q = (pI v ∧ Q (.inl (some v)) σ) := (aw_eq g 153 47 _ _ _ _).trans (by rw [tq153_47]; exact rfl)
theorem tq153_48 : tT g 153 48 = s_load vRf 153 49 2 := rfl
theorem A153_48 {l0 : Option Value} {l1 : Option Value} {l3 : Option Value} {x : Value} {r : List Value} : aw g 153 48 [l0, l1, some (x), l3] r σ Q = (vRf x = true ∧ aw g 153 49 [l0, l1, some (x), l3] (x :: r) σ Q) := (aw_eq g 153 48 _ _ _ _).trans (by rw [tq153_48]; exact h_load rfl)
theorem tq153_49 : tT g 153 49 = s_getf 153 52 7 25 := rfl
theorem A153_49 {L : AL} {r : List Value} {a : Nat} : aw g 153 49 L (.ref a :: r) σ Q = (hty σ a = some 7 ∧ aw g 153 52 L (hv σ 7 a 25 :: r) σ Q) := (aw_eq g 153 49 _ _ _ _).trans (by rw [tq153_49]; exact rfl)
theorem tq153_52 : tT g 153 52 = s_if 153 55 65 (fun a => a = 0) := rfl
theorem A153_52 {L : AL} {r : List Value} {a : Int32} : aw g 153 52 L (.int a :: r) σ Q = ((a = 0 → aw g 153 65 L r σ Q) ∧ (¬ a = 0 → aw g 153 55 L r σ Q)) := (aw_eq g 153 52 _ _ _ _).trans (by rw [tq153_52]; exact rfl)
theorem tq153_55 : tT g 153 55 = s_load vRf 153 56 2 := rfl
theorem A153_55 {l0 : Option Value} {l1 : Option Value} {l3 : Option Value} {x : Value} {r : List Value} : aw g 153 55 [l0, l1, some (x), l3] r σ Q = (vRf x = true ∧ aw g 153 56 [l0, l1, some (x), l3] (x :: r) σ Q) := (aw_eq g 153 55 _ _ _ _).trans (by rw [tq153_55]; exact h_load rfl)
theorem tq153_56 : tT g 153 56 = s_getf 153 59 7 30 := rfl
theorem A153_56 {L : AL} {r : List Value} {a : Nat} : aw g 153 56 L (.ref a :: r) σ Q = (hty σ a = some 7 ∧ aw g 153 59 L (hv σ 7 a 30 :: r) σ Q) := (aw_eq g 153 56 _ _ _ _).trans (by rw [tq153_56]; exact rfl)
theorem tq153_59 : tT g 153 59 = s_callvk 153 62 15 10 [] 1 := rfl
theorem A153_59 {L : AL} {r : List Value} {a : Nat} : aw g 153 59 L (.ref a :: r) σ Q = (hty σ a = some 10 ∧ true = true ∧ csum r ≤ 8 ∧ aw g 15 0 [some (.ref a)] [] σ (kt (aw g) 153 62 L r Q)) := (aw_eq g 153 59 _ _ _ _).trans (by rw [tq153_59]; exact rfl)
theorem tq153_62 : tT g 153 62 = s_goto 153 66 := rfl
theorem A153_62 {L : AL} {r : List Value} : aw g 153 62 L r σ Q = aw g 153 66 L r σ Q := (aw_eq g 153 62 _ _ _ _).trans (by rw [tq153_62]; exact rfl)
theorem tq153_65 : tT g 153 65 = s_const 153 66 (.int 0) := rfl
theorem A153_65 {L : AL} {r : List Value} : aw g 153 65 L r σ Q = aw g 153 66 L (.int 0 :: r) σ Q := (aw_eq g 153 65 _ _ _ _).trans (by rw [tq153_65]; exact rfl)
theorem tq153_66 : tT g 153 66 = s_store vI 153 67 3 := rfl
theorem A153_66 {l0 : Option Value} {l1 : Option Value} {l2 : Option Value} {l3 : Option Value} {x : Int32} {r : List Value} : aw g 153 66 [l0, l1, l2, l3] (.int x :: r) σ Q = (oc l2 = true ∧ aw g 153 67 [l0, l1, l2, some (.int x)] r σ Q) := (aw_eq g 153 66 _ _ _ _).trans (by rw [tq153_66]; exact (h_store (o := oc l2) rfl rfl rfl).trans (propext ⟨fun z => z.2, fun z => ⟨rfl, z⟩⟩))
theorem tq153_67 : tT g 153 67 = s_load vRf 153 68 2 := rfl
theorem A153_67 {l0 : Option Value} {l1 : Option Value} {l3 : Option Value} {x : Value} {r : List Value} : aw g 153 67 [l0, l1, some (x), l3] r σ Q = (vRf x = true ∧ aw g 153 68 [l0, l1, some (x), l3] (x :: r) σ Q) := (aw_eq g 153 67 _ _ _ _).trans (by rw [tq153_67]; exact h_load rfl)
theorem tq153_68 : tT g 153 68 = s_const 153 69 (.int 1) := rfl
theorem A153_68 {L : AL} {r : List Value} : aw g 153 68 L r σ Q = aw g 153 69 L (.int 1 :: r) σ Q := (aw_eq g 153 68 _ _ _ _).trans (by rw [tq153_68]; exact rfl)
theorem tq153_69 : tT g 153 69 = s_putf g vZ 153 72 7 25 := rfl
theorem A153_69 {L : AL} {r : List Value} {a : Nat} {v : Value} : aw g 153 69 L (v :: .ref a :: r) σ Q = (hty σ a = some 7 ∧ gB g ≤ a ∧ vZ v ∧ aw g 153 72 L r (hput σ 7 a 25 v) Q) := (aw_eq g 153 69 _ _ _ _).trans (by rw [tq153_69]; exact rfl)
theorem tq153_72 : tT g 153 72 = s_load vRf 153 73 2 := rfl
theorem A153_72 {l0 : Option Value} {l1 : Option Value} {l3 : Option Value} {x : Value} {r : List Value} : aw g 153 72 [l0, l1, some (x), l3] r σ Q = (vRf x = true ∧ aw g 153 73 [l0, l1, some (x), l3] (x :: r) σ Q) := (aw_eq g 153 72 _ _ _ _).trans (by rw [tq153_72]; exact h_load rfl)
theorem tq153_73 : tT g 153 73 = s_load vRf 153 74 2 := rfl
theorem A153_73 {l0 : Option Value} {l1 : Option Value} {l3 : Option Value} {x : Value} {r : List Value} : aw g 153 73 [l0, l1, some (x), l3] r σ Q = (vRf x = true ∧ aw g 153 74 [l0, l1, some (x), l3] (x :: r) σ Q) := (aw_eq g 153 73 _ _ _ _).trans (by rw [tq153_73]; exact h_load rfl)
theorem tq153_74 : tT g 153 74 = s_getf 153 77 7 2 := rfl
theorem A153_74 {L : AL} {r : List Value} {a : Nat} : aw g 153 74 L (.ref a :: r) σ Q = (hty σ a = some 7 ∧ aw g 153 77 L (hv σ 7 a 2 :: r) σ Q) := (aw_eq g 153 74 _ _ _ _).trans (by rw [tq153_74]; exact rfl)
theorem tq153_77 : tT g 153 77 = s_putf g pI 153 80 7 26 := rfl
theorem A153_77 {L : AL} {r : List Value} {a : Nat} {v : Value} : aw g 153 77 L (v :: .ref a :: r) σ Q = (hty σ a = some 7 ∧ gB g ≤ a ∧ pI v ∧ aw g 153 80 L r (hput σ 7 a 26 v) Q) := (aw_eq g 153 77 _ _ _ _).trans (by rw [tq153_77]; exact rfl)
theorem tq153_80 : tT g 153 80 = s_load vRf 153 81 2 := rfl
theorem A153_80 {l0 : Option Value} {l1 : Option Value} {l3 : Option Value} {x : Value} {r : List Value} : aw g 153 80 [l0, l1, some (x), l3] r σ Q = (vRf x = true ∧ aw g 153 81 [l0, l1, some (x), l3] (x :: r) σ Q) := (aw_eq g 153 80 _ _ _ _).trans (by rw [tq153_80]; exact h_load rfl)
theorem tq153_81 : tT g 153 81 = s_load vRf 153 82 2 := rfl
theorem A153_81 {l0 : Option Value} {l1 : Option Value} {l3 : Option Value} {x : Value} {r : List Value} : aw g 153 81 [l0, l1, some (x), l3] r σ Q = (vRf x = true ∧ aw g 153 82 [l0, l1, some (x), l3] (x :: r) σ Q) := (aw_eq g 153 81 _ _ _ _).trans (by rw [tq153_81]; exact h_load rfl)
theorem tq153_82 : tT g 153 82 = s_getf 153 85 7 3 := rfl
theorem A153_82 {L : AL} {r : List Value} {a : Nat} : aw g 153 82 L (.ref a :: r) σ Q = (hty σ a = some 7 ∧ aw g 153 85 L (hv σ 7 a 3 :: r) σ Q) := (aw_eq g 153 82 _ _ _ _).trans (by rw [tq153_82]; exact rfl)
theorem tq153_85 : tT g 153 85 = s_putf g pI 153 88 7 27 := rfl
theorem A153_85 {L : AL} {r : List Value} {a : Nat} {v : Value} : aw g 153 85 L (v :: .ref a :: r) σ Q = (hty σ a = some 7 ∧ gB g ≤ a ∧ pI v ∧ aw g 153 88 L r (hput σ 7 a 27 v) Q) := (aw_eq g 153 85 _ _ _ _).trans (by rw [tq153_85]; exact rfl)
theorem tq153_88 : tT g 153 88 = s_load vRf 153 89 2 := rfl
theorem A153_88 {l0 : Option Value} {l1 : Option Value} {l3 : Option Value} {x : Value} {r : List Value} : aw g 153 88 [l0, l1, some (x), l3] r σ Q = (vRf x = true ∧ aw g 153 89 [l0, l1, some (x), l3] (x :: r) σ Q) := (aw_eq g 153 88 _ _ _ _).trans (by rw [tq153_88]; exact h_load rfl)
theorem tq153_89 : tT g 153 89 = s_getf 153 92 7 13 := rfl
theorem A153_89 {L : AL} {r : List Value} {a : Nat} : aw g 153 89 L (.ref a :: r) σ Q = (hty σ a = some 7 ∧ aw g 153 92 L (hv σ 7 a 13 :: r) σ Q) := (aw_eq g 153 89 _ _ _ _).trans (by rw [tq153_89]; exact rfl)
theorem tq153_92 : tT g 153 92 = s_const 153 93 (.int 0) := rfl
theorem A153_92 {L : AL} {r : List Value} : aw g 153 92 L r σ Q = aw g 153 93 L (.int 0 :: r) σ Q := (aw_eq g 153 92 _ _ _ _).trans (by rw [tq153_92]; exact rfl)
theorem tq153_93 : tT g 153 93 = s_load vRf 153 94 2 := rfl
theorem A153_93 {l0 : Option Value} {l1 : Option Value} {l3 : Option Value} {x : Value} {r : List Value} : aw g 153 93 [l0, l1, some (x), l3] r σ Q = (vRf x = true ∧ aw g 153 94 [l0, l1, some (x), l3] (x :: r) σ Q) := (aw_eq g 153 93 _ _ _ _).trans (by rw [tq153_93]; exact h_load rfl)
theorem tq153_94 : tT g 153 94 = s_getf 153 97 7 28 := rfl
theorem A153_94 {L : AL} {r : List Value} {a : Nat} : aw g 153 94 L (.ref a :: r) σ Q = (hty σ a = some 7 ∧ aw g 153 97 L (hv σ 7 a 28 :: r) σ Q) := (aw_eq g 153 94 _ _ _ _).trans (by rw [tq153_94]; exact rfl)
theorem tq153_97 : tT g 153 97 = s_const 153 98 (.int 0) := rfl
theorem A153_97 {L : AL} {r : List Value} : aw g 153 97 L r σ Q = aw g 153 98 L (.int 0 :: r) σ Q := (aw_eq g 153 97 _ _ _ _).trans (by rw [tq153_97]; exact rfl)
theorem tq153_98 : tT g 153 98 = s_const 153 100 (.int 6) := rfl
theorem A153_98 {L : AL} {r : List Value} : aw g 153 98 L r σ Q = aw g 153 100 L (.int 6 :: r) σ Q := (aw_eq g 153 98 _ _ _ _).trans (by rw [tq153_98]; exact rfl)
theorem tq153_100 : tT g 153 100 = s_acopy g (fun _ v => vI v = true) 153 103 20 := rfl
theorem A153_100 {L : AL} {r : List Value} {s e : Nat} {x z k : Int32} : aw g 153 100 L (.int k :: .int z :: .ref e :: .int x :: .ref s :: r) σ Q = (hty σ s = some 20 ∧ hty σ e = some 20 ∧ gB g ≤ e ∧ csum r ≤ 8 ∧ ¬ k < 0 ∧ ¬ x < 0 ∧ ¬ z < 0 ∧ x.toNatClampNeg + k.toNatClampNeg ≤ hln σ s ∧ z.toNatClampNeg + k.toNatClampNeg ≤ hln σ e ∧ (∀ i, i < k.toNatClampNeg → vI (hv σ 20 s (x.toNatClampNeg + i)) = true) ∧ aw g 153 103 L r (hcpy σ 20 s x.toNatClampNeg e z.toNatClampNeg k.toNatClampNeg) Q) := (aw_eq g 153 100 _ _ _ _).trans (by rw [tq153_100]; exact rfl)
theorem tq153_103 : tT g 153 103 = s_load vRf 153 104 2 := rfl
theorem A153_103 {l0 : Option Value} {l1 : Option Value} {l3 : Option Value} {x : Value} {r : List Value} : aw g 153 103 [l0, l1, some (x), l3] r σ Q = (vRf x = true ∧ aw g 153 104 [l0, l1, some (x), l3] (x :: r) σ Q) := (aw_eq g 153 103 _ _ _ _).trans (by rw [tq153_103]; exact h_load rfl)
theorem tq153_104 : tT g 153 104 = s_const 153 105 (.int 0) := rfl
theorem A153_104 {L : AL} {r : List Value} : aw g 153 104 L r σ Q = aw g 153 105 L (.int 0 :: r) σ Q := (aw_eq g 153 104 _ _ _ _).trans (by rw [tq153_104]; exact rfl)
theorem tq153_105 : tT g 153 105 = s_putf g pI 153 108 7 29 := rfl
theorem A153_105 {L : AL} {r : List Value} {a : Nat} {v : Value} : aw g 153 105 L (v :: .ref a :: r) σ Q = (hty σ a = some 7 ∧ gB g ≤ a ∧ pI v ∧ aw g 153 108 L r (hput σ 7 a 29 v) Q) := (aw_eq g 153 105 _ _ _ _).trans (by rw [tq153_105]; exact rfl)
theorem tq153_108 : tT g 153 108 = s_load vRf 153 109 2 := rfl
theorem A153_108 {l0 : Option Value} {l1 : Option Value} {l3 : Option Value} {x : Value} {r : List Value} : aw g 153 108 [l0, l1, some (x), l3] r σ Q = (vRf x = true ∧ aw g 153 109 [l0, l1, some (x), l3] (x :: r) σ Q) := (aw_eq g 153 108 _ _ _ _).trans (by rw [tq153_108]; exact h_load rfl)
theorem tq153_109 : tT g 153 109 = s_new g 153 112 10 3 (fun k => defaultValue (tyJ2 k)) := rfl
theorem A153_109 {L : AL} {r : List Value} : aw g 153 109 L r σ Q = (hsz σ + 1 ≤ gC g ∧ hsl σ + 3 ≤ gS g ∧ aw g 153 112 L (.ref (hsz σ) :: r) (hnew σ 10 0 (fun k => defaultValue (tyJ2 k)) 3) Q) := (aw_eq g 153 109 _ _ _ _).trans (by rw [tq153_109]; exact rfl)
theorem tq153_112 : tT g 153 112 = s_dup 153 113 := rfl
theorem A153_112 {L : AL} {r : List Value} {v : Value} : aw g 153 112 L (v :: r) σ Q = (v.category = 1 ∧ aw g 153 113 L (v :: v :: r) σ Q) := (aw_eq g 153 112 _ _ _ _).trans (by rw [tq153_112]; exact rfl)
theorem tq153_113 : tT g 153 113 = s_callik 153 116 14 [] 1 := rfl
theorem A153_113 {L : AL} {r : List Value} {a : Nat} : aw g 153 113 L (.ref a :: r) σ Q = (true = true ∧ csum r ≤ 8 ∧ aw g 14 0 [some (.ref a)] [] σ (kt (aw g) 153 116 L r Q)) := (aw_eq g 153 113 _ _ _ _).trans (by rw [tq153_113]; exact rfl)
theorem tq153_116 : tT g 153 116 = s_putf g pR 153 119 7 30 := rfl
theorem A153_116 {L : AL} {r : List Value} {a : Nat} {v : Value} : aw g 153 116 L (v :: .ref a :: r) σ Q = (hty σ a = some 7 ∧ gB g ≤ a ∧ pR v ∧ aw g 153 119 L r (hput σ 7 a 30 v) Q) := (aw_eq g 153 116 _ _ _ _).trans (by rw [tq153_116]; exact rfl)
theorem tq153_119 : tT g 153 119 = s_load vRf 153 120 2 := rfl
theorem A153_119 {l0 : Option Value} {l1 : Option Value} {l3 : Option Value} {x : Value} {r : List Value} : aw g 153 119 [l0, l1, some (x), l3] r σ Q = (vRf x = true ∧ aw g 153 120 [l0, l1, some (x), l3] (x :: r) σ Q) := (aw_eq g 153 119 _ _ _ _).trans (by rw [tq153_119]; exact h_load rfl)
theorem tq153_120 : tT g 153 120 = s_new g 153 123 10 3 (fun k => defaultValue (tyJ2 k)) := rfl
theorem A153_120 {L : AL} {r : List Value} : aw g 153 120 L r σ Q = (hsz σ + 1 ≤ gC g ∧ hsl σ + 3 ≤ gS g ∧ aw g 153 123 L (.ref (hsz σ) :: r) (hnew σ 10 0 (fun k => defaultValue (tyJ2 k)) 3) Q) := (aw_eq g 153 120 _ _ _ _).trans (by rw [tq153_120]; exact rfl)
theorem tq153_123 : tT g 153 123 = s_dup 153 124 := rfl
theorem A153_123 {L : AL} {r : List Value} {v : Value} : aw g 153 123 L (v :: r) σ Q = (v.category = 1 ∧ aw g 153 124 L (v :: v :: r) σ Q) := (aw_eq g 153 123 _ _ _ _).trans (by rw [tq153_123]; exact rfl)
theorem tq153_124 : tT g 153 124 = s_callik 153 127 14 [] 1 := rfl
theorem A153_124 {L : AL} {r : List Value} {a : Nat} : aw g 153 124 L (.ref a :: r) σ Q = (true = true ∧ csum r ≤ 8 ∧ aw g 14 0 [some (.ref a)] [] σ (kt (aw g) 153 127 L r Q)) := (aw_eq g 153 124 _ _ _ _).trans (by rw [tq153_124]; exact rfl)
theorem tq153_127 : tT g 153 127 = s_putf g pR 153 130 7 31 := rfl
theorem A153_127 {L : AL} {r : List Value} {a : Nat} {v : Value} : aw g 153 127 L (v :: .ref a :: r) σ Q = (hty σ a = some 7 ∧ gB g ≤ a ∧ pR v ∧ aw g 153 130 L r (hput σ 7 a 31 v) Q) := (aw_eq g 153 127 _ _ _ _).trans (by rw [tq153_127]; exact rfl)
theorem tq153_130 : tT g 153 130 = s_load vI 153 131 3 := rfl
theorem A153_130 {l0 : Option Value} {l1 : Option Value} {l2 : Option Value} {x : Int32} {r : List Value} : aw g 153 130 [l0, l1, l2, some (.int x)] r σ Q = aw g 153 131 [l0, l1, l2, some (.int x)] (.int x :: r) σ Q := (aw_eq g 153 130 _ _ _ _).trans (by rw [tq153_130]; exact (h_load rfl).trans (propext ⟨fun z => z.2, fun z => ⟨rfl, z⟩⟩))
theorem tq153_131 : tT g 153 131 = s_ret pI := rfl
theorem A153_131 {L : AL} {v : Value} : aw g 153 131 L [v] σ Q = (pI v ∧ Q (.inl (some v)) σ) := (aw_eq g 153 131 _ _ _ _).trans (by rw [tq153_131]; exact rfl)
theorem tq154_0 : tT g 154 0 = s_load vRf 154 1 0 := rfl
theorem A154_0 {l1 : Option Value} {l2 : Option Value} {l3 : Option Value} {x : Value} {r : List Value} : aw g 154 0 [some (x), l1, l2, l3] r σ Q = (vRf x = true ∧ aw g 154 1 [some (x), l1, l2, l3] (x :: r) σ Q) := (aw_eq g 154 0 _ _ _ _).trans (by rw [tq154_0]; exact h_load rfl)
theorem tq154_1 : tT g 154 1 = s_const 154 2 (.int 0) := rfl
theorem A154_1 {L : AL} {r : List Value} : aw g 154 1 L r σ Q = aw g 154 2 L (.int 0 :: r) σ Q := (aw_eq g 154 1 _ _ _ _).trans (by rw [tq154_1]; exact rfl)
theorem tq154_2 : tT g 154 2 = s_putf g pI 154 5 3 0 := rfl
theorem A154_2 {L : AL} {r : List Value} {a : Nat} {v : Value} : aw g 154 2 L (v :: .ref a :: r) σ Q = (hty σ a = some 3 ∧ gB g ≤ a ∧ pI v ∧ aw g 154 5 L r (hput σ 3 a 0 v) Q) := (aw_eq g 154 2 _ _ _ _).trans (by rw [tq154_2]; exact rfl)
theorem tq154_5 : tT g 154 5 = s_load vI 154 6 1 := rfl
theorem A154_5 {l0 : Option Value} {l2 : Option Value} {l3 : Option Value} {x : Int32} {r : List Value} : aw g 154 5 [l0, some (.int x), l2, l3] r σ Q = aw g 154 6 [l0, some (.int x), l2, l3] (.int x :: r) σ Q := (aw_eq g 154 5 _ _ _ _).trans (by rw [tq154_5]; exact (h_load rfl).trans (propext ⟨fun z => z.2, fun z => ⟨rfl, z⟩⟩))
theorem tq154_6 : tT g 154 6 = s_callk 154 9 155 [0] 1 := rfl
theorem A154_6 {L : AL} {r : List Value} {w0 : Value} : aw g 154 6 L (w0 :: r) σ Q = ((vI w0 && true) = true ∧ csum r ≤ 8 ∧ aw g 155 0 [some w0] [] σ (kt (aw g) 154 9 L r Q)) := (aw_eq g 154 6 _ _ _ _).trans (by rw [tq154_6]; exact rfl)
theorem tq154_9 : tT g 154 9 = s_if 154 18 12 (fun a => a = 0) := rfl
theorem A154_9 {L : AL} {r : List Value} {a : Int32} : aw g 154 9 L (.int a :: r) σ Q = ((a = 0 → aw g 154 12 L r σ Q) ∧ (¬ a = 0 → aw g 154 18 L r σ Q)) := (aw_eq g 154 9 _ _ _ _).trans (by rw [tq154_9]; exact rfl)
theorem tq154_12 : tT g 154 12 = s_load vRf 154 13 0 := rfl
theorem A154_12 {l1 : Option Value} {l2 : Option Value} {l3 : Option Value} {x : Value} {r : List Value} : aw g 154 12 [some (x), l1, l2, l3] r σ Q = (vRf x = true ∧ aw g 154 13 [some (x), l1, l2, l3] (x :: r) σ Q) := (aw_eq g 154 12 _ _ _ _).trans (by rw [tq154_12]; exact h_load rfl)
theorem tq154_13 : tT g 154 13 = s_const 154 14 (.int 1) := rfl
theorem A154_13 {L : AL} {r : List Value} : aw g 154 13 L r σ Q = aw g 154 14 L (.int 1 :: r) σ Q := (aw_eq g 154 13 _ _ _ _).trans (by rw [tq154_13]; exact rfl)
theorem tq154_14 : tT g 154 14 = s_callvk 154 17 141 3 [0] 2 := rfl
theorem A154_14 {L : AL} {r : List Value} {a : Nat} {w0 : Value} : aw g 154 14 L (w0 :: .ref a :: r) σ Q = (hty σ a = some 3 ∧ (vI w0 && true) = true ∧ csum r ≤ 8 ∧ aw g 141 0 [some (.ref a), some w0] [] σ (kt (aw g) 154 17 L r Q)) := (aw_eq g 154 14 _ _ _ _).trans (by rw [tq154_14]; exact rfl)
theorem tq154_17 : tT g 154 17 = s_ret pI := rfl
theorem A154_17 {L : AL} {v : Value} : aw g 154 17 L [v] σ Q = (pI v ∧ Q (.inl (some v)) σ) := (aw_eq g 154 17 _ _ _ _).trans (by rw [tq154_17]; exact rfl)
theorem tq154_18 : tT g 154 18 = s_load vRf 154 19 0 := rfl
theorem A154_18 {l1 : Option Value} {l2 : Option Value} {l3 : Option Value} {x : Value} {r : List Value} : aw g 154 18 [some (x), l1, l2, l3] r σ Q = (vRf x = true ∧ aw g 154 19 [some (x), l1, l2, l3] (x :: r) σ Q) := (aw_eq g 154 18 _ _ _ _).trans (by rw [tq154_18]; exact h_load rfl)
theorem tq154_19 : tT g 154 19 = s_getf 154 22 3 1 := rfl
theorem A154_19 {L : AL} {r : List Value} {a : Nat} : aw g 154 19 L (.ref a :: r) σ Q = (hty σ a = some 3 ∧ aw g 154 22 L (hv σ 3 a 1 :: r) σ Q) := (aw_eq g 154 19 _ _ _ _).trans (by rw [tq154_19]; exact rfl)
theorem tq154_22 : tT g 154 22 = s_callvk 154 25 182 4 [] 4 := rfl
theorem A154_22 {L : AL} {r : List Value} {a : Nat} : aw g 154 22 L (.ref a :: r) σ Q = (hty σ a = some 4 ∧ true = true ∧ csum r ≤ 8 ∧ aw g 182 0 [some (.ref a), none, none, none] [] σ (kt (aw g) 154 25 L r Q)) := (aw_eq g 154 22 _ _ _ _).trans (by rw [tq154_22]; exact rfl)
theorem tq154_25 : tT g 154 25 = s_store vI 154 26 2 := rfl
theorem A154_25 {l0 : Option Value} {l1 : Option Value} {l2 : Option Value} {l3 : Option Value} {x : Int32} {r : List Value} : aw g 154 25 [l0, l1, l2, l3] (.int x :: r) σ Q = (oc l1 = true ∧ aw g 154 26 [l0, l1, some (.int x), l3] r σ Q) := (aw_eq g 154 25 _ _ _ _).trans (by rw [tq154_25]; exact (h_store (o := oc l1) rfl rfl rfl).trans (propext ⟨fun z => z.2, fun z => ⟨rfl, z⟩⟩))
theorem tq154_26 : tT g 154 26 = s_const 154 27 (.int 0) := rfl
theorem A154_26 {L : AL} {r : List Value} : aw g 154 26 L r σ Q = aw g 154 27 L (.int 0 :: r) σ Q := (aw_eq g 154 26 _ _ _ _).trans (by rw [tq154_26]; exact rfl)
theorem tq154_27 : tT g 154 27 = s_store vI 154 28 3 := rfl
theorem A154_27 {l0 : Option Value} {l1 : Option Value} {l2 : Option Value} {l3 : Option Value} {x : Int32} {r : List Value} : aw g 154 27 [l0, l1, l2, l3] (.int x :: r) σ Q = (oc l2 = true ∧ aw g 154 28 [l0, l1, l2, some (.int x)] r σ Q) := (aw_eq g 154 27 _ _ _ _).trans (by rw [tq154_27]; exact (h_store (o := oc l2) rfl rfl rfl).trans (propext ⟨fun z => z.2, fun z => ⟨rfl, z⟩⟩))
theorem tq154_28 : tT g 154 28 = s_load vI 154 29 3 := rfl
theorem A154_28 {l0 : Option Value} {l1 : Option Value} {l2 : Option Value} {x : Int32} {r : List Value} : aw g 154 28 [l0, l1, l2, some (.int x)] r σ Q = aw g 154 29 [l0, l1, l2, some (.int x)] (.int x :: r) σ Q := (aw_eq g 154 28 _ _ _ _).trans (by rw [tq154_28]; exact (h_load rfl).trans (propext ⟨fun z => z.2, fun z => ⟨rfl, z⟩⟩))
theorem tq154_29 : tT g 154 29 = s_load vI 154 30 1 := rfl
theorem A154_29 {l0 : Option Value} {l2 : Option Value} {l3 : Option Value} {x : Int32} {r : List Value} : aw g 154 29 [l0, some (.int x), l2, l3] r σ Q = aw g 154 30 [l0, some (.int x), l2, l3] (.int x :: r) σ Q := (aw_eq g 154 29 _ _ _ _).trans (by rw [tq154_29]; exact (h_load rfl).trans (propext ⟨fun z => z.2, fun z => ⟨rfl, z⟩⟩))
theorem tq154_30 : tT g 154 30 = s_icmp 154 33 46 (fun a b => b ≤ a) := rfl
theorem A154_30 {L : AL} {r : List Value} {a b : Int32} : aw g 154 30 L (.int b :: .int a :: r) σ Q = ((b ≤ a → aw g 154 46 L r σ Q) ∧ (¬ b ≤ a → aw g 154 33 L r σ Q)) := (aw_eq g 154 30 _ _ _ _).trans (by rw [tq154_30]; exact rfl)
theorem tq154_33 : tT g 154 33 = s_load vRf 154 34 0 := rfl
theorem A154_33 {l1 : Option Value} {l2 : Option Value} {l3 : Option Value} {x : Value} {r : List Value} : aw g 154 33 [some (x), l1, l2, l3] r σ Q = (vRf x = true ∧ aw g 154 34 [some (x), l1, l2, l3] (x :: r) σ Q) := (aw_eq g 154 33 _ _ _ _).trans (by rw [tq154_33]; exact h_load rfl)
theorem tq154_34 : tT g 154 34 = s_getf 154 37 3 1 := rfl
theorem A154_34 {L : AL} {r : List Value} {a : Nat} : aw g 154 34 L (.ref a :: r) σ Q = (hty σ a = some 3 ∧ aw g 154 37 L (hv σ 3 a 1 :: r) σ Q) := (aw_eq g 154 34 _ _ _ _).trans (by rw [tq154_34]; exact rfl)
theorem tq154_37 : tT g 154 37 = s_callvk 154 40 183 4 [] 3 := rfl
theorem A154_37 {L : AL} {r : List Value} {a : Nat} : aw g 154 37 L (.ref a :: r) σ Q = (hty σ a = some 4 ∧ true = true ∧ csum r ≤ 8 ∧ aw g 183 0 [some (.ref a), none, none] [] σ (kt (aw g) 154 40 L r Q)) := (aw_eq g 154 37 _ _ _ _).trans (by rw [tq154_37]; exact rfl)
theorem tq154_40 : tT g 154 40 = s_iinc 154 43 3 1 := rfl
theorem A154_40 {l0 : Option Value} {l1 : Option Value} {l2 : Option Value} {x : Int32} {r : List Value} : aw g 154 40 [l0, l1, l2, some (.int x)] r σ Q = (oc l2 = true ∧ aw g 154 43 [l0, l1, l2, some (.int (x + 1))] r σ Q) := (aw_eq g 154 40 _ _ _ _).trans (by rw [tq154_40]; exact (h_iinc (o := oc l2) rfl rfl rfl))
theorem tq154_43 : tT g 154 43 = s_goto 154 28 := rfl
theorem A154_43 {L : AL} {r : List Value} : aw g 154 43 L r σ Q = aw g 154 28 L r σ Q := (aw_eq g 154 43 _ _ _ _).trans (by rw [tq154_43]; exact rfl)
theorem tq154_46 : tT g 154 46 = s_load vRf 154 47 0 := rfl
theorem A154_46 {l1 : Option Value} {l2 : Option Value} {l3 : Option Value} {x : Value} {r : List Value} : aw g 154 46 [some (x), l1, l2, l3] r σ Q = (vRf x = true ∧ aw g 154 47 [some (x), l1, l2, l3] (x :: r) σ Q) := (aw_eq g 154 46 _ _ _ _).trans (by rw [tq154_46]; exact h_load rfl)
theorem tq154_47 : tT g 154 47 = s_getf 154 50 3 1 := rfl
theorem A154_47 {L : AL} {r : List Value} {a : Nat} : aw g 154 47 L (.ref a :: r) σ Q = (hty σ a = some 3 ∧ aw g 154 50 L (hv σ 3 a 1 :: r) σ Q) := (aw_eq g 154 47 _ _ _ _).trans (by rw [tq154_47]; exact rfl)
theorem tq154_50 : tT g 154 50 = s_callvk 154 53 182 4 [] 4 := rfl
theorem A154_50 {L : AL} {r : List Value} {a : Nat} : aw g 154 50 L (.ref a :: r) σ Q = (hty σ a = some 4 ∧ true = true ∧ csum r ≤ 8 ∧ aw g 182 0 [some (.ref a), none, none, none] [] σ (kt (aw g) 154 53 L r Q)) := (aw_eq g 154 50 _ _ _ _).trans (by rw [tq154_50]; exact rfl)
theorem tq154_53 : tT g 154 53 = s_load vI 154 54 2 := rfl
theorem A154_53 {l0 : Option Value} {l1 : Option Value} {l3 : Option Value} {x : Int32} {r : List Value} : aw g 154 53 [l0, l1, some (.int x), l3] r σ Q = aw g 154 54 [l0, l1, some (.int x), l3] (.int x :: r) σ Q := (aw_eq g 154 53 _ _ _ _).trans (by rw [tq154_53]; exact (h_load rfl).trans (propext ⟨fun z => z.2, fun z => ⟨rfl, z⟩⟩))
theorem tq154_54 : tT g 154 54 = s_bin 154 55 (fun a b => a - b) := rfl
theorem A154_54 {L : AL} {r : List Value} {a b : Int32} : aw g 154 54 L (.int b :: .int a :: r) σ Q = aw g 154 55 L (.int (a - b) :: r) σ Q := (aw_eq g 154 54 _ _ _ _).trans (by rw [tq154_54]; exact rfl)
theorem tq154_55 : tT g 154 55 = s_ret pI := rfl
theorem A154_55 {L : AL} {v : Value} : aw g 154 55 L [v] σ Q = (pI v ∧ Q (.inl (some v)) σ) := (aw_eq g 154 55 _ _ _ _).trans (by rw [tq154_55]; exact rfl)
theorem tq155_0 : tT g 155 0 = s_load vI 155 1 0 := rfl
theorem A155_0  {x : Int32} {r : List Value} : aw g 155 0 [some (.int x)] r σ Q = aw g 155 1 [some (.int x)] (.int x :: r) σ Q := (aw_eq g 155 0 _ _ _ _).trans (by rw [tq155_0]; exact (h_load rfl).trans (propext ⟨fun z => z.2, fun z => ⟨rfl, z⟩⟩))
theorem tq155_1 : tT g 155 1 = s_const 155 2 (.int 1) := rfl
theorem A155_1 {L : AL} {r : List Value} : aw g 155 1 L r σ Q = aw g 155 2 L (.int 1 :: r) σ Q := (aw_eq g 155 1 _ _ _ _).trans (by rw [tq155_1]; exact rfl)
theorem tq155_2 : tT g 155 2 = s_const 155 4 (.int 60) := rfl
theorem A155_2 {L : AL} {r : List Value} : aw g 155 2 L r σ Q = aw g 155 4 L (.int 60 :: r) σ Q := (aw_eq g 155 2 _ _ _ _).trans (by rw [tq155_2]; exact rfl)
theorem tq155_4 : tT g 155 4 = s_callk 155 7 140 [0, 0, 0] 3 := rfl
theorem A155_4 {L : AL} {r : List Value} {w0 w1 w2 : Value} : aw g 155 4 L (w2 :: w1 :: w0 :: r) σ Q = ((vI w0 && (vI w1 && (vI w2 && true))) = true ∧ csum r ≤ 8 ∧ aw g 140 0 [some w0, some w1, some w2] [] σ (kt (aw g) 155 7 L r Q)) := (aw_eq g 155 4 _ _ _ _).trans (by rw [tq155_4]; exact rfl)
theorem tq155_7 : tT g 155 7 = s_ret vZ := rfl
theorem A155_7 {L : AL} {v : Value} : aw g 155 7 L [v] σ Q = (vZ v ∧ Q (.inl (some v)) σ) := (aw_eq g 155 7 _ _ _ _).trans (by rw [tq155_7]; exact rfl)
theorem tq156_0 : tT g 156 0 = s_load vRf 156 1 0 := rfl
theorem A156_0 {l1 : Option Value} {l2 : Option Value} {x : Value} {r : List Value} : aw g 156 0 [some (x), l1, l2] r σ Q = (vRf x = true ∧ aw g 156 1 [some (x), l1, l2] (x :: r) σ Q) := (aw_eq g 156 0 _ _ _ _).trans (by rw [tq156_0]; exact h_load rfl)
theorem tq156_1 : tT g 156 1 = s_const 156 2 (.int 0) := rfl
theorem A156_1 {L : AL} {r : List Value} : aw g 156 1 L r σ Q = aw g 156 2 L (.int 0 :: r) σ Q := (aw_eq g 156 1 _ _ _ _).trans (by rw [tq156_1]; exact rfl)
theorem tq156_2 : tT g 156 2 = s_putf g pI 156 5 3 0 := rfl
theorem A156_2 {L : AL} {r : List Value} {a : Nat} {v : Value} : aw g 156 2 L (v :: .ref a :: r) σ Q = (hty σ a = some 3 ∧ gB g ≤ a ∧ pI v ∧ aw g 156 5 L r (hput σ 3 a 0 v) Q) := (aw_eq g 156 2 _ _ _ _).trans (by rw [tq156_2]; exact rfl)
theorem tq156_5 : tT g 156 5 = s_load vRf 156 6 0 := rfl
theorem A156_5 {l1 : Option Value} {l2 : Option Value} {x : Value} {r : List Value} : aw g 156 5 [some (x), l1, l2] r σ Q = (vRf x = true ∧ aw g 156 6 [some (x), l1, l2] (x :: r) σ Q) := (aw_eq g 156 5 _ _ _ _).trans (by rw [tq156_5]; exact h_load rfl)
theorem tq156_6 : tT g 156 6 = s_load vI 156 7 1 := rfl
theorem A156_6 {l0 : Option Value} {l2 : Option Value} {x : Int32} {r : List Value} : aw g 156 6 [l0, some (.int x), l2] r σ Q = aw g 156 7 [l0, some (.int x), l2] (.int x :: r) σ Q := (aw_eq g 156 6 _ _ _ _).trans (by rw [tq156_6]; exact (h_load rfl).trans (propext ⟨fun z => z.2, fun z => ⟨rfl, z⟩⟩))
theorem tq156_7 : tT g 156 7 = s_callvk 156 10 143 3 [0] 2 := rfl
theorem A156_7 {L : AL} {r : List Value} {a : Nat} {w0 : Value} : aw g 156 7 L (w0 :: .ref a :: r) σ Q = (hty σ a = some 3 ∧ (vI w0 && true) = true ∧ csum r ≤ 8 ∧ aw g 143 0 [some (.ref a), some w0] [] σ (kt (aw g) 156 10 L r Q)) := (aw_eq g 156 7 _ _ _ _).trans (by rw [tq156_7]; exact rfl)
theorem tq156_10 : tT g 156 10 = s_if 156 19 13 (fun a => a = 0) := rfl
theorem A156_10 {L : AL} {r : List Value} {a : Int32} : aw g 156 10 L (.int a :: r) σ Q = ((a = 0 → aw g 156 13 L r σ Q) ∧ (¬ a = 0 → aw g 156 19 L r σ Q)) := (aw_eq g 156 10 _ _ _ _).trans (by rw [tq156_10]; exact rfl)
theorem tq156_13 : tT g 156 13 = s_load vRf 156 14 0 := rfl
theorem A156_13 {l1 : Option Value} {l2 : Option Value} {x : Value} {r : List Value} : aw g 156 13 [some (x), l1, l2] r σ Q = (vRf x = true ∧ aw g 156 14 [some (x), l1, l2] (x :: r) σ Q) := (aw_eq g 156 13 _ _ _ _).trans (by rw [tq156_13]; exact h_load rfl)
theorem tq156_14 : tT g 156 14 = s_const 156 15 (.int 1) := rfl
theorem A156_14 {L : AL} {r : List Value} : aw g 156 14 L r σ Q = aw g 156 15 L (.int 1 :: r) σ Q := (aw_eq g 156 14 _ _ _ _).trans (by rw [tq156_14]; exact rfl)
theorem tq156_15 : tT g 156 15 = s_callvk 156 18 141 3 [0] 2 := rfl
theorem A156_15 {L : AL} {r : List Value} {a : Nat} {w0 : Value} : aw g 156 15 L (w0 :: .ref a :: r) σ Q = (hty σ a = some 3 ∧ (vI w0 && true) = true ∧ csum r ≤ 8 ∧ aw g 141 0 [some (.ref a), some w0] [] σ (kt (aw g) 156 18 L r Q)) := (aw_eq g 156 15 _ _ _ _).trans (by rw [tq156_15]; exact rfl)
theorem tq156_18 : tT g 156 18 = s_ret pI := rfl
theorem A156_18 {L : AL} {v : Value} : aw g 156 18 L [v] σ Q = (pI v ∧ Q (.inl (some v)) σ) := (aw_eq g 156 18 _ _ _ _).trans (by rw [tq156_18]; exact rfl)
theorem tq156_19 : tT g 156 19 = s_load vI 156 20 2 := rfl
theorem A156_19 {l0 : Option Value} {l1 : Option Value} {x : Int32} {r : List Value} : aw g 156 19 [l0, l1, some (.int x)] r σ Q = aw g 156 20 [l0, l1, some (.int x)] (.int x :: r) σ Q := (aw_eq g 156 19 _ _ _ _).trans (by rw [tq156_19]; exact (h_load rfl).trans (propext ⟨fun z => z.2, fun z => ⟨rfl, z⟩⟩))
theorem tq156_20 : tT g 156 20 = s_const 156 21 (.int 0) := rfl
theorem A156_20 {L : AL} {r : List Value} : aw g 156 20 L r σ Q = aw g 156 21 L (.int 0 :: r) σ Q := (aw_eq g 156 20 _ _ _ _).trans (by rw [tq156_20]; exact rfl)
theorem tq156_21 : tT g 156 21 = s_const 156 23 (.int 15) := rfl
theorem A156_21 {L : AL} {r : List Value} : aw g 156 21 L r σ Q = aw g 156 23 L (.int 15 :: r) σ Q := (aw_eq g 156 21 _ _ _ _).trans (by rw [tq156_21]; exact rfl)
theorem tq156_23 : tT g 156 23 = s_callk 156 26 140 [0, 0, 0] 3 := rfl
theorem A156_23 {L : AL} {r : List Value} {w0 w1 w2 : Value} : aw g 156 23 L (w2 :: w1 :: w0 :: r) σ Q = ((vI w0 && (vI w1 && (vI w2 && true))) = true ∧ csum r ≤ 8 ∧ aw g 140 0 [some w0, some w1, some w2] [] σ (kt (aw g) 156 26 L r Q)) := (aw_eq g 156 23 _ _ _ _).trans (by rw [tq156_23]; exact rfl)
theorem tq156_26 : tT g 156 26 = s_if 156 29 38 (fun a => a = 0) := rfl
theorem A156_26 {L : AL} {r : List Value} {a : Int32} : aw g 156 26 L (.int a :: r) σ Q = ((a = 0 → aw g 156 38 L r σ Q) ∧ (¬ a = 0 → aw g 156 29 L r σ Q)) := (aw_eq g 156 26 _ _ _ _).trans (by rw [tq156_26]; exact rfl)
theorem tq156_29 : tT g 156 29 = s_load vRf 156 30 0 := rfl
theorem A156_29 {l1 : Option Value} {l2 : Option Value} {x : Value} {r : List Value} : aw g 156 29 [some (x), l1, l2] r σ Q = (vRf x = true ∧ aw g 156 30 [some (x), l1, l2] (x :: r) σ Q) := (aw_eq g 156 29 _ _ _ _).trans (by rw [tq156_29]; exact h_load rfl)
theorem tq156_30 : tT g 156 30 = s_load vI 156 31 1 := rfl
theorem A156_30 {l0 : Option Value} {l2 : Option Value} {x : Int32} {r : List Value} : aw g 156 30 [l0, some (.int x), l2] r σ Q = aw g 156 31 [l0, some (.int x), l2] (.int x :: r) σ Q := (aw_eq g 156 30 _ _ _ _).trans (by rw [tq156_30]; exact (h_load rfl).trans (propext ⟨fun z => z.2, fun z => ⟨rfl, z⟩⟩))
theorem tq156_31 : tT g 156 31 = s_load vI 156 32 2 := rfl
theorem A156_31 {l0 : Option Value} {l1 : Option Value} {x : Int32} {r : List Value} : aw g 156 31 [l0, l1, some (.int x)] r σ Q = aw g 156 32 [l0, l1, some (.int x)] (.int x :: r) σ Q := (aw_eq g 156 31 _ _ _ _).trans (by rw [tq156_31]; exact (h_load rfl).trans (propext ⟨fun z => z.2, fun z => ⟨rfl, z⟩⟩))
theorem tq156_32 : tT g 156 32 = s_callvk 156 35 157 3 [0, 0] 5 := rfl
theorem A156_32 {L : AL} {r : List Value} {a : Nat} {w0 w1 : Value} : aw g 156 32 L (w1 :: w0 :: .ref a :: r) σ Q = (hty σ a = some 3 ∧ (vI w0 && (vI w1 && true)) = true ∧ csum r ≤ 8 ∧ aw g 157 0 [some (.ref a), some w0, some w1, none, none] [] σ (kt (aw g) 156 35 L r Q)) := (aw_eq g 156 32 _ _ _ _).trans (by rw [tq156_32]; exact rfl)
theorem tq156_35 : tT g 156 35 = s_goto 156 43 := rfl
theorem A156_35 {L : AL} {r : List Value} : aw g 156 35 L r σ Q = aw g 156 43 L r σ Q := (aw_eq g 156 35 _ _ _ _).trans (by rw [tq156_35]; exact rfl)
theorem tq156_38 : tT g 156 38 = s_load vRf 156 39 0 := rfl
theorem A156_38 {l1 : Option Value} {l2 : Option Value} {x : Value} {r : List Value} : aw g 156 38 [some (x), l1, l2] r σ Q = (vRf x = true ∧ aw g 156 39 [some (x), l1, l2] (x :: r) σ Q) := (aw_eq g 156 38 _ _ _ _).trans (by rw [tq156_38]; exact h_load rfl)
theorem tq156_39 : tT g 156 39 = s_const 156 40 (.int 2) := rfl
theorem A156_39 {L : AL} {r : List Value} : aw g 156 39 L r σ Q = aw g 156 40 L (.int 2 :: r) σ Q := (aw_eq g 156 39 _ _ _ _).trans (by rw [tq156_39]; exact rfl)
theorem tq156_40 : tT g 156 40 = s_callvk 156 43 141 3 [0] 2 := rfl
theorem A156_40 {L : AL} {r : List Value} {a : Nat} {w0 : Value} : aw g 156 40 L (w0 :: .ref a :: r) σ Q = (hty σ a = some 3 ∧ (vI w0 && true) = true ∧ csum r ≤ 8 ∧ aw g 141 0 [some (.ref a), some w0] [] σ (kt (aw g) 156 43 L r Q)) := (aw_eq g 156 40 _ _ _ _).trans (by rw [tq156_40]; exact rfl)
theorem tq156_43 : tT g 156 43 = s_ret pI := rfl
theorem A156_43 {L : AL} {v : Value} : aw g 156 43 L [v] σ Q = (pI v ∧ Q (.inl (some v)) σ) := (aw_eq g 156 43 _ _ _ _).trans (by rw [tq156_43]; exact rfl)
theorem tq157_0 : tT g 157 0 = s_load vRf 157 1 0 := rfl
theorem A157_0 {l1 : Option Value} {l2 : Option Value} {l3 : Option Value} {l4 : Option Value} {x : Value} {r : List Value} : aw g 157 0 [some (x), l1, l2, l3, l4] r σ Q = (vRf x = true ∧ aw g 157 1 [some (x), l1, l2, l3, l4] (x :: r) σ Q) := (aw_eq g 157 0 _ _ _ _).trans (by rw [tq157_0]; exact h_load rfl)
theorem tq157_1 : tT g 157 1 = s_getf 157 4 3 1 := rfl
theorem A157_1 {L : AL} {r : List Value} {a : Nat} : aw g 157 1 L (.ref a :: r) σ Q = (hty σ a = some 3 ∧ aw g 157 4 L (hv σ 3 a 1 :: r) σ Q) := (aw_eq g 157 1 _ _ _ _).trans (by rw [tq157_1]; exact rfl)
theorem tq157_4 : tT g 157 4 = s_getf 157 7 4 0 := rfl
theorem A157_4 {L : AL} {r : List Value} {a : Nat} : aw g 157 4 L (.ref a :: r) σ Q = (hty σ a = some 4 ∧ aw g 157 7 L (hv σ 4 a 0 :: r) σ Q) := (aw_eq g 157 4 _ _ _ _).trans (by rw [tq157_4]; exact rfl)
theorem tq157_7 : tT g 157 7 = s_load vI 157 8 1 := rfl
theorem A157_7 {l0 : Option Value} {l2 : Option Value} {l3 : Option Value} {l4 : Option Value} {x : Int32} {r : List Value} : aw g 157 7 [l0, some (.int x), l2, l3, l4] r σ Q = aw g 157 8 [l0, some (.int x), l2, l3, l4] (.int x :: r) σ Q := (aw_eq g 157 7 _ _ _ _).trans (by rw [tq157_7]; exact (h_load rfl).trans (propext ⟨fun z => z.2, fun z => ⟨rfl, z⟩⟩))
theorem tq157_8 : tT g 157 8 = s_callvk 157 11 25 10 [0] 2 := rfl
theorem A157_8 {L : AL} {r : List Value} {a : Nat} {w0 : Value} : aw g 157 8 L (w0 :: .ref a :: r) σ Q = (hty σ a = some 10 ∧ (vI w0 && true) = true ∧ csum r ≤ 8 ∧ aw g 25 0 [some (.ref a), some w0] [] σ (kt (aw g) 157 11 L r Q)) := (aw_eq g 157 8 _ _ _ _).trans (by rw [tq157_8]; exact rfl)
theorem tq157_11 : tT g 157 11 = s_cast 157 14 [7] := rfl
theorem A157_11 {L : AL} {r : List Value} : aw g 157 11 L (.null :: r) σ Q = aw g 157 14 L (.null :: r) σ Q := (aw_eq g 157 11 _ _ _ _).trans (by rw [tq157_11]; exact rfl)
theorem A157_11r {L : AL} {r : List Value} {a : Nat} : aw g 157 11 L (.ref a :: r) σ Q = (hty σ a = some 7 ∧ aw g 157 14 L (.ref a :: r) σ Q) := (aw_eq g 157 11 _ _ _ _).trans (by rw [tq157_11]; exact propext ⟨fun z => (by obtain ⟨⟨u, hu, hu2⟩, z2⟩ := z; rw [List.mem_singleton] at hu; subst hu; exact ⟨hu2, z2⟩), fun z => ⟨⟨_, List.mem_cons_self, z.1⟩, z.2⟩⟩)
theorem tq157_14 : tT g 157 14 = s_store vRf 157 15 3 := rfl
theorem A157_14 {l0 : Option Value} {l1 : Option Value} {l2 : Option Value} {l3 : Option Value} {l4 : Option Value} {x : Value} {r : List Value} : aw g 157 14 [l0, l1, l2, l3, l4] (x :: r) σ Q = (vRf x = true ∧ oc l2 = true ∧ aw g 157 15 [l0, l1, l2, some (x), l4] r σ Q) := (aw_eq g 157 14 _ _ _ _).trans (by rw [tq157_14]; exact (h_store (o := oc l2) rfl rfl rfl))
theorem tq157_15 : tT g 157 15 = s_const 157 17 (.int 16) := rfl
theorem A157_15 {L : AL} {r : List Value} : aw g 157 15 L r σ Q = aw g 157 17 L (.int 16 :: r) σ Q := (aw_eq g 157 15 _ _ _ _).trans (by rw [tq157_15]; exact rfl)
theorem tq157_17 : tT g 157 17 = s_newa g 157 19 20 (.int 0) := rfl
theorem A157_17 {L : AL} {r : List Value} {x : Int32} : aw g 157 17 L (.int x :: r) σ Q = (¬ x < 0 ∧ x.toNatClampNeg ≤ 65536 ∧ hsz σ + 1 ≤ gC g ∧ hsl σ + x.toNatClampNeg ≤ gS g ∧ aw g 157 19 L (.ref (hsz σ) :: r) (hnew σ 20 x.toNatClampNeg (fun _ => .int 0) x.toNatClampNeg) Q) := (aw_eq g 157 17 _ _ _ _).trans (by rw [tq157_17]; exact rfl)
theorem tq157_19 : tT g 157 19 = s_dup 157 20 := rfl
theorem A157_19 {L : AL} {r : List Value} {v : Value} : aw g 157 19 L (v :: r) σ Q = (v.category = 1 ∧ aw g 157 20 L (v :: v :: r) σ Q) := (aw_eq g 157 19 _ _ _ _).trans (by rw [tq157_19]; exact rfl)
theorem tq157_20 : tT g 157 20 = s_const 157 21 (.int 0) := rfl
theorem A157_20 {L : AL} {r : List Value} : aw g 157 20 L r σ Q = aw g 157 21 L (.int 0 :: r) σ Q := (aw_eq g 157 20 _ _ _ _).trans (by rw [tq157_20]; exact rfl)
theorem tq157_21 : tT g 157 21 = s_load vRf 157 22 3 := rfl
theorem A157_21 {l0 : Option Value} {l1 : Option Value} {l2 : Option Value} {l4 : Option Value} {x : Value} {r : List Value} : aw g 157 21 [l0, l1, l2, some (x), l4] r σ Q = (vRf x = true ∧ aw g 157 22 [l0, l1, l2, some (x), l4] (x :: r) σ Q) := (aw_eq g 157 21 _ _ _ _).trans (by rw [tq157_21]; exact h_load rfl)
theorem tq157_22 : tT g 157 22 = s_getf 157 25 7 6 := rfl
theorem A157_22 {L : AL} {r : List Value} {a : Nat} : aw g 157 22 L (.ref a :: r) σ Q = (hty σ a = some 7 ∧ aw g 157 25 L (hv σ 7 a 6 :: r) σ Q) := (aw_eq g 157 22 _ _ _ _).trans (by rw [tq157_22]; exact rfl)
theorem tq157_25 : tT g 157 25 = s_ast g (fun _ v => vI v = true) 157 26 20 := rfl
theorem A157_25 {L : AL} {r : List Value} {a : Nat} {i : Int32} {v : Value} : aw g 157 25 L (v :: .int i :: .ref a :: r) σ Q = (hty σ a = some 20 ∧ gB g ≤ a ∧ ¬ i < 0 ∧ i.toNatClampNeg < hln σ a ∧ vI v = true ∧ aw g 157 26 L r (hput σ 20 a i.toNatClampNeg v) Q) := (aw_eq g 157 25 _ _ _ _).trans (by rw [tq157_25]; exact rfl)
theorem tq157_26 : tT g 157 26 = s_dup 157 27 := rfl
theorem A157_26 {L : AL} {r : List Value} {v : Value} : aw g 157 26 L (v :: r) σ Q = (v.category = 1 ∧ aw g 157 27 L (v :: v :: r) σ Q) := (aw_eq g 157 26 _ _ _ _).trans (by rw [tq157_26]; exact rfl)
theorem tq157_27 : tT g 157 27 = s_const 157 28 (.int 1) := rfl
theorem A157_27 {L : AL} {r : List Value} : aw g 157 27 L r σ Q = aw g 157 28 L (.int 1 :: r) σ Q := (aw_eq g 157 27 _ _ _ _).trans (by rw [tq157_27]; exact rfl)
theorem tq157_28 : tT g 157 28 = s_load vRf 157 29 3 := rfl
theorem A157_28 {l0 : Option Value} {l1 : Option Value} {l2 : Option Value} {l4 : Option Value} {x : Value} {r : List Value} : aw g 157 28 [l0, l1, l2, some (x), l4] r σ Q = (vRf x = true ∧ aw g 157 29 [l0, l1, l2, some (x), l4] (x :: r) σ Q) := (aw_eq g 157 28 _ _ _ _).trans (by rw [tq157_28]; exact h_load rfl)
theorem tq157_29 : tT g 157 29 = s_getf 157 32 7 2 := rfl
theorem A157_29 {L : AL} {r : List Value} {a : Nat} : aw g 157 29 L (.ref a :: r) σ Q = (hty σ a = some 7 ∧ aw g 157 32 L (hv σ 7 a 2 :: r) σ Q) := (aw_eq g 157 29 _ _ _ _).trans (by rw [tq157_29]; exact rfl)
theorem tq157_32 : tT g 157 32 = s_ast g (fun _ v => vI v = true) 157 33 20 := rfl
theorem A157_32 {L : AL} {r : List Value} {a : Nat} {i : Int32} {v : Value} : aw g 157 32 L (v :: .int i :: .ref a :: r) σ Q = (hty σ a = some 20 ∧ gB g ≤ a ∧ ¬ i < 0 ∧ i.toNatClampNeg < hln σ a ∧ vI v = true ∧ aw g 157 33 L r (hput σ 20 a i.toNatClampNeg v) Q) := (aw_eq g 157 32 _ _ _ _).trans (by rw [tq157_32]; exact rfl)
theorem tq157_33 : tT g 157 33 = s_dup 157 34 := rfl
theorem A157_33 {L : AL} {r : List Value} {v : Value} : aw g 157 33 L (v :: r) σ Q = (v.category = 1 ∧ aw g 157 34 L (v :: v :: r) σ Q) := (aw_eq g 157 33 _ _ _ _).trans (by rw [tq157_33]; exact rfl)
theorem tq157_34 : tT g 157 34 = s_const 157 35 (.int 2) := rfl
theorem A157_34 {L : AL} {r : List Value} : aw g 157 34 L r σ Q = aw g 157 35 L (.int 2 :: r) σ Q := (aw_eq g 157 34 _ _ _ _).trans (by rw [tq157_34]; exact rfl)
theorem tq157_35 : tT g 157 35 = s_load vRf 157 36 3 := rfl
theorem A157_35 {l0 : Option Value} {l1 : Option Value} {l2 : Option Value} {l4 : Option Value} {x : Value} {r : List Value} : aw g 157 35 [l0, l1, l2, some (x), l4] r σ Q = (vRf x = true ∧ aw g 157 36 [l0, l1, l2, some (x), l4] (x :: r) σ Q) := (aw_eq g 157 35 _ _ _ _).trans (by rw [tq157_35]; exact h_load rfl)
theorem tq157_36 : tT g 157 36 = s_getf 157 39 7 3 := rfl
theorem A157_36 {L : AL} {r : List Value} {a : Nat} : aw g 157 36 L (.ref a :: r) σ Q = (hty σ a = some 7 ∧ aw g 157 39 L (hv σ 7 a 3 :: r) σ Q) := (aw_eq g 157 36 _ _ _ _).trans (by rw [tq157_36]; exact rfl)
theorem tq157_39 : tT g 157 39 = s_ast g (fun _ v => vI v = true) 157 40 20 := rfl
theorem A157_39 {L : AL} {r : List Value} {a : Nat} {i : Int32} {v : Value} : aw g 157 39 L (v :: .int i :: .ref a :: r) σ Q = (hty σ a = some 20 ∧ gB g ≤ a ∧ ¬ i < 0 ∧ i.toNatClampNeg < hln σ a ∧ vI v = true ∧ aw g 157 40 L r (hput σ 20 a i.toNatClampNeg v) Q) := (aw_eq g 157 39 _ _ _ _).trans (by rw [tq157_39]; exact rfl)
theorem tq157_40 : tT g 157 40 = s_dup 157 41 := rfl
theorem A157_40 {L : AL} {r : List Value} {v : Value} : aw g 157 40 L (v :: r) σ Q = (v.category = 1 ∧ aw g 157 41 L (v :: v :: r) σ Q) := (aw_eq g 157 40 _ _ _ _).trans (by rw [tq157_40]; exact rfl)
theorem tq157_41 : tT g 157 41 = s_const 157 42 (.int 3) := rfl
theorem A157_41 {L : AL} {r : List Value} : aw g 157 41 L r σ Q = aw g 157 42 L (.int 3 :: r) σ Q := (aw_eq g 157 41 _ _ _ _).trans (by rw [tq157_41]; exact rfl)
theorem tq157_42 : tT g 157 42 = s_load vRf 157 43 3 := rfl
theorem A157_42 {l0 : Option Value} {l1 : Option Value} {l2 : Option Value} {l4 : Option Value} {x : Value} {r : List Value} : aw g 157 42 [l0, l1, l2, some (x), l4] r σ Q = (vRf x = true ∧ aw g 157 43 [l0, l1, l2, some (x), l4] (x :: r) σ Q) := (aw_eq g 157 42 _ _ _ _).trans (by rw [tq157_42]; exact h_load rfl)
theorem tq157_43 : tT g 157 43 = s_getf 157 46 7 4 := rfl
theorem A157_43 {L : AL} {r : List Value} {a : Nat} : aw g 157 43 L (.ref a :: r) σ Q = (hty σ a = some 7 ∧ aw g 157 46 L (hv σ 7 a 4 :: r) σ Q) := (aw_eq g 157 43 _ _ _ _).trans (by rw [tq157_43]; exact rfl)
theorem tq157_46 : tT g 157 46 = s_ast g (fun _ v => vI v = true) 157 47 20 := rfl
theorem A157_46 {L : AL} {r : List Value} {a : Nat} {i : Int32} {v : Value} : aw g 157 46 L (v :: .int i :: .ref a :: r) σ Q = (hty σ a = some 20 ∧ gB g ≤ a ∧ ¬ i < 0 ∧ i.toNatClampNeg < hln σ a ∧ vI v = true ∧ aw g 157 47 L r (hput σ 20 a i.toNatClampNeg v) Q) := (aw_eq g 157 46 _ _ _ _).trans (by rw [tq157_46]; exact rfl)
theorem tq157_47 : tT g 157 47 = s_dup 157 48 := rfl
theorem A157_47 {L : AL} {r : List Value} {v : Value} : aw g 157 47 L (v :: r) σ Q = (v.category = 1 ∧ aw g 157 48 L (v :: v :: r) σ Q) := (aw_eq g 157 47 _ _ _ _).trans (by rw [tq157_47]; exact rfl)
theorem tq157_48 : tT g 157 48 = s_const 157 49 (.int 4) := rfl
theorem A157_48 {L : AL} {r : List Value} : aw g 157 48 L r σ Q = aw g 157 49 L (.int 4 :: r) σ Q := (aw_eq g 157 48 _ _ _ _).trans (by rw [tq157_48]; exact rfl)
theorem tq157_49 : tT g 157 49 = s_load vRf 157 50 3 := rfl
theorem A157_49 {l0 : Option Value} {l1 : Option Value} {l2 : Option Value} {l4 : Option Value} {x : Value} {r : List Value} : aw g 157 49 [l0, l1, l2, some (x), l4] r σ Q = (vRf x = true ∧ aw g 157 50 [l0, l1, l2, some (x), l4] (x :: r) σ Q) := (aw_eq g 157 49 _ _ _ _).trans (by rw [tq157_49]; exact h_load rfl)
theorem tq157_50 : tT g 157 50 = s_getf 157 53 7 5 := rfl
theorem A157_50 {L : AL} {r : List Value} {a : Nat} : aw g 157 50 L (.ref a :: r) σ Q = (hty σ a = some 7 ∧ aw g 157 53 L (hv σ 7 a 5 :: r) σ Q) := (aw_eq g 157 50 _ _ _ _).trans (by rw [tq157_50]; exact rfl)
theorem tq157_53 : tT g 157 53 = s_ast g (fun _ v => vI v = true) 157 54 20 := rfl
theorem A157_53 {L : AL} {r : List Value} {a : Nat} {i : Int32} {v : Value} : aw g 157 53 L (v :: .int i :: .ref a :: r) σ Q = (hty σ a = some 20 ∧ gB g ≤ a ∧ ¬ i < 0 ∧ i.toNatClampNeg < hln σ a ∧ vI v = true ∧ aw g 157 54 L r (hput σ 20 a i.toNatClampNeg v) Q) := (aw_eq g 157 53 _ _ _ _).trans (by rw [tq157_53]; exact rfl)
theorem tq157_54 : tT g 157 54 = s_dup 157 55 := rfl
theorem A157_54 {L : AL} {r : List Value} {v : Value} : aw g 157 54 L (v :: r) σ Q = (v.category = 1 ∧ aw g 157 55 L (v :: v :: r) σ Q) := (aw_eq g 157 54 _ _ _ _).trans (by rw [tq157_54]; exact rfl)
theorem tq157_55 : tT g 157 55 = s_const 157 56 (.int 5) := rfl
theorem A157_55 {L : AL} {r : List Value} : aw g 157 55 L r σ Q = aw g 157 56 L (.int 5 :: r) σ Q := (aw_eq g 157 55 _ _ _ _).trans (by rw [tq157_55]; exact rfl)
theorem tq157_56 : tT g 157 56 = s_load vRf 157 57 3 := rfl
theorem A157_56 {l0 : Option Value} {l1 : Option Value} {l2 : Option Value} {l4 : Option Value} {x : Value} {r : List Value} : aw g 157 56 [l0, l1, l2, some (x), l4] r σ Q = (vRf x = true ∧ aw g 157 57 [l0, l1, l2, some (x), l4] (x :: r) σ Q) := (aw_eq g 157 56 _ _ _ _).trans (by rw [tq157_56]; exact h_load rfl)
theorem tq157_57 : tT g 157 57 = s_getf 157 60 7 9 := rfl
theorem A157_57 {L : AL} {r : List Value} {a : Nat} : aw g 157 57 L (.ref a :: r) σ Q = (hty σ a = some 7 ∧ aw g 157 60 L (hv σ 7 a 9 :: r) σ Q) := (aw_eq g 157 57 _ _ _ _).trans (by rw [tq157_57]; exact rfl)
theorem tq157_60 : tT g 157 60 = s_ast g (fun _ v => vI v = true) 157 61 20 := rfl
theorem A157_60 {L : AL} {r : List Value} {a : Nat} {i : Int32} {v : Value} : aw g 157 60 L (v :: .int i :: .ref a :: r) σ Q = (hty σ a = some 20 ∧ gB g ≤ a ∧ ¬ i < 0 ∧ i.toNatClampNeg < hln σ a ∧ vI v = true ∧ aw g 157 61 L r (hput σ 20 a i.toNatClampNeg v) Q) := (aw_eq g 157 60 _ _ _ _).trans (by rw [tq157_60]; exact rfl)
theorem tq157_61 : tT g 157 61 = s_dup 157 62 := rfl
theorem A157_61 {L : AL} {r : List Value} {v : Value} : aw g 157 61 L (v :: r) σ Q = (v.category = 1 ∧ aw g 157 62 L (v :: v :: r) σ Q) := (aw_eq g 157 61 _ _ _ _).trans (by rw [tq157_61]; exact rfl)
theorem tq157_62 : tT g 157 62 = s_const 157 64 (.int 6) := rfl
theorem A157_62 {L : AL} {r : List Value} : aw g 157 62 L r σ Q = aw g 157 64 L (.int 6 :: r) σ Q := (aw_eq g 157 62 _ _ _ _).trans (by rw [tq157_62]; exact rfl)
theorem tq157_64 : tT g 157 64 = s_load vRf 157 65 3 := rfl
theorem A157_64 {l0 : Option Value} {l1 : Option Value} {l2 : Option Value} {l4 : Option Value} {x : Value} {r : List Value} : aw g 157 64 [l0, l1, l2, some (x), l4] r σ Q = (vRf x = true ∧ aw g 157 65 [l0, l1, l2, some (x), l4] (x :: r) σ Q) := (aw_eq g 157 64 _ _ _ _).trans (by rw [tq157_64]; exact h_load rfl)
theorem tq157_65 : tT g 157 65 = s_getf 157 68 7 10 := rfl
theorem A157_65 {L : AL} {r : List Value} {a : Nat} : aw g 157 65 L (.ref a :: r) σ Q = (hty σ a = some 7 ∧ aw g 157 68 L (hv σ 7 a 10 :: r) σ Q) := (aw_eq g 157 65 _ _ _ _).trans (by rw [tq157_65]; exact rfl)
theorem tq157_68 : tT g 157 68 = s_ast g (fun _ v => vI v = true) 157 69 20 := rfl
theorem A157_68 {L : AL} {r : List Value} {a : Nat} {i : Int32} {v : Value} : aw g 157 68 L (v :: .int i :: .ref a :: r) σ Q = (hty σ a = some 20 ∧ gB g ≤ a ∧ ¬ i < 0 ∧ i.toNatClampNeg < hln σ a ∧ vI v = true ∧ aw g 157 69 L r (hput σ 20 a i.toNatClampNeg v) Q) := (aw_eq g 157 68 _ _ _ _).trans (by rw [tq157_68]; exact rfl)
theorem tq157_69 : tT g 157 69 = s_dup 157 70 := rfl
theorem A157_69 {L : AL} {r : List Value} {v : Value} : aw g 157 69 L (v :: r) σ Q = (v.category = 1 ∧ aw g 157 70 L (v :: v :: r) σ Q) := (aw_eq g 157 69 _ _ _ _).trans (by rw [tq157_69]; exact rfl)
theorem tq157_70 : tT g 157 70 = s_const 157 72 (.int 7) := rfl
theorem A157_70 {L : AL} {r : List Value} : aw g 157 70 L r σ Q = aw g 157 72 L (.int 7 :: r) σ Q := (aw_eq g 157 70 _ _ _ _).trans (by rw [tq157_70]; exact rfl)
theorem tq157_72 : tT g 157 72 = s_load vRf 157 73 3 := rfl
theorem A157_72 {l0 : Option Value} {l1 : Option Value} {l2 : Option Value} {l4 : Option Value} {x : Value} {r : List Value} : aw g 157 72 [l0, l1, l2, some (x), l4] r σ Q = (vRf x = true ∧ aw g 157 73 [l0, l1, l2, some (x), l4] (x :: r) σ Q) := (aw_eq g 157 72 _ _ _ _).trans (by rw [tq157_72]; exact h_load rfl)
theorem tq157_73 : tT g 157 73 = s_getf 157 76 7 11 := rfl
theorem A157_73 {L : AL} {r : List Value} {a : Nat} : aw g 157 73 L (.ref a :: r) σ Q = (hty σ a = some 7 ∧ aw g 157 76 L (hv σ 7 a 11 :: r) σ Q) := (aw_eq g 157 73 _ _ _ _).trans (by rw [tq157_73]; exact rfl)
theorem tq157_76 : tT g 157 76 = s_ast g (fun _ v => vI v = true) 157 77 20 := rfl
theorem A157_76 {L : AL} {r : List Value} {a : Nat} {i : Int32} {v : Value} : aw g 157 76 L (v :: .int i :: .ref a :: r) σ Q = (hty σ a = some 20 ∧ gB g ≤ a ∧ ¬ i < 0 ∧ i.toNatClampNeg < hln σ a ∧ vI v = true ∧ aw g 157 77 L r (hput σ 20 a i.toNatClampNeg v) Q) := (aw_eq g 157 76 _ _ _ _).trans (by rw [tq157_76]; exact rfl)
theorem tq157_77 : tT g 157 77 = s_dup 157 78 := rfl
theorem A157_77 {L : AL} {r : List Value} {v : Value} : aw g 157 77 L (v :: r) σ Q = (v.category = 1 ∧ aw g 157 78 L (v :: v :: r) σ Q) := (aw_eq g 157 77 _ _ _ _).trans (by rw [tq157_77]; exact rfl)
theorem tq157_78 : tT g 157 78 = s_const 157 80 (.int 8) := rfl
theorem A157_78 {L : AL} {r : List Value} : aw g 157 78 L r σ Q = aw g 157 80 L (.int 8 :: r) σ Q := (aw_eq g 157 78 _ _ _ _).trans (by rw [tq157_78]; exact rfl)
theorem tq157_80 : tT g 157 80 = s_load vRf 157 81 3 := rfl
theorem A157_80 {l0 : Option Value} {l1 : Option Value} {l2 : Option Value} {l4 : Option Value} {x : Value} {r : List Value} : aw g 157 80 [l0, l1, l2, some (x), l4] r σ Q = (vRf x = true ∧ aw g 157 81 [l0, l1, l2, some (x), l4] (x :: r) σ Q) := (aw_eq g 157 80 _ _ _ _).trans (by rw [tq157_80]; exact h_load rfl)
theorem tq157_81 : tT g 157 81 = s_getf 157 84 7 12 := rfl
theorem A157_81 {L : AL} {r : List Value} {a : Nat} : aw g 157 81 L (.ref a :: r) σ Q = (hty σ a = some 7 ∧ aw g 157 84 L (hv σ 7 a 12 :: r) σ Q) := (aw_eq g 157 81 _ _ _ _).trans (by rw [tq157_81]; exact rfl)
theorem tq157_84 : tT g 157 84 = s_ast g (fun _ v => vI v = true) 157 85 20 := rfl
theorem A157_84 {L : AL} {r : List Value} {a : Nat} {i : Int32} {v : Value} : aw g 157 84 L (v :: .int i :: .ref a :: r) σ Q = (hty σ a = some 20 ∧ gB g ≤ a ∧ ¬ i < 0 ∧ i.toNatClampNeg < hln σ a ∧ vI v = true ∧ aw g 157 85 L r (hput σ 20 a i.toNatClampNeg v) Q) := (aw_eq g 157 84 _ _ _ _).trans (by rw [tq157_84]; exact rfl)
theorem tq157_85 : tT g 157 85 = s_dup 157 86 := rfl
theorem A157_85 {L : AL} {r : List Value} {v : Value} : aw g 157 85 L (v :: r) σ Q = (v.category = 1 ∧ aw g 157 86 L (v :: v :: r) σ Q) := (aw_eq g 157 85 _ _ _ _).trans (by rw [tq157_85]; exact rfl)
theorem tq157_86 : tT g 157 86 = s_const 157 88 (.int 9) := rfl
theorem A157_86 {L : AL} {r : List Value} : aw g 157 86 L r σ Q = aw g 157 88 L (.int 9 :: r) σ Q := (aw_eq g 157 86 _ _ _ _).trans (by rw [tq157_86]; exact rfl)
theorem tq157_88 : tT g 157 88 = s_load vRf 157 89 3 := rfl
theorem A157_88 {l0 : Option Value} {l1 : Option Value} {l2 : Option Value} {l4 : Option Value} {x : Value} {r : List Value} : aw g 157 88 [l0, l1, l2, some (x), l4] r σ Q = (vRf x = true ∧ aw g 157 89 [l0, l1, l2, some (x), l4] (x :: r) σ Q) := (aw_eq g 157 88 _ _ _ _).trans (by rw [tq157_88]; exact h_load rfl)
theorem tq157_89 : tT g 157 89 = s_const 157 90 (.int 0) := rfl
theorem A157_89 {L : AL} {r : List Value} : aw g 157 89 L r σ Q = aw g 157 90 L (.int 0 :: r) σ Q := (aw_eq g 157 89 _ _ _ _).trans (by rw [tq157_89]; exact rfl)
theorem tq157_90 : tT g 157 90 = s_callvk 157 93 206 7 [0] 4 := rfl
theorem A157_90 {L : AL} {r : List Value} {a : Nat} {w0 : Value} : aw g 157 90 L (w0 :: .ref a :: r) σ Q = (hty σ a = some 7 ∧ (vI w0 && true) = true ∧ csum r ≤ 8 ∧ aw g 206 0 [some (.ref a), some w0, none, none] [] σ (kt (aw g) 157 93 L r Q)) := (aw_eq g 157 90 _ _ _ _).trans (by rw [tq157_90]; exact rfl)
theorem tq157_93 : tT g 157 93 = s_ast g (fun _ v => vI v = true) 157 94 20 := rfl
theorem A157_93 {L : AL} {r : List Value} {a : Nat} {i : Int32} {v : Value} : aw g 157 93 L (v :: .int i :: .ref a :: r) σ Q = (hty σ a = some 20 ∧ gB g ≤ a ∧ ¬ i < 0 ∧ i.toNatClampNeg < hln σ a ∧ vI v = true ∧ aw g 157 94 L r (hput σ 20 a i.toNatClampNeg v) Q) := (aw_eq g 157 93 _ _ _ _).trans (by rw [tq157_93]; exact rfl)
theorem tq157_94 : tT g 157 94 = s_dup 157 95 := rfl
theorem A157_94 {L : AL} {r : List Value} {v : Value} : aw g 157 94 L (v :: r) σ Q = (v.category = 1 ∧ aw g 157 95 L (v :: v :: r) σ Q) := (aw_eq g 157 94 _ _ _ _).trans (by rw [tq157_94]; exact rfl)
theorem tq157_95 : tT g 157 95 = s_const 157 97 (.int 10) := rfl
theorem A157_95 {L : AL} {r : List Value} : aw g 157 95 L r σ Q = aw g 157 97 L (.int 10 :: r) σ Q := (aw_eq g 157 95 _ _ _ _).trans (by rw [tq157_95]; exact rfl)
theorem tq157_97 : tT g 157 97 = s_load vRf 157 98 3 := rfl
theorem A157_97 {l0 : Option Value} {l1 : Option Value} {l2 : Option Value} {l4 : Option Value} {x : Value} {r : List Value} : aw g 157 97 [l0, l1, l2, some (x), l4] r σ Q = (vRf x = true ∧ aw g 157 98 [l0, l1, l2, some (x), l4] (x :: r) σ Q) := (aw_eq g 157 97 _ _ _ _).trans (by rw [tq157_97]; exact h_load rfl)
theorem tq157_98 : tT g 157 98 = s_const 157 99 (.int 1) := rfl
theorem A157_98 {L : AL} {r : List Value} : aw g 157 98 L r σ Q = aw g 157 99 L (.int 1 :: r) σ Q := (aw_eq g 157 98 _ _ _ _).trans (by rw [tq157_98]; exact rfl)
theorem tq157_99 : tT g 157 99 = s_callvk 157 102 206 7 [0] 4 := rfl
theorem A157_99 {L : AL} {r : List Value} {a : Nat} {w0 : Value} : aw g 157 99 L (w0 :: .ref a :: r) σ Q = (hty σ a = some 7 ∧ (vI w0 && true) = true ∧ csum r ≤ 8 ∧ aw g 206 0 [some (.ref a), some w0, none, none] [] σ (kt (aw g) 157 102 L r Q)) := (aw_eq g 157 99 _ _ _ _).trans (by rw [tq157_99]; exact rfl)
theorem tq157_102 : tT g 157 102 = s_ast g (fun _ v => vI v = true) 157 103 20 := rfl
theorem A157_102 {L : AL} {r : List Value} {a : Nat} {i : Int32} {v : Value} : aw g 157 102 L (v :: .int i :: .ref a :: r) σ Q = (hty σ a = some 20 ∧ gB g ≤ a ∧ ¬ i < 0 ∧ i.toNatClampNeg < hln σ a ∧ vI v = true ∧ aw g 157 103 L r (hput σ 20 a i.toNatClampNeg v) Q) := (aw_eq g 157 102 _ _ _ _).trans (by rw [tq157_102]; exact rfl)
theorem tq157_103 : tT g 157 103 = s_dup 157 104 := rfl
theorem A157_103 {L : AL} {r : List Value} {v : Value} : aw g 157 103 L (v :: r) σ Q = (v.category = 1 ∧ aw g 157 104 L (v :: v :: r) σ Q) := (aw_eq g 157 103 _ _ _ _).trans (by rw [tq157_103]; exact rfl)
theorem tq157_104 : tT g 157 104 = s_const 157 106 (.int 11) := rfl
theorem A157_104 {L : AL} {r : List Value} : aw g 157 104 L r σ Q = aw g 157 106 L (.int 11 :: r) σ Q := (aw_eq g 157 104 _ _ _ _).trans (by rw [tq157_104]; exact rfl)
theorem tq157_106 : tT g 157 106 = s_load vRf 157 107 3 := rfl
theorem A157_106 {l0 : Option Value} {l1 : Option Value} {l2 : Option Value} {l4 : Option Value} {x : Value} {r : List Value} : aw g 157 106 [l0, l1, l2, some (x), l4] r σ Q = (vRf x = true ∧ aw g 157 107 [l0, l1, l2, some (x), l4] (x :: r) σ Q) := (aw_eq g 157 106 _ _ _ _).trans (by rw [tq157_106]; exact h_load rfl)
theorem tq157_107 : tT g 157 107 = s_const 157 108 (.int 2) := rfl
theorem A157_107 {L : AL} {r : List Value} : aw g 157 107 L r σ Q = aw g 157 108 L (.int 2 :: r) σ Q := (aw_eq g 157 107 _ _ _ _).trans (by rw [tq157_107]; exact rfl)
theorem tq157_108 : tT g 157 108 = s_callvk 157 111 206 7 [0] 4 := rfl
theorem A157_108 {L : AL} {r : List Value} {a : Nat} {w0 : Value} : aw g 157 108 L (w0 :: .ref a :: r) σ Q = (hty σ a = some 7 ∧ (vI w0 && true) = true ∧ csum r ≤ 8 ∧ aw g 206 0 [some (.ref a), some w0, none, none] [] σ (kt (aw g) 157 111 L r Q)) := (aw_eq g 157 108 _ _ _ _).trans (by rw [tq157_108]; exact rfl)
theorem tq157_111 : tT g 157 111 = s_ast g (fun _ v => vI v = true) 157 112 20 := rfl
theorem A157_111 {L : AL} {r : List Value} {a : Nat} {i : Int32} {v : Value} : aw g 157 111 L (v :: .int i :: .ref a :: r) σ Q = (hty σ a = some 20 ∧ gB g ≤ a ∧ ¬ i < 0 ∧ i.toNatClampNeg < hln σ a ∧ vI v = true ∧ aw g 157 112 L r (hput σ 20 a i.toNatClampNeg v) Q) := (aw_eq g 157 111 _ _ _ _).trans (by rw [tq157_111]; exact rfl)
theorem tq157_112 : tT g 157 112 = s_dup 157 113 := rfl
theorem A157_112 {L : AL} {r : List Value} {v : Value} : aw g 157 112 L (v :: r) σ Q = (v.category = 1 ∧ aw g 157 113 L (v :: v :: r) σ Q) := (aw_eq g 157 112 _ _ _ _).trans (by rw [tq157_112]; exact rfl)
theorem tq157_113 : tT g 157 113 = s_const 157 115 (.int 12) := rfl
theorem A157_113 {L : AL} {r : List Value} : aw g 157 113 L r σ Q = aw g 157 115 L (.int 12 :: r) σ Q := (aw_eq g 157 113 _ _ _ _).trans (by rw [tq157_113]; exact rfl)
theorem tq157_115 : tT g 157 115 = s_load vRf 157 116 3 := rfl
theorem A157_115 {l0 : Option Value} {l1 : Option Value} {l2 : Option Value} {l4 : Option Value} {x : Value} {r : List Value} : aw g 157 115 [l0, l1, l2, some (x), l4] r σ Q = (vRf x = true ∧ aw g 157 116 [l0, l1, l2, some (x), l4] (x :: r) σ Q) := (aw_eq g 157 115 _ _ _ _).trans (by rw [tq157_115]; exact h_load rfl)
theorem tq157_116 : tT g 157 116 = s_getf 157 119 7 18 := rfl
theorem A157_116 {L : AL} {r : List Value} {a : Nat} : aw g 157 116 L (.ref a :: r) σ Q = (hty σ a = some 7 ∧ aw g 157 119 L (hv σ 7 a 18 :: r) σ Q) := (aw_eq g 157 116 _ _ _ _).trans (by rw [tq157_116]; exact rfl)
theorem tq157_119 : tT g 157 119 = s_if 157 122 132 (fun a => a = 0) := rfl
theorem A157_119 {L : AL} {r : List Value} {a : Int32} : aw g 157 119 L (.int a :: r) σ Q = ((a = 0 → aw g 157 132 L r σ Q) ∧ (¬ a = 0 → aw g 157 122 L r σ Q)) := (aw_eq g 157 119 _ _ _ _).trans (by rw [tq157_119]; exact rfl)
theorem tq157_122 : tT g 157 122 = s_load vRf 157 123 3 := rfl
theorem A157_122 {l0 : Option Value} {l1 : Option Value} {l2 : Option Value} {l4 : Option Value} {x : Value} {r : List Value} : aw g 157 122 [l0, l1, l2, some (x), l4] r σ Q = (vRf x = true ∧ aw g 157 123 [l0, l1, l2, some (x), l4] (x :: r) σ Q) := (aw_eq g 157 122 _ _ _ _).trans (by rw [tq157_122]; exact h_load rfl)
theorem tq157_123 : tT g 157 123 = s_getf 157 126 7 22 := rfl
theorem A157_123 {L : AL} {r : List Value} {a : Nat} : aw g 157 123 L (.ref a :: r) σ Q = (hty σ a = some 7 ∧ aw g 157 126 L (hv σ 7 a 22 :: r) σ Q) := (aw_eq g 157 123 _ _ _ _).trans (by rw [tq157_123]; exact rfl)
theorem tq157_126 : tT g 157 126 = s_callk 157 129 11 [0] 1 := rfl
theorem A157_126 {L : AL} {r : List Value} {w0 : Value} : aw g 157 126 L (w0 :: r) σ Q = ((vI w0 && true) = true ∧ csum r ≤ 8 ∧ aw g 11 0 [some w0] [] σ (kt (aw g) 157 129 L r Q)) := (aw_eq g 157 126 _ _ _ _).trans (by rw [tq157_126]; exact rfl)
theorem tq157_129 : tT g 157 129 = s_goto 157 133 := rfl
theorem A157_129 {L : AL} {r : List Value} : aw g 157 129 L r σ Q = aw g 157 133 L r σ Q := (aw_eq g 157 129 _ _ _ _).trans (by rw [tq157_129]; exact rfl)
theorem tq157_132 : tT g 157 132 = s_const 157 133 (.int (-1)) := rfl
theorem A157_132 {L : AL} {r : List Value} : aw g 157 132 L r σ Q = aw g 157 133 L (.int (-1) :: r) σ Q := (aw_eq g 157 132 _ _ _ _).trans (by rw [tq157_132]; exact rfl)
theorem tq157_133 : tT g 157 133 = s_ast g (fun _ v => vI v = true) 157 134 20 := rfl
theorem A157_133 {L : AL} {r : List Value} {a : Nat} {i : Int32} {v : Value} : aw g 157 133 L (v :: .int i :: .ref a :: r) σ Q = (hty σ a = some 20 ∧ gB g ≤ a ∧ ¬ i < 0 ∧ i.toNatClampNeg < hln σ a ∧ vI v = true ∧ aw g 157 134 L r (hput σ 20 a i.toNatClampNeg v) Q) := (aw_eq g 157 133 _ _ _ _).trans (by rw [tq157_133]; exact rfl)
theorem tq157_134 : tT g 157 134 = s_dup 157 135 := rfl
theorem A157_134 {L : AL} {r : List Value} {v : Value} : aw g 157 134 L (v :: r) σ Q = (v.category = 1 ∧ aw g 157 135 L (v :: v :: r) σ Q) := (aw_eq g 157 134 _ _ _ _).trans (by rw [tq157_134]; exact rfl)
theorem tq157_135 : tT g 157 135 = s_const 157 137 (.int 13) := rfl
theorem A157_135 {L : AL} {r : List Value} : aw g 157 135 L r σ Q = aw g 157 137 L (.int 13 :: r) σ Q := (aw_eq g 157 135 _ _ _ _).trans (by rw [tq157_135]; exact rfl)
theorem tq157_137 : tT g 157 137 = s_load vRf 157 138 3 := rfl
theorem A157_137 {l0 : Option Value} {l1 : Option Value} {l2 : Option Value} {l4 : Option Value} {x : Value} {r : List Value} : aw g 157 137 [l0, l1, l2, some (x), l4] r σ Q = (vRf x = true ∧ aw g 157 138 [l0, l1, l2, some (x), l4] (x :: r) σ Q) := (aw_eq g 157 137 _ _ _ _).trans (by rw [tq157_137]; exact h_load rfl)
theorem tq157_138 : tT g 157 138 = s_getf 157 141 7 24 := rfl
theorem A157_138 {L : AL} {r : List Value} {a : Nat} : aw g 157 138 L (.ref a :: r) σ Q = (hty σ a = some 7 ∧ aw g 157 141 L (hv σ 7 a 24 :: r) σ Q) := (aw_eq g 157 138 _ _ _ _).trans (by rw [tq157_138]; exact rfl)
theorem tq157_141 : tT g 157 141 = s_ast g (fun _ v => vI v = true) 157 142 20 := rfl
theorem A157_141 {L : AL} {r : List Value} {a : Nat} {i : Int32} {v : Value} : aw g 157 141 L (v :: .int i :: .ref a :: r) σ Q = (hty σ a = some 20 ∧ gB g ≤ a ∧ ¬ i < 0 ∧ i.toNatClampNeg < hln σ a ∧ vI v = true ∧ aw g 157 142 L r (hput σ 20 a i.toNatClampNeg v) Q) := (aw_eq g 157 141 _ _ _ _).trans (by rw [tq157_141]; exact rfl)
theorem tq157_142 : tT g 157 142 = s_dup 157 143 := rfl
theorem A157_142 {L : AL} {r : List Value} {v : Value} : aw g 157 142 L (v :: r) σ Q = (v.category = 1 ∧ aw g 157 143 L (v :: v :: r) σ Q) := (aw_eq g 157 142 _ _ _ _).trans (by rw [tq157_142]; exact rfl)
theorem tq157_143 : tT g 157 143 = s_const 157 145 (.int 14) := rfl
theorem A157_143 {L : AL} {r : List Value} : aw g 157 143 L r σ Q = aw g 157 145 L (.int 14 :: r) σ Q := (aw_eq g 157 143 _ _ _ _).trans (by rw [tq157_143]; exact rfl)
theorem tq157_145 : tT g 157 145 = s_load vRf 157 146 3 := rfl
theorem A157_145 {l0 : Option Value} {l1 : Option Value} {l2 : Option Value} {l4 : Option Value} {x : Value} {r : List Value} : aw g 157 145 [l0, l1, l2, some (x), l4] r σ Q = (vRf x = true ∧ aw g 157 146 [l0, l1, l2, some (x), l4] (x :: r) σ Q) := (aw_eq g 157 145 _ _ _ _).trans (by rw [tq157_145]; exact h_load rfl)
theorem tq157_146 : tT g 157 146 = s_getf 157 149 7 6 := rfl
theorem A157_146 {L : AL} {r : List Value} {a : Nat} : aw g 157 146 L (.ref a :: r) σ Q = (hty σ a = some 7 ∧ aw g 157 149 L (hv σ 7 a 6 :: r) σ Q) := (aw_eq g 157 146 _ _ _ _).trans (by rw [tq157_146]; exact rfl)
theorem tq157_149 : tT g 157 149 = s_const 157 150 (.int 2) := rfl
theorem A157_149 {L : AL} {r : List Value} : aw g 157 149 L r σ Q = aw g 157 150 L (.int 2 :: r) σ Q := (aw_eq g 157 149 _ _ _ _).trans (by rw [tq157_149]; exact rfl)
theorem tq157_150 : tT g 157 150 = s_icmp 157 153 169 (fun a b => a = b) := rfl
theorem A157_150 {L : AL} {r : List Value} {a b : Int32} : aw g 157 150 L (.int b :: .int a :: r) σ Q = ((a = b → aw g 157 169 L r σ Q) ∧ (¬ a = b → aw g 157 153 L r σ Q)) := (aw_eq g 157 150 _ _ _ _).trans (by rw [tq157_150]; exact rfl)
theorem tq157_153 : tT g 157 153 = s_load vRf 157 154 3 := rfl
theorem A157_153 {l0 : Option Value} {l1 : Option Value} {l2 : Option Value} {l4 : Option Value} {x : Value} {r : List Value} : aw g 157 153 [l0, l1, l2, some (x), l4] r σ Q = (vRf x = true ∧ aw g 157 154 [l0, l1, l2, some (x), l4] (x :: r) σ Q) := (aw_eq g 157 153 _ _ _ _).trans (by rw [tq157_153]; exact h_load rfl)
theorem tq157_154 : tT g 157 154 = s_getf 157 157 7 6 := rfl
theorem A157_154 {L : AL} {r : List Value} {a : Nat} : aw g 157 154 L (.ref a :: r) σ Q = (hty σ a = some 7 ∧ aw g 157 157 L (hv σ 7 a 6 :: r) σ Q) := (aw_eq g 157 154 _ _ _ _).trans (by rw [tq157_154]; exact rfl)
theorem tq157_157 : tT g 157 157 = s_const 157 158 (.int 3) := rfl
theorem A157_157 {L : AL} {r : List Value} : aw g 157 157 L r σ Q = aw g 157 158 L (.int 3 :: r) σ Q := (aw_eq g 157 157 _ _ _ _).trans (by rw [tq157_157]; exact rfl)
theorem tq157_158 : tT g 157 158 = s_icmp 157 176 161 (fun a b => a = b) := rfl
theorem A157_158 {L : AL} {r : List Value} {a b : Int32} : aw g 157 158 L (.int b :: .int a :: r) σ Q = ((a = b → aw g 157 161 L r σ Q) ∧ (¬ a = b → aw g 157 176 L r σ Q)) := (aw_eq g 157 158 _ _ _ _).trans (by rw [tq157_158]; exact rfl)
theorem tq157_161 : tT g 157 161 = s_load vRf 157 162 3 := rfl
theorem A157_161 {l0 : Option Value} {l1 : Option Value} {l2 : Option Value} {l4 : Option Value} {x : Value} {r : List Value} : aw g 157 161 [l0, l1, l2, some (x), l4] r σ Q = (vRf x = true ∧ aw g 157 162 [l0, l1, l2, some (x), l4] (x :: r) σ Q) := (aw_eq g 157 161 _ _ _ _).trans (by rw [tq157_161]; exact h_load rfl)
theorem tq157_162 : tT g 157 162 = s_getf 157 165 7 7 := rfl
theorem A157_162 {L : AL} {r : List Value} {a : Nat} : aw g 157 162 L (.ref a :: r) σ Q = (hty σ a = some 7 ∧ aw g 157 165 L (hv σ 7 a 7 :: r) σ Q) := (aw_eq g 157 162 _ _ _ _).trans (by rw [tq157_162]; exact rfl)
theorem tq157_165 : tT g 157 165 = s_const 157 166 (.int 2) := rfl
theorem A157_165 {L : AL} {r : List Value} : aw g 157 165 L r σ Q = aw g 157 166 L (.int 2 :: r) σ Q := (aw_eq g 157 165 _ _ _ _).trans (by rw [tq157_165]; exact rfl)
theorem tq157_166 : tT g 157 166 = s_icmp 157 176 169 (fun a b => a = b) := rfl
theorem A157_166 {L : AL} {r : List Value} {a b : Int32} : aw g 157 166 L (.int b :: .int a :: r) σ Q = ((a = b → aw g 157 169 L r σ Q) ∧ (¬ a = b → aw g 157 176 L r σ Q)) := (aw_eq g 157 166 _ _ _ _).trans (by rw [tq157_166]; exact rfl)
theorem tq157_169 : tT g 157 169 = s_load vRf 157 170 3 := rfl
theorem A157_169 {l0 : Option Value} {l1 : Option Value} {l2 : Option Value} {l4 : Option Value} {x : Value} {r : List Value} : aw g 157 169 [l0, l1, l2, some (x), l4] r σ Q = (vRf x = true ∧ aw g 157 170 [l0, l1, l2, some (x), l4] (x :: r) σ Q) := (aw_eq g 157 169 _ _ _ _).trans (by rw [tq157_169]; exact h_load rfl)
theorem tq157_170 : tT g 157 170 = s_getf 157 173 7 8 := rfl
theorem A157_170 {L : AL} {r : List Value} {a : Nat} : aw g 157 170 L (.ref a :: r) σ Q = (hty σ a = some 7 ∧ aw g 157 173 L (hv σ 7 a 8 :: r) σ Q) := (aw_eq g 157 170 _ _ _ _).trans (by rw [tq157_170]; exact rfl)
theorem tq157_173 : tT g 157 173 = s_goto 157 177 := rfl
theorem A157_173 {L : AL} {r : List Value} : aw g 157 173 L r σ Q = aw g 157 177 L r σ Q := (aw_eq g 157 173 _ _ _ _).trans (by rw [tq157_173]; exact rfl)
theorem tq157_176 : tT g 157 176 = s_const 157 177 (.int (-1)) := rfl
theorem A157_176 {L : AL} {r : List Value} : aw g 157 176 L r σ Q = aw g 157 177 L (.int (-1) :: r) σ Q := (aw_eq g 157 176 _ _ _ _).trans (by rw [tq157_176]; exact rfl)
theorem tq157_177 : tT g 157 177 = s_ast g (fun _ v => vI v = true) 157 178 20 := rfl
theorem A157_177 {L : AL} {r : List Value} {a : Nat} {i : Int32} {v : Value} : aw g 157 177 L (v :: .int i :: .ref a :: r) σ Q = (hty σ a = some 20 ∧ gB g ≤ a ∧ ¬ i < 0 ∧ i.toNatClampNeg < hln σ a ∧ vI v = true ∧ aw g 157 178 L r (hput σ 20 a i.toNatClampNeg v) Q) := (aw_eq g 157 177 _ _ _ _).trans (by rw [tq157_177]; exact rfl)
theorem tq157_178 : tT g 157 178 = s_dup 157 179 := rfl
theorem A157_178 {L : AL} {r : List Value} {v : Value} : aw g 157 178 L (v :: r) σ Q = (v.category = 1 ∧ aw g 157 179 L (v :: v :: r) σ Q) := (aw_eq g 157 178 _ _ _ _).trans (by rw [tq157_178]; exact rfl)
theorem tq157_179 : tT g 157 179 = s_const 157 181 (.int 15) := rfl
theorem A157_179 {L : AL} {r : List Value} : aw g 157 179 L r σ Q = aw g 157 181 L (.int 15 :: r) σ Q := (aw_eq g 157 179 _ _ _ _).trans (by rw [tq157_179]; exact rfl)
theorem tq157_181 : tT g 157 181 = s_load vRf 157 182 3 := rfl
theorem A157_181 {l0 : Option Value} {l1 : Option Value} {l2 : Option Value} {l4 : Option Value} {x : Value} {r : List Value} : aw g 157 181 [l0, l1, l2, some (x), l4] r σ Q = (vRf x = true ∧ aw g 157 182 [l0, l1, l2, some (x), l4] (x :: r) σ Q) := (aw_eq g 157 181 _ _ _ _).trans (by rw [tq157_181]; exact h_load rfl)
theorem tq157_182 : tT g 157 182 = s_getf 157 185 7 0 := rfl
theorem A157_182 {L : AL} {r : List Value} {a : Nat} : aw g 157 182 L (.ref a :: r) σ Q = (hty σ a = some 7 ∧ aw g 157 185 L (hv σ 7 a 0 :: r) σ Q) := (aw_eq g 157 182 _ _ _ _).trans (by rw [tq157_182]; exact rfl)
theorem tq157_185 : tT g 157 185 = s_ast g (fun _ v => vI v = true) 157 186 20 := rfl
theorem A157_185 {L : AL} {r : List Value} {a : Nat} {i : Int32} {v : Value} : aw g 157 185 L (v :: .int i :: .ref a :: r) σ Q = (hty σ a = some 20 ∧ gB g ≤ a ∧ ¬ i < 0 ∧ i.toNatClampNeg < hln σ a ∧ vI v = true ∧ aw g 157 186 L r (hput σ 20 a i.toNatClampNeg v) Q) := (aw_eq g 157 185 _ _ _ _).trans (by rw [tq157_185]; exact rfl)
theorem tq157_186 : tT g 157 186 = s_store vRf 157 188 4 := rfl
theorem A157_186 {l0 : Option Value} {l1 : Option Value} {l2 : Option Value} {l3 : Option Value} {l4 : Option Value} {x : Value} {r : List Value} : aw g 157 186 [l0, l1, l2, l3, l4] (x :: r) σ Q = (vRf x = true ∧ oc l3 = true ∧ aw g 157 188 [l0, l1, l2, l3, some (x)] r σ Q) := (aw_eq g 157 186 _ _ _ _).trans (by rw [tq157_186]; exact (h_store (o := oc l3) rfl rfl rfl))
theorem tq157_188 : tT g 157 188 = s_load vRf 157 190 4 := rfl
theorem A157_188 {l0 : Option Value} {l1 : Option Value} {l2 : Option Value} {l3 : Option Value} {x : Value} {r : List Value} : aw g 157 188 [l0, l1, l2, l3, some (x)] r σ Q = (vRf x = true ∧ aw g 157 190 [l0, l1, l2, l3, some (x)] (x :: r) σ Q) := (aw_eq g 157 188 _ _ _ _).trans (by rw [tq157_188]; exact h_load rfl)
theorem tq157_190 : tT g 157 190 = s_load vI 157 191 2 := rfl
theorem A157_190 {l0 : Option Value} {l1 : Option Value} {l3 : Option Value} {l4 : Option Value} {x : Int32} {r : List Value} : aw g 157 190 [l0, l1, some (.int x), l3, l4] r σ Q = aw g 157 191 [l0, l1, some (.int x), l3, l4] (.int x :: r) σ Q := (aw_eq g 157 190 _ _ _ _).trans (by rw [tq157_190]; exact (h_load rfl).trans (propext ⟨fun z => z.2, fun z => ⟨rfl, z⟩⟩))
theorem tq157_191 : tT g 157 191 = s_ald 157 192 20 := rfl
theorem A157_191 {L : AL} {r : List Value} {a : Nat} {i : Int32} : aw g 157 191 L (.int i :: .ref a :: r) σ Q = (hty σ a = some 20 ∧ ¬ i < 0 ∧ i.toNatClampNeg < hln σ a ∧ aw g 157 192 L (hv σ 20 a i.toNatClampNeg :: r) σ Q) := (aw_eq g 157 191 _ _ _ _).trans (by rw [tq157_191]; exact rfl)
theorem tq157_192 : tT g 157 192 = s_ret pI := rfl
theorem A157_192 {L : AL} {v : Value} : aw g 157 192 L [v] σ Q = (pI v ∧ Q (.inl (some v)) σ) := (aw_eq g 157 192 _ _ _ _).trans (by rw [tq157_192]; exact rfl)
theorem tq158_0 : tT g 158 0 = s_load vRf 158 1 0 := rfl
theorem A158_0 {l1 : Option Value} {l2 : Option Value} {x : Value} {r : List Value} : aw g 158 0 [some (x), l1, l2] r σ Q = (vRf x = true ∧ aw g 158 1 [some (x), l1, l2] (x :: r) σ Q) := (aw_eq g 158 0 _ _ _ _).trans (by rw [tq158_0]; exact h_load rfl)
theorem tq158_1 : tT g 158 1 = s_const 158 2 (.int 0) := rfl
theorem A158_1 {L : AL} {r : List Value} : aw g 158 1 L r σ Q = aw g 158 2 L (.int 0 :: r) σ Q := (aw_eq g 158 1 _ _ _ _).trans (by rw [tq158_1]; exact rfl)
theorem tq158_2 : tT g 158 2 = s_putf g pI 158 5 3 0 := rfl
theorem A158_2 {L : AL} {r : List Value} {a : Nat} {v : Value} : aw g 158 2 L (v :: .ref a :: r) σ Q = (hty σ a = some 3 ∧ gB g ≤ a ∧ pI v ∧ aw g 158 5 L r (hput σ 3 a 0 v) Q) := (aw_eq g 158 2 _ _ _ _).trans (by rw [tq158_2]; exact rfl)
theorem tq158_5 : tT g 158 5 = s_load vRf 158 6 0 := rfl
theorem A158_5 {l1 : Option Value} {l2 : Option Value} {x : Value} {r : List Value} : aw g 158 5 [some (x), l1, l2] r σ Q = (vRf x = true ∧ aw g 158 6 [some (x), l1, l2] (x :: r) σ Q) := (aw_eq g 158 5 _ _ _ _).trans (by rw [tq158_5]; exact h_load rfl)
theorem tq158_6 : tT g 158 6 = s_load vI 158 7 1 := rfl
theorem A158_6 {l0 : Option Value} {l2 : Option Value} {x : Int32} {r : List Value} : aw g 158 6 [l0, some (.int x), l2] r σ Q = aw g 158 7 [l0, some (.int x), l2] (.int x :: r) σ Q := (aw_eq g 158 6 _ _ _ _).trans (by rw [tq158_6]; exact (h_load rfl).trans (propext ⟨fun z => z.2, fun z => ⟨rfl, z⟩⟩))
theorem tq158_7 : tT g 158 7 = s_callvk 158 10 143 3 [0] 2 := rfl
theorem A158_7 {L : AL} {r : List Value} {a : Nat} {w0 : Value} : aw g 158 7 L (w0 :: .ref a :: r) σ Q = (hty σ a = some 3 ∧ (vI w0 && true) = true ∧ csum r ≤ 8 ∧ aw g 143 0 [some (.ref a), some w0] [] σ (kt (aw g) 158 10 L r Q)) := (aw_eq g 158 7 _ _ _ _).trans (by rw [tq158_7]; exact rfl)
theorem tq158_10 : tT g 158 10 = s_if 158 19 13 (fun a => a = 0) := rfl
theorem A158_10 {L : AL} {r : List Value} {a : Int32} : aw g 158 10 L (.int a :: r) σ Q = ((a = 0 → aw g 158 13 L r σ Q) ∧ (¬ a = 0 → aw g 158 19 L r σ Q)) := (aw_eq g 158 10 _ _ _ _).trans (by rw [tq158_10]; exact rfl)
theorem tq158_13 : tT g 158 13 = s_load vRf 158 14 0 := rfl
theorem A158_13 {l1 : Option Value} {l2 : Option Value} {x : Value} {r : List Value} : aw g 158 13 [some (x), l1, l2] r σ Q = (vRf x = true ∧ aw g 158 14 [some (x), l1, l2] (x :: r) σ Q) := (aw_eq g 158 13 _ _ _ _).trans (by rw [tq158_13]; exact h_load rfl)
theorem tq158_14 : tT g 158 14 = s_const 158 15 (.int 1) := rfl
theorem A158_14 {L : AL} {r : List Value} : aw g 158 14 L r σ Q = aw g 158 15 L (.int 1 :: r) σ Q := (aw_eq g 158 14 _ _ _ _).trans (by rw [tq158_14]; exact rfl)
theorem tq158_15 : tT g 158 15 = s_callvk 158 18 141 3 [0] 2 := rfl
theorem A158_15 {L : AL} {r : List Value} {a : Nat} {w0 : Value} : aw g 158 15 L (w0 :: .ref a :: r) σ Q = (hty σ a = some 3 ∧ (vI w0 && true) = true ∧ csum r ≤ 8 ∧ aw g 141 0 [some (.ref a), some w0] [] σ (kt (aw g) 158 18 L r Q)) := (aw_eq g 158 15 _ _ _ _).trans (by rw [tq158_15]; exact rfl)
theorem tq158_18 : tT g 158 18 = s_ret pI := rfl
theorem A158_18 {L : AL} {v : Value} : aw g 158 18 L [v] σ Q = (pI v ∧ Q (.inl (some v)) σ) := (aw_eq g 158 18 _ _ _ _).trans (by rw [tq158_18]; exact rfl)
theorem tq158_19 : tT g 158 19 = s_load vI 158 20 2 := rfl
theorem A158_19 {l0 : Option Value} {l1 : Option Value} {x : Int32} {r : List Value} : aw g 158 19 [l0, l1, some (.int x)] r σ Q = aw g 158 20 [l0, l1, some (.int x)] (.int x :: r) σ Q := (aw_eq g 158 19 _ _ _ _).trans (by rw [tq158_19]; exact (h_load rfl).trans (propext ⟨fun z => z.2, fun z => ⟨rfl, z⟩⟩))
theorem tq158_20 : tT g 158 20 = s_const 158 21 (.int 0) := rfl
theorem A158_20 {L : AL} {r : List Value} : aw g 158 20 L r σ Q = aw g 158 21 L (.int 0 :: r) σ Q := (aw_eq g 158 20 _ _ _ _).trans (by rw [tq158_20]; exact rfl)
theorem tq158_21 : tT g 158 21 = s_const 158 22 (.int 4) := rfl
theorem A158_21 {L : AL} {r : List Value} : aw g 158 21 L r σ Q = aw g 158 22 L (.int 4 :: r) σ Q := (aw_eq g 158 21 _ _ _ _).trans (by rw [tq158_21]; exact rfl)
theorem tq158_22 : tT g 158 22 = s_callk 158 25 140 [0, 0, 0] 3 := rfl
theorem A158_22 {L : AL} {r : List Value} {w0 w1 w2 : Value} : aw g 158 22 L (w2 :: w1 :: w0 :: r) σ Q = ((vI w0 && (vI w1 && (vI w2 && true))) = true ∧ csum r ≤ 8 ∧ aw g 140 0 [some w0, some w1, some w2] [] σ (kt (aw g) 158 25 L r Q)) := (aw_eq g 158 22 _ _ _ _).trans (by rw [tq158_22]; exact rfl)
theorem tq158_25 : tT g 158 25 = s_if 158 28 50 (fun a => a = 0) := rfl
theorem A158_25 {L : AL} {r : List Value} {a : Int32} : aw g 158 25 L (.int a :: r) σ Q = ((a = 0 → aw g 158 50 L r σ Q) ∧ (¬ a = 0 → aw g 158 28 L r σ Q)) := (aw_eq g 158 25 _ _ _ _).trans (by rw [tq158_25]; exact rfl)
theorem tq158_28 : tT g 158 28 = s_load vRf 158 29 0 := rfl
theorem A158_28 {l1 : Option Value} {l2 : Option Value} {x : Value} {r : List Value} : aw g 158 28 [some (x), l1, l2] r σ Q = (vRf x = true ∧ aw g 158 29 [some (x), l1, l2] (x :: r) σ Q) := (aw_eq g 158 28 _ _ _ _).trans (by rw [tq158_28]; exact h_load rfl)
theorem tq158_29 : tT g 158 29 = s_getf 158 32 3 1 := rfl
theorem A158_29 {L : AL} {r : List Value} {a : Nat} : aw g 158 29 L (.ref a :: r) σ Q = (hty σ a = some 3 ∧ aw g 158 32 L (hv σ 3 a 1 :: r) σ Q) := (aw_eq g 158 29 _ _ _ _).trans (by rw [tq158_29]; exact rfl)
theorem tq158_32 : tT g 158 32 = s_getf 158 35 4 0 := rfl
theorem A158_32 {L : AL} {r : List Value} {a : Nat} : aw g 158 32 L (.ref a :: r) σ Q = (hty σ a = some 4 ∧ aw g 158 35 L (hv σ 4 a 0 :: r) σ Q) := (aw_eq g 158 32 _ _ _ _).trans (by rw [tq158_32]; exact rfl)
theorem tq158_35 : tT g 158 35 = s_load vI 158 36 1 := rfl
theorem A158_35 {l0 : Option Value} {l2 : Option Value} {x : Int32} {r : List Value} : aw g 158 35 [l0, some (.int x), l2] r σ Q = aw g 158 36 [l0, some (.int x), l2] (.int x :: r) σ Q := (aw_eq g 158 35 _ _ _ _).trans (by rw [tq158_35]; exact (h_load rfl).trans (propext ⟨fun z => z.2, fun z => ⟨rfl, z⟩⟩))
theorem tq158_36 : tT g 158 36 = s_callvk 158 39 25 10 [0] 2 := rfl
theorem A158_36 {L : AL} {r : List Value} {a : Nat} {w0 : Value} : aw g 158 36 L (w0 :: .ref a :: r) σ Q = (hty σ a = some 10 ∧ (vI w0 && true) = true ∧ csum r ≤ 8 ∧ aw g 25 0 [some (.ref a), some w0] [] σ (kt (aw g) 158 39 L r Q)) := (aw_eq g 158 36 _ _ _ _).trans (by rw [tq158_36]; exact rfl)
theorem tq158_39 : tT g 158 39 = s_cast 158 42 [7] := rfl
theorem A158_39 {L : AL} {r : List Value} : aw g 158 39 L (.null :: r) σ Q = aw g 158 42 L (.null :: r) σ Q := (aw_eq g 158 39 _ _ _ _).trans (by rw [tq158_39]; exact rfl)
theorem A158_39r {L : AL} {r : List Value} {a : Nat} : aw g 158 39 L (.ref a :: r) σ Q = (hty σ a = some 7 ∧ aw g 158 42 L (.ref a :: r) σ Q) := (aw_eq g 158 39 _ _ _ _).trans (by rw [tq158_39]; exact propext ⟨fun z => (by obtain ⟨⟨u, hu, hu2⟩, z2⟩ := z; rw [List.mem_singleton] at hu; subst hu; exact ⟨hu2, z2⟩), fun z => ⟨⟨_, List.mem_cons_self, z.1⟩, z.2⟩⟩)
theorem tq158_42 : tT g 158 42 = s_getf 158 45 7 17 := rfl
theorem A158_42 {L : AL} {r : List Value} {a : Nat} : aw g 158 42 L (.ref a :: r) σ Q = (hty σ a = some 7 ∧ aw g 158 45 L (hv σ 7 a 17 :: r) σ Q) := (aw_eq g 158 42 _ _ _ _).trans (by rw [tq158_42]; exact rfl)
theorem tq158_45 : tT g 158 45 = s_load vI 158 46 2 := rfl
theorem A158_45 {l0 : Option Value} {l1 : Option Value} {x : Int32} {r : List Value} : aw g 158 45 [l0, l1, some (.int x)] r σ Q = aw g 158 46 [l0, l1, some (.int x)] (.int x :: r) σ Q := (aw_eq g 158 45 _ _ _ _).trans (by rw [tq158_45]; exact (h_load rfl).trans (propext ⟨fun z => z.2, fun z => ⟨rfl, z⟩⟩))
theorem tq158_46 : tT g 158 46 = s_ald 158 47 20 := rfl
theorem A158_46 {L : AL} {r : List Value} {a : Nat} {i : Int32} : aw g 158 46 L (.int i :: .ref a :: r) σ Q = (hty σ a = some 20 ∧ ¬ i < 0 ∧ i.toNatClampNeg < hln σ a ∧ aw g 158 47 L (hv σ 20 a i.toNatClampNeg :: r) σ Q) := (aw_eq g 158 46 _ _ _ _).trans (by rw [tq158_46]; exact rfl)
theorem tq158_47 : tT g 158 47 = s_goto 158 55 := rfl
theorem A158_47 {L : AL} {r : List Value} : aw g 158 47 L r σ Q = aw g 158 55 L r σ Q := (aw_eq g 158 47 _ _ _ _).trans (by rw [tq158_47]; exact rfl)
theorem tq158_50 : tT g 158 50 = s_load vRf 158 51 0 := rfl
theorem A158_50 {l1 : Option Value} {l2 : Option Value} {x : Value} {r : List Value} : aw g 158 50 [some (x), l1, l2] r σ Q = (vRf x = true ∧ aw g 158 51 [some (x), l1, l2] (x :: r) σ Q) := (aw_eq g 158 50 _ _ _ _).trans (by rw [tq158_50]; exact h_load rfl)
theorem tq158_51 : tT g 158 51 = s_const 158 52 (.int 2) := rfl
theorem A158_51 {L : AL} {r : List Value} : aw g 158 51 L r σ Q = aw g 158 52 L (.int 2 :: r) σ Q := (aw_eq g 158 51 _ _ _ _).trans (by rw [tq158_51]; exact rfl)
theorem tq158_52 : tT g 158 52 = s_callvk 158 55 141 3 [0] 2 := rfl
theorem A158_52 {L : AL} {r : List Value} {a : Nat} {w0 : Value} : aw g 158 52 L (w0 :: .ref a :: r) σ Q = (hty σ a = some 3 ∧ (vI w0 && true) = true ∧ csum r ≤ 8 ∧ aw g 141 0 [some (.ref a), some w0] [] σ (kt (aw g) 158 55 L r Q)) := (aw_eq g 158 52 _ _ _ _).trans (by rw [tq158_52]; exact rfl)
theorem tq158_55 : tT g 158 55 = s_ret pI := rfl
theorem A158_55 {L : AL} {v : Value} : aw g 158 55 L [v] σ Q = (pI v ∧ Q (.inl (some v)) σ) := (aw_eq g 158 55 _ _ _ _).trans (by rw [tq158_55]; exact rfl)
theorem tq159_0 : tT g 159 0 = s_load vRf 159 1 0 := rfl
theorem A159_0 {l1 : Option Value} {l2 : Option Value} {l3 : Option Value} {x : Value} {r : List Value} : aw g 159 0 [some (x), l1, l2, l3] r σ Q = (vRf x = true ∧ aw g 159 1 [some (x), l1, l2, l3] (x :: r) σ Q) := (aw_eq g 159 0 _ _ _ _).trans (by rw [tq159_0]; exact h_load rfl)
theorem tq159_1 : tT g 159 1 = s_const 159 2 (.int 0) := rfl
theorem A159_1 {L : AL} {r : List Value} : aw g 159 1 L r σ Q = aw g 159 2 L (.int 0 :: r) σ Q := (aw_eq g 159 1 _ _ _ _).trans (by rw [tq159_1]; exact rfl)
theorem tq159_2 : tT g 159 2 = s_putf g pI 159 5 3 0 := rfl
theorem A159_2 {L : AL} {r : List Value} {a : Nat} {v : Value} : aw g 159 2 L (v :: .ref a :: r) σ Q = (hty σ a = some 3 ∧ gB g ≤ a ∧ pI v ∧ aw g 159 5 L r (hput σ 3 a 0 v) Q) := (aw_eq g 159 2 _ _ _ _).trans (by rw [tq159_2]; exact rfl)
theorem tq159_5 : tT g 159 5 = s_load vRf 159 6 0 := rfl
theorem A159_5 {l1 : Option Value} {l2 : Option Value} {l3 : Option Value} {x : Value} {r : List Value} : aw g 159 5 [some (x), l1, l2, l3] r σ Q = (vRf x = true ∧ aw g 159 6 [some (x), l1, l2, l3] (x :: r) σ Q) := (aw_eq g 159 5 _ _ _ _).trans (by rw [tq159_5]; exact h_load rfl)
theorem tq159_6 : tT g 159 6 = s_load vI 159 7 1 := rfl
theorem A159_6 {l0 : Option Value} {l2 : Option Value} {l3 : Option Value} {x : Int32} {r : List Value} : aw g 159 6 [l0, some (.int x), l2, l3] r σ Q = aw g 159 7 [l0, some (.int x), l2, l3] (.int x :: r) σ Q := (aw_eq g 159 6 _ _ _ _).trans (by rw [tq159_6]; exact (h_load rfl).trans (propext ⟨fun z => z.2, fun z => ⟨rfl, z⟩⟩))
theorem tq159_7 : tT g 159 7 = s_callvk 159 10 143 3 [0] 2 := rfl
theorem A159_7 {L : AL} {r : List Value} {a : Nat} {w0 : Value} : aw g 159 7 L (w0 :: .ref a :: r) σ Q = (hty σ a = some 3 ∧ (vI w0 && true) = true ∧ csum r ≤ 8 ∧ aw g 143 0 [some (.ref a), some w0] [] σ (kt (aw g) 159 10 L r Q)) := (aw_eq g 159 7 _ _ _ _).trans (by rw [tq159_7]; exact rfl)
theorem tq159_10 : tT g 159 10 = s_if 159 13 20 (fun a => a = 0) := rfl
theorem A159_10 {L : AL} {r : List Value} {a : Int32} : aw g 159 10 L (.int a :: r) σ Q = ((a = 0 → aw g 159 20 L r σ Q) ∧ (¬ a = 0 → aw g 159 13 L r σ Q)) := (aw_eq g 159 10 _ _ _ _).trans (by rw [tq159_10]; exact rfl)
theorem tq159_13 : tT g 159 13 = s_load vI 159 14 2 := rfl
theorem A159_13 {l0 : Option Value} {l1 : Option Value} {l3 : Option Value} {x : Int32} {r : List Value} : aw g 159 13 [l0, l1, some (.int x), l3] r σ Q = aw g 159 14 [l0, l1, some (.int x), l3] (.int x :: r) σ Q := (aw_eq g 159 13 _ _ _ _).trans (by rw [tq159_13]; exact (h_load rfl).trans (propext ⟨fun z => z.2, fun z => ⟨rfl, z⟩⟩))
theorem tq159_14 : tT g 159 14 = s_callk 159 17 144 [0] 1 := rfl
theorem A159_14 {L : AL} {r : List Value} {w0 : Value} : aw g 159 14 L (w0 :: r) σ Q = ((vI w0 && true) = true ∧ csum r ≤ 8 ∧ aw g 144 0 [some w0] [] σ (kt (aw g) 159 17 L r Q)) := (aw_eq g 159 14 _ _ _ _).trans (by rw [tq159_14]; exact rfl)
theorem tq159_17 : tT g 159 17 = s_if 159 26 20 (fun a => a = 0) := rfl
theorem A159_17 {L : AL} {r : List Value} {a : Int32} : aw g 159 17 L (.int a :: r) σ Q = ((a = 0 → aw g 159 20 L r σ Q) ∧ (¬ a = 0 → aw g 159 26 L r σ Q)) := (aw_eq g 159 17 _ _ _ _).trans (by rw [tq159_17]; exact rfl)
theorem tq159_20 : tT g 159 20 = s_load vRf 159 21 0 := rfl
theorem A159_20 {l1 : Option Value} {l2 : Option Value} {l3 : Option Value} {x : Value} {r : List Value} : aw g 159 20 [some (x), l1, l2, l3] r σ Q = (vRf x = true ∧ aw g 159 21 [some (x), l1, l2, l3] (x :: r) σ Q) := (aw_eq g 159 20 _ _ _ _).trans (by rw [tq159_20]; exact h_load rfl)
theorem tq159_21 : tT g 159 21 = s_const 159 22 (.int 1) := rfl
theorem A159_21 {L : AL} {r : List Value} : aw g 159 21 L r σ Q = aw g 159 22 L (.int 1 :: r) σ Q := (aw_eq g 159 21 _ _ _ _).trans (by rw [tq159_21]; exact rfl)
theorem tq159_22 : tT g 159 22 = s_callvk 159 25 141 3 [0] 2 := rfl
theorem A159_22 {L : AL} {r : List Value} {a : Nat} {w0 : Value} : aw g 159 22 L (w0 :: .ref a :: r) σ Q = (hty σ a = some 3 ∧ (vI w0 && true) = true ∧ csum r ≤ 8 ∧ aw g 141 0 [some (.ref a), some w0] [] σ (kt (aw g) 159 25 L r Q)) := (aw_eq g 159 22 _ _ _ _).trans (by rw [tq159_22]; exact rfl)
theorem tq159_25 : tT g 159 25 = s_ret pI := rfl
theorem A159_25 {L : AL} {v : Value} : aw g 159 25 L [v] σ Q = (pI v ∧ Q (.inl (some v)) σ) := (aw_eq g 159 25 _ _ _ _).trans (by rw [tq159_25]; exact rfl)
theorem tq159_26 : tT g 159 26 = s_load vI 159 27 3 := rfl
theorem A159_26 {l0 : Option Value} {l1 : Option Value} {l2 : Option Value} {x : Int32} {r : List Value} : aw g 159 26 [l0, l1, l2, some (.int x)] r σ Q = aw g 159 27 [l0, l1, l2, some (.int x)] (.int x :: r) σ Q := (aw_eq g 159 26 _ _ _ _).trans (by rw [tq159_26]; exact (h_load rfl).trans (propext ⟨fun z => z.2, fun z => ⟨rfl, z⟩⟩))
theorem tq159_27 : tT g 159 27 = s_const 159 28 (.int 0) := rfl
theorem A159_27 {L : AL} {r : List Value} : aw g 159 27 L r σ Q = aw g 159 28 L (.int 0 :: r) σ Q := (aw_eq g 159 27 _ _ _ _).trans (by rw [tq159_27]; exact rfl)
theorem tq159_28 : tT g 159 28 = s_const 159 29 (.int 3) := rfl
theorem A159_28 {L : AL} {r : List Value} : aw g 159 28 L r σ Q = aw g 159 29 L (.int 3 :: r) σ Q := (aw_eq g 159 28 _ _ _ _).trans (by rw [tq159_28]; exact rfl)
theorem tq159_29 : tT g 159 29 = s_callk 159 32 140 [0, 0, 0] 3 := rfl
theorem A159_29 {L : AL} {r : List Value} {w0 w1 w2 : Value} : aw g 159 29 L (w2 :: w1 :: w0 :: r) σ Q = ((vI w0 && (vI w1 && (vI w2 && true))) = true ∧ csum r ≤ 8 ∧ aw g 140 0 [some w0, some w1, some w2] [] σ (kt (aw g) 159 32 L r Q)) := (aw_eq g 159 29 _ _ _ _).trans (by rw [tq159_29]; exact rfl)
theorem tq159_32 : tT g 159 32 = s_if 159 35 45 (fun a => a = 0) := rfl
theorem A159_32 {L : AL} {r : List Value} {a : Int32} : aw g 159 32 L (.int a :: r) σ Q = ((a = 0 → aw g 159 45 L r σ Q) ∧ (¬ a = 0 → aw g 159 35 L r σ Q)) := (aw_eq g 159 32 _ _ _ _).trans (by rw [tq159_32]; exact rfl)
theorem tq159_35 : tT g 159 35 = s_load vRf 159 36 0 := rfl
theorem A159_35 {l1 : Option Value} {l2 : Option Value} {l3 : Option Value} {x : Value} {r : List Value} : aw g 159 35 [some (x), l1, l2, l3] r σ Q = (vRf x = true ∧ aw g 159 36 [some (x), l1, l2, l3] (x :: r) σ Q) := (aw_eq g 159 35 _ _ _ _).trans (by rw [tq159_35]; exact h_load rfl)
theorem tq159_36 : tT g 159 36 = s_load vI 159 37 1 := rfl
theorem A159_36 {l0 : Option Value} {l2 : Option Value} {l3 : Option Value} {x : Int32} {r : List Value} : aw g 159 36 [l0, some (.int x), l2, l3] r σ Q = aw g 159 37 [l0, some (.int x), l2, l3] (.int x :: r) σ Q := (aw_eq g 159 36 _ _ _ _).trans (by rw [tq159_36]; exact (h_load rfl).trans (propext ⟨fun z => z.2, fun z => ⟨rfl, z⟩⟩))
theorem tq159_37 : tT g 159 37 = s_load vI 159 38 2 := rfl
theorem A159_37 {l0 : Option Value} {l1 : Option Value} {l3 : Option Value} {x : Int32} {r : List Value} : aw g 159 37 [l0, l1, some (.int x), l3] r σ Q = aw g 159 38 [l0, l1, some (.int x), l3] (.int x :: r) σ Q := (aw_eq g 159 37 _ _ _ _).trans (by rw [tq159_37]; exact (h_load rfl).trans (propext ⟨fun z => z.2, fun z => ⟨rfl, z⟩⟩))
theorem tq159_38 : tT g 159 38 = s_load vI 159 39 3 := rfl
theorem A159_38 {l0 : Option Value} {l1 : Option Value} {l2 : Option Value} {x : Int32} {r : List Value} : aw g 159 38 [l0, l1, l2, some (.int x)] r σ Q = aw g 159 39 [l0, l1, l2, some (.int x)] (.int x :: r) σ Q := (aw_eq g 159 38 _ _ _ _).trans (by rw [tq159_38]; exact (h_load rfl).trans (propext ⟨fun z => z.2, fun z => ⟨rfl, z⟩⟩))
theorem tq159_39 : tT g 159 39 = s_callvk 159 42 160 3 [0, 0, 0] 7 := rfl
theorem A159_39 {L : AL} {r : List Value} {a : Nat} {w0 w1 w2 : Value} : aw g 159 39 L (w2 :: w1 :: w0 :: .ref a :: r) σ Q = (hty σ a = some 3 ∧ (vI w0 && (vI w1 && (vI w2 && true))) = true ∧ csum r ≤ 8 ∧ aw g 160 0 [some (.ref a), some w0, some w1, some w2, none, none, none] [] σ (kt (aw g) 159 42 L r Q)) := (aw_eq g 159 39 _ _ _ _).trans (by rw [tq159_39]; exact rfl)
theorem tq159_42 : tT g 159 42 = s_goto 159 50 := rfl
theorem A159_42 {L : AL} {r : List Value} : aw g 159 42 L r σ Q = aw g 159 50 L r σ Q := (aw_eq g 159 42 _ _ _ _).trans (by rw [tq159_42]; exact rfl)
theorem tq159_45 : tT g 159 45 = s_load vRf 159 46 0 := rfl
theorem A159_45 {l1 : Option Value} {l2 : Option Value} {l3 : Option Value} {x : Value} {r : List Value} : aw g 159 45 [some (x), l1, l2, l3] r σ Q = (vRf x = true ∧ aw g 159 46 [some (x), l1, l2, l3] (x :: r) σ Q) := (aw_eq g 159 45 _ _ _ _).trans (by rw [tq159_45]; exact h_load rfl)
theorem tq159_46 : tT g 159 46 = s_const 159 47 (.int 2) := rfl
theorem A159_46 {L : AL} {r : List Value} : aw g 159 46 L r σ Q = aw g 159 47 L (.int 2 :: r) σ Q := (aw_eq g 159 46 _ _ _ _).trans (by rw [tq159_46]; exact rfl)
theorem tq159_47 : tT g 159 47 = s_callvk 159 50 141 3 [0] 2 := rfl
theorem A159_47 {L : AL} {r : List Value} {a : Nat} {w0 : Value} : aw g 159 47 L (w0 :: .ref a :: r) σ Q = (hty σ a = some 3 ∧ (vI w0 && true) = true ∧ csum r ≤ 8 ∧ aw g 141 0 [some (.ref a), some w0] [] σ (kt (aw g) 159 50 L r Q)) := (aw_eq g 159 47 _ _ _ _).trans (by rw [tq159_47]; exact rfl)
theorem tq159_50 : tT g 159 50 = s_ret pI := rfl
theorem A159_50 {L : AL} {v : Value} : aw g 159 50 L [v] σ Q = (pI v ∧ Q (.inl (some v)) σ) := (aw_eq g 159 50 _ _ _ _).trans (by rw [tq159_50]; exact rfl)
theorem tq160_0 : tT g 160 0 = s_load vRf 160 1 0 := rfl
theorem A160_0 {l1 : Option Value} {l2 : Option Value} {l3 : Option Value} {l4 : Option Value} {l5 : Option Value} {l6 : Option Value} {x : Value} {r : List Value} : aw g 160 0 [some (x), l1, l2, l3, l4, l5, l6] r σ Q = (vRf x = true ∧ aw g 160 1 [some (x), l1, l2, l3, l4, l5, l6] (x :: r) σ Q) := (aw_eq g 160 0 _ _ _ _).trans (by rw [tq160_0]; exact h_load rfl)
theorem tq160_1 : tT g 160 1 = s_getf 160 4 3 1 := rfl
theorem A160_1 {L : AL} {r : List Value} {a : Nat} : aw g 160 1 L (.ref a :: r) σ Q = (hty σ a = some 3 ∧ aw g 160 4 L (hv σ 3 a 1 :: r) σ Q) := (aw_eq g 160 1 _ _ _ _).trans (by rw [tq160_1]; exact rfl)
theorem tq160_4 : tT g 160 4 = s_getf 160 7 4 0 := rfl
theorem A160_4 {L : AL} {r : List Value} {a : Nat} : aw g 160 4 L (.ref a :: r) σ Q = (hty σ a = some 4 ∧ aw g 160 7 L (hv σ 4 a 0 :: r) σ Q) := (aw_eq g 160 4 _ _ _ _).trans (by rw [tq160_4]; exact rfl)
theorem tq160_7 : tT g 160 7 = s_load vI 160 8 1 := rfl
theorem A160_7 {l0 : Option Value} {l2 : Option Value} {l3 : Option Value} {l4 : Option Value} {l5 : Option Value} {l6 : Option Value} {x : Int32} {r : List Value} : aw g 160 7 [l0, some (.int x), l2, l3, l4, l5, l6] r σ Q = aw g 160 8 [l0, some (.int x), l2, l3, l4, l5, l6] (.int x :: r) σ Q := (aw_eq g 160 7 _ _ _ _).trans (by rw [tq160_7]; exact (h_load rfl).trans (propext ⟨fun z => z.2, fun z => ⟨rfl, z⟩⟩))
theorem tq160_8 : tT g 160 8 = s_callvk 160 11 25 10 [0] 2 := rfl
theorem A160_8 {L : AL} {r : List Value} {a : Nat} {w0 : Value} : aw g 160 8 L (w0 :: .ref a :: r) σ Q = (hty σ a = some 10 ∧ (vI w0 && true) = true ∧ csum r ≤ 8 ∧ aw g 25 0 [some (.ref a), some w0] [] σ (kt (aw g) 160 11 L r Q)) := (aw_eq g 160 8 _ _ _ _).trans (by rw [tq160_8]; exact rfl)
theorem tq160_11 : tT g 160 11 = s_cast 160 14 [7] := rfl
theorem A160_11 {L : AL} {r : List Value} : aw g 160 11 L (.null :: r) σ Q = aw g 160 14 L (.null :: r) σ Q := (aw_eq g 160 11 _ _ _ _).trans (by rw [tq160_11]; exact rfl)
theorem A160_11r {L : AL} {r : List Value} {a : Nat} : aw g 160 11 L (.ref a :: r) σ Q = (hty σ a = some 7 ∧ aw g 160 14 L (.ref a :: r) σ Q) := (aw_eq g 160 11 _ _ _ _).trans (by rw [tq160_11]; exact propext ⟨fun z => (by obtain ⟨⟨u, hu, hu2⟩, z2⟩ := z; rw [List.mem_singleton] at hu; subst hu; exact ⟨hu2, z2⟩), fun z => ⟨⟨_, List.mem_cons_self, z.1⟩, z.2⟩⟩)
theorem tq160_14 : tT g 160 14 = s_store vRf 160 16 4 := rfl
theorem A160_14 {l0 : Option Value} {l1 : Option Value} {l2 : Option Value} {l3 : Option Value} {l4 : Option Value} {l5 : Option Value} {l6 : Option Value} {x : Value} {r : List Value} : aw g 160 14 [l0, l1, l2, l3, l4, l5, l6] (x :: r) σ Q = (vRf x = true ∧ oc l3 = true ∧ aw g 160 16 [l0, l1, l2, l3, some (x), l5, l6] r σ Q) := (aw_eq g 160 14 _ _ _ _).trans (by rw [tq160_14]; exact (h_store (o := oc l3) rfl rfl rfl))
theorem tq160_16 : tT g 160 16 = s_load vRf 160 18 4 := rfl
theorem A160_16 {l0 : Option Value} {l1 : Option Value} {l2 : Option Value} {l3 : Option Value} {l5 : Option Value} {l6 : Option Value} {x : Value} {r : List Value} : aw g 160 16 [l0, l1, l2, l3, some (x), l5, l6] r σ Q = (vRf x = true ∧ aw g 160 18 [l0, l1, l2, l3, some (x), l5, l6] (x :: r) σ Q) := (aw_eq g 160 16 _ _ _ _).trans (by rw [tq160_16]; exact h_load rfl)
theorem tq160_18 : tT g 160 18 = s_getf 160 21 7 14 := rfl
theorem A160_18 {L : AL} {r : List Value} {a : Nat} : aw g 160 18 L (.ref a :: r) σ Q = (hty σ a = some 7 ∧ aw g 160 21 L (hv σ 7 a 14 :: r) σ Q) := (aw_eq g 160 18 _ _ _ _).trans (by rw [tq160_18]; exact rfl)
theorem tq160_21 : tT g 160 21 = s_load vI 160 22 2 := rfl
theorem A160_21 {l0 : Option Value} {l1 : Option Value} {l3 : Option Value} {l4 : Option Value} {l5 : Option Value} {l6 : Option Value} {x : Int32} {r : List Value} : aw g 160 21 [l0, l1, some (.int x), l3, l4, l5, l6] r σ Q = aw g 160 22 [l0, l1, some (.int x), l3, l4, l5, l6] (.int x :: r) σ Q := (aw_eq g 160 21 _ _ _ _).trans (by rw [tq160_21]; exact (h_load rfl).trans (propext ⟨fun z => z.2, fun z => ⟨rfl, z⟩⟩))
theorem tq160_22 : tT g 160 22 = s_ald 160 23 20 := rfl
theorem A160_22 {L : AL} {r : List Value} {a : Nat} {i : Int32} : aw g 160 22 L (.int i :: .ref a :: r) σ Q = (hty σ a = some 20 ∧ ¬ i < 0 ∧ i.toNatClampNeg < hln σ a ∧ aw g 160 23 L (hv σ 20 a i.toNatClampNeg :: r) σ Q) := (aw_eq g 160 22 _ _ _ _).trans (by rw [tq160_22]; exact rfl)
theorem tq160_23 : tT g 160 23 = s_store vI 160 25 5 := rfl
theorem A160_23 {l0 : Option Value} {l1 : Option Value} {l2 : Option Value} {l3 : Option Value} {l4 : Option Value} {l5 : Option Value} {l6 : Option Value} {x : Int32} {r : List Value} : aw g 160 23 [l0, l1, l2, l3, l4, l5, l6] (.int x :: r) σ Q = (oc l4 = true ∧ aw g 160 25 [l0, l1, l2, l3, l4, some (.int x), l6] r σ Q) := (aw_eq g 160 23 _ _ _ _).trans (by rw [tq160_23]; exact (h_store (o := oc l4) rfl rfl rfl).trans (propext ⟨fun z => z.2, fun z => ⟨rfl, z⟩⟩))
theorem tq160_25 : tT g 160 25 = s_const 160 26 (.int 4) := rfl
theorem A160_25 {L : AL} {r : List Value} : aw g 160 25 L r σ Q = aw g 160 26 L (.int 4 :: r) σ Q := (aw_eq g 160 25 _ _ _ _).trans (by rw [tq160_25]; exact rfl)
theorem tq160_26 : tT g 160 26 = s_newa g 160 28 20 (.int 0) := rfl
theorem A160_26 {L : AL} {r : List Value} {x : Int32} : aw g 160 26 L (.int x :: r) σ Q = (¬ x < 0 ∧ x.toNatClampNeg ≤ 65536 ∧ hsz σ + 1 ≤ gC g ∧ hsl σ + x.toNatClampNeg ≤ gS g ∧ aw g 160 28 L (.ref (hsz σ) :: r) (hnew σ 20 x.toNatClampNeg (fun _ => .int 0) x.toNatClampNeg) Q) := (aw_eq g 160 26 _ _ _ _).trans (by rw [tq160_26]; exact rfl)
theorem tq160_28 : tT g 160 28 = s_dup 160 29 := rfl
theorem A160_28 {L : AL} {r : List Value} {v : Value} : aw g 160 28 L (v :: r) σ Q = (v.category = 1 ∧ aw g 160 29 L (v :: v :: r) σ Q) := (aw_eq g 160 28 _ _ _ _).trans (by rw [tq160_28]; exact rfl)
theorem tq160_29 : tT g 160 29 = s_const 160 30 (.int 0) := rfl
theorem A160_29 {L : AL} {r : List Value} : aw g 160 29 L r σ Q = aw g 160 30 L (.int 0 :: r) σ Q := (aw_eq g 160 29 _ _ _ _).trans (by rw [tq160_29]; exact rfl)
theorem tq160_30 : tT g 160 30 = s_load vRf 160 32 4 := rfl
theorem A160_30 {l0 : Option Value} {l1 : Option Value} {l2 : Option Value} {l3 : Option Value} {l5 : Option Value} {l6 : Option Value} {x : Value} {r : List Value} : aw g 160 30 [l0, l1, l2, l3, some (x), l5, l6] r σ Q = (vRf x = true ∧ aw g 160 32 [l0, l1, l2, l3, some (x), l5, l6] (x :: r) σ Q) := (aw_eq g 160 30 _ _ _ _).trans (by rw [tq160_30]; exact h_load rfl)
theorem tq160_32 : tT g 160 32 = s_getf 160 35 7 13 := rfl
theorem A160_32 {L : AL} {r : List Value} {a : Nat} : aw g 160 32 L (.ref a :: r) σ Q = (hty σ a = some 7 ∧ aw g 160 35 L (hv σ 7 a 13 :: r) σ Q) := (aw_eq g 160 32 _ _ _ _).trans (by rw [tq160_32]; exact rfl)
theorem tq160_35 : tT g 160 35 = s_load vI 160 36 2 := rfl
theorem A160_35 {l0 : Option Value} {l1 : Option Value} {l3 : Option Value} {l4 : Option Value} {l5 : Option Value} {l6 : Option Value} {x : Int32} {r : List Value} : aw g 160 35 [l0, l1, some (.int x), l3, l4, l5, l6] r σ Q = aw g 160 36 [l0, l1, some (.int x), l3, l4, l5, l6] (.int x :: r) σ Q := (aw_eq g 160 35 _ _ _ _).trans (by rw [tq160_35]; exact (h_load rfl).trans (propext ⟨fun z => z.2, fun z => ⟨rfl, z⟩⟩))
theorem tq160_36 : tT g 160 36 = s_ald 160 37 20 := rfl
theorem A160_36 {L : AL} {r : List Value} {a : Nat} {i : Int32} : aw g 160 36 L (.int i :: .ref a :: r) σ Q = (hty σ a = some 20 ∧ ¬ i < 0 ∧ i.toNatClampNeg < hln σ a ∧ aw g 160 37 L (hv σ 20 a i.toNatClampNeg :: r) σ Q) := (aw_eq g 160 36 _ _ _ _).trans (by rw [tq160_36]; exact rfl)
theorem tq160_37 : tT g 160 37 = s_ast g (fun _ v => vI v = true) 160 38 20 := rfl
theorem A160_37 {L : AL} {r : List Value} {a : Nat} {i : Int32} {v : Value} : aw g 160 37 L (v :: .int i :: .ref a :: r) σ Q = (hty σ a = some 20 ∧ gB g ≤ a ∧ ¬ i < 0 ∧ i.toNatClampNeg < hln σ a ∧ vI v = true ∧ aw g 160 38 L r (hput σ 20 a i.toNatClampNeg v) Q) := (aw_eq g 160 37 _ _ _ _).trans (by rw [tq160_37]; exact rfl)
theorem tq160_38 : tT g 160 38 = s_dup 160 39 := rfl
theorem A160_38 {L : AL} {r : List Value} {v : Value} : aw g 160 38 L (v :: r) σ Q = (v.category = 1 ∧ aw g 160 39 L (v :: v :: r) σ Q) := (aw_eq g 160 38 _ _ _ _).trans (by rw [tq160_38]; exact rfl)
theorem tq160_39 : tT g 160 39 = s_const 160 40 (.int 1) := rfl
theorem A160_39 {L : AL} {r : List Value} : aw g 160 39 L r σ Q = aw g 160 40 L (.int 1 :: r) σ Q := (aw_eq g 160 39 _ _ _ _).trans (by rw [tq160_39]; exact rfl)
theorem tq160_40 : tT g 160 40 = s_load vI 160 42 5 := rfl
theorem A160_40 {l0 : Option Value} {l1 : Option Value} {l2 : Option Value} {l3 : Option Value} {l4 : Option Value} {l6 : Option Value} {x : Int32} {r : List Value} : aw g 160 40 [l0, l1, l2, l3, l4, some (.int x), l6] r σ Q = aw g 160 42 [l0, l1, l2, l3, l4, some (.int x), l6] (.int x :: r) σ Q := (aw_eq g 160 40 _ _ _ _).trans (by rw [tq160_40]; exact (h_load rfl).trans (propext ⟨fun z => z.2, fun z => ⟨rfl, z⟩⟩))
theorem tq160_42 : tT g 160 42 = s_if 160 55 45 (fun a => a = 0) := rfl
theorem A160_42 {L : AL} {r : List Value} {a : Int32} : aw g 160 42 L (.int a :: r) σ Q = ((a = 0 → aw g 160 45 L r σ Q) ∧ (¬ a = 0 → aw g 160 55 L r σ Q)) := (aw_eq g 160 42 _ _ _ _).trans (by rw [tq160_42]; exact rfl)
theorem tq160_45 : tT g 160 45 = s_load vRf 160 47 4 := rfl
theorem A160_45 {l0 : Option Value} {l1 : Option Value} {l2 : Option Value} {l3 : Option Value} {l5 : Option Value} {l6 : Option Value} {x : Value} {r : List Value} : aw g 160 45 [l0, l1, l2, l3, some (x), l5, l6] r σ Q = (vRf x = true ∧ aw g 160 47 [l0, l1, l2, l3, some (x), l5, l6] (x :: r) σ Q) := (aw_eq g 160 45 _ _ _ _).trans (by rw [tq160_45]; exact h_load rfl)
theorem tq160_47 : tT g 160 47 = s_getf 160 50 7 15 := rfl
theorem A160_47 {L : AL} {r : List Value} {a : Nat} : aw g 160 47 L (.ref a :: r) σ Q = (hty σ a = some 7 ∧ aw g 160 50 L (hv σ 7 a 15 :: r) σ Q) := (aw_eq g 160 47 _ _ _ _).trans (by rw [tq160_47]; exact rfl)
theorem tq160_50 : tT g 160 50 = s_load vI 160 51 2 := rfl
theorem A160_50 {l0 : Option Value} {l1 : Option Value} {l3 : Option Value} {l4 : Option Value} {l5 : Option Value} {l6 : Option Value} {x : Int32} {r : List Value} : aw g 160 50 [l0, l1, some (.int x), l3, l4, l5, l6] r σ Q = aw g 160 51 [l0, l1, some (.int x), l3, l4, l5, l6] (.int x :: r) σ Q := (aw_eq g 160 50 _ _ _ _).trans (by rw [tq160_50]; exact (h_load rfl).trans (propext ⟨fun z => z.2, fun z => ⟨rfl, z⟩⟩))
theorem tq160_51 : tT g 160 51 = s_ald 160 52 20 := rfl
theorem A160_51 {L : AL} {r : List Value} {a : Nat} {i : Int32} : aw g 160 51 L (.int i :: .ref a :: r) σ Q = (hty σ a = some 20 ∧ ¬ i < 0 ∧ i.toNatClampNeg < hln σ a ∧ aw g 160 52 L (hv σ 20 a i.toNatClampNeg :: r) σ Q) := (aw_eq g 160 51 _ _ _ _).trans (by rw [tq160_51]; exact rfl)
theorem tq160_52 : tT g 160 52 = s_goto 160 56 := rfl
theorem A160_52 {L : AL} {r : List Value} : aw g 160 52 L r σ Q = aw g 160 56 L r σ Q := (aw_eq g 160 52 _ _ _ _).trans (by rw [tq160_52]; exact rfl)
theorem tq160_55 : tT g 160 55 = s_const 160 56 (.int (-1)) := rfl
theorem A160_55 {L : AL} {r : List Value} : aw g 160 55 L r σ Q = aw g 160 56 L (.int (-1) :: r) σ Q := (aw_eq g 160 55 _ _ _ _).trans (by rw [tq160_55]; exact rfl)
theorem tq160_56 : tT g 160 56 = s_ast g (fun _ v => vI v = true) 160 57 20 := rfl
theorem A160_56 {L : AL} {r : List Value} {a : Nat} {i : Int32} {v : Value} : aw g 160 56 L (v :: .int i :: .ref a :: r) σ Q = (hty σ a = some 20 ∧ gB g ≤ a ∧ ¬ i < 0 ∧ i.toNatClampNeg < hln σ a ∧ vI v = true ∧ aw g 160 57 L r (hput σ 20 a i.toNatClampNeg v) Q) := (aw_eq g 160 56 _ _ _ _).trans (by rw [tq160_56]; exact rfl)
theorem tq160_57 : tT g 160 57 = s_dup 160 58 := rfl
theorem A160_57 {L : AL} {r : List Value} {v : Value} : aw g 160 57 L (v :: r) σ Q = (v.category = 1 ∧ aw g 160 58 L (v :: v :: r) σ Q) := (aw_eq g 160 57 _ _ _ _).trans (by rw [tq160_57]; exact rfl)
theorem tq160_58 : tT g 160 58 = s_const 160 59 (.int 2) := rfl
theorem A160_58 {L : AL} {r : List Value} : aw g 160 58 L r σ Q = aw g 160 59 L (.int 2 :: r) σ Q := (aw_eq g 160 58 _ _ _ _).trans (by rw [tq160_58]; exact rfl)
theorem tq160_59 : tT g 160 59 = s_load vI 160 61 5 := rfl
theorem A160_59 {l0 : Option Value} {l1 : Option Value} {l2 : Option Value} {l3 : Option Value} {l4 : Option Value} {l6 : Option Value} {x : Int32} {r : List Value} : aw g 160 59 [l0, l1, l2, l3, l4, some (.int x), l6] r σ Q = aw g 160 61 [l0, l1, l2, l3, l4, some (.int x), l6] (.int x :: r) σ Q := (aw_eq g 160 59 _ _ _ _).trans (by rw [tq160_59]; exact (h_load rfl).trans (propext ⟨fun z => z.2, fun z => ⟨rfl, z⟩⟩))
theorem tq160_61 : tT g 160 61 = s_ast g (fun _ v => vI v = true) 160 62 20 := rfl
theorem A160_61 {L : AL} {r : List Value} {a : Nat} {i : Int32} {v : Value} : aw g 160 61 L (v :: .int i :: .ref a :: r) σ Q = (hty σ a = some 20 ∧ gB g ≤ a ∧ ¬ i < 0 ∧ i.toNatClampNeg < hln σ a ∧ vI v = true ∧ aw g 160 62 L r (hput σ 20 a i.toNatClampNeg v) Q) := (aw_eq g 160 61 _ _ _ _).trans (by rw [tq160_61]; exact rfl)
theorem tq160_62 : tT g 160 62 = s_dup 160 63 := rfl
theorem A160_62 {L : AL} {r : List Value} {v : Value} : aw g 160 62 L (v :: r) σ Q = (v.category = 1 ∧ aw g 160 63 L (v :: v :: r) σ Q) := (aw_eq g 160 62 _ _ _ _).trans (by rw [tq160_62]; exact rfl)
theorem tq160_63 : tT g 160 63 = s_const 160 64 (.int 3) := rfl
theorem A160_63 {L : AL} {r : List Value} : aw g 160 63 L r σ Q = aw g 160 64 L (.int 3 :: r) σ Q := (aw_eq g 160 63 _ _ _ _).trans (by rw [tq160_63]; exact rfl)
theorem tq160_64 : tT g 160 64 = s_load vRf 160 66 4 := rfl
theorem A160_64 {l0 : Option Value} {l1 : Option Value} {l2 : Option Value} {l3 : Option Value} {l5 : Option Value} {l6 : Option Value} {x : Value} {r : List Value} : aw g 160 64 [l0, l1, l2, l3, some (x), l5, l6] r σ Q = (vRf x = true ∧ aw g 160 66 [l0, l1, l2, l3, some (x), l5, l6] (x :: r) σ Q) := (aw_eq g 160 64 _ _ _ _).trans (by rw [tq160_64]; exact h_load rfl)
theorem tq160_66 : tT g 160 66 = s_getf 160 69 7 18 := rfl
theorem A160_66 {L : AL} {r : List Value} {a : Nat} : aw g 160 66 L (.ref a :: r) σ Q = (hty σ a = some 7 ∧ aw g 160 69 L (hv σ 7 a 18 :: r) σ Q) := (aw_eq g 160 66 _ _ _ _).trans (by rw [tq160_66]; exact rfl)
theorem tq160_69 : tT g 160 69 = s_if 160 72 88 (fun a => a = 0) := rfl
theorem A160_69 {L : AL} {r : List Value} {a : Int32} : aw g 160 69 L (.int a :: r) σ Q = ((a = 0 → aw g 160 88 L r σ Q) ∧ (¬ a = 0 → aw g 160 72 L r σ Q)) := (aw_eq g 160 69 _ _ _ _).trans (by rw [tq160_69]; exact rfl)
theorem tq160_72 : tT g 160 72 = s_load vRf 160 74 4 := rfl
theorem A160_72 {l0 : Option Value} {l1 : Option Value} {l2 : Option Value} {l3 : Option Value} {l5 : Option Value} {l6 : Option Value} {x : Value} {r : List Value} : aw g 160 72 [l0, l1, l2, l3, some (x), l5, l6] r σ Q = (vRf x = true ∧ aw g 160 74 [l0, l1, l2, l3, some (x), l5, l6] (x :: r) σ Q) := (aw_eq g 160 72 _ _ _ _).trans (by rw [tq160_72]; exact h_load rfl)
theorem tq160_74 : tT g 160 74 = s_getf 160 77 7 22 := rfl
theorem A160_74 {L : AL} {r : List Value} {a : Nat} : aw g 160 74 L (.ref a :: r) σ Q = (hty σ a = some 7 ∧ aw g 160 77 L (hv σ 7 a 22 :: r) σ Q) := (aw_eq g 160 74 _ _ _ _).trans (by rw [tq160_74]; exact rfl)
theorem tq160_77 : tT g 160 77 = s_load vI 160 78 2 := rfl
theorem A160_77 {l0 : Option Value} {l1 : Option Value} {l3 : Option Value} {l4 : Option Value} {l5 : Option Value} {l6 : Option Value} {x : Int32} {r : List Value} : aw g 160 77 [l0, l1, some (.int x), l3, l4, l5, l6] r σ Q = aw g 160 78 [l0, l1, some (.int x), l3, l4, l5, l6] (.int x :: r) σ Q := (aw_eq g 160 77 _ _ _ _).trans (by rw [tq160_77]; exact (h_load rfl).trans (propext ⟨fun z => z.2, fun z => ⟨rfl, z⟩⟩))
theorem tq160_78 : tT g 160 78 = s_callk 160 81 161 [0, 0] 2 := rfl
theorem A160_78 {L : AL} {r : List Value} {w0 w1 : Value} : aw g 160 78 L (w1 :: w0 :: r) σ Q = ((vI w0 && (vI w1 && true)) = true ∧ csum r ≤ 8 ∧ aw g 161 0 [some w0, some w1] [] σ (kt (aw g) 160 81 L r Q)) := (aw_eq g 160 78 _ _ _ _).trans (by rw [tq160_78]; exact rfl)
theorem tq160_81 : tT g 160 81 = s_if 160 84 88 (fun a => a = 0) := rfl
theorem A160_81 {L : AL} {r : List Value} {a : Int32} : aw g 160 81 L (.int a :: r) σ Q = ((a = 0 → aw g 160 88 L r σ Q) ∧ (¬ a = 0 → aw g 160 84 L r σ Q)) := (aw_eq g 160 81 _ _ _ _).trans (by rw [tq160_81]; exact rfl)
theorem tq160_84 : tT g 160 84 = s_const 160 85 (.int 1) := rfl
theorem A160_84 {L : AL} {r : List Value} : aw g 160 84 L r σ Q = aw g 160 85 L (.int 1 :: r) σ Q := (aw_eq g 160 84 _ _ _ _).trans (by rw [tq160_84]; exact rfl)
theorem tq160_85 : tT g 160 85 = s_goto 160 89 := rfl
theorem A160_85 {L : AL} {r : List Value} : aw g 160 85 L r σ Q = aw g 160 89 L r σ Q := (aw_eq g 160 85 _ _ _ _).trans (by rw [tq160_85]; exact rfl)
theorem tq160_88 : tT g 160 88 = s_const 160 89 (.int 0) := rfl
theorem A160_88 {L : AL} {r : List Value} : aw g 160 88 L r σ Q = aw g 160 89 L (.int 0 :: r) σ Q := (aw_eq g 160 88 _ _ _ _).trans (by rw [tq160_88]; exact rfl)
theorem tq160_89 : tT g 160 89 = s_ast g (fun _ v => vI v = true) 160 90 20 := rfl
theorem A160_89 {L : AL} {r : List Value} {a : Nat} {i : Int32} {v : Value} : aw g 160 89 L (v :: .int i :: .ref a :: r) σ Q = (hty σ a = some 20 ∧ gB g ≤ a ∧ ¬ i < 0 ∧ i.toNatClampNeg < hln σ a ∧ vI v = true ∧ aw g 160 90 L r (hput σ 20 a i.toNatClampNeg v) Q) := (aw_eq g 160 89 _ _ _ _).trans (by rw [tq160_89]; exact rfl)
theorem tq160_90 : tT g 160 90 = s_store vRf 160 92 6 := rfl
theorem A160_90 {l0 : Option Value} {l1 : Option Value} {l2 : Option Value} {l3 : Option Value} {l4 : Option Value} {l5 : Option Value} {l6 : Option Value} {x : Value} {r : List Value} : aw g 160 90 [l0, l1, l2, l3, l4, l5, l6] (x :: r) σ Q = (vRf x = true ∧ oc l5 = true ∧ aw g 160 92 [l0, l1, l2, l3, l4, l5, some (x)] r σ Q) := (aw_eq g 160 90 _ _ _ _).trans (by rw [tq160_90]; exact (h_store (o := oc l5) rfl rfl rfl))
theorem tq160_92 : tT g 160 92 = s_load vRf 160 94 6 := rfl
theorem A160_92 {l0 : Option Value} {l1 : Option Value} {l2 : Option Value} {l3 : Option Value} {l4 : Option Value} {l5 : Option Value} {x : Value} {r : List Value} : aw g 160 92 [l0, l1, l2, l3, l4, l5, some (x)] r σ Q = (vRf x = true ∧ aw g 160 94 [l0, l1, l2, l3, l4, l5, some (x)] (x :: r) σ Q) := (aw_eq g 160 92 _ _ _ _).trans (by rw [tq160_92]; exact h_load rfl)
theorem tq160_94 : tT g 160 94 = s_load vI 160 95 3 := rfl
theorem A160_94 {l0 : Option Value} {l1 : Option Value} {l2 : Option Value} {l4 : Option Value} {l5 : Option Value} {l6 : Option Value} {x : Int32} {r : List Value} : aw g 160 94 [l0, l1, l2, some (.int x), l4, l5, l6] r σ Q = aw g 160 95 [l0, l1, l2, some (.int x), l4, l5, l6] (.int x :: r) σ Q := (aw_eq g 160 94 _ _ _ _).trans (by rw [tq160_94]; exact (h_load rfl).trans (propext ⟨fun z => z.2, fun z => ⟨rfl, z⟩⟩))
theorem tq160_95 : tT g 160 95 = s_ald 160 96 20 := rfl
theorem A160_95 {L : AL} {r : List Value} {a : Nat} {i : Int32} : aw g 160 95 L (.int i :: .ref a :: r) σ Q = (hty σ a = some 20 ∧ ¬ i < 0 ∧ i.toNatClampNeg < hln σ a ∧ aw g 160 96 L (hv σ 20 a i.toNatClampNeg :: r) σ Q) := (aw_eq g 160 95 _ _ _ _).trans (by rw [tq160_95]; exact rfl)
theorem tq160_96 : tT g 160 96 = s_ret pI := rfl
theorem A160_96 {L : AL} {v : Value} : aw g 160 96 L [v] σ Q = (pI v ∧ Q (.inl (some v)) σ) := (aw_eq g 160 96 _ _ _ _).trans (by rw [tq160_96]; exact rfl)
theorem tq161_0 : tT g 161 0 = s_load vI 161 1 0 := rfl
theorem A161_0 {l1 : Option Value} {x : Int32} {r : List Value} : aw g 161 0 [some (.int x), l1] r σ Q = aw g 161 1 [some (.int x), l1] (.int x :: r) σ Q := (aw_eq g 161 0 _ _ _ _).trans (by rw [tq161_0]; exact (h_load rfl).trans (propext ⟨fun z => z.2, fun z => ⟨rfl, z⟩⟩))
theorem tq161_1 : tT g 161 1 = s_load vI 161 2 1 := rfl
theorem A161_1 {l0 : Option Value} {x : Int32} {r : List Value} : aw g 161 1 [l0, some (.int x)] r σ Q = aw g 161 2 [l0, some (.int x)] (.int x :: r) σ Q := (aw_eq g 161 1 _ _ _ _).trans (by rw [tq161_1]; exact (h_load rfl).trans (propext ⟨fun z => z.2, fun z => ⟨rfl, z⟩⟩))
theorem tq161_2 : tT g 161 2 = s_bin 161 3 (fun a b => a >>> (b &&& 31)) := rfl
theorem A161_2 {L : AL} {r : List Value} {a b : Int32} : aw g 161 2 L (.int b :: .int a :: r) σ Q = aw g 161 3 L (.int (a >>> (b &&& 31)) :: r) σ Q := (aw_eq g 161 2 _ _ _ _).trans (by rw [tq161_2]; exact rfl)
theorem tq161_3 : tT g 161 3 = s_const 161 4 (.int 1) := rfl
theorem A161_3 {L : AL} {r : List Value} : aw g 161 3 L r σ Q = aw g 161 4 L (.int 1 :: r) σ Q := (aw_eq g 161 3 _ _ _ _).trans (by rw [tq161_3]; exact rfl)
theorem tq161_4 : tT g 161 4 = s_bin 161 5 (fun a b => a &&& b) := rfl
theorem A161_4 {L : AL} {r : List Value} {a b : Int32} : aw g 161 4 L (.int b :: .int a :: r) σ Q = aw g 161 5 L (.int (a &&& b) :: r) σ Q := (aw_eq g 161 4 _ _ _ _).trans (by rw [tq161_4]; exact rfl)
theorem tq161_5 : tT g 161 5 = s_const 161 6 (.int 1) := rfl
theorem A161_5 {L : AL} {r : List Value} : aw g 161 5 L r σ Q = aw g 161 6 L (.int 1 :: r) σ Q := (aw_eq g 161 5 _ _ _ _).trans (by rw [tq161_5]; exact rfl)
theorem tq161_6 : tT g 161 6 = s_icmp 161 13 9 (fun a b => a = b) := rfl
theorem A161_6 {L : AL} {r : List Value} {a b : Int32} : aw g 161 6 L (.int b :: .int a :: r) σ Q = ((a = b → aw g 161 9 L r σ Q) ∧ (¬ a = b → aw g 161 13 L r σ Q)) := (aw_eq g 161 6 _ _ _ _).trans (by rw [tq161_6]; exact rfl)
theorem tq161_9 : tT g 161 9 = s_const 161 10 (.int 1) := rfl
theorem A161_9 {L : AL} {r : List Value} : aw g 161 9 L r σ Q = aw g 161 10 L (.int 1 :: r) σ Q := (aw_eq g 161 9 _ _ _ _).trans (by rw [tq161_9]; exact rfl)
theorem tq161_10 : tT g 161 10 = s_goto 161 14 := rfl
theorem A161_10 {L : AL} {r : List Value} : aw g 161 10 L r σ Q = aw g 161 14 L r σ Q := (aw_eq g 161 10 _ _ _ _).trans (by rw [tq161_10]; exact rfl)
theorem tq161_13 : tT g 161 13 = s_const 161 14 (.int 0) := rfl
theorem A161_13 {L : AL} {r : List Value} : aw g 161 13 L r σ Q = aw g 161 14 L (.int 0 :: r) σ Q := (aw_eq g 161 13 _ _ _ _).trans (by rw [tq161_13]; exact rfl)
theorem tq161_14 : tT g 161 14 = s_ret vZ := rfl
theorem A161_14 {L : AL} {v : Value} : aw g 161 14 L [v] σ Q = (vZ v ∧ Q (.inl (some v)) σ) := (aw_eq g 161 14 _ _ _ _).trans (by rw [tq161_14]; exact rfl)
theorem tq162_0 : tT g 162 0 = s_load vRf 162 1 0 := rfl
theorem A162_0 {l1 : Option Value} {l2 : Option Value} {x : Value} {r : List Value} : aw g 162 0 [some (x), l1, l2] r σ Q = (vRf x = true ∧ aw g 162 1 [some (x), l1, l2] (x :: r) σ Q) := (aw_eq g 162 0 _ _ _ _).trans (by rw [tq162_0]; exact h_load rfl)
theorem tq162_1 : tT g 162 1 = s_const 162 2 (.int 0) := rfl
theorem A162_1 {L : AL} {r : List Value} : aw g 162 1 L r σ Q = aw g 162 2 L (.int 0 :: r) σ Q := (aw_eq g 162 1 _ _ _ _).trans (by rw [tq162_1]; exact rfl)
theorem tq162_2 : tT g 162 2 = s_putf g pI 162 5 3 0 := rfl
theorem A162_2 {L : AL} {r : List Value} {a : Nat} {v : Value} : aw g 162 2 L (v :: .ref a :: r) σ Q = (hty σ a = some 3 ∧ gB g ≤ a ∧ pI v ∧ aw g 162 5 L r (hput σ 3 a 0 v) Q) := (aw_eq g 162 2 _ _ _ _).trans (by rw [tq162_2]; exact rfl)
theorem tq162_5 : tT g 162 5 = s_load vI 162 6 1 := rfl
theorem A162_5 {l0 : Option Value} {l2 : Option Value} {x : Int32} {r : List Value} : aw g 162 5 [l0, some (.int x), l2] r σ Q = aw g 162 6 [l0, some (.int x), l2] (.int x :: r) σ Q := (aw_eq g 162 5 _ _ _ _).trans (by rw [tq162_5]; exact (h_load rfl).trans (propext ⟨fun z => z.2, fun z => ⟨rfl, z⟩⟩))
theorem tq162_6 : tT g 162 6 = s_const 162 7 (.int 0) := rfl
theorem A162_6 {L : AL} {r : List Value} : aw g 162 6 L r σ Q = aw g 162 7 L (.int 0 :: r) σ Q := (aw_eq g 162 6 _ _ _ _).trans (by rw [tq162_6]; exact rfl)
theorem tq162_7 : tT g 162 7 = s_load vRf 162 8 0 := rfl
theorem A162_7 {l1 : Option Value} {l2 : Option Value} {x : Value} {r : List Value} : aw g 162 7 [some (x), l1, l2] r σ Q = (vRf x = true ∧ aw g 162 8 [some (x), l1, l2] (x :: r) σ Q) := (aw_eq g 162 7 _ _ _ _).trans (by rw [tq162_7]; exact h_load rfl)
theorem tq162_8 : tT g 162 8 = s_getf 162 11 3 1 := rfl
theorem A162_8 {L : AL} {r : List Value} {a : Nat} : aw g 162 8 L (.ref a :: r) σ Q = (hty σ a = some 3 ∧ aw g 162 11 L (hv σ 3 a 1 :: r) σ Q) := (aw_eq g 162 8 _ _ _ _).trans (by rw [tq162_8]; exact rfl)
theorem tq162_11 : tT g 162 11 = s_getf 162 14 4 2 := rfl
theorem A162_11 {L : AL} {r : List Value} {a : Nat} : aw g 162 11 L (.ref a :: r) σ Q = (hty σ a = some 4 ∧ aw g 162 14 L (hv σ 4 a 2 :: r) σ Q) := (aw_eq g 162 11 _ _ _ _).trans (by rw [tq162_11]; exact rfl)
theorem tq162_14 : tT g 162 14 = s_const 162 15 (.int 1) := rfl
theorem A162_14 {L : AL} {r : List Value} : aw g 162 14 L r σ Q = aw g 162 15 L (.int 1 :: r) σ Q := (aw_eq g 162 14 _ _ _ _).trans (by rw [tq162_14]; exact rfl)
theorem tq162_15 : tT g 162 15 = s_bin 162 16 (fun a b => a - b) := rfl
theorem A162_15 {L : AL} {r : List Value} {a b : Int32} : aw g 162 15 L (.int b :: .int a :: r) σ Q = aw g 162 16 L (.int (a - b) :: r) σ Q := (aw_eq g 162 15 _ _ _ _).trans (by rw [tq162_15]; exact rfl)
theorem tq162_16 : tT g 162 16 = s_callk 162 19 140 [0, 0, 0] 3 := rfl
theorem A162_16 {L : AL} {r : List Value} {w0 w1 w2 : Value} : aw g 162 16 L (w2 :: w1 :: w0 :: r) σ Q = ((vI w0 && (vI w1 && (vI w2 && true))) = true ∧ csum r ≤ 8 ∧ aw g 140 0 [some w0, some w1, some w2] [] σ (kt (aw g) 162 19 L r Q)) := (aw_eq g 162 16 _ _ _ _).trans (by rw [tq162_16]; exact rfl)
theorem tq162_19 : tT g 162 19 = s_if 162 28 22 (fun a => a = 0) := rfl
theorem A162_19 {L : AL} {r : List Value} {a : Int32} : aw g 162 19 L (.int a :: r) σ Q = ((a = 0 → aw g 162 22 L r σ Q) ∧ (¬ a = 0 → aw g 162 28 L r σ Q)) := (aw_eq g 162 19 _ _ _ _).trans (by rw [tq162_19]; exact rfl)
theorem tq162_22 : tT g 162 22 = s_load vRf 162 23 0 := rfl
theorem A162_22 {l1 : Option Value} {l2 : Option Value} {x : Value} {r : List Value} : aw g 162 22 [some (x), l1, l2] r σ Q = (vRf x = true ∧ aw g 162 23 [some (x), l1, l2] (x :: r) σ Q) := (aw_eq g 162 22 _ _ _ _).trans (by rw [tq162_22]; exact h_load rfl)
theorem tq162_23 : tT g 162 23 = s_const 162 24 (.int 1) := rfl
theorem A162_23 {L : AL} {r : List Value} : aw g 162 23 L r σ Q = aw g 162 24 L (.int 1 :: r) σ Q := (aw_eq g 162 23 _ _ _ _).trans (by rw [tq162_23]; exact rfl)
theorem tq162_24 : tT g 162 24 = s_callvk 162 27 141 3 [0] 2 := rfl
theorem A162_24 {L : AL} {r : List Value} {a : Nat} {w0 : Value} : aw g 162 24 L (w0 :: .ref a :: r) σ Q = (hty σ a = some 3 ∧ (vI w0 && true) = true ∧ csum r ≤ 8 ∧ aw g 141 0 [some (.ref a), some w0] [] σ (kt (aw g) 162 27 L r Q)) := (aw_eq g 162 24 _ _ _ _).trans (by rw [tq162_24]; exact rfl)
theorem tq162_27 : tT g 162 27 = s_ret pI := rfl
theorem A162_27 {L : AL} {v : Value} : aw g 162 27 L [v] σ Q = (pI v ∧ Q (.inl (some v)) σ) := (aw_eq g 162 27 _ _ _ _).trans (by rw [tq162_27]; exact rfl)
theorem tq162_28 : tT g 162 28 = s_load vI 162 29 2 := rfl
theorem A162_28 {l0 : Option Value} {l1 : Option Value} {x : Int32} {r : List Value} : aw g 162 28 [l0, l1, some (.int x)] r σ Q = aw g 162 29 [l0, l1, some (.int x)] (.int x :: r) σ Q := (aw_eq g 162 28 _ _ _ _).trans (by rw [tq162_28]; exact (h_load rfl).trans (propext ⟨fun z => z.2, fun z => ⟨rfl, z⟩⟩))
theorem tq162_29 : tT g 162 29 = s_const 162 30 (.int 0) := rfl
theorem A162_29 {L : AL} {r : List Value} : aw g 162 29 L r σ Q = aw g 162 30 L (.int 0 :: r) σ Q := (aw_eq g 162 29 _ _ _ _).trans (by rw [tq162_29]; exact rfl)
theorem tq162_30 : tT g 162 30 = s_const 162 31 (.int 2) := rfl
theorem A162_30 {L : AL} {r : List Value} : aw g 162 30 L r σ Q = aw g 162 31 L (.int 2 :: r) σ Q := (aw_eq g 162 30 _ _ _ _).trans (by rw [tq162_30]; exact rfl)
theorem tq162_31 : tT g 162 31 = s_callk 162 34 140 [0, 0, 0] 3 := rfl
theorem A162_31 {L : AL} {r : List Value} {w0 w1 w2 : Value} : aw g 162 31 L (w2 :: w1 :: w0 :: r) σ Q = ((vI w0 && (vI w1 && (vI w2 && true))) = true ∧ csum r ≤ 8 ∧ aw g 140 0 [some w0, some w1, some w2] [] σ (kt (aw g) 162 34 L r Q)) := (aw_eq g 162 31 _ _ _ _).trans (by rw [tq162_31]; exact rfl)
theorem tq162_34 : tT g 162 34 = s_if 162 37 46 (fun a => a = 0) := rfl
theorem A162_34 {L : AL} {r : List Value} {a : Int32} : aw g 162 34 L (.int a :: r) σ Q = ((a = 0 → aw g 162 46 L r σ Q) ∧ (¬ a = 0 → aw g 162 37 L r σ Q)) := (aw_eq g 162 34 _ _ _ _).trans (by rw [tq162_34]; exact rfl)
theorem tq162_37 : tT g 162 37 = s_load vRf 162 38 0 := rfl
theorem A162_37 {l1 : Option Value} {l2 : Option Value} {x : Value} {r : List Value} : aw g 162 37 [some (x), l1, l2] r σ Q = (vRf x = true ∧ aw g 162 38 [some (x), l1, l2] (x :: r) σ Q) := (aw_eq g 162 37 _ _ _ _).trans (by rw [tq162_37]; exact h_load rfl)
theorem tq162_38 : tT g 162 38 = s_load vI 162 39 1 := rfl
theorem A162_38 {l0 : Option Value} {l2 : Option Value} {x : Int32} {r : List Value} : aw g 162 38 [l0, some (.int x), l2] r σ Q = aw g 162 39 [l0, some (.int x), l2] (.int x :: r) σ Q := (aw_eq g 162 38 _ _ _ _).trans (by rw [tq162_38]; exact (h_load rfl).trans (propext ⟨fun z => z.2, fun z => ⟨rfl, z⟩⟩))
theorem tq162_39 : tT g 162 39 = s_load vI 162 40 2 := rfl
theorem A162_39 {l0 : Option Value} {l1 : Option Value} {x : Int32} {r : List Value} : aw g 162 39 [l0, l1, some (.int x)] r σ Q = aw g 162 40 [l0, l1, some (.int x)] (.int x :: r) σ Q := (aw_eq g 162 39 _ _ _ _).trans (by rw [tq162_39]; exact (h_load rfl).trans (propext ⟨fun z => z.2, fun z => ⟨rfl, z⟩⟩))
theorem tq162_40 : tT g 162 40 = s_callvk 162 43 163 3 [0, 0] 4 := rfl
theorem A162_40 {L : AL} {r : List Value} {a : Nat} {w0 w1 : Value} : aw g 162 40 L (w1 :: w0 :: .ref a :: r) σ Q = (hty σ a = some 3 ∧ (vI w0 && (vI w1 && true)) = true ∧ csum r ≤ 8 ∧ aw g 163 0 [some (.ref a), some w0, some w1, none] [] σ (kt (aw g) 162 43 L r Q)) := (aw_eq g 162 40 _ _ _ _).trans (by rw [tq162_40]; exact rfl)
theorem tq162_43 : tT g 162 43 = s_goto 162 51 := rfl
theorem A162_43 {L : AL} {r : List Value} : aw g 162 43 L r σ Q = aw g 162 51 L r σ Q := (aw_eq g 162 43 _ _ _ _).trans (by rw [tq162_43]; exact rfl)
theorem tq162_46 : tT g 162 46 = s_load vRf 162 47 0 := rfl
theorem A162_46 {l1 : Option Value} {l2 : Option Value} {x : Value} {r : List Value} : aw g 162 46 [some (x), l1, l2] r σ Q = (vRf x = true ∧ aw g 162 47 [some (x), l1, l2] (x :: r) σ Q) := (aw_eq g 162 46 _ _ _ _).trans (by rw [tq162_46]; exact h_load rfl)
theorem tq162_47 : tT g 162 47 = s_const 162 48 (.int 2) := rfl
theorem A162_47 {L : AL} {r : List Value} : aw g 162 47 L r σ Q = aw g 162 48 L (.int 2 :: r) σ Q := (aw_eq g 162 47 _ _ _ _).trans (by rw [tq162_47]; exact rfl)
theorem tq162_48 : tT g 162 48 = s_callvk 162 51 141 3 [0] 2 := rfl
theorem A162_48 {L : AL} {r : List Value} {a : Nat} {w0 : Value} : aw g 162 48 L (w0 :: .ref a :: r) σ Q = (hty σ a = some 3 ∧ (vI w0 && true) = true ∧ csum r ≤ 8 ∧ aw g 141 0 [some (.ref a), some w0] [] σ (kt (aw g) 162 51 L r Q)) := (aw_eq g 162 48 _ _ _ _).trans (by rw [tq162_48]; exact rfl)
theorem tq162_51 : tT g 162 51 = s_ret pI := rfl
theorem A162_51 {L : AL} {v : Value} : aw g 162 51 L [v] σ Q = (pI v ∧ Q (.inl (some v)) σ) := (aw_eq g 162 51 _ _ _ _).trans (by rw [tq162_51]; exact rfl)
theorem tq163_0 : tT g 163 0 = s_load vRf 163 1 0 := rfl
theorem A163_0 {l1 : Option Value} {l2 : Option Value} {l3 : Option Value} {x : Value} {r : List Value} : aw g 163 0 [some (x), l1, l2, l3] r σ Q = (vRf x = true ∧ aw g 163 1 [some (x), l1, l2, l3] (x :: r) σ Q) := (aw_eq g 163 0 _ _ _ _).trans (by rw [tq163_0]; exact h_load rfl)
theorem tq163_1 : tT g 163 1 = s_getf 163 4 3 1 := rfl
theorem A163_1 {L : AL} {r : List Value} {a : Nat} : aw g 163 1 L (.ref a :: r) σ Q = (hty σ a = some 3 ∧ aw g 163 4 L (hv σ 3 a 1 :: r) σ Q) := (aw_eq g 163 1 _ _ _ _).trans (by rw [tq163_1]; exact rfl)
theorem tq163_4 : tT g 163 4 = s_load vI 163 5 1 := rfl
theorem A163_4 {l0 : Option Value} {l2 : Option Value} {l3 : Option Value} {x : Int32} {r : List Value} : aw g 163 4 [l0, some (.int x), l2, l3] r σ Q = aw g 163 5 [l0, some (.int x), l2, l3] (.int x :: r) σ Q := (aw_eq g 163 4 _ _ _ _).trans (by rw [tq163_4]; exact (h_load rfl).trans (propext ⟨fun z => z.2, fun z => ⟨rfl, z⟩⟩))
theorem tq163_5 : tT g 163 5 = s_callvk 163 8 180 4 [0] 4 := rfl
theorem A163_5 {L : AL} {r : List Value} {a : Nat} {w0 : Value} : aw g 163 5 L (w0 :: .ref a :: r) σ Q = (hty σ a = some 4 ∧ (vI w0 && true) = true ∧ csum r ≤ 8 ∧ aw g 180 0 [some (.ref a), some w0, none, none] [] σ (kt (aw g) 163 8 L r Q)) := (aw_eq g 163 5 _ _ _ _).trans (by rw [tq163_5]; exact rfl)
theorem tq163_8 : tT g 163 8 = s_store vI 163 9 3 := rfl
theorem A163_8 {l0 : Option Value} {l1 : Option Value} {l2 : Option Value} {l3 : Option Value} {x : Int32} {r : List Value} : aw g 163 8 [l0, l1, l2, l3] (.int x :: r) σ Q = (oc l2 = true ∧ aw g 163 9 [l0, l1, l2, some (.int x)] r σ Q) := (aw_eq g 163 8 _ _ _ _).trans (by rw [tq163_8]; exact (h_store (o := oc l2) rfl rfl rfl).trans (propext ⟨fun z => z.2, fun z => ⟨rfl, z⟩⟩))
theorem tq163_9 : tT g 163 9 = s_load vI 163 10 3 := rfl
theorem A163_9 {l0 : Option Value} {l1 : Option Value} {l2 : Option Value} {x : Int32} {r : List Value} : aw g 163 9 [l0, l1, l2, some (.int x)] r σ Q = aw g 163 10 [l0, l1, l2, some (.int x)] (.int x :: r) σ Q := (aw_eq g 163 9 _ _ _ _).trans (by rw [tq163_9]; exact (h_load rfl).trans (propext ⟨fun z => z.2, fun z => ⟨rfl, z⟩⟩))
theorem tq163_10 : tT g 163 10 = s_const 163 11 (.int (-1)) := rfl
theorem A163_10 {L : AL} {r : List Value} : aw g 163 10 L r σ Q = aw g 163 11 L (.int (-1) :: r) σ Q := (aw_eq g 163 10 _ _ _ _).trans (by rw [tq163_10]; exact rfl)
theorem tq163_11 : tT g 163 11 = s_icmp 163 18 14 (fun a b => a = b) := rfl
theorem A163_11 {L : AL} {r : List Value} {a b : Int32} : aw g 163 11 L (.int b :: .int a :: r) σ Q = ((a = b → aw g 163 14 L r σ Q) ∧ (¬ a = b → aw g 163 18 L r σ Q)) := (aw_eq g 163 11 _ _ _ _).trans (by rw [tq163_11]; exact rfl)
theorem tq163_14 : tT g 163 14 = s_const 163 15 (.int (-1)) := rfl
theorem A163_14 {L : AL} {r : List Value} : aw g 163 14 L r σ Q = aw g 163 15 L (.int (-1) :: r) σ Q := (aw_eq g 163 14 _ _ _ _).trans (by rw [tq163_14]; exact rfl)
theorem tq163_15 : tT g 163 15 = s_goto 163 66 := rfl
theorem A163_15 {L : AL} {r : List Value} : aw g 163 15 L r σ Q = aw g 163 66 L r σ Q := (aw_eq g 163 15 _ _ _ _).trans (by rw [tq163_15]; exact rfl)
theorem tq163_18 : tT g 163 18 = s_load vI 163 19 2 := rfl
theorem A163_18 {l0 : Option Value} {l1 : Option Value} {l3 : Option Value} {x : Int32} {r : List Value} : aw g 163 18 [l0, l1, some (.int x), l3] r σ Q = aw g 163 19 [l0, l1, some (.int x), l3] (.int x :: r) σ Q := (aw_eq g 163 18 _ _ _ _).trans (by rw [tq163_18]; exact (h_load rfl).trans (propext ⟨fun z => z.2, fun z => ⟨rfl, z⟩⟩))
theorem tq163_19 : tT g 163 19 = s_if 163 29 22 (fun a => a = 0) := rfl
theorem A163_19 {L : AL} {r : List Value} {a : Int32} : aw g 163 19 L (.int a :: r) σ Q = ((a = 0 → aw g 163 22 L r σ Q) ∧ (¬ a = 0 → aw g 163 29 L r σ Q)) := (aw_eq g 163 19 _ _ _ _).trans (by rw [tq163_19]; exact rfl)
theorem tq163_22 : tT g 163 22 = s_load vI 163 23 3 := rfl
theorem A163_22 {l0 : Option Value} {l1 : Option Value} {l2 : Option Value} {x : Int32} {r : List Value} : aw g 163 22 [l0, l1, l2, some (.int x)] r σ Q = aw g 163 23 [l0, l1, l2, some (.int x)] (.int x :: r) σ Q := (aw_eq g 163 22 _ _ _ _).trans (by rw [tq163_22]; exact (h_load rfl).trans (propext ⟨fun z => z.2, fun z => ⟨rfl, z⟩⟩))
theorem tq163_23 : tT g 163 23 = s_const 163 25 (.int 8) := rfl
theorem A163_23 {L : AL} {r : List Value} : aw g 163 23 L r σ Q = aw g 163 25 L (.int 8 :: r) σ Q := (aw_eq g 163 23 _ _ _ _).trans (by rw [tq163_23]; exact rfl)
theorem tq163_25 : tT g 163 25 = s_div 163 26 (fun a b => a / b) := rfl
theorem A163_25 {L : AL} {r : List Value} {a b : Int32} : aw g 163 25 L (.int b :: .int a :: r) σ Q = (b ≠ 0 ∧ aw g 163 26 L (.int (a / b) :: r) σ Q) := (aw_eq g 163 25 _ _ _ _).trans (by rw [tq163_25]; exact rfl)
theorem tq163_26 : tT g 163 26 = s_goto 163 66 := rfl
theorem A163_26 {L : AL} {r : List Value} : aw g 163 26 L r σ Q = aw g 163 66 L r σ Q := (aw_eq g 163 26 _ _ _ _).trans (by rw [tq163_26]; exact rfl)
theorem tq163_29 : tT g 163 29 = s_load vI 163 30 2 := rfl
theorem A163_29 {l0 : Option Value} {l1 : Option Value} {l3 : Option Value} {x : Int32} {r : List Value} : aw g 163 29 [l0, l1, some (.int x), l3] r σ Q = aw g 163 30 [l0, l1, some (.int x), l3] (.int x :: r) σ Q := (aw_eq g 163 29 _ _ _ _).trans (by rw [tq163_29]; exact (h_load rfl).trans (propext ⟨fun z => z.2, fun z => ⟨rfl, z⟩⟩))
theorem tq163_30 : tT g 163 30 = s_const 163 31 (.int 1) := rfl
theorem A163_30 {L : AL} {r : List Value} : aw g 163 30 L r σ Q = aw g 163 31 L (.int 1 :: r) σ Q := (aw_eq g 163 30 _ _ _ _).trans (by rw [tq163_30]; exact rfl)
theorem tq163_31 : tT g 163 31 = s_icmp 163 41 34 (fun a b => a = b) := rfl
theorem A163_31 {L : AL} {r : List Value} {a b : Int32} : aw g 163 31 L (.int b :: .int a :: r) σ Q = ((a = b → aw g 163 34 L r σ Q) ∧ (¬ a = b → aw g 163 41 L r σ Q)) := (aw_eq g 163 31 _ _ _ _).trans (by rw [tq163_31]; exact rfl)
theorem tq163_34 : tT g 163 34 = s_load vI 163 35 3 := rfl
theorem A163_34 {l0 : Option Value} {l1 : Option Value} {l2 : Option Value} {x : Int32} {r : List Value} : aw g 163 34 [l0, l1, l2, some (.int x)] r σ Q = aw g 163 35 [l0, l1, l2, some (.int x)] (.int x :: r) σ Q := (aw_eq g 163 34 _ _ _ _).trans (by rw [tq163_34]; exact (h_load rfl).trans (propext ⟨fun z => z.2, fun z => ⟨rfl, z⟩⟩))
theorem tq163_35 : tT g 163 35 = s_const 163 37 (.int 8) := rfl
theorem A163_35 {L : AL} {r : List Value} : aw g 163 35 L r σ Q = aw g 163 37 L (.int 8 :: r) σ Q := (aw_eq g 163 35 _ _ _ _).trans (by rw [tq163_35]; exact rfl)
theorem tq163_37 : tT g 163 37 = s_div 163 38 (fun a b => a - a / b * b) := rfl
theorem A163_37 {L : AL} {r : List Value} {a b : Int32} : aw g 163 37 L (.int b :: .int a :: r) σ Q = (b ≠ 0 ∧ aw g 163 38 L (.int (a - a / b * b) :: r) σ Q) := (aw_eq g 163 37 _ _ _ _).trans (by rw [tq163_37]; exact rfl)
theorem tq163_38 : tT g 163 38 = s_goto 163 66 := rfl
theorem A163_38 {L : AL} {r : List Value} : aw g 163 38 L r σ Q = aw g 163 66 L r σ Q := (aw_eq g 163 38 _ _ _ _).trans (by rw [tq163_38]; exact rfl)
theorem tq163_41 : tT g 163 41 = s_load vRf 163 42 0 := rfl
theorem A163_41 {l1 : Option Value} {l2 : Option Value} {l3 : Option Value} {x : Value} {r : List Value} : aw g 163 41 [some (x), l1, l2, l3] r σ Q = (vRf x = true ∧ aw g 163 42 [some (x), l1, l2, l3] (x :: r) σ Q) := (aw_eq g 163 41 _ _ _ _).trans (by rw [tq163_41]; exact h_load rfl)
theorem tq163_42 : tT g 163 42 = s_getf 163 45 3 1 := rfl
theorem A163_42 {L : AL} {r : List Value} {a : Nat} : aw g 163 42 L (.ref a :: r) σ Q = (hty σ a = some 3 ∧ aw g 163 45 L (hv σ 3 a 1 :: r) σ Q) := (aw_eq g 163 42 _ _ _ _).trans (by rw [tq163_42]; exact rfl)
theorem tq163_45 : tT g 163 45 = s_getf 163 48 4 0 := rfl
theorem A163_45 {L : AL} {r : List Value} {a : Nat} : aw g 163 45 L (.ref a :: r) σ Q = (hty σ a = some 4 ∧ aw g 163 48 L (hv σ 4 a 0 :: r) σ Q) := (aw_eq g 163 45 _ _ _ _).trans (by rw [tq163_45]; exact rfl)
theorem tq163_48 : tT g 163 48 = s_load vI 163 49 3 := rfl
theorem A163_48 {l0 : Option Value} {l1 : Option Value} {l2 : Option Value} {x : Int32} {r : List Value} : aw g 163 48 [l0, l1, l2, some (.int x)] r σ Q = aw g 163 49 [l0, l1, l2, some (.int x)] (.int x :: r) σ Q := (aw_eq g 163 48 _ _ _ _).trans (by rw [tq163_48]; exact (h_load rfl).trans (propext ⟨fun z => z.2, fun z => ⟨rfl, z⟩⟩))
theorem tq163_49 : tT g 163 49 = s_const 163 51 (.int 8) := rfl
theorem A163_49 {L : AL} {r : List Value} : aw g 163 49 L r σ Q = aw g 163 51 L (.int 8 :: r) σ Q := (aw_eq g 163 49 _ _ _ _).trans (by rw [tq163_49]; exact rfl)
theorem tq163_51 : tT g 163 51 = s_div 163 52 (fun a b => a / b) := rfl
theorem A163_51 {L : AL} {r : List Value} {a b : Int32} : aw g 163 51 L (.int b :: .int a :: r) σ Q = (b ≠ 0 ∧ aw g 163 52 L (.int (a / b) :: r) σ Q) := (aw_eq g 163 51 _ _ _ _).trans (by rw [tq163_51]; exact rfl)
theorem tq163_52 : tT g 163 52 = s_callvk 163 55 25 10 [0] 2 := rfl
theorem A163_52 {L : AL} {r : List Value} {a : Nat} {w0 : Value} : aw g 163 52 L (w0 :: .ref a :: r) σ Q = (hty σ a = some 10 ∧ (vI w0 && true) = true ∧ csum r ≤ 8 ∧ aw g 25 0 [some (.ref a), some w0] [] σ (kt (aw g) 163 55 L r Q)) := (aw_eq g 163 52 _ _ _ _).trans (by rw [tq163_52]; exact rfl)
theorem tq163_55 : tT g 163 55 = s_cast 163 58 [7] := rfl
theorem A163_55 {L : AL} {r : List Value} : aw g 163 55 L (.null :: r) σ Q = aw g 163 58 L (.null :: r) σ Q := (aw_eq g 163 55 _ _ _ _).trans (by rw [tq163_55]; exact rfl)
theorem A163_55r {L : AL} {r : List Value} {a : Nat} : aw g 163 55 L (.ref a :: r) σ Q = (hty σ a = some 7 ∧ aw g 163 58 L (.ref a :: r) σ Q) := (aw_eq g 163 55 _ _ _ _).trans (by rw [tq163_55]; exact propext ⟨fun z => (by obtain ⟨⟨u, hu, hu2⟩, z2⟩ := z; rw [List.mem_singleton] at hu; subst hu; exact ⟨hu2, z2⟩), fun z => ⟨⟨_, List.mem_cons_self, z.1⟩, z.2⟩⟩)
theorem tq163_58 : tT g 163 58 = s_getf 163 61 7 16 := rfl
theorem A163_58 {L : AL} {r : List Value} {a : Nat} : aw g 163 58 L (.ref a :: r) σ Q = (hty σ a = some 7 ∧ aw g 163 61 L (hv σ 7 a 16 :: r) σ Q) := (aw_eq g 163 58 _ _ _ _).trans (by rw [tq163_58]; exact rfl)
theorem tq163_61 : tT g 163 61 = s_load vI 163 62 3 := rfl
theorem A163_61 {l0 : Option Value} {l1 : Option Value} {l2 : Option Value} {x : Int32} {r : List Value} : aw g 163 61 [l0, l1, l2, some (.int x)] r σ Q = aw g 163 62 [l0, l1, l2, some (.int x)] (.int x :: r) σ Q := (aw_eq g 163 61 _ _ _ _).trans (by rw [tq163_61]; exact (h_load rfl).trans (propext ⟨fun z => z.2, fun z => ⟨rfl, z⟩⟩))
theorem tq163_62 : tT g 163 62 = s_const 163 64 (.int 8) := rfl
theorem A163_62 {L : AL} {r : List Value} : aw g 163 62 L r σ Q = aw g 163 64 L (.int 8 :: r) σ Q := (aw_eq g 163 62 _ _ _ _).trans (by rw [tq163_62]; exact rfl)
theorem tq163_64 : tT g 163 64 = s_div 163 65 (fun a b => a - a / b * b) := rfl
theorem A163_64 {L : AL} {r : List Value} {a b : Int32} : aw g 163 64 L (.int b :: .int a :: r) σ Q = (b ≠ 0 ∧ aw g 163 65 L (.int (a - a / b * b) :: r) σ Q) := (aw_eq g 163 64 _ _ _ _).trans (by rw [tq163_64]; exact rfl)
theorem tq163_65 : tT g 163 65 = s_ald 163 66 20 := rfl
theorem A163_65 {L : AL} {r : List Value} {a : Nat} {i : Int32} : aw g 163 65 L (.int i :: .ref a :: r) σ Q = (hty σ a = some 20 ∧ ¬ i < 0 ∧ i.toNatClampNeg < hln σ a ∧ aw g 163 66 L (hv σ 20 a i.toNatClampNeg :: r) σ Q) := (aw_eq g 163 65 _ _ _ _).trans (by rw [tq163_65]; exact rfl)
theorem tq163_66 : tT g 163 66 = s_ret pI := rfl
theorem A163_66 {L : AL} {v : Value} : aw g 163 66 L [v] σ Q = (pI v ∧ Q (.inl (some v)) σ) := (aw_eq g 163 66 _ _ _ _).trans (by rw [tq163_66]; exact rfl)
theorem tq164_0 : tT g 164 0 = s_load vRf 164 1 0 := rfl
theorem A164_0 {l1 : Option Value} {l2 : Option Value} {x : Value} {r : List Value} : aw g 164 0 [some (x), l1, l2] r σ Q = (vRf x = true ∧ aw g 164 1 [some (x), l1, l2] (x :: r) σ Q) := (aw_eq g 164 0 _ _ _ _).trans (by rw [tq164_0]; exact h_load rfl)
theorem tq164_1 : tT g 164 1 = s_const 164 2 (.int 0) := rfl
theorem A164_1 {L : AL} {r : List Value} : aw g 164 1 L r σ Q = aw g 164 2 L (.int 0 :: r) σ Q := (aw_eq g 164 1 _ _ _ _).trans (by rw [tq164_1]; exact rfl)
theorem tq164_2 : tT g 164 2 = s_putf g pI 164 5 3 0 := rfl
theorem A164_2 {L : AL} {r : List Value} {a : Nat} {v : Value} : aw g 164 2 L (v :: .ref a :: r) σ Q = (hty σ a = some 3 ∧ gB g ≤ a ∧ pI v ∧ aw g 164 5 L r (hput σ 3 a 0 v) Q) := (aw_eq g 164 2 _ _ _ _).trans (by rw [tq164_2]; exact rfl)
theorem tq164_5 : tT g 164 5 = s_load vRf 164 6 0 := rfl
theorem A164_5 {l1 : Option Value} {l2 : Option Value} {x : Value} {r : List Value} : aw g 164 5 [some (x), l1, l2] r σ Q = (vRf x = true ∧ aw g 164 6 [some (x), l1, l2] (x :: r) σ Q) := (aw_eq g 164 5 _ _ _ _).trans (by rw [tq164_5]; exact h_load rfl)
theorem tq164_6 : tT g 164 6 = s_load vI 164 7 1 := rfl
theorem A164_6 {l0 : Option Value} {l2 : Option Value} {x : Int32} {r : List Value} : aw g 164 6 [l0, some (.int x), l2] r σ Q = aw g 164 7 [l0, some (.int x), l2] (.int x :: r) σ Q := (aw_eq g 164 6 _ _ _ _).trans (by rw [tq164_6]; exact (h_load rfl).trans (propext ⟨fun z => z.2, fun z => ⟨rfl, z⟩⟩))
theorem tq164_7 : tT g 164 7 = s_callvk 164 10 143 3 [0] 2 := rfl
theorem A164_7 {L : AL} {r : List Value} {a : Nat} {w0 : Value} : aw g 164 7 L (w0 :: .ref a :: r) σ Q = (hty σ a = some 3 ∧ (vI w0 && true) = true ∧ csum r ≤ 8 ∧ aw g 143 0 [some (.ref a), some w0] [] σ (kt (aw g) 164 10 L r Q)) := (aw_eq g 164 7 _ _ _ _).trans (by rw [tq164_7]; exact rfl)
theorem tq164_10 : tT g 164 10 = s_if 164 19 13 (fun a => a = 0) := rfl
theorem A164_10 {L : AL} {r : List Value} {a : Int32} : aw g 164 10 L (.int a :: r) σ Q = ((a = 0 → aw g 164 13 L r σ Q) ∧ (¬ a = 0 → aw g 164 19 L r σ Q)) := (aw_eq g 164 10 _ _ _ _).trans (by rw [tq164_10]; exact rfl)
theorem tq164_13 : tT g 164 13 = s_load vRf 164 14 0 := rfl
theorem A164_13 {l1 : Option Value} {l2 : Option Value} {x : Value} {r : List Value} : aw g 164 13 [some (x), l1, l2] r σ Q = (vRf x = true ∧ aw g 164 14 [some (x), l1, l2] (x :: r) σ Q) := (aw_eq g 164 13 _ _ _ _).trans (by rw [tq164_13]; exact h_load rfl)
theorem tq164_14 : tT g 164 14 = s_const 164 15 (.int 1) := rfl
theorem A164_14 {L : AL} {r : List Value} : aw g 164 14 L r σ Q = aw g 164 15 L (.int 1 :: r) σ Q := (aw_eq g 164 14 _ _ _ _).trans (by rw [tq164_14]; exact rfl)
theorem tq164_15 : tT g 164 15 = s_callvk 164 18 141 3 [0] 2 := rfl
theorem A164_15 {L : AL} {r : List Value} {a : Nat} {w0 : Value} : aw g 164 15 L (w0 :: .ref a :: r) σ Q = (hty σ a = some 3 ∧ (vI w0 && true) = true ∧ csum r ≤ 8 ∧ aw g 141 0 [some (.ref a), some w0] [] σ (kt (aw g) 164 18 L r Q)) := (aw_eq g 164 15 _ _ _ _).trans (by rw [tq164_15]; exact rfl)
theorem tq164_18 : tT g 164 18 = s_ret pI := rfl
theorem A164_18 {L : AL} {v : Value} : aw g 164 18 L [v] σ Q = (pI v ∧ Q (.inl (some v)) σ) := (aw_eq g 164 18 _ _ _ _).trans (by rw [tq164_18]; exact rfl)
theorem tq164_19 : tT g 164 19 = s_load vI 164 20 2 := rfl
theorem A164_19 {l0 : Option Value} {l1 : Option Value} {x : Int32} {r : List Value} : aw g 164 19 [l0, l1, some (.int x)] r σ Q = aw g 164 20 [l0, l1, some (.int x)] (.int x :: r) σ Q := (aw_eq g 164 19 _ _ _ _).trans (by rw [tq164_19]; exact (h_load rfl).trans (propext ⟨fun z => z.2, fun z => ⟨rfl, z⟩⟩))
theorem tq164_20 : tT g 164 20 = s_if 164 23 32 (fun a => a < 0) := rfl
theorem A164_20 {L : AL} {r : List Value} {a : Int32} : aw g 164 20 L (.int a :: r) σ Q = ((a < 0 → aw g 164 32 L r σ Q) ∧ (¬ a < 0 → aw g 164 23 L r σ Q)) := (aw_eq g 164 20 _ _ _ _).trans (by rw [tq164_20]; exact rfl)
theorem tq164_23 : tT g 164 23 = s_load vRf 164 24 0 := rfl
theorem A164_23 {l1 : Option Value} {l2 : Option Value} {x : Value} {r : List Value} : aw g 164 23 [some (x), l1, l2] r σ Q = (vRf x = true ∧ aw g 164 24 [some (x), l1, l2] (x :: r) σ Q) := (aw_eq g 164 23 _ _ _ _).trans (by rw [tq164_23]; exact h_load rfl)
theorem tq164_24 : tT g 164 24 = s_load vI 164 25 1 := rfl
theorem A164_24 {l0 : Option Value} {l2 : Option Value} {x : Int32} {r : List Value} : aw g 164 24 [l0, some (.int x), l2] r σ Q = aw g 164 25 [l0, some (.int x), l2] (.int x :: r) σ Q := (aw_eq g 164 24 _ _ _ _).trans (by rw [tq164_24]; exact (h_load rfl).trans (propext ⟨fun z => z.2, fun z => ⟨rfl, z⟩⟩))
theorem tq164_25 : tT g 164 25 = s_load vI 164 26 2 := rfl
theorem A164_25 {l0 : Option Value} {l1 : Option Value} {x : Int32} {r : List Value} : aw g 164 25 [l0, l1, some (.int x)] r σ Q = aw g 164 26 [l0, l1, some (.int x)] (.int x :: r) σ Q := (aw_eq g 164 25 _ _ _ _).trans (by rw [tq164_25]; exact (h_load rfl).trans (propext ⟨fun z => z.2, fun z => ⟨rfl, z⟩⟩))
theorem tq164_26 : tT g 164 26 = s_callvk 164 29 165 3 [0, 0] 4 := rfl
theorem A164_26 {L : AL} {r : List Value} {a : Nat} {w0 w1 : Value} : aw g 164 26 L (w1 :: w0 :: .ref a :: r) σ Q = (hty σ a = some 3 ∧ (vI w0 && (vI w1 && true)) = true ∧ csum r ≤ 8 ∧ aw g 165 0 [some (.ref a), some w0, some w1, none] [] σ (kt (aw g) 164 29 L r Q)) := (aw_eq g 164 26 _ _ _ _).trans (by rw [tq164_26]; exact rfl)
theorem tq164_29 : tT g 164 29 = s_goto 164 37 := rfl
theorem A164_29 {L : AL} {r : List Value} : aw g 164 29 L r σ Q = aw g 164 37 L r σ Q := (aw_eq g 164 29 _ _ _ _).trans (by rw [tq164_29]; exact rfl)
theorem tq164_32 : tT g 164 32 = s_load vRf 164 33 0 := rfl
theorem A164_32 {l1 : Option Value} {l2 : Option Value} {x : Value} {r : List Value} : aw g 164 32 [some (x), l1, l2] r σ Q = (vRf x = true ∧ aw g 164 33 [some (x), l1, l2] (x :: r) σ Q) := (aw_eq g 164 32 _ _ _ _).trans (by rw [tq164_32]; exact h_load rfl)
theorem tq164_33 : tT g 164 33 = s_const 164 34 (.int 2) := rfl
theorem A164_33 {L : AL} {r : List Value} : aw g 164 33 L r σ Q = aw g 164 34 L (.int 2 :: r) σ Q := (aw_eq g 164 33 _ _ _ _).trans (by rw [tq164_33]; exact rfl)
theorem tq164_34 : tT g 164 34 = s_callvk 164 37 141 3 [0] 2 := rfl
theorem A164_34 {L : AL} {r : List Value} {a : Nat} {w0 : Value} : aw g 164 34 L (w0 :: .ref a :: r) σ Q = (hty σ a = some 3 ∧ (vI w0 && true) = true ∧ csum r ≤ 8 ∧ aw g 141 0 [some (.ref a), some w0] [] σ (kt (aw g) 164 37 L r Q)) := (aw_eq g 164 34 _ _ _ _).trans (by rw [tq164_34]; exact rfl)
theorem tq164_37 : tT g 164 37 = s_ret pI := rfl
theorem A164_37 {L : AL} {v : Value} : aw g 164 37 L [v] σ Q = (pI v ∧ Q (.inl (some v)) σ) := (aw_eq g 164 37 _ _ _ _).trans (by rw [tq164_37]; exact rfl)
theorem tq165_0 : tT g 165 0 = s_load vRf 165 1 0 := rfl
theorem A165_0 {l1 : Option Value} {l2 : Option Value} {l3 : Option Value} {x : Value} {r : List Value} : aw g 165 0 [some (x), l1, l2, l3] r σ Q = (vRf x = true ∧ aw g 165 1 [some (x), l1, l2, l3] (x :: r) σ Q) := (aw_eq g 165 0 _ _ _ _).trans (by rw [tq165_0]; exact h_load rfl)
theorem tq165_1 : tT g 165 1 = s_getf 165 4 3 1 := rfl
theorem A165_1 {L : AL} {r : List Value} {a : Nat} : aw g 165 1 L (.ref a :: r) σ Q = (hty σ a = some 3 ∧ aw g 165 4 L (hv σ 3 a 1 :: r) σ Q) := (aw_eq g 165 1 _ _ _ _).trans (by rw [tq165_1]; exact rfl)
theorem tq165_4 : tT g 165 4 = s_getf 165 7 4 0 := rfl
theorem A165_4 {L : AL} {r : List Value} {a : Nat} : aw g 165 4 L (.ref a :: r) σ Q = (hty σ a = some 4 ∧ aw g 165 7 L (hv σ 4 a 0 :: r) σ Q) := (aw_eq g 165 4 _ _ _ _).trans (by rw [tq165_4]; exact rfl)
theorem tq165_7 : tT g 165 7 = s_load vI 165 8 1 := rfl
theorem A165_7 {l0 : Option Value} {l2 : Option Value} {l3 : Option Value} {x : Int32} {r : List Value} : aw g 165 7 [l0, some (.int x), l2, l3] r σ Q = aw g 165 8 [l0, some (.int x), l2, l3] (.int x :: r) σ Q := (aw_eq g 165 7 _ _ _ _).trans (by rw [tq165_7]; exact (h_load rfl).trans (propext ⟨fun z => z.2, fun z => ⟨rfl, z⟩⟩))
theorem tq165_8 : tT g 165 8 = s_callvk 165 11 25 10 [0] 2 := rfl
theorem A165_8 {L : AL} {r : List Value} {a : Nat} {w0 : Value} : aw g 165 8 L (w0 :: .ref a :: r) σ Q = (hty σ a = some 10 ∧ (vI w0 && true) = true ∧ csum r ≤ 8 ∧ aw g 25 0 [some (.ref a), some w0] [] σ (kt (aw g) 165 11 L r Q)) := (aw_eq g 165 8 _ _ _ _).trans (by rw [tq165_8]; exact rfl)
theorem tq165_11 : tT g 165 11 = s_cast 165 14 [7] := rfl
theorem A165_11 {L : AL} {r : List Value} : aw g 165 11 L (.null :: r) σ Q = aw g 165 14 L (.null :: r) σ Q := (aw_eq g 165 11 _ _ _ _).trans (by rw [tq165_11]; exact rfl)
theorem A165_11r {L : AL} {r : List Value} {a : Nat} : aw g 165 11 L (.ref a :: r) σ Q = (hty σ a = some 7 ∧ aw g 165 14 L (.ref a :: r) σ Q) := (aw_eq g 165 11 _ _ _ _).trans (by rw [tq165_11]; exact propext ⟨fun z => (by obtain ⟨⟨u, hu, hu2⟩, z2⟩ := z; rw [List.mem_singleton] at hu; subst hu; exact ⟨hu2, z2⟩), fun z => ⟨⟨_, List.mem_cons_self, z.1⟩, z.2⟩⟩)
theorem tq165_14 : tT g 165 14 = s_store vRf 165 15 3 := rfl
theorem A165_14 {l0 : Option Value} {l1 : Option Value} {l2 : Option Value} {l3 : Option Value} {x : Value} {r : List Value} : aw g 165 14 [l0, l1, l2, l3] (x :: r) σ Q = (vRf x = true ∧ oc l2 = true ∧ aw g 165 15 [l0, l1, l2, some (x)] r σ Q) := (aw_eq g 165 14 _ _ _ _).trans (by rw [tq165_14]; exact (h_store (o := oc l2) rfl rfl rfl))
theorem tq165_15 : tT g 165 15 = s_load vRf 165 16 3 := rfl
theorem A165_15 {l0 : Option Value} {l1 : Option Value} {l2 : Option Value} {x : Value} {r : List Value} : aw g 165 15 [l0, l1, l2, some (x)] r σ Q = (vRf x = true ∧ aw g 165 16 [l0, l1, l2, some (x)] (x :: r) σ Q) := (aw_eq g 165 15 _ _ _ _).trans (by rw [tq165_15]; exact h_load rfl)
theorem tq165_16 : tT g 165 16 = s_getf 165 19 7 25 := rfl
theorem A165_16 {L : AL} {r : List Value} {a : Nat} : aw g 165 16 L (.ref a :: r) σ Q = (hty σ a = some 7 ∧ aw g 165 19 L (hv σ 7 a 25 :: r) σ Q) := (aw_eq g 165 16 _ _ _ _).trans (by rw [tq165_16]; exact rfl)
theorem tq165_19 : tT g 165 19 = s_if 165 22 50 (fun a => a = 0) := rfl
theorem A165_19 {L : AL} {r : List Value} {a : Int32} : aw g 165 19 L (.int a :: r) σ Q = ((a = 0 → aw g 165 50 L r σ Q) ∧ (¬ a = 0 → aw g 165 22 L r σ Q)) := (aw_eq g 165 19 _ _ _ _).trans (by rw [tq165_19]; exact rfl)
theorem tq165_22 : tT g 165 22 = s_load vI 165 23 2 := rfl
theorem A165_22 {l0 : Option Value} {l1 : Option Value} {l3 : Option Value} {x : Int32} {r : List Value} : aw g 165 22 [l0, l1, some (.int x), l3] r σ Q = aw g 165 23 [l0, l1, some (.int x), l3] (.int x :: r) σ Q := (aw_eq g 165 22 _ _ _ _).trans (by rw [tq165_22]; exact (h_load rfl).trans (propext ⟨fun z => z.2, fun z => ⟨rfl, z⟩⟩))
theorem tq165_23 : tT g 165 23 = s_load vRf 165 24 3 := rfl
theorem A165_23 {l0 : Option Value} {l1 : Option Value} {l2 : Option Value} {x : Value} {r : List Value} : aw g 165 23 [l0, l1, l2, some (x)] r σ Q = (vRf x = true ∧ aw g 165 24 [l0, l1, l2, some (x)] (x :: r) σ Q) := (aw_eq g 165 23 _ _ _ _).trans (by rw [tq165_23]; exact h_load rfl)
theorem tq165_24 : tT g 165 24 = s_getf 165 27 7 30 := rfl
theorem A165_24 {L : AL} {r : List Value} {a : Nat} : aw g 165 24 L (.ref a :: r) σ Q = (hty σ a = some 7 ∧ aw g 165 27 L (hv σ 7 a 30 :: r) σ Q) := (aw_eq g 165 24 _ _ _ _).trans (by rw [tq165_24]; exact rfl)
theorem tq165_27 : tT g 165 27 = s_callvk 165 30 15 10 [] 1 := rfl
theorem A165_27 {L : AL} {r : List Value} {a : Nat} : aw g 165 27 L (.ref a :: r) σ Q = (hty σ a = some 10 ∧ true = true ∧ csum r ≤ 8 ∧ aw g 15 0 [some (.ref a)] [] σ (kt (aw g) 165 30 L r Q)) := (aw_eq g 165 27 _ _ _ _).trans (by rw [tq165_27]; exact rfl)
theorem tq165_30 : tT g 165 30 = s_icmp 165 33 50 (fun a b => b ≤ a) := rfl
theorem A165_30 {L : AL} {r : List Value} {a b : Int32} : aw g 165 30 L (.int b :: .int a :: r) σ Q = ((b ≤ a → aw g 165 50 L r σ Q) ∧ (¬ b ≤ a → aw g 165 33 L r σ Q)) := (aw_eq g 165 30 _ _ _ _).trans (by rw [tq165_30]; exact rfl)
theorem tq165_33 : tT g 165 33 = s_load vRf 165 34 3 := rfl
theorem A165_33 {l0 : Option Value} {l1 : Option Value} {l2 : Option Value} {x : Value} {r : List Value} : aw g 165 33 [l0, l1, l2, some (x)] r σ Q = (vRf x = true ∧ aw g 165 34 [l0, l1, l2, some (x)] (x :: r) σ Q) := (aw_eq g 165 33 _ _ _ _).trans (by rw [tq165_33]; exact h_load rfl)
theorem tq165_34 : tT g 165 34 = s_getf 165 37 7 30 := rfl
theorem A165_34 {L : AL} {r : List Value} {a : Nat} : aw g 165 34 L (.ref a :: r) σ Q = (hty σ a = some 7 ∧ aw g 165 37 L (hv σ 7 a 30 :: r) σ Q) := (aw_eq g 165 34 _ _ _ _).trans (by rw [tq165_34]; exact rfl)
theorem tq165_37 : tT g 165 37 = s_load vI 165 38 2 := rfl
theorem A165_37 {l0 : Option Value} {l1 : Option Value} {l3 : Option Value} {x : Int32} {r : List Value} : aw g 165 37 [l0, l1, some (.int x), l3] r σ Q = aw g 165 38 [l0, l1, some (.int x), l3] (.int x :: r) σ Q := (aw_eq g 165 37 _ _ _ _).trans (by rw [tq165_37]; exact (h_load rfl).trans (propext ⟨fun z => z.2, fun z => ⟨rfl, z⟩⟩))
theorem tq165_38 : tT g 165 38 = s_callvk 165 41 25 10 [0] 2 := rfl
theorem A165_38 {L : AL} {r : List Value} {a : Nat} {w0 : Value} : aw g 165 38 L (w0 :: .ref a :: r) σ Q = (hty σ a = some 10 ∧ (vI w0 && true) = true ∧ csum r ≤ 8 ∧ aw g 25 0 [some (.ref a), some w0] [] σ (kt (aw g) 165 41 L r Q)) := (aw_eq g 165 38 _ _ _ _).trans (by rw [tq165_38]; exact rfl)
theorem tq165_41 : tT g 165 41 = s_cast 165 44 [12] := rfl
theorem A165_41 {L : AL} {r : List Value} : aw g 165 41 L (.null :: r) σ Q = aw g 165 44 L (.null :: r) σ Q := (aw_eq g 165 41 _ _ _ _).trans (by rw [tq165_41]; exact rfl)
theorem A165_41r {L : AL} {r : List Value} {a : Nat} : aw g 165 41 L (.ref a :: r) σ Q = (hty σ a = some 12 ∧ aw g 165 44 L (.ref a :: r) σ Q) := (aw_eq g 165 41 _ _ _ _).trans (by rw [tq165_41]; exact propext ⟨fun z => (by obtain ⟨⟨u, hu, hu2⟩, z2⟩ := z; rw [List.mem_singleton] at hu; subst hu; exact ⟨hu2, z2⟩), fun z => ⟨⟨_, List.mem_cons_self, z.1⟩, z.2⟩⟩)
theorem tq165_44 : tT g 165 44 = s_callvk 165 47 8 12 [] 1 := rfl
theorem A165_44 {L : AL} {r : List Value} {a : Nat} : aw g 165 44 L (.ref a :: r) σ Q = (hty σ a = some 12 ∧ true = true ∧ csum r ≤ 8 ∧ aw g 8 0 [some (.ref a)] [] σ (kt (aw g) 165 47 L r Q)) := (aw_eq g 165 44 _ _ _ _).trans (by rw [tq165_44]; exact rfl)
theorem tq165_47 : tT g 165 47 = s_goto 165 51 := rfl
theorem A165_47 {L : AL} {r : List Value} : aw g 165 47 L r σ Q = aw g 165 51 L r σ Q := (aw_eq g 165 47 _ _ _ _).trans (by rw [tq165_47]; exact rfl)
theorem tq165_50 : tT g 165 50 = s_const 165 51 (.int (-1)) := rfl
theorem A165_50 {L : AL} {r : List Value} : aw g 165 50 L r σ Q = aw g 165 51 L (.int (-1) :: r) σ Q := (aw_eq g 165 50 _ _ _ _).trans (by rw [tq165_50]; exact rfl)
theorem tq165_51 : tT g 165 51 = s_ret pI := rfl
theorem A165_51 {L : AL} {v : Value} : aw g 165 51 L [v] σ Q = (pI v ∧ Q (.inl (some v)) σ) := (aw_eq g 165 51 _ _ _ _).trans (by rw [tq165_51]; exact rfl)
theorem tq166_0 : tT g 166 0 = s_load vRf 166 1 0 := rfl
theorem A166_0 {l1 : Option Value} {x : Value} {r : List Value} : aw g 166 0 [some (x), l1] r σ Q = (vRf x = true ∧ aw g 166 1 [some (x), l1] (x :: r) σ Q) := (aw_eq g 166 0 _ _ _ _).trans (by rw [tq166_0]; exact h_load rfl)
theorem tq166_1 : tT g 166 1 = s_const 166 2 (.int 0) := rfl
theorem A166_1 {L : AL} {r : List Value} : aw g 166 1 L r σ Q = aw g 166 2 L (.int 0 :: r) σ Q := (aw_eq g 166 1 _ _ _ _).trans (by rw [tq166_1]; exact rfl)
theorem tq166_2 : tT g 166 2 = s_putf g pI 166 5 3 0 := rfl
theorem A166_2 {L : AL} {r : List Value} {a : Nat} {v : Value} : aw g 166 2 L (v :: .ref a :: r) σ Q = (hty σ a = some 3 ∧ gB g ≤ a ∧ pI v ∧ aw g 166 5 L r (hput σ 3 a 0 v) Q) := (aw_eq g 166 2 _ _ _ _).trans (by rw [tq166_2]; exact rfl)
theorem tq166_5 : tT g 166 5 = s_load vI 166 6 1 := rfl
theorem A166_5 {l0 : Option Value} {x : Int32} {r : List Value} : aw g 166 5 [l0, some (.int x)] r σ Q = aw g 166 6 [l0, some (.int x)] (.int x :: r) σ Q := (aw_eq g 166 5 _ _ _ _).trans (by rw [tq166_5]; exact (h_load rfl).trans (propext ⟨fun z => z.2, fun z => ⟨rfl, z⟩⟩))
theorem tq166_6 : tT g 166 6 = s_const 166 7 (.int 0) := rfl
theorem A166_6 {L : AL} {r : List Value} : aw g 166 6 L r σ Q = aw g 166 7 L (.int 0 :: r) σ Q := (aw_eq g 166 6 _ _ _ _).trans (by rw [tq166_6]; exact rfl)
theorem tq166_7 : tT g 166 7 = s_const 166 9 (.int 10) := rfl
theorem A166_7 {L : AL} {r : List Value} : aw g 166 7 L r σ Q = aw g 166 9 L (.int 10 :: r) σ Q := (aw_eq g 166 7 _ _ _ _).trans (by rw [tq166_7]; exact rfl)
theorem tq166_9 : tT g 166 9 = s_callk 166 12 140 [0, 0, 0] 3 := rfl
theorem A166_9 {L : AL} {r : List Value} {w0 w1 w2 : Value} : aw g 166 9 L (w2 :: w1 :: w0 :: r) σ Q = ((vI w0 && (vI w1 && (vI w2 && true))) = true ∧ csum r ≤ 8 ∧ aw g 140 0 [some w0, some w1, some w2] [] σ (kt (aw g) 166 12 L r Q)) := (aw_eq g 166 9 _ _ _ _).trans (by rw [tq166_9]; exact rfl)
theorem tq166_12 : tT g 166 12 = s_if 166 15 23 (fun a => a = 0) := rfl
theorem A166_12 {L : AL} {r : List Value} {a : Int32} : aw g 166 12 L (.int a :: r) σ Q = ((a = 0 → aw g 166 23 L r σ Q) ∧ (¬ a = 0 → aw g 166 15 L r σ Q)) := (aw_eq g 166 12 _ _ _ _).trans (by rw [tq166_12]; exact rfl)
theorem tq166_15 : tT g 166 15 = s_load vRf 166 16 0 := rfl
theorem A166_15 {l1 : Option Value} {x : Value} {r : List Value} : aw g 166 15 [some (x), l1] r σ Q = (vRf x = true ∧ aw g 166 16 [some (x), l1] (x :: r) σ Q) := (aw_eq g 166 15 _ _ _ _).trans (by rw [tq166_15]; exact h_load rfl)
theorem tq166_16 : tT g 166 16 = s_load vI 166 17 1 := rfl
theorem A166_16 {l0 : Option Value} {x : Int32} {r : List Value} : aw g 166 16 [l0, some (.int x)] r σ Q = aw g 166 17 [l0, some (.int x)] (.int x :: r) σ Q := (aw_eq g 166 16 _ _ _ _).trans (by rw [tq166_16]; exact (h_load rfl).trans (propext ⟨fun z => z.2, fun z => ⟨rfl, z⟩⟩))
theorem tq166_17 : tT g 166 17 = s_callvk 166 20 167 3 [0] 10 := rfl
theorem A166_17 {L : AL} {r : List Value} {a : Nat} {w0 : Value} : aw g 166 17 L (w0 :: .ref a :: r) σ Q = (hty σ a = some 3 ∧ (vI w0 && true) = true ∧ csum r ≤ 8 ∧ aw g 167 0 [some (.ref a), some w0, none, none, none, none, none, none, none, none] [] σ (kt (aw g) 166 20 L r Q)) := (aw_eq g 166 17 _ _ _ _).trans (by rw [tq166_17]; exact rfl)
theorem tq166_20 : tT g 166 20 = s_goto 166 28 := rfl
theorem A166_20 {L : AL} {r : List Value} : aw g 166 20 L r σ Q = aw g 166 28 L r σ Q := (aw_eq g 166 20 _ _ _ _).trans (by rw [tq166_20]; exact rfl)
theorem tq166_23 : tT g 166 23 = s_load vRf 166 24 0 := rfl
theorem A166_23 {l1 : Option Value} {x : Value} {r : List Value} : aw g 166 23 [some (x), l1] r σ Q = (vRf x = true ∧ aw g 166 24 [some (x), l1] (x :: r) σ Q) := (aw_eq g 166 23 _ _ _ _).trans (by rw [tq166_23]; exact h_load rfl)
theorem tq166_24 : tT g 166 24 = s_const 166 25 (.int 1) := rfl
theorem A166_24 {L : AL} {r : List Value} : aw g 166 24 L r σ Q = aw g 166 25 L (.int 1 :: r) σ Q := (aw_eq g 166 24 _ _ _ _).trans (by rw [tq166_24]; exact rfl)
theorem tq166_25 : tT g 166 25 = s_callvk 166 28 141 3 [0] 2 := rfl
theorem A166_25 {L : AL} {r : List Value} {a : Nat} {w0 : Value} : aw g 166 25 L (w0 :: .ref a :: r) σ Q = (hty σ a = some 3 ∧ (vI w0 && true) = true ∧ csum r ≤ 8 ∧ aw g 141 0 [some (.ref a), some w0] [] σ (kt (aw g) 166 28 L r Q)) := (aw_eq g 166 25 _ _ _ _).trans (by rw [tq166_25]; exact rfl)
theorem tq166_28 : tT g 166 28 = s_ret pI := rfl
theorem A166_28 {L : AL} {v : Value} : aw g 166 28 L [v] σ Q = (pI v ∧ Q (.inl (some v)) σ) := (aw_eq g 166 28 _ _ _ _).trans (by rw [tq166_28]; exact rfl)
theorem tq167_0 : tT g 167 0 = s_const 167 1 (.int 0) := rfl
theorem A167_0 {L : AL} {r : List Value} : aw g 167 0 L r σ Q = aw g 167 1 L (.int 0 :: r) σ Q := (aw_eq g 167 0 _ _ _ _).trans (by rw [tq167_0]; exact rfl)
theorem tq167_1 : tT g 167 1 = s_store vI 167 2 2 := rfl
theorem A167_1 {l0 : Option Value} {l1 : Option Value} {l2 : Option Value} {l3 : Option Value} {l4 : Option Value} {l5 : Option Value} {l6 : Option Value} {l7 : Option Value} {l8 : Option Value} {l9 : Option Value} {x : Int32} {r : List Value} : aw g 167 1 [l0, l1, l2, l3, l4, l5, l6, l7, l8, l9] (.int x :: r) σ Q = (oc l1 = true ∧ aw g 167 2 [l0, l1, some (.int x), l3, l4, l5, l6, l7, l8, l9] r σ Q) := (aw_eq g 167 1 _ _ _ _).trans (by rw [tq167_1]; exact (h_store (o := oc l1) rfl rfl rfl).trans (propext ⟨fun z => z.2, fun z => ⟨rfl, z⟩⟩))
theorem tq167_2 : tT g 167 2 = s_const 167 3 (.int 0) := rfl
theorem A167_2 {L : AL} {r : List Value} : aw g 167 2 L r σ Q = aw g 167 3 L (.int 0 :: r) σ Q := (aw_eq g 167 2 _ _ _ _).trans (by rw [tq167_2]; exact rfl)
theorem tq167_3 : tT g 167 3 = s_store vI 167 4 3 := rfl
theorem A167_3 {l0 : Option Value} {l1 : Option Value} {l2 : Option Value} {l3 : Option Value} {l4 : Option Value} {l5 : Option Value} {l6 : Option Value} {l7 : Option Value} {l8 : Option Value} {l9 : Option Value} {x : Int32} {r : List Value} : aw g 167 3 [l0, l1, l2, l3, l4, l5, l6, l7, l8, l9] (.int x :: r) σ Q = (oc l2 = true ∧ aw g 167 4 [l0, l1, l2, some (.int x), l4, l5, l6, l7, l8, l9] r σ Q) := (aw_eq g 167 3 _ _ _ _).trans (by rw [tq167_3]; exact (h_store (o := oc l2) rfl rfl rfl).trans (propext ⟨fun z => z.2, fun z => ⟨rfl, z⟩⟩))
theorem tq167_4 : tT g 167 4 = s_load vI 167 5 3 := rfl
theorem A167_4 {l0 : Option Value} {l1 : Option Value} {l2 : Option Value} {l4 : Option Value} {l5 : Option Value} {l6 : Option Value} {l7 : Option Value} {l8 : Option Value} {l9 : Option Value} {x : Int32} {r : List Value} : aw g 167 4 [l0, l1, l2, some (.int x), l4, l5, l6, l7, l8, l9] r σ Q = aw g 167 5 [l0, l1, l2, some (.int x), l4, l5, l6, l7, l8, l9] (.int x :: r) σ Q := (aw_eq g 167 4 _ _ _ _).trans (by rw [tq167_4]; exact (h_load rfl).trans (propext ⟨fun z => z.2, fun z => ⟨rfl, z⟩⟩))
theorem tq167_5 : tT g 167 5 = s_load vRf 167 6 0 := rfl
theorem A167_5 {l1 : Option Value} {l2 : Option Value} {l3 : Option Value} {l4 : Option Value} {l5 : Option Value} {l6 : Option Value} {l7 : Option Value} {l8 : Option Value} {l9 : Option Value} {x : Value} {r : List Value} : aw g 167 5 [some (x), l1, l2, l3, l4, l5, l6, l7, l8, l9] r σ Q = (vRf x = true ∧ aw g 167 6 [some (x), l1, l2, l3, l4, l5, l6, l7, l8, l9] (x :: r) σ Q) := (aw_eq g 167 5 _ _ _ _).trans (by rw [tq167_5]; exact h_load rfl)
theorem tq167_6 : tT g 167 6 = s_getf 167 9 3 1 := rfl
theorem A167_6 {L : AL} {r : List Value} {a : Nat} : aw g 167 6 L (.ref a :: r) σ Q = (hty σ a = some 3 ∧ aw g 167 9 L (hv σ 3 a 1 :: r) σ Q) := (aw_eq g 167 6 _ _ _ _).trans (by rw [tq167_6]; exact rfl)
theorem tq167_9 : tT g 167 9 = s_getf 167 12 4 2 := rfl
theorem A167_9 {L : AL} {r : List Value} {a : Nat} : aw g 167 9 L (.ref a :: r) σ Q = (hty σ a = some 4 ∧ aw g 167 12 L (hv σ 4 a 2 :: r) σ Q) := (aw_eq g 167 9 _ _ _ _).trans (by rw [tq167_9]; exact rfl)
theorem tq167_12 : tT g 167 12 = s_icmp 167 15 41 (fun a b => b ≤ a) := rfl
theorem A167_12 {L : AL} {r : List Value} {a b : Int32} : aw g 167 12 L (.int b :: .int a :: r) σ Q = ((b ≤ a → aw g 167 41 L r σ Q) ∧ (¬ b ≤ a → aw g 167 15 L r σ Q)) := (aw_eq g 167 12 _ _ _ _).trans (by rw [tq167_12]; exact rfl)
theorem tq167_15 : tT g 167 15 = s_load vI 167 16 2 := rfl
theorem A167_15 {l0 : Option Value} {l1 : Option Value} {l3 : Option Value} {l4 : Option Value} {l5 : Option Value} {l6 : Option Value} {l7 : Option Value} {l8 : Option Value} {l9 : Option Value} {x : Int32} {r : List Value} : aw g 167 15 [l0, l1, some (.int x), l3, l4, l5, l6, l7, l8, l9] r σ Q = aw g 167 16 [l0, l1, some (.int x), l3, l4, l5, l6, l7, l8, l9] (.int x :: r) σ Q := (aw_eq g 167 15 _ _ _ _).trans (by rw [tq167_15]; exact (h_load rfl).trans (propext ⟨fun z => z.2, fun z => ⟨rfl, z⟩⟩))
theorem tq167_16 : tT g 167 16 = s_load vRf 167 17 0 := rfl
theorem A167_16 {l1 : Option Value} {l2 : Option Value} {l3 : Option Value} {l4 : Option Value} {l5 : Option Value} {l6 : Option Value} {l7 : Option Value} {l8 : Option Value} {l9 : Option Value} {x : Value} {r : List Value} : aw g 167 16 [some (x), l1, l2, l3, l4, l5, l6, l7, l8, l9] r σ Q = (vRf x = true ∧ aw g 167 17 [some (x), l1, l2, l3, l4, l5, l6, l7, l8, l9] (x :: r) σ Q) := (aw_eq g 167 16 _ _ _ _).trans (by rw [tq167_16]; exact h_load rfl)
theorem tq167_17 : tT g 167 17 = s_getf 167 20 3 1 := rfl
theorem A167_17 {L : AL} {r : List Value} {a : Nat} : aw g 167 17 L (.ref a :: r) σ Q = (hty σ a = some 3 ∧ aw g 167 20 L (hv σ 3 a 1 :: r) σ Q) := (aw_eq g 167 17 _ _ _ _).trans (by rw [tq167_17]; exact rfl)
theorem tq167_20 : tT g 167 20 = s_load vI 167 21 3 := rfl
theorem A167_20 {l0 : Option Value} {l1 : Option Value} {l2 : Option Value} {l4 : Option Value} {l5 : Option Value} {l6 : Option Value} {l7 : Option Value} {l8 : Option Value} {l9 : Option Value} {x : Int32} {r : List Value} : aw g 167 20 [l0, l1, l2, some (.int x), l4, l5, l6, l7, l8, l9] r σ Q = aw g 167 21 [l0, l1, l2, some (.int x), l4, l5, l6, l7, l8, l9] (.int x :: r) σ Q := (aw_eq g 167 20 _ _ _ _).trans (by rw [tq167_20]; exact (h_load rfl).trans (propext ⟨fun z => z.2, fun z => ⟨rfl, z⟩⟩))
theorem tq167_21 : tT g 167 21 = s_callvk 167 24 180 4 [0] 4 := rfl
theorem A167_21 {L : AL} {r : List Value} {a : Nat} {w0 : Value} : aw g 167 21 L (w0 :: .ref a :: r) σ Q = (hty σ a = some 4 ∧ (vI w0 && true) = true ∧ csum r ≤ 8 ∧ aw g 180 0 [some (.ref a), some w0, none, none] [] σ (kt (aw g) 167 24 L r Q)) := (aw_eq g 167 21 _ _ _ _).trans (by rw [tq167_21]; exact rfl)
theorem tq167_24 : tT g 167 24 = s_const 167 25 (.int (-1)) := rfl
theorem A167_24 {L : AL} {r : List Value} : aw g 167 24 L r σ Q = aw g 167 25 L (.int (-1) :: r) σ Q := (aw_eq g 167 24 _ _ _ _).trans (by rw [tq167_24]; exact rfl)
theorem tq167_25 : tT g 167 25 = s_icmp 167 32 28 (fun a b => a = b) := rfl
theorem A167_25 {L : AL} {r : List Value} {a b : Int32} : aw g 167 25 L (.int b :: .int a :: r) σ Q = ((a = b → aw g 167 28 L r σ Q) ∧ (¬ a = b → aw g 167 32 L r σ Q)) := (aw_eq g 167 25 _ _ _ _).trans (by rw [tq167_25]; exact rfl)
theorem tq167_28 : tT g 167 28 = s_const 167 29 (.int 1) := rfl
theorem A167_28 {L : AL} {r : List Value} : aw g 167 28 L r σ Q = aw g 167 29 L (.int 1 :: r) σ Q := (aw_eq g 167 28 _ _ _ _).trans (by rw [tq167_28]; exact rfl)
theorem tq167_29 : tT g 167 29 = s_goto 167 33 := rfl
theorem A167_29 {L : AL} {r : List Value} : aw g 167 29 L r σ Q = aw g 167 33 L r σ Q := (aw_eq g 167 29 _ _ _ _).trans (by rw [tq167_29]; exact rfl)
theorem tq167_32 : tT g 167 32 = s_const 167 33 (.int 0) := rfl
theorem A167_32 {L : AL} {r : List Value} : aw g 167 32 L r σ Q = aw g 167 33 L (.int 0 :: r) σ Q := (aw_eq g 167 32 _ _ _ _).trans (by rw [tq167_32]; exact rfl)
theorem tq167_33 : tT g 167 33 = s_bin 167 34 (fun a b => a + b) := rfl
theorem A167_33 {L : AL} {r : List Value} {a b : Int32} : aw g 167 33 L (.int b :: .int a :: r) σ Q = aw g 167 34 L (.int (a + b) :: r) σ Q := (aw_eq g 167 33 _ _ _ _).trans (by rw [tq167_33]; exact rfl)
theorem tq167_34 : tT g 167 34 = s_store vI 167 35 2 := rfl
theorem A167_34 {l0 : Option Value} {l1 : Option Value} {l2 : Option Value} {l3 : Option Value} {l4 : Option Value} {l5 : Option Value} {l6 : Option Value} {l7 : Option Value} {l8 : Option Value} {l9 : Option Value} {x : Int32} {r : List Value} : aw g 167 34 [l0, l1, l2, l3, l4, l5, l6, l7, l8, l9] (.int x :: r) σ Q = (oc l1 = true ∧ aw g 167 35 [l0, l1, some (.int x), l3, l4, l5, l6, l7, l8, l9] r σ Q) := (aw_eq g 167 34 _ _ _ _).trans (by rw [tq167_34]; exact (h_store (o := oc l1) rfl rfl rfl).trans (propext ⟨fun z => z.2, fun z => ⟨rfl, z⟩⟩))
theorem tq167_35 : tT g 167 35 = s_iinc 167 38 3 1 := rfl
theorem A167_35 {l0 : Option Value} {l1 : Option Value} {l2 : Option Value} {l4 : Option Value} {l5 : Option Value} {l6 : Option Value} {l7 : Option Value} {l8 : Option Value} {l9 : Option Value} {x : Int32} {r : List Value} : aw g 167 35 [l0, l1, l2, some (.int x), l4, l5, l6, l7, l8, l9] r σ Q = (oc l2 = true ∧ aw g 167 38 [l0, l1, l2, some (.int (x + 1)), l4, l5, l6, l7, l8, l9] r σ Q) := (aw_eq g 167 35 _ _ _ _).trans (by rw [tq167_35]; exact (h_iinc (o := oc l2) rfl rfl rfl))
theorem tq167_38 : tT g 167 38 = s_goto 167 4 := rfl
theorem A167_38 {L : AL} {r : List Value} : aw g 167 38 L r σ Q = aw g 167 4 L r σ Q := (aw_eq g 167 38 _ _ _ _).trans (by rw [tq167_38]; exact rfl)
theorem tq167_41 : tT g 167 41 = s_const 167 42 (.int 0) := rfl
theorem A167_41 {L : AL} {r : List Value} : aw g 167 41 L r σ Q = aw g 167 42 L (.int 0 :: r) σ Q := (aw_eq g 167 41 _ _ _ _).trans (by rw [tq167_41]; exact rfl)
theorem tq167_42 : tT g 167 42 = s_store vI 167 43 3 := rfl
theorem A167_42 {l0 : Option Value} {l1 : Option Value} {l2 : Option Value} {l3 : Option Value} {l4 : Option Value} {l5 : Option Value} {l6 : Option Value} {l7 : Option Value} {l8 : Option Value} {l9 : Option Value} {x : Int32} {r : List Value} : aw g 167 42 [l0, l1, l2, l3, l4, l5, l6, l7, l8, l9] (.int x :: r) σ Q = (oc l2 = true ∧ aw g 167 43 [l0, l1, l2, some (.int x), l4, l5, l6, l7, l8, l9] r σ Q) := (aw_eq g 167 42 _ _ _ _).trans (by rw [tq167_42]; exact (h_store (o := oc l2) rfl rfl rfl).trans (propext ⟨fun z => z.2, fun z => ⟨rfl, z⟩⟩))
theorem tq167_43 : tT g 167 43 = s_load vRf 167 44 0 := rfl
theorem A167_43 {l1 : Option Value} {l2 : Option Value} {l3 : Option Value} {l4 : Option Value} {l5 : Option Value} {l6 : Option Value} {l7 : Option Value} {l8 : Option Value} {l9 : Option Value} {x : Value} {r : List Value} : aw g 167 43 [some (x), l1, l2, l3, l4, l5, l6, l7, l8, l9] r σ Q = (vRf x = true ∧ aw g 167 44 [some (x), l1, l2, l3, l4, l5, l6, l7, l8, l9] (x :: r) σ Q) := (aw_eq g 167 43 _ _ _ _).trans (by rw [tq167_43]; exact h_load rfl)
theorem tq167_44 : tT g 167 44 = s_getf 167 47 3 1 := rfl
theorem A167_44 {L : AL} {r : List Value} {a : Nat} : aw g 167 44 L (.ref a :: r) σ Q = (hty σ a = some 3 ∧ aw g 167 47 L (hv σ 3 a 1 :: r) σ Q) := (aw_eq g 167 44 _ _ _ _).trans (by rw [tq167_44]; exact rfl)
theorem tq167_47 : tT g 167 47 = s_getf 167 50 4 0 := rfl
theorem A167_47 {L : AL} {r : List Value} {a : Nat} : aw g 167 47 L (.ref a :: r) σ Q = (hty σ a = some 4 ∧ aw g 167 50 L (hv σ 4 a 0 :: r) σ Q) := (aw_eq g 167 47 _ _ _ _).trans (by rw [tq167_47]; exact rfl)
theorem tq167_50 : tT g 167 50 = s_callvk 167 53 22 10 [] 1 := rfl
theorem A167_50 {L : AL} {r : List Value} {a : Nat} : aw g 167 50 L (.ref a :: r) σ Q = (hty σ a = some 10 ∧ true = true ∧ csum r ≤ 8 ∧ aw g 22 0 [some (.ref a)] [] σ (kt (aw g) 167 53 L r Q)) := (aw_eq g 167 50 _ _ _ _).trans (by rw [tq167_50]; exact rfl)
theorem tq167_53 : tT g 167 53 = s_store vRf 167 55 4 := rfl
theorem A167_53 {l0 : Option Value} {l1 : Option Value} {l2 : Option Value} {l3 : Option Value} {l4 : Option Value} {l5 : Option Value} {l6 : Option Value} {l7 : Option Value} {l8 : Option Value} {l9 : Option Value} {x : Value} {r : List Value} : aw g 167 53 [l0, l1, l2, l3, l4, l5, l6, l7, l8, l9] (x :: r) σ Q = (vRf x = true ∧ oc l3 = true ∧ aw g 167 55 [l0, l1, l2, l3, some (x), l5, l6, l7, l8, l9] r σ Q) := (aw_eq g 167 53 _ _ _ _).trans (by rw [tq167_53]; exact (h_store (o := oc l3) rfl rfl rfl))
theorem tq167_55 : tT g 167 55 = s_load vRf 167 57 4 := rfl
theorem A167_55 {l0 : Option Value} {l1 : Option Value} {l2 : Option Value} {l3 : Option Value} {l5 : Option Value} {l6 : Option Value} {l7 : Option Value} {l8 : Option Value} {l9 : Option Value} {x : Value} {r : List Value} : aw g 167 55 [l0, l1, l2, l3, some (x), l5, l6, l7, l8, l9] r σ Q = (vRf x = true ∧ aw g 167 57 [l0, l1, l2, l3, some (x), l5, l6, l7, l8, l9] (x :: r) σ Q) := (aw_eq g 167 55 _ _ _ _).trans (by rw [tq167_55]; exact h_load rfl)
theorem tq167_57 : tT g 167 57 = s_callvk 167 62 3 11 [] 1 := rfl
theorem A167_57 {L : AL} {r : List Value} {a : Nat} : aw g 167 57 L (.ref a :: r) σ Q = (hty σ a = some 11 ∧ true = true ∧ csum r ≤ 8 ∧ aw g 3 0 [some (.ref a)] [] σ (kt (aw g) 167 62 L r Q)) := (aw_eq g 167 57 _ _ _ _).trans (by rw [tq167_57]; exact rfl)
theorem tq167_62 : tT g 167 62 = s_if 167 65 120 (fun a => a = 0) := rfl
theorem A167_62 {L : AL} {r : List Value} {a : Int32} : aw g 167 62 L (.int a :: r) σ Q = ((a = 0 → aw g 167 120 L r σ Q) ∧ (¬ a = 0 → aw g 167 65 L r σ Q)) := (aw_eq g 167 62 _ _ _ _).trans (by rw [tq167_62]; exact rfl)
theorem tq167_65 : tT g 167 65 = s_load vRf 167 67 4 := rfl
theorem A167_65 {l0 : Option Value} {l1 : Option Value} {l2 : Option Value} {l3 : Option Value} {l5 : Option Value} {l6 : Option Value} {l7 : Option Value} {l8 : Option Value} {l9 : Option Value} {x : Value} {r : List Value} : aw g 167 65 [l0, l1, l2, l3, some (x), l5, l6, l7, l8, l9] r σ Q = (vRf x = true ∧ aw g 167 67 [l0, l1, l2, l3, some (x), l5, l6, l7, l8, l9] (x :: r) σ Q) := (aw_eq g 167 65 _ _ _ _).trans (by rw [tq167_65]; exact h_load rfl)
theorem tq167_67 : tT g 167 67 = s_callvk 167 72 4 11 [] 3 := rfl
theorem A167_67 {L : AL} {r : List Value} {a : Nat} : aw g 167 67 L (.ref a :: r) σ Q = (hty σ a = some 11 ∧ true = true ∧ csum r ≤ 8 ∧ aw g 4 0 [some (.ref a), none, none] [] σ (kt (aw g) 167 72 L r Q)) := (aw_eq g 167 67 _ _ _ _).trans (by rw [tq167_67]; exact rfl)
theorem tq167_72 : tT g 167 72 = s_cast 167 75 [7] := rfl
theorem A167_72 {L : AL} {r : List Value} : aw g 167 72 L (.null :: r) σ Q = aw g 167 75 L (.null :: r) σ Q := (aw_eq g 167 72 _ _ _ _).trans (by rw [tq167_72]; exact rfl)
theorem A167_72r {L : AL} {r : List Value} {a : Nat} : aw g 167 72 L (.ref a :: r) σ Q = (hty σ a = some 7 ∧ aw g 167 75 L (.ref a :: r) σ Q) := (aw_eq g 167 72 _ _ _ _).trans (by rw [tq167_72]; exact propext ⟨fun z => (by obtain ⟨⟨u, hu, hu2⟩, z2⟩ := z; rw [List.mem_singleton] at hu; subst hu; exact ⟨hu2, z2⟩), fun z => ⟨⟨_, List.mem_cons_self, z.1⟩, z.2⟩⟩)
theorem tq167_75 : tT g 167 75 = s_store vRf 167 77 5 := rfl
theorem A167_75 {l0 : Option Value} {l1 : Option Value} {l2 : Option Value} {l3 : Option Value} {l4 : Option Value} {l5 : Option Value} {l6 : Option Value} {l7 : Option Value} {l8 : Option Value} {l9 : Option Value} {x : Value} {r : List Value} : aw g 167 75 [l0, l1, l2, l3, l4, l5, l6, l7, l8, l9] (x :: r) σ Q = (vRf x = true ∧ oc l4 = true ∧ aw g 167 77 [l0, l1, l2, l3, l4, some (x), l6, l7, l8, l9] r σ Q) := (aw_eq g 167 75 _ _ _ _).trans (by rw [tq167_75]; exact (h_store (o := oc l4) rfl rfl rfl))
theorem tq167_77 : tT g 167 77 = s_load vRf 167 79 5 := rfl
theorem A167_77 {l0 : Option Value} {l1 : Option Value} {l2 : Option Value} {l3 : Option Value} {l4 : Option Value} {l6 : Option Value} {l7 : Option Value} {l8 : Option Value} {l9 : Option Value} {x : Value} {r : List Value} : aw g 167 77 [l0, l1, l2, l3, l4, some (x), l6, l7, l8, l9] r σ Q = (vRf x = true ∧ aw g 167 79 [l0, l1, l2, l3, l4, some (x), l6, l7, l8, l9] (x :: r) σ Q) := (aw_eq g 167 77 _ _ _ _).trans (by rw [tq167_77]; exact h_load rfl)
theorem tq167_79 : tT g 167 79 = s_getf 167 82 7 17 := rfl
theorem A167_79 {L : AL} {r : List Value} {a : Nat} : aw g 167 79 L (.ref a :: r) σ Q = (hty σ a = some 7 ∧ aw g 167 82 L (hv σ 7 a 17 :: r) σ Q) := (aw_eq g 167 79 _ _ _ _).trans (by rw [tq167_79]; exact rfl)
theorem tq167_82 : tT g 167 82 = s_store vRf 167 84 6 := rfl
theorem A167_82 {l0 : Option Value} {l1 : Option Value} {l2 : Option Value} {l3 : Option Value} {l4 : Option Value} {l5 : Option Value} {l6 : Option Value} {l7 : Option Value} {l8 : Option Value} {l9 : Option Value} {x : Value} {r : List Value} : aw g 167 82 [l0, l1, l2, l3, l4, l5, l6, l7, l8, l9] (x :: r) σ Q = (vRf x = true ∧ oc l5 = true ∧ aw g 167 84 [l0, l1, l2, l3, l4, l5, some (x), l7, l8, l9] r σ Q) := (aw_eq g 167 82 _ _ _ _).trans (by rw [tq167_82]; exact (h_store (o := oc l5) rfl rfl rfl))
theorem tq167_84 : tT g 167 84 = s_load vRf 167 86 6 := rfl
theorem A167_84 {l0 : Option Value} {l1 : Option Value} {l2 : Option Value} {l3 : Option Value} {l4 : Option Value} {l5 : Option Value} {l7 : Option Value} {l8 : Option Value} {l9 : Option Value} {x : Value} {r : List Value} : aw g 167 84 [l0, l1, l2, l3, l4, l5, some (x), l7, l8, l9] r σ Q = (vRf x = true ∧ aw g 167 86 [l0, l1, l2, l3, l4, l5, some (x), l7, l8, l9] (x :: r) σ Q) := (aw_eq g 167 84 _ _ _ _).trans (by rw [tq167_84]; exact h_load rfl)
theorem tq167_86 : tT g 167 86 = s_alen 167 87 20 := rfl
theorem A167_86 {L : AL} {r : List Value} {a : Nat} : aw g 167 86 L (.ref a :: r) σ Q = (hty σ a = some 20 ∧ aw g 167 87 L (.int (Int32.ofNat (hln σ a)) :: r) σ Q) := (aw_eq g 167 86 _ _ _ _).trans (by rw [tq167_86]; exact rfl)
theorem tq167_87 : tT g 167 87 = s_store vI 167 89 7 := rfl
theorem A167_87 {l0 : Option Value} {l1 : Option Value} {l2 : Option Value} {l3 : Option Value} {l4 : Option Value} {l5 : Option Value} {l6 : Option Value} {l7 : Option Value} {l8 : Option Value} {l9 : Option Value} {x : Int32} {r : List Value} : aw g 167 87 [l0, l1, l2, l3, l4, l5, l6, l7, l8, l9] (.int x :: r) σ Q = (oc l6 = true ∧ aw g 167 89 [l0, l1, l2, l3, l4, l5, l6, some (.int x), l8, l9] r σ Q) := (aw_eq g 167 87 _ _ _ _).trans (by rw [tq167_87]; exact (h_store (o := oc l6) rfl rfl rfl).trans (propext ⟨fun z => z.2, fun z => ⟨rfl, z⟩⟩))
theorem tq167_89 : tT g 167 89 = s_const 167 90 (.int 0) := rfl
theorem A167_89 {L : AL} {r : List Value} : aw g 167 89 L r σ Q = aw g 167 90 L (.int 0 :: r) σ Q := (aw_eq g 167 89 _ _ _ _).trans (by rw [tq167_89]; exact rfl)
theorem tq167_90 : tT g 167 90 = s_store vI 167 92 8 := rfl
theorem A167_90 {l0 : Option Value} {l1 : Option Value} {l2 : Option Value} {l3 : Option Value} {l4 : Option Value} {l5 : Option Value} {l6 : Option Value} {l7 : Option Value} {l8 : Option Value} {l9 : Option Value} {x : Int32} {r : List Value} : aw g 167 90 [l0, l1, l2, l3, l4, l5, l6, l7, l8, l9] (.int x :: r) σ Q = (oc l7 = true ∧ aw g 167 92 [l0, l1, l2, l3, l4, l5, l6, l7, some (.int x), l9] r σ Q) := (aw_eq g 167 90 _ _ _ _).trans (by rw [tq167_90]; exact (h_store (o := oc l7) rfl rfl rfl).trans (propext ⟨fun z => z.2, fun z => ⟨rfl, z⟩⟩))
theorem tq167_92 : tT g 167 92 = s_load vI 167 94 8 := rfl
theorem A167_92 {l0 : Option Value} {l1 : Option Value} {l2 : Option Value} {l3 : Option Value} {l4 : Option Value} {l5 : Option Value} {l6 : Option Value} {l7 : Option Value} {l9 : Option Value} {x : Int32} {r : List Value} : aw g 167 92 [l0, l1, l2, l3, l4, l5, l6, l7, some (.int x), l9] r σ Q = aw g 167 94 [l0, l1, l2, l3, l4, l5, l6, l7, some (.int x), l9] (.int x :: r) σ Q := (aw_eq g 167 92 _ _ _ _).trans (by rw [tq167_92]; exact (h_load rfl).trans (propext ⟨fun z => z.2, fun z => ⟨rfl, z⟩⟩))
theorem tq167_94 : tT g 167 94 = s_load vI 167 96 7 := rfl
theorem A167_94 {l0 : Option Value} {l1 : Option Value} {l2 : Option Value} {l3 : Option Value} {l4 : Option Value} {l5 : Option Value} {l6 : Option Value} {l8 : Option Value} {l9 : Option Value} {x : Int32} {r : List Value} : aw g 167 94 [l0, l1, l2, l3, l4, l5, l6, some (.int x), l8, l9] r σ Q = aw g 167 96 [l0, l1, l2, l3, l4, l5, l6, some (.int x), l8, l9] (.int x :: r) σ Q := (aw_eq g 167 94 _ _ _ _).trans (by rw [tq167_94]; exact (h_load rfl).trans (propext ⟨fun z => z.2, fun z => ⟨rfl, z⟩⟩))
theorem tq167_96 : tT g 167 96 = s_icmp 167 99 117 (fun a b => b ≤ a) := rfl
theorem A167_96 {L : AL} {r : List Value} {a b : Int32} : aw g 167 96 L (.int b :: .int a :: r) σ Q = ((b ≤ a → aw g 167 117 L r σ Q) ∧ (¬ b ≤ a → aw g 167 99 L r σ Q)) := (aw_eq g 167 96 _ _ _ _).trans (by rw [tq167_96]; exact rfl)
theorem tq167_99 : tT g 167 99 = s_load vRf 167 101 6 := rfl
theorem A167_99 {l0 : Option Value} {l1 : Option Value} {l2 : Option Value} {l3 : Option Value} {l4 : Option Value} {l5 : Option Value} {l7 : Option Value} {l8 : Option Value} {l9 : Option Value} {x : Value} {r : List Value} : aw g 167 99 [l0, l1, l2, l3, l4, l5, some (x), l7, l8, l9] r σ Q = (vRf x = true ∧ aw g 167 101 [l0, l1, l2, l3, l4, l5, some (x), l7, l8, l9] (x :: r) σ Q) := (aw_eq g 167 99 _ _ _ _).trans (by rw [tq167_99]; exact h_load rfl)
theorem tq167_101 : tT g 167 101 = s_load vI 167 103 8 := rfl
theorem A167_101 {l0 : Option Value} {l1 : Option Value} {l2 : Option Value} {l3 : Option Value} {l4 : Option Value} {l5 : Option Value} {l6 : Option Value} {l7 : Option Value} {l9 : Option Value} {x : Int32} {r : List Value} : aw g 167 101 [l0, l1, l2, l3, l4, l5, l6, l7, some (.int x), l9] r σ Q = aw g 167 103 [l0, l1, l2, l3, l4, l5, l6, l7, some (.int x), l9] (.int x :: r) σ Q := (aw_eq g 167 101 _ _ _ _).trans (by rw [tq167_101]; exact (h_load rfl).trans (propext ⟨fun z => z.2, fun z => ⟨rfl, z⟩⟩))
theorem tq167_103 : tT g 167 103 = s_ald 167 104 20 := rfl
theorem A167_103 {L : AL} {r : List Value} {a : Nat} {i : Int32} : aw g 167 103 L (.int i :: .ref a :: r) σ Q = (hty σ a = some 20 ∧ ¬ i < 0 ∧ i.toNatClampNeg < hln σ a ∧ aw g 167 104 L (hv σ 20 a i.toNatClampNeg :: r) σ Q) := (aw_eq g 167 103 _ _ _ _).trans (by rw [tq167_103]; exact rfl)
theorem tq167_104 : tT g 167 104 = s_store vI 167 106 9 := rfl
theorem A167_104 {l0 : Option Value} {l1 : Option Value} {l2 : Option Value} {l3 : Option Value} {l4 : Option Value} {l5 : Option Value} {l6 : Option Value} {l7 : Option Value} {l8 : Option Value} {l9 : Option Value} {x : Int32} {r : List Value} : aw g 167 104 [l0, l1, l2, l3, l4, l5, l6, l7, l8, l9] (.int x :: r) σ Q = (oc l8 = true ∧ aw g 167 106 [l0, l1, l2, l3, l4, l5, l6, l7, l8, some (.int x)] r σ Q) := (aw_eq g 167 104 _ _ _ _).trans (by rw [tq167_104]; exact (h_store (o := oc l8) rfl rfl rfl).trans (propext ⟨fun z => z.2, fun z => ⟨rfl, z⟩⟩))
theorem tq167_106 : tT g 167 106 = s_load vI 167 107 3 := rfl
theorem A167_106 {l0 : Option Value} {l1 : Option Value} {l2 : Option Value} {l4 : Option Value} {l5 : Option Value} {l6 : Option Value} {l7 : Option Value} {l8 : Option Value} {l9 : Option Value} {x : Int32} {r : List Value} : aw g 167 106 [l0, l1, l2, some (.int x), l4, l5, l6, l7, l8, l9] r σ Q = aw g 167 107 [l0, l1, l2, some (.int x), l4, l5, l6, l7, l8, l9] (.int x :: r) σ Q := (aw_eq g 167 106 _ _ _ _).trans (by rw [tq167_106]; exact (h_load rfl).trans (propext ⟨fun z => z.2, fun z => ⟨rfl, z⟩⟩))
theorem tq167_107 : tT g 167 107 = s_load vI 167 109 9 := rfl
theorem A167_107 {l0 : Option Value} {l1 : Option Value} {l2 : Option Value} {l3 : Option Value} {l4 : Option Value} {l5 : Option Value} {l6 : Option Value} {l7 : Option Value} {l8 : Option Value} {x : Int32} {r : List Value} : aw g 167 107 [l0, l1, l2, l3, l4, l5, l6, l7, l8, some (.int x)] r σ Q = aw g 167 109 [l0, l1, l2, l3, l4, l5, l6, l7, l8, some (.int x)] (.int x :: r) σ Q := (aw_eq g 167 107 _ _ _ _).trans (by rw [tq167_107]; exact (h_load rfl).trans (propext ⟨fun z => z.2, fun z => ⟨rfl, z⟩⟩))
theorem tq167_109 : tT g 167 109 = s_bin 167 110 (fun a b => a + b) := rfl
theorem A167_109 {L : AL} {r : List Value} {a b : Int32} : aw g 167 109 L (.int b :: .int a :: r) σ Q = aw g 167 110 L (.int (a + b) :: r) σ Q := (aw_eq g 167 109 _ _ _ _).trans (by rw [tq167_109]; exact rfl)
theorem tq167_110 : tT g 167 110 = s_store vI 167 111 3 := rfl
theorem A167_110 {l0 : Option Value} {l1 : Option Value} {l2 : Option Value} {l3 : Option Value} {l4 : Option Value} {l5 : Option Value} {l6 : Option Value} {l7 : Option Value} {l8 : Option Value} {l9 : Option Value} {x : Int32} {r : List Value} : aw g 167 110 [l0, l1, l2, l3, l4, l5, l6, l7, l8, l9] (.int x :: r) σ Q = (oc l2 = true ∧ aw g 167 111 [l0, l1, l2, some (.int x), l4, l5, l6, l7, l8, l9] r σ Q) := (aw_eq g 167 110 _ _ _ _).trans (by rw [tq167_110]; exact (h_store (o := oc l2) rfl rfl rfl).trans (propext ⟨fun z => z.2, fun z => ⟨rfl, z⟩⟩))
theorem tq167_111 : tT g 167 111 = s_iinc 167 114 8 1 := rfl
theorem A167_111 {l0 : Option Value} {l1 : Option Value} {l2 : Option Value} {l3 : Option Value} {l4 : Option Value} {l5 : Option Value} {l6 : Option Value} {l7 : Option Value} {l9 : Option Value} {x : Int32} {r : List Value} : aw g 167 111 [l0, l1, l2, l3, l4, l5, l6, l7, some (.int x), l9] r σ Q = (oc l7 = true ∧ aw g 167 114 [l0, l1, l2, l3, l4, l5, l6, l7, some (.int (x + 1)), l9] r σ Q) := (aw_eq g 167 111 _ _ _ _).trans (by rw [tq167_111]; exact (h_iinc (o := oc l7) rfl rfl rfl))
theorem tq167_114 : tT g 167 114 = s_goto 167 92 := rfl
theorem A167_114 {L : AL} {r : List Value} : aw g 167 114 L r σ Q = aw g 167 92 L r σ Q := (aw_eq g 167 114 _ _ _ _).trans (by rw [tq167_114]; exact rfl)
theorem tq167_117 : tT g 167 117 = s_goto 167 55 := rfl
theorem A167_117 {L : AL} {r : List Value} : aw g 167 117 L r σ Q = aw g 167 55 L r σ Q := (aw_eq g 167 117 _ _ _ _).trans (by rw [tq167_117]; exact rfl)
theorem tq167_120 : tT g 167 120 = s_const 167 122 (.int 11) := rfl
theorem A167_120 {L : AL} {r : List Value} : aw g 167 120 L r σ Q = aw g 167 122 L (.int 11 :: r) σ Q := (aw_eq g 167 120 _ _ _ _).trans (by rw [tq167_120]; exact rfl)
theorem tq167_122 : tT g 167 122 = s_newa g 167 124 20 (.int 0) := rfl
theorem A167_122 {L : AL} {r : List Value} {x : Int32} : aw g 167 122 L (.int x :: r) σ Q = (¬ x < 0 ∧ x.toNatClampNeg ≤ 65536 ∧ hsz σ + 1 ≤ gC g ∧ hsl σ + x.toNatClampNeg ≤ gS g ∧ aw g 167 124 L (.ref (hsz σ) :: r) (hnew σ 20 x.toNatClampNeg (fun _ => .int 0) x.toNatClampNeg) Q) := (aw_eq g 167 122 _ _ _ _).trans (by rw [tq167_122]; exact rfl)
theorem tq167_124 : tT g 167 124 = s_dup 167 125 := rfl
theorem A167_124 {L : AL} {r : List Value} {v : Value} : aw g 167 124 L (v :: r) σ Q = (v.category = 1 ∧ aw g 167 125 L (v :: v :: r) σ Q) := (aw_eq g 167 124 _ _ _ _).trans (by rw [tq167_124]; exact rfl)
theorem tq167_125 : tT g 167 125 = s_const 167 126 (.int 0) := rfl
theorem A167_125 {L : AL} {r : List Value} : aw g 167 125 L r σ Q = aw g 167 126 L (.int 0 :: r) σ Q := (aw_eq g 167 125 _ _ _ _).trans (by rw [tq167_125]; exact rfl)
theorem tq167_126 : tT g 167 126 = s_load vRf 167 127 0 := rfl
theorem A167_126 {l1 : Option Value} {l2 : Option Value} {l3 : Option Value} {l4 : Option Value} {l5 : Option Value} {l6 : Option Value} {l7 : Option Value} {l8 : Option Value} {l9 : Option Value} {x : Value} {r : List Value} : aw g 167 126 [some (x), l1, l2, l3, l4, l5, l6, l7, l8, l9] r σ Q = (vRf x = true ∧ aw g 167 127 [some (x), l1, l2, l3, l4, l5, l6, l7, l8, l9] (x :: r) σ Q) := (aw_eq g 167 126 _ _ _ _).trans (by rw [tq167_126]; exact h_load rfl)
theorem tq167_127 : tT g 167 127 = s_getf 167 130 3 1 := rfl
theorem A167_127 {L : AL} {r : List Value} {a : Nat} : aw g 167 127 L (.ref a :: r) σ Q = (hty σ a = some 3 ∧ aw g 167 130 L (hv σ 3 a 1 :: r) σ Q) := (aw_eq g 167 127 _ _ _ _).trans (by rw [tq167_127]; exact rfl)
theorem tq167_130 : tT g 167 130 = s_getf 167 133 4 0 := rfl
theorem A167_130 {L : AL} {r : List Value} {a : Nat} : aw g 167 130 L (.ref a :: r) σ Q = (hty σ a = some 4 ∧ aw g 167 133 L (hv σ 4 a 0 :: r) σ Q) := (aw_eq g 167 130 _ _ _ _).trans (by rw [tq167_130]; exact rfl)
theorem tq167_133 : tT g 167 133 = s_callvk 167 136 15 10 [] 1 := rfl
theorem A167_133 {L : AL} {r : List Value} {a : Nat} : aw g 167 133 L (.ref a :: r) σ Q = (hty σ a = some 10 ∧ true = true ∧ csum r ≤ 8 ∧ aw g 15 0 [some (.ref a)] [] σ (kt (aw g) 167 136 L r Q)) := (aw_eq g 167 133 _ _ _ _).trans (by rw [tq167_133]; exact rfl)
theorem tq167_136 : tT g 167 136 = s_ast g (fun _ v => vI v = true) 167 137 20 := rfl
theorem A167_136 {L : AL} {r : List Value} {a : Nat} {i : Int32} {v : Value} : aw g 167 136 L (v :: .int i :: .ref a :: r) σ Q = (hty σ a = some 20 ∧ gB g ≤ a ∧ ¬ i < 0 ∧ i.toNatClampNeg < hln σ a ∧ vI v = true ∧ aw g 167 137 L r (hput σ 20 a i.toNatClampNeg v) Q) := (aw_eq g 167 136 _ _ _ _).trans (by rw [tq167_136]; exact rfl)
theorem tq167_137 : tT g 167 137 = s_dup 167 138 := rfl
theorem A167_137 {L : AL} {r : List Value} {v : Value} : aw g 167 137 L (v :: r) σ Q = (v.category = 1 ∧ aw g 167 138 L (v :: v :: r) σ Q) := (aw_eq g 167 137 _ _ _ _).trans (by rw [tq167_137]; exact rfl)
theorem tq167_138 : tT g 167 138 = s_const 167 139 (.int 1) := rfl
theorem A167_138 {L : AL} {r : List Value} : aw g 167 138 L r σ Q = aw g 167 139 L (.int 1 :: r) σ Q := (aw_eq g 167 138 _ _ _ _).trans (by rw [tq167_138]; exact rfl)
theorem tq167_139 : tT g 167 139 = s_load vRf 167 140 0 := rfl
theorem A167_139 {l1 : Option Value} {l2 : Option Value} {l3 : Option Value} {l4 : Option Value} {l5 : Option Value} {l6 : Option Value} {l7 : Option Value} {l8 : Option Value} {l9 : Option Value} {x : Value} {r : List Value} : aw g 167 139 [some (x), l1, l2, l3, l4, l5, l6, l7, l8, l9] r σ Q = (vRf x = true ∧ aw g 167 140 [some (x), l1, l2, l3, l4, l5, l6, l7, l8, l9] (x :: r) σ Q) := (aw_eq g 167 139 _ _ _ _).trans (by rw [tq167_139]; exact h_load rfl)
theorem tq167_140 : tT g 167 140 = s_getf 167 143 3 1 := rfl
theorem A167_140 {L : AL} {r : List Value} {a : Nat} : aw g 167 140 L (.ref a :: r) σ Q = (hty σ a = some 3 ∧ aw g 167 143 L (hv σ 3 a 1 :: r) σ Q) := (aw_eq g 167 140 _ _ _ _).trans (by rw [tq167_140]; exact rfl)
theorem tq167_143 : tT g 167 143 = s_getf 167 146 4 1 := rfl
theorem A167_143 {L : AL} {r : List Value} {a : Nat} : aw g 167 143 L (.ref a :: r) σ Q = (hty σ a = some 4 ∧ aw g 167 146 L (hv σ 4 a 1 :: r) σ Q) := (aw_eq g 167 143 _ _ _ _).trans (by rw [tq167_143]; exact rfl)
theorem tq167_146 : tT g 167 146 = s_ast g (fun _ v => vI v = true) 167 147 20 := rfl
theorem A167_146 {L : AL} {r : List Value} {a : Nat} {i : Int32} {v : Value} : aw g 167 146 L (v :: .int i :: .ref a :: r) σ Q = (hty σ a = some 20 ∧ gB g ≤ a ∧ ¬ i < 0 ∧ i.toNatClampNeg < hln σ a ∧ vI v = true ∧ aw g 167 147 L r (hput σ 20 a i.toNatClampNeg v) Q) := (aw_eq g 167 146 _ _ _ _).trans (by rw [tq167_146]; exact rfl)
theorem tq167_147 : tT g 167 147 = s_dup 167 148 := rfl
theorem A167_147 {L : AL} {r : List Value} {v : Value} : aw g 167 147 L (v :: r) σ Q = (v.category = 1 ∧ aw g 167 148 L (v :: v :: r) σ Q) := (aw_eq g 167 147 _ _ _ _).trans (by rw [tq167_147]; exact rfl)
theorem tq167_148 : tT g 167 148 = s_const 167 149 (.int 2) := rfl
theorem A167_148 {L : AL} {r : List Value} : aw g 167 148 L r σ Q = aw g 167 149 L (.int 2 :: r) σ Q := (aw_eq g 167 148 _ _ _ _).trans (by rw [tq167_148]; exact rfl)
theorem tq167_149 : tT g 167 149 = s_load vRf 167 150 0 := rfl
theorem A167_149 {l1 : Option Value} {l2 : Option Value} {l3 : Option Value} {l4 : Option Value} {l5 : Option Value} {l6 : Option Value} {l7 : Option Value} {l8 : Option Value} {l9 : Option Value} {x : Value} {r : List Value} : aw g 167 149 [some (x), l1, l2, l3, l4, l5, l6, l7, l8, l9] r σ Q = (vRf x = true ∧ aw g 167 150 [some (x), l1, l2, l3, l4, l5, l6, l7, l8, l9] (x :: r) σ Q) := (aw_eq g 167 149 _ _ _ _).trans (by rw [tq167_149]; exact h_load rfl)
theorem tq167_150 : tT g 167 150 = s_getf 167 153 3 1 := rfl
theorem A167_150 {L : AL} {r : List Value} {a : Nat} : aw g 167 150 L (.ref a :: r) σ Q = (hty σ a = some 3 ∧ aw g 167 153 L (hv σ 3 a 1 :: r) σ Q) := (aw_eq g 167 150 _ _ _ _).trans (by rw [tq167_150]; exact rfl)
theorem tq167_153 : tT g 167 153 = s_getf 167 156 4 2 := rfl
theorem A167_153 {L : AL} {r : List Value} {a : Nat} : aw g 167 153 L (.ref a :: r) σ Q = (hty σ a = some 4 ∧ aw g 167 156 L (hv σ 4 a 2 :: r) σ Q) := (aw_eq g 167 153 _ _ _ _).trans (by rw [tq167_153]; exact rfl)
theorem tq167_156 : tT g 167 156 = s_ast g (fun _ v => vI v = true) 167 157 20 := rfl
theorem A167_156 {L : AL} {r : List Value} {a : Nat} {i : Int32} {v : Value} : aw g 167 156 L (v :: .int i :: .ref a :: r) σ Q = (hty σ a = some 20 ∧ gB g ≤ a ∧ ¬ i < 0 ∧ i.toNatClampNeg < hln σ a ∧ vI v = true ∧ aw g 167 157 L r (hput σ 20 a i.toNatClampNeg v) Q) := (aw_eq g 167 156 _ _ _ _).trans (by rw [tq167_156]; exact rfl)
theorem tq167_157 : tT g 167 157 = s_dup 167 158 := rfl
theorem A167_157 {L : AL} {r : List Value} {v : Value} : aw g 167 157 L (v :: r) σ Q = (v.category = 1 ∧ aw g 167 158 L (v :: v :: r) σ Q) := (aw_eq g 167 157 _ _ _ _).trans (by rw [tq167_157]; exact rfl)
theorem tq167_158 : tT g 167 158 = s_const 167 159 (.int 3) := rfl
theorem A167_158 {L : AL} {r : List Value} : aw g 167 158 L r σ Q = aw g 167 159 L (.int 3 :: r) σ Q := (aw_eq g 167 158 _ _ _ _).trans (by rw [tq167_158]; exact rfl)
theorem tq167_159 : tT g 167 159 = s_load vI 167 160 2 := rfl
theorem A167_159 {l0 : Option Value} {l1 : Option Value} {l3 : Option Value} {l4 : Option Value} {l5 : Option Value} {l6 : Option Value} {l7 : Option Value} {l8 : Option Value} {l9 : Option Value} {x : Int32} {r : List Value} : aw g 167 159 [l0, l1, some (.int x), l3, l4, l5, l6, l7, l8, l9] r σ Q = aw g 167 160 [l0, l1, some (.int x), l3, l4, l5, l6, l7, l8, l9] (.int x :: r) σ Q := (aw_eq g 167 159 _ _ _ _).trans (by rw [tq167_159]; exact (h_load rfl).trans (propext ⟨fun z => z.2, fun z => ⟨rfl, z⟩⟩))
theorem tq167_160 : tT g 167 160 = s_ast g (fun _ v => vI v = true) 167 161 20 := rfl
theorem A167_160 {L : AL} {r : List Value} {a : Nat} {i : Int32} {v : Value} : aw g 167 160 L (v :: .int i :: .ref a :: r) σ Q = (hty σ a = some 20 ∧ gB g ≤ a ∧ ¬ i < 0 ∧ i.toNatClampNeg < hln σ a ∧ vI v = true ∧ aw g 167 161 L r (hput σ 20 a i.toNatClampNeg v) Q) := (aw_eq g 167 160 _ _ _ _).trans (by rw [tq167_160]; exact rfl)
theorem tq167_161 : tT g 167 161 = s_dup 167 162 := rfl
theorem A167_161 {L : AL} {r : List Value} {v : Value} : aw g 167 161 L (v :: r) σ Q = (v.category = 1 ∧ aw g 167 162 L (v :: v :: r) σ Q) := (aw_eq g 167 161 _ _ _ _).trans (by rw [tq167_161]; exact rfl)
theorem tq167_162 : tT g 167 162 = s_const 167 163 (.int 4) := rfl
theorem A167_162 {L : AL} {r : List Value} : aw g 167 162 L r σ Q = aw g 167 163 L (.int 4 :: r) σ Q := (aw_eq g 167 162 _ _ _ _).trans (by rw [tq167_162]; exact rfl)
theorem tq167_163 : tT g 167 163 = s_load vRf 167 164 0 := rfl
theorem A167_163 {l1 : Option Value} {l2 : Option Value} {l3 : Option Value} {l4 : Option Value} {l5 : Option Value} {l6 : Option Value} {l7 : Option Value} {l8 : Option Value} {l9 : Option Value} {x : Value} {r : List Value} : aw g 167 163 [some (x), l1, l2, l3, l4, l5, l6, l7, l8, l9] r σ Q = (vRf x = true ∧ aw g 167 164 [some (x), l1, l2, l3, l4, l5, l6, l7, l8, l9] (x :: r) σ Q) := (aw_eq g 167 163 _ _ _ _).trans (by rw [tq167_163]; exact h_load rfl)
theorem tq167_164 : tT g 167 164 = s_getf 167 167 3 1 := rfl
theorem A167_164 {L : AL} {r : List Value} {a : Nat} : aw g 167 164 L (.ref a :: r) σ Q = (hty σ a = some 3 ∧ aw g 167 167 L (hv σ 3 a 1 :: r) σ Q) := (aw_eq g 167 164 _ _ _ _).trans (by rw [tq167_164]; exact rfl)
theorem tq167_167 : tT g 167 167 = s_getf 167 170 4 3 := rfl
theorem A167_167 {L : AL} {r : List Value} {a : Nat} : aw g 167 167 L (.ref a :: r) σ Q = (hty σ a = some 4 ∧ aw g 167 170 L (hv σ 4 a 3 :: r) σ Q) := (aw_eq g 167 167 _ _ _ _).trans (by rw [tq167_167]; exact rfl)
theorem tq167_170 : tT g 167 170 = s_ast g (fun _ v => vI v = true) 167 171 20 := rfl
theorem A167_170 {L : AL} {r : List Value} {a : Nat} {i : Int32} {v : Value} : aw g 167 170 L (v :: .int i :: .ref a :: r) σ Q = (hty σ a = some 20 ∧ gB g ≤ a ∧ ¬ i < 0 ∧ i.toNatClampNeg < hln σ a ∧ vI v = true ∧ aw g 167 171 L r (hput σ 20 a i.toNatClampNeg v) Q) := (aw_eq g 167 170 _ _ _ _).trans (by rw [tq167_170]; exact rfl)
theorem tq167_171 : tT g 167 171 = s_dup 167 172 := rfl
theorem A167_171 {L : AL} {r : List Value} {v : Value} : aw g 167 171 L (v :: r) σ Q = (v.category = 1 ∧ aw g 167 172 L (v :: v :: r) σ Q) := (aw_eq g 167 171 _ _ _ _).trans (by rw [tq167_171]; exact rfl)
theorem tq167_172 : tT g 167 172 = s_const 167 173 (.int 5) := rfl
theorem A167_172 {L : AL} {r : List Value} : aw g 167 172 L r σ Q = aw g 167 173 L (.int 5 :: r) σ Q := (aw_eq g 167 172 _ _ _ _).trans (by rw [tq167_172]; exact rfl)
theorem tq167_173 : tT g 167 173 = s_load vRf 167 174 0 := rfl
theorem A167_173 {l1 : Option Value} {l2 : Option Value} {l3 : Option Value} {l4 : Option Value} {l5 : Option Value} {l6 : Option Value} {l7 : Option Value} {l8 : Option Value} {l9 : Option Value} {x : Value} {r : List Value} : aw g 167 173 [some (x), l1, l2, l3, l4, l5, l6, l7, l8, l9] r σ Q = (vRf x = true ∧ aw g 167 174 [some (x), l1, l2, l3, l4, l5, l6, l7, l8, l9] (x :: r) σ Q) := (aw_eq g 167 173 _ _ _ _).trans (by rw [tq167_173]; exact h_load rfl)
theorem tq167_174 : tT g 167 174 = s_getf 167 177 3 1 := rfl
theorem A167_174 {L : AL} {r : List Value} {a : Nat} : aw g 167 174 L (.ref a :: r) σ Q = (hty σ a = some 3 ∧ aw g 167 177 L (hv σ 3 a 1 :: r) σ Q) := (aw_eq g 167 174 _ _ _ _).trans (by rw [tq167_174]; exact rfl)
theorem tq167_177 : tT g 167 177 = s_getf 167 180 4 4 := rfl
theorem A167_177 {L : AL} {r : List Value} {a : Nat} : aw g 167 177 L (.ref a :: r) σ Q = (hty σ a = some 4 ∧ aw g 167 180 L (hv σ 4 a 4 :: r) σ Q) := (aw_eq g 167 177 _ _ _ _).trans (by rw [tq167_177]; exact rfl)
theorem tq167_180 : tT g 167 180 = s_ast g (fun _ v => vI v = true) 167 181 20 := rfl
theorem A167_180 {L : AL} {r : List Value} {a : Nat} {i : Int32} {v : Value} : aw g 167 180 L (v :: .int i :: .ref a :: r) σ Q = (hty σ a = some 20 ∧ gB g ≤ a ∧ ¬ i < 0 ∧ i.toNatClampNeg < hln σ a ∧ vI v = true ∧ aw g 167 181 L r (hput σ 20 a i.toNatClampNeg v) Q) := (aw_eq g 167 180 _ _ _ _).trans (by rw [tq167_180]; exact rfl)
theorem tq167_181 : tT g 167 181 = s_dup 167 182 := rfl
theorem A167_181 {L : AL} {r : List Value} {v : Value} : aw g 167 181 L (v :: r) σ Q = (v.category = 1 ∧ aw g 167 182 L (v :: v :: r) σ Q) := (aw_eq g 167 181 _ _ _ _).trans (by rw [tq167_181]; exact rfl)
theorem tq167_182 : tT g 167 182 = s_const 167 184 (.int 6) := rfl
theorem A167_182 {L : AL} {r : List Value} : aw g 167 182 L r σ Q = aw g 167 184 L (.int 6 :: r) σ Q := (aw_eq g 167 182 _ _ _ _).trans (by rw [tq167_182]; exact rfl)
theorem tq167_184 : tT g 167 184 = s_load vRf 167 185 0 := rfl
theorem A167_184 {l1 : Option Value} {l2 : Option Value} {l3 : Option Value} {l4 : Option Value} {l5 : Option Value} {l6 : Option Value} {l7 : Option Value} {l8 : Option Value} {l9 : Option Value} {x : Value} {r : List Value} : aw g 167 184 [some (x), l1, l2, l3, l4, l5, l6, l7, l8, l9] r σ Q = (vRf x = true ∧ aw g 167 185 [some (x), l1, l2, l3, l4, l5, l6, l7, l8, l9] (x :: r) σ Q) := (aw_eq g 167 184 _ _ _ _).trans (by rw [tq167_184]; exact h_load rfl)
theorem tq167_185 : tT g 167 185 = s_getf 167 188 3 1 := rfl
theorem A167_185 {L : AL} {r : List Value} {a : Nat} : aw g 167 185 L (.ref a :: r) σ Q = (hty σ a = some 3 ∧ aw g 167 188 L (hv σ 3 a 1 :: r) σ Q) := (aw_eq g 167 185 _ _ _ _).trans (by rw [tq167_185]; exact rfl)
theorem tq167_188 : tT g 167 188 = s_getf 167 191 4 4 := rfl
theorem A167_188 {L : AL} {r : List Value} {a : Nat} : aw g 167 188 L (.ref a :: r) σ Q = (hty σ a = some 4 ∧ aw g 167 191 L (hv σ 4 a 4 :: r) σ Q) := (aw_eq g 167 188 _ _ _ _).trans (by rw [tq167_188]; exact rfl)
theorem tq167_191 : tT g 167 191 = s_const 167 192 (.int (-1)) := rfl
theorem A167_191 {L : AL} {r : List Value} : aw g 167 191 L r σ Q = aw g 167 192 L (.int (-1) :: r) σ Q := (aw_eq g 167 191 _ _ _ _).trans (by rw [tq167_191]; exact rfl)
theorem tq167_192 : tT g 167 192 = s_icmp 167 199 195 (fun a b => a = b) := rfl
theorem A167_192 {L : AL} {r : List Value} {a b : Int32} : aw g 167 192 L (.int b :: .int a :: r) σ Q = ((a = b → aw g 167 195 L r σ Q) ∧ (¬ a = b → aw g 167 199 L r σ Q)) := (aw_eq g 167 192 _ _ _ _).trans (by rw [tq167_192]; exact rfl)
theorem tq167_195 : tT g 167 195 = s_const 167 196 (.int (-1)) := rfl
theorem A167_195 {L : AL} {r : List Value} : aw g 167 195 L r σ Q = aw g 167 196 L (.int (-1) :: r) σ Q := (aw_eq g 167 195 _ _ _ _).trans (by rw [tq167_195]; exact rfl)
theorem tq167_196 : tT g 167 196 = s_goto 167 206 := rfl
theorem A167_196 {L : AL} {r : List Value} : aw g 167 196 L r σ Q = aw g 167 206 L r σ Q := (aw_eq g 167 196 _ _ _ _).trans (by rw [tq167_196]; exact rfl)
theorem tq167_199 : tT g 167 199 = s_load vRf 167 200 0 := rfl
theorem A167_199 {l1 : Option Value} {l2 : Option Value} {l3 : Option Value} {l4 : Option Value} {l5 : Option Value} {l6 : Option Value} {l7 : Option Value} {l8 : Option Value} {l9 : Option Value} {x : Value} {r : List Value} : aw g 167 199 [some (x), l1, l2, l3, l4, l5, l6, l7, l8, l9] r σ Q = (vRf x = true ∧ aw g 167 200 [some (x), l1, l2, l3, l4, l5, l6, l7, l8, l9] (x :: r) σ Q) := (aw_eq g 167 199 _ _ _ _).trans (by rw [tq167_199]; exact h_load rfl)
theorem tq167_200 : tT g 167 200 = s_getf 167 203 3 1 := rfl
theorem A167_200 {L : AL} {r : List Value} {a : Nat} : aw g 167 200 L (.ref a :: r) σ Q = (hty σ a = some 3 ∧ aw g 167 203 L (hv σ 3 a 1 :: r) σ Q) := (aw_eq g 167 200 _ _ _ _).trans (by rw [tq167_200]; exact rfl)
theorem tq167_203 : tT g 167 203 = s_getf 167 206 4 5 := rfl
theorem A167_203 {L : AL} {r : List Value} {a : Nat} : aw g 167 203 L (.ref a :: r) σ Q = (hty σ a = some 4 ∧ aw g 167 206 L (hv σ 4 a 5 :: r) σ Q) := (aw_eq g 167 203 _ _ _ _).trans (by rw [tq167_203]; exact rfl)
theorem tq167_206 : tT g 167 206 = s_ast g (fun _ v => vI v = true) 167 207 20 := rfl
theorem A167_206 {L : AL} {r : List Value} {a : Nat} {i : Int32} {v : Value} : aw g 167 206 L (v :: .int i :: .ref a :: r) σ Q = (hty σ a = some 20 ∧ gB g ≤ a ∧ ¬ i < 0 ∧ i.toNatClampNeg < hln σ a ∧ vI v = true ∧ aw g 167 207 L r (hput σ 20 a i.toNatClampNeg v) Q) := (aw_eq g 167 206 _ _ _ _).trans (by rw [tq167_206]; exact rfl)
theorem tq167_207 : tT g 167 207 = s_dup 167 208 := rfl
theorem A167_207 {L : AL} {r : List Value} {v : Value} : aw g 167 207 L (v :: r) σ Q = (v.category = 1 ∧ aw g 167 208 L (v :: v :: r) σ Q) := (aw_eq g 167 207 _ _ _ _).trans (by rw [tq167_207]; exact rfl)
theorem tq167_208 : tT g 167 208 = s_const 167 210 (.int 7) := rfl
theorem A167_208 {L : AL} {r : List Value} : aw g 167 208 L r σ Q = aw g 167 210 L (.int 7 :: r) σ Q := (aw_eq g 167 208 _ _ _ _).trans (by rw [tq167_208]; exact rfl)
theorem tq167_210 : tT g 167 210 = s_load vRf 167 211 0 := rfl
theorem A167_210 {l1 : Option Value} {l2 : Option Value} {l3 : Option Value} {l4 : Option Value} {l5 : Option Value} {l6 : Option Value} {l7 : Option Value} {l8 : Option Value} {l9 : Option Value} {x : Value} {r : List Value} : aw g 167 210 [some (x), l1, l2, l3, l4, l5, l6, l7, l8, l9] r σ Q = (vRf x = true ∧ aw g 167 211 [some (x), l1, l2, l3, l4, l5, l6, l7, l8, l9] (x :: r) σ Q) := (aw_eq g 167 210 _ _ _ _).trans (by rw [tq167_210]; exact h_load rfl)
theorem tq167_211 : tT g 167 211 = s_getf 167 214 3 1 := rfl
theorem A167_211 {L : AL} {r : List Value} {a : Nat} : aw g 167 211 L (.ref a :: r) σ Q = (hty σ a = some 3 ∧ aw g 167 214 L (hv σ 3 a 1 :: r) σ Q) := (aw_eq g 167 211 _ _ _ _).trans (by rw [tq167_211]; exact rfl)
theorem tq167_214 : tT g 167 214 = s_getf 167 217 4 7 := rfl
theorem A167_214 {L : AL} {r : List Value} {a : Nat} : aw g 167 214 L (.ref a :: r) σ Q = (hty σ a = some 4 ∧ aw g 167 217 L (hv σ 4 a 7 :: r) σ Q) := (aw_eq g 167 214 _ _ _ _).trans (by rw [tq167_214]; exact rfl)
theorem tq167_217 : tT g 167 217 = s_ast g (fun _ v => vI v = true) 167 218 20 := rfl
theorem A167_217 {L : AL} {r : List Value} {a : Nat} {i : Int32} {v : Value} : aw g 167 217 L (v :: .int i :: .ref a :: r) σ Q = (hty σ a = some 20 ∧ gB g ≤ a ∧ ¬ i < 0 ∧ i.toNatClampNeg < hln σ a ∧ vI v = true ∧ aw g 167 218 L r (hput σ 20 a i.toNatClampNeg v) Q) := (aw_eq g 167 217 _ _ _ _).trans (by rw [tq167_217]; exact rfl)
theorem tq167_218 : tT g 167 218 = s_dup 167 219 := rfl
theorem A167_218 {L : AL} {r : List Value} {v : Value} : aw g 167 218 L (v :: r) σ Q = (v.category = 1 ∧ aw g 167 219 L (v :: v :: r) σ Q) := (aw_eq g 167 218 _ _ _ _).trans (by rw [tq167_218]; exact rfl)
theorem tq167_219 : tT g 167 219 = s_const 167 221 (.int 8) := rfl
theorem A167_219 {L : AL} {r : List Value} : aw g 167 219 L r σ Q = aw g 167 221 L (.int 8 :: r) σ Q := (aw_eq g 167 219 _ _ _ _).trans (by rw [tq167_219]; exact rfl)
theorem tq167_221 : tT g 167 221 = s_load vI 167 222 3 := rfl
theorem A167_221 {l0 : Option Value} {l1 : Option Value} {l2 : Option Value} {l4 : Option Value} {l5 : Option Value} {l6 : Option Value} {l7 : Option Value} {l8 : Option Value} {l9 : Option Value} {x : Int32} {r : List Value} : aw g 167 221 [l0, l1, l2, some (.int x), l4, l5, l6, l7, l8, l9] r σ Q = aw g 167 222 [l0, l1, l2, some (.int x), l4, l5, l6, l7, l8, l9] (.int x :: r) σ Q := (aw_eq g 167 221 _ _ _ _).trans (by rw [tq167_221]; exact (h_load rfl).trans (propext ⟨fun z => z.2, fun z => ⟨rfl, z⟩⟩))
theorem tq167_222 : tT g 167 222 = s_ast g (fun _ v => vI v = true) 167 223 20 := rfl
theorem A167_222 {L : AL} {r : List Value} {a : Nat} {i : Int32} {v : Value} : aw g 167 222 L (v :: .int i :: .ref a :: r) σ Q = (hty σ a = some 20 ∧ gB g ≤ a ∧ ¬ i < 0 ∧ i.toNatClampNeg < hln σ a ∧ vI v = true ∧ aw g 167 223 L r (hput σ 20 a i.toNatClampNeg v) Q) := (aw_eq g 167 222 _ _ _ _).trans (by rw [tq167_222]; exact rfl)
theorem tq167_223 : tT g 167 223 = s_dup 167 224 := rfl
theorem A167_223 {L : AL} {r : List Value} {v : Value} : aw g 167 223 L (v :: r) σ Q = (v.category = 1 ∧ aw g 167 224 L (v :: v :: r) σ Q) := (aw_eq g 167 223 _ _ _ _).trans (by rw [tq167_223]; exact rfl)
theorem tq167_224 : tT g 167 224 = s_const 167 226 (.int 9) := rfl
theorem A167_224 {L : AL} {r : List Value} : aw g 167 224 L r σ Q = aw g 167 226 L (.int 9 :: r) σ Q := (aw_eq g 167 224 _ _ _ _).trans (by rw [tq167_224]; exact rfl)
theorem tq167_226 : tT g 167 226 = s_load vRf 167 227 0 := rfl
theorem A167_226 {l1 : Option Value} {l2 : Option Value} {l3 : Option Value} {l4 : Option Value} {l5 : Option Value} {l6 : Option Value} {l7 : Option Value} {l8 : Option Value} {l9 : Option Value} {x : Value} {r : List Value} : aw g 167 226 [some (x), l1, l2, l3, l4, l5, l6, l7, l8, l9] r σ Q = (vRf x = true ∧ aw g 167 227 [some (x), l1, l2, l3, l4, l5, l6, l7, l8, l9] (x :: r) σ Q) := (aw_eq g 167 226 _ _ _ _).trans (by rw [tq167_226]; exact h_load rfl)
theorem tq167_227 : tT g 167 227 = s_getf 167 230 3 1 := rfl
theorem A167_227 {L : AL} {r : List Value} {a : Nat} : aw g 167 227 L (.ref a :: r) σ Q = (hty σ a = some 3 ∧ aw g 167 230 L (hv σ 3 a 1 :: r) σ Q) := (aw_eq g 167 227 _ _ _ _).trans (by rw [tq167_227]; exact rfl)
theorem tq167_230 : tT g 167 230 = s_getf 167 233 4 8 := rfl
theorem A167_230 {L : AL} {r : List Value} {a : Nat} : aw g 167 230 L (.ref a :: r) σ Q = (hty σ a = some 4 ∧ aw g 167 233 L (hv σ 4 a 8 :: r) σ Q) := (aw_eq g 167 230 _ _ _ _).trans (by rw [tq167_230]; exact rfl)
theorem tq167_233 : tT g 167 233 = s_ast g (fun _ v => vI v = true) 167 234 20 := rfl
theorem A167_233 {L : AL} {r : List Value} {a : Nat} {i : Int32} {v : Value} : aw g 167 233 L (v :: .int i :: .ref a :: r) σ Q = (hty σ a = some 20 ∧ gB g ≤ a ∧ ¬ i < 0 ∧ i.toNatClampNeg < hln σ a ∧ vI v = true ∧ aw g 167 234 L r (hput σ 20 a i.toNatClampNeg v) Q) := (aw_eq g 167 233 _ _ _ _).trans (by rw [tq167_233]; exact rfl)
theorem tq167_234 : tT g 167 234 = s_dup 167 235 := rfl
theorem A167_234 {L : AL} {r : List Value} {v : Value} : aw g 167 234 L (v :: r) σ Q = (v.category = 1 ∧ aw g 167 235 L (v :: v :: r) σ Q) := (aw_eq g 167 234 _ _ _ _).trans (by rw [tq167_234]; exact rfl)
theorem tq167_235 : tT g 167 235 = s_const 167 237 (.int 10) := rfl
theorem A167_235 {L : AL} {r : List Value} : aw g 167 235 L r σ Q = aw g 167 237 L (.int 10 :: r) σ Q := (aw_eq g 167 235 _ _ _ _).trans (by rw [tq167_235]; exact rfl)
theorem tq167_237 : tT g 167 237 = s_load vRf 167 238 0 := rfl
theorem A167_237 {l1 : Option Value} {l2 : Option Value} {l3 : Option Value} {l4 : Option Value} {l5 : Option Value} {l6 : Option Value} {l7 : Option Value} {l8 : Option Value} {l9 : Option Value} {x : Value} {r : List Value} : aw g 167 237 [some (x), l1, l2, l3, l4, l5, l6, l7, l8, l9] r σ Q = (vRf x = true ∧ aw g 167 238 [some (x), l1, l2, l3, l4, l5, l6, l7, l8, l9] (x :: r) σ Q) := (aw_eq g 167 237 _ _ _ _).trans (by rw [tq167_237]; exact h_load rfl)
theorem tq167_238 : tT g 167 238 = s_getf 167 241 3 1 := rfl
theorem A167_238 {L : AL} {r : List Value} {a : Nat} : aw g 167 238 L (.ref a :: r) σ Q = (hty σ a = some 3 ∧ aw g 167 241 L (hv σ 3 a 1 :: r) σ Q) := (aw_eq g 167 238 _ _ _ _).trans (by rw [tq167_238]; exact rfl)
theorem tq167_241 : tT g 167 241 = s_getf 167 244 4 9 := rfl
theorem A167_241 {L : AL} {r : List Value} {a : Nat} : aw g 167 241 L (.ref a :: r) σ Q = (hty σ a = some 4 ∧ aw g 167 244 L (hv σ 4 a 9 :: r) σ Q) := (aw_eq g 167 241 _ _ _ _).trans (by rw [tq167_241]; exact rfl)
theorem tq167_244 : tT g 167 244 = s_ast g (fun _ v => vI v = true) 167 245 20 := rfl
theorem A167_244 {L : AL} {r : List Value} {a : Nat} {i : Int32} {v : Value} : aw g 167 244 L (v :: .int i :: .ref a :: r) σ Q = (hty σ a = some 20 ∧ gB g ≤ a ∧ ¬ i < 0 ∧ i.toNatClampNeg < hln σ a ∧ vI v = true ∧ aw g 167 245 L r (hput σ 20 a i.toNatClampNeg v) Q) := (aw_eq g 167 244 _ _ _ _).trans (by rw [tq167_244]; exact rfl)
theorem tq167_245 : tT g 167 245 = s_store vRf 167 247 4 := rfl
theorem A167_245 {l0 : Option Value} {l1 : Option Value} {l2 : Option Value} {l3 : Option Value} {l4 : Option Value} {l5 : Option Value} {l6 : Option Value} {l7 : Option Value} {l8 : Option Value} {l9 : Option Value} {x : Value} {r : List Value} : aw g 167 245 [l0, l1, l2, l3, l4, l5, l6, l7, l8, l9] (x :: r) σ Q = (vRf x = true ∧ oc l3 = true ∧ aw g 167 247 [l0, l1, l2, l3, some (x), l5, l6, l7, l8, l9] r σ Q) := (aw_eq g 167 245 _ _ _ _).trans (by rw [tq167_245]; exact (h_store (o := oc l3) rfl rfl rfl))
theorem tq167_247 : tT g 167 247 = s_load vRf 167 249 4 := rfl
theorem A167_247 {l0 : Option Value} {l1 : Option Value} {l2 : Option Value} {l3 : Option Value} {l5 : Option Value} {l6 : Option Value} {l7 : Option Value} {l8 : Option Value} {l9 : Option Value} {x : Value} {r : List Value} : aw g 167 247 [l0, l1, l2, l3, some (x), l5, l6, l7, l8, l9] r σ Q = (vRf x = true ∧ aw g 167 249 [l0, l1, l2, l3, some (x), l5, l6, l7, l8, l9] (x :: r) σ Q) := (aw_eq g 167 247 _ _ _ _).trans (by rw [tq167_247]; exact h_load rfl)
theorem tq167_249 : tT g 167 249 = s_load vI 167 250 1 := rfl
theorem A167_249 {l0 : Option Value} {l2 : Option Value} {l3 : Option Value} {l4 : Option Value} {l5 : Option Value} {l6 : Option Value} {l7 : Option Value} {l8 : Option Value} {l9 : Option Value} {x : Int32} {r : List Value} : aw g 167 249 [l0, some (.int x), l2, l3, l4, l5, l6, l7, l8, l9] r σ Q = aw g 167 250 [l0, some (.int x), l2, l3, l4, l5, l6, l7, l8, l9] (.int x :: r) σ Q := (aw_eq g 167 249 _ _ _ _).trans (by rw [tq167_249]; exact (h_load rfl).trans (propext ⟨fun z => z.2, fun z => ⟨rfl, z⟩⟩))
theorem tq167_250 : tT g 167 250 = s_ald 167 251 20 := rfl
theorem A167_250 {L : AL} {r : List Value} {a : Nat} {i : Int32} : aw g 167 250 L (.int i :: .ref a :: r) σ Q = (hty σ a = some 20 ∧ ¬ i < 0 ∧ i.toNatClampNeg < hln σ a ∧ aw g 167 251 L (hv σ 20 a i.toNatClampNeg :: r) σ Q) := (aw_eq g 167 250 _ _ _ _).trans (by rw [tq167_250]; exact rfl)
theorem tq167_251 : tT g 167 251 = s_ret pI := rfl
theorem A167_251 {L : AL} {v : Value} : aw g 167 251 L [v] σ Q = (pI v ∧ Q (.inl (some v)) σ) := (aw_eq g 167 251 _ _ _ _).trans (by rw [tq167_251]; exact rfl)
theorem tq168_0 : tT g 168 0 = s_load vRf 168 1 0 := rfl
theorem A168_0 {l1 : Option Value} {l2 : Option Value} {x : Value} {r : List Value} : aw g 168 0 [some (x), l1, l2] r σ Q = (vRf x = true ∧ aw g 168 1 [some (x), l1, l2] (x :: r) σ Q) := (aw_eq g 168 0 _ _ _ _).trans (by rw [tq168_0]; exact h_load rfl)
theorem tq168_1 : tT g 168 1 = s_load vRf 168 2 0 := rfl
theorem A168_1 {l1 : Option Value} {l2 : Option Value} {x : Value} {r : List Value} : aw g 168 1 [some (x), l1, l2] r σ Q = (vRf x = true ∧ aw g 168 2 [some (x), l1, l2] (x :: r) σ Q) := (aw_eq g 168 1 _ _ _ _).trans (by rw [tq168_1]; exact h_load rfl)
theorem tq168_2 : tT g 168 2 = s_load vI 168 3 1 := rfl
theorem A168_2 {l0 : Option Value} {l2 : Option Value} {x : Int32} {r : List Value} : aw g 168 2 [l0, some (.int x), l2] r σ Q = aw g 168 3 [l0, some (.int x), l2] (.int x :: r) σ Q := (aw_eq g 168 2 _ _ _ _).trans (by rw [tq168_2]; exact (h_load rfl).trans (propext ⟨fun z => z.2, fun z => ⟨rfl, z⟩⟩))
theorem tq168_3 : tT g 168 3 = s_callvk 168 6 143 3 [0] 2 := rfl
theorem A168_3 {L : AL} {r : List Value} {a : Nat} {w0 : Value} : aw g 168 3 L (w0 :: .ref a :: r) σ Q = (hty σ a = some 3 ∧ (vI w0 && true) = true ∧ csum r ≤ 8 ∧ aw g 143 0 [some (.ref a), some w0] [] σ (kt (aw g) 168 6 L r Q)) := (aw_eq g 168 3 _ _ _ _).trans (by rw [tq168_3]; exact rfl)
theorem tq168_6 : tT g 168 6 = s_if 168 9 13 (fun a => a = 0) := rfl
theorem A168_6 {L : AL} {r : List Value} {a : Int32} : aw g 168 6 L (.int a :: r) σ Q = ((a = 0 → aw g 168 13 L r σ Q) ∧ (¬ a = 0 → aw g 168 9 L r σ Q)) := (aw_eq g 168 6 _ _ _ _).trans (by rw [tq168_6]; exact rfl)
theorem tq168_9 : tT g 168 9 = s_const 168 10 (.int 0) := rfl
theorem A168_9 {L : AL} {r : List Value} : aw g 168 9 L r σ Q = aw g 168 10 L (.int 0 :: r) σ Q := (aw_eq g 168 9 _ _ _ _).trans (by rw [tq168_9]; exact rfl)
theorem tq168_10 : tT g 168 10 = s_goto 168 14 := rfl
theorem A168_10 {L : AL} {r : List Value} : aw g 168 10 L r σ Q = aw g 168 14 L r σ Q := (aw_eq g 168 10 _ _ _ _).trans (by rw [tq168_10]; exact rfl)
theorem tq168_13 : tT g 168 13 = s_const 168 14 (.int 1) := rfl
theorem A168_13 {L : AL} {r : List Value} : aw g 168 13 L r σ Q = aw g 168 14 L (.int 1 :: r) σ Q := (aw_eq g 168 13 _ _ _ _).trans (by rw [tq168_13]; exact rfl)
theorem tq168_14 : tT g 168 14 = s_putf g pI 168 17 3 0 := rfl
theorem A168_14 {L : AL} {r : List Value} {a : Nat} {v : Value} : aw g 168 14 L (v :: .ref a :: r) σ Q = (hty σ a = some 3 ∧ gB g ≤ a ∧ pI v ∧ aw g 168 17 L r (hput σ 3 a 0 v) Q) := (aw_eq g 168 14 _ _ _ _).trans (by rw [tq168_14]; exact rfl)
theorem tq168_17 : tT g 168 17 = s_load vRf 168 18 0 := rfl
theorem A168_17 {l1 : Option Value} {l2 : Option Value} {x : Value} {r : List Value} : aw g 168 17 [some (x), l1, l2] r σ Q = (vRf x = true ∧ aw g 168 18 [some (x), l1, l2] (x :: r) σ Q) := (aw_eq g 168 17 _ _ _ _).trans (by rw [tq168_17]; exact h_load rfl)
theorem tq168_18 : tT g 168 18 = s_getf 168 21 3 0 := rfl
theorem A168_18 {L : AL} {r : List Value} {a : Nat} : aw g 168 18 L (.ref a :: r) σ Q = (hty σ a = some 3 ∧ aw g 168 21 L (hv σ 3 a 0 :: r) σ Q) := (aw_eq g 168 18 _ _ _ _).trans (by rw [tq168_18]; exact rfl)
theorem tq168_21 : tT g 168 21 = s_if 168 24 26 (fun a => a ≤ 0) := rfl
theorem A168_21 {L : AL} {r : List Value} {a : Int32} : aw g 168 21 L (.int a :: r) σ Q = ((a ≤ 0 → aw g 168 26 L r σ Q) ∧ (¬ a ≤ 0 → aw g 168 24 L r σ Q)) := (aw_eq g 168 21 _ _ _ _).trans (by rw [tq168_21]; exact rfl)
theorem tq168_24 : tT g 168 24 = s_const 168 25 (.double FP.dconst0) := rfl
theorem A168_24 {L : AL} {r : List Value} : aw g 168 24 L r σ Q = aw g 168 25 L (.double FP.dconst0 :: r) σ Q := (aw_eq g 168 24 _ _ _ _).trans (by rw [tq168_24]; exact rfl)
theorem tq168_25 : tT g 168 25 = s_ret pD := rfl
theorem A168_25 {L : AL} {v : Value} : aw g 168 25 L [v] σ Q = (pD v ∧ Q (.inl (some v)) σ) := (aw_eq g 168 25 _ _ _ _).trans (by rw [tq168_25]; exact rfl)
theorem tq168_26 : tT g 168 26 = s_load vRf 168 27 0 := rfl
theorem A168_26 {l1 : Option Value} {l2 : Option Value} {x : Value} {r : List Value} : aw g 168 26 [some (x), l1, l2] r σ Q = (vRf x = true ∧ aw g 168 27 [some (x), l1, l2] (x :: r) σ Q) := (aw_eq g 168 26 _ _ _ _).trans (by rw [tq168_26]; exact h_load rfl)
theorem tq168_27 : tT g 168 27 = s_getf 168 30 3 1 := rfl
theorem A168_27 {L : AL} {r : List Value} {a : Nat} : aw g 168 27 L (.ref a :: r) σ Q = (hty σ a = some 3 ∧ aw g 168 30 L (hv σ 3 a 1 :: r) σ Q) := (aw_eq g 168 27 _ _ _ _).trans (by rw [tq168_27]; exact rfl)
theorem tq168_30 : tT g 168 30 = s_getf 168 33 4 0 := rfl
theorem A168_30 {L : AL} {r : List Value} {a : Nat} : aw g 168 30 L (.ref a :: r) σ Q = (hty σ a = some 4 ∧ aw g 168 33 L (hv σ 4 a 0 :: r) σ Q) := (aw_eq g 168 30 _ _ _ _).trans (by rw [tq168_30]; exact rfl)
theorem tq168_33 : tT g 168 33 = s_load vI 168 34 1 := rfl
theorem A168_33 {l0 : Option Value} {l2 : Option Value} {x : Int32} {r : List Value} : aw g 168 33 [l0, some (.int x), l2] r σ Q = aw g 168 34 [l0, some (.int x), l2] (.int x :: r) σ Q := (aw_eq g 168 33 _ _ _ _).trans (by rw [tq168_33]; exact (h_load rfl).trans (propext ⟨fun z => z.2, fun z => ⟨rfl, z⟩⟩))
theorem tq168_34 : tT g 168 34 = s_callvk 168 37 25 10 [0] 2 := rfl
theorem A168_34 {L : AL} {r : List Value} {a : Nat} {w0 : Value} : aw g 168 34 L (w0 :: .ref a :: r) σ Q = (hty σ a = some 10 ∧ (vI w0 && true) = true ∧ csum r ≤ 8 ∧ aw g 25 0 [some (.ref a), some w0] [] σ (kt (aw g) 168 37 L r Q)) := (aw_eq g 168 34 _ _ _ _).trans (by rw [tq168_34]; exact rfl)
theorem tq168_37 : tT g 168 37 = s_cast 168 40 [7] := rfl
theorem A168_37 {L : AL} {r : List Value} : aw g 168 37 L (.null :: r) σ Q = aw g 168 40 L (.null :: r) σ Q := (aw_eq g 168 37 _ _ _ _).trans (by rw [tq168_37]; exact rfl)
theorem A168_37r {L : AL} {r : List Value} {a : Nat} : aw g 168 37 L (.ref a :: r) σ Q = (hty σ a = some 7 ∧ aw g 168 40 L (.ref a :: r) σ Q) := (aw_eq g 168 37 _ _ _ _).trans (by rw [tq168_37]; exact propext ⟨fun z => (by obtain ⟨⟨u, hu, hu2⟩, z2⟩ := z; rw [List.mem_singleton] at hu; subst hu; exact ⟨hu2, z2⟩), fun z => ⟨⟨_, List.mem_cons_self, z.1⟩, z.2⟩⟩)
theorem tq168_40 : tT g 168 40 = s_store vRf 168 41 2 := rfl
theorem A168_40 {l0 : Option Value} {l1 : Option Value} {l2 : Option Value} {x : Value} {r : List Value} : aw g 168 40 [l0, l1, l2] (x :: r) σ Q = (vRf x = true ∧ oc l1 = true ∧ aw g 168 41 [l0, l1, some (x)] r σ Q) := (aw_eq g 168 40 _ _ _ _).trans (by rw [tq168_40]; exact (h_store (o := oc l1) rfl rfl rfl))
theorem tq168_41 : tT g 168 41 = s_load vRf 168 42 2 := rfl
theorem A168_41 {l0 : Option Value} {l1 : Option Value} {x : Value} {r : List Value} : aw g 168 41 [l0, l1, some (x)] r σ Q = (vRf x = true ∧ aw g 168 42 [l0, l1, some (x)] (x :: r) σ Q) := (aw_eq g 168 41 _ _ _ _).trans (by rw [tq168_41]; exact h_load rfl)
theorem tq168_42 : tT g 168 42 = s_getf 168 45 7 4 := rfl
theorem A168_42 {L : AL} {r : List Value} {a : Nat} : aw g 168 42 L (.ref a :: r) σ Q = (hty σ a = some 7 ∧ aw g 168 45 L (hv σ 7 a 4 :: r) σ Q) := (aw_eq g 168 42 _ _ _ _).trans (by rw [tq168_42]; exact rfl)
theorem tq168_45 : tT g 168 45 = s_if 168 52 48 (fun a => a = 0) := rfl
theorem A168_45 {L : AL} {r : List Value} {a : Int32} : aw g 168 45 L (.int a :: r) σ Q = ((a = 0 → aw g 168 48 L r σ Q) ∧ (¬ a = 0 → aw g 168 52 L r σ Q)) := (aw_eq g 168 45 _ _ _ _).trans (by rw [tq168_45]; exact rfl)
theorem tq168_48 : tT g 168 48 = s_const 168 49 (.double FP.dconst0) := rfl
theorem A168_48 {L : AL} {r : List Value} : aw g 168 48 L r σ Q = aw g 168 49 L (.double FP.dconst0 :: r) σ Q := (aw_eq g 168 48 _ _ _ _).trans (by rw [tq168_48]; exact rfl)
theorem tq168_49 : tT g 168 49 = s_goto 168 63 := rfl
theorem A168_49 {L : AL} {r : List Value} : aw g 168 49 L r σ Q = aw g 168 63 L r σ Q := (aw_eq g 168 49 _ _ _ _).trans (by rw [tq168_49]; exact rfl)
theorem tq168_52 : tT g 168 52 = s_load vRf 168 53 2 := rfl
theorem A168_52 {l0 : Option Value} {l1 : Option Value} {x : Value} {r : List Value} : aw g 168 52 [l0, l1, some (x)] r σ Q = (vRf x = true ∧ aw g 168 53 [l0, l1, some (x)] (x :: r) σ Q) := (aw_eq g 168 52 _ _ _ _).trans (by rw [tq168_52]; exact h_load rfl)
theorem tq168_53 : tT g 168 53 = s_getf 168 56 7 10 := rfl
theorem A168_53 {L : AL} {r : List Value} {a : Nat} : aw g 168 53 L (.ref a :: r) σ Q = (hty σ a = some 7 ∧ aw g 168 56 L (hv σ 7 a 10 :: r) σ Q) := (aw_eq g 168 53 _ _ _ _).trans (by rw [tq168_53]; exact rfl)
theorem tq168_56 : tT g 168 56 = s_i2 168 57 (fun a => .double (FP.i2d a)) := rfl
theorem A168_56 {L : AL} {r : List Value} {a : Int32} : aw g 168 56 L (.int a :: r) σ Q = aw g 168 57 L (.double (FP.i2d a) :: r) σ Q := (aw_eq g 168 56 _ _ _ _).trans (by rw [tq168_56]; exact rfl)
theorem tq168_57 : tT g 168 57 = s_load vRf 168 58 2 := rfl
theorem A168_57 {l0 : Option Value} {l1 : Option Value} {x : Value} {r : List Value} : aw g 168 57 [l0, l1, some (x)] r σ Q = (vRf x = true ∧ aw g 168 58 [l0, l1, some (x)] (x :: r) σ Q) := (aw_eq g 168 57 _ _ _ _).trans (by rw [tq168_57]; exact h_load rfl)
theorem tq168_58 : tT g 168 58 = s_getf 168 61 7 4 := rfl
theorem A168_58 {L : AL} {r : List Value} {a : Nat} : aw g 168 58 L (.ref a :: r) σ Q = (hty σ a = some 7 ∧ aw g 168 61 L (hv σ 7 a 4 :: r) σ Q) := (aw_eq g 168 58 _ _ _ _).trans (by rw [tq168_58]; exact rfl)
theorem tq168_61 : tT g 168 61 = s_i2 168 62 (fun a => .double (FP.i2d a)) := rfl
theorem A168_61 {L : AL} {r : List Value} {a : Int32} : aw g 168 61 L (.int a :: r) σ Q = aw g 168 62 L (.double (FP.i2d a) :: r) σ Q := (aw_eq g 168 61 _ _ _ _).trans (by rw [tq168_61]; exact rfl)
theorem tq168_62 : tT g 168 62 = s_ddiv 168 63 := rfl
theorem A168_62 {L : AL} {r : List Value} {a b : UInt64} : aw g 168 62 L (.double b :: .double a :: r) σ Q = (vf_n64 (FP.ddiv a b) ∧ aw g 168 63 L (.double (FP.ddiv a b) :: r) σ Q) := (aw_eq g 168 62 _ _ _ _).trans (by rw [tq168_62]; exact rfl)
theorem tq168_63 : tT g 168 63 = s_ret pD := rfl
theorem A168_63 {L : AL} {v : Value} : aw g 168 63 L [v] σ Q = (pD v ∧ Q (.inl (some v)) σ) := (aw_eq g 168 63 _ _ _ _).trans (by rw [tq168_63]; exact rfl)
theorem tq169_0 : tT g 169 0 = s_load vRf 169 1 0 := rfl
theorem A169_0 {l1 : Option Value} {l2 : Option Value} {l3 : Option Value} {x : Value} {r : List Value} : aw g 169 0 [some (x), l1, l2, l3] r σ Q = (vRf x = true ∧ aw g 169 1 [some (x), l1, l2, l3] (x :: r) σ Q) := (aw_eq g 169 0 _ _ _ _).trans (by rw [tq169_0]; exact h_load rfl)
theorem tq169_1 : tT g 169 1 = s_const 169 2 (.int 0) := rfl
theorem A169_1 {L : AL} {r : List Value} : aw g 169 1 L r σ Q = aw g 169 2 L (.int 0 :: r) σ Q := (aw_eq g 169 1 _ _ _ _).trans (by rw [tq169_1]; exact rfl)
theorem tq169_2 : tT g 169 2 = s_putf g pI 169 5 3 0 := rfl
theorem A169_2 {L : AL} {r : List Value} {a : Nat} {v : Value} : aw g 169 2 L (v :: .ref a :: r) σ Q = (hty σ a = some 3 ∧ gB g ≤ a ∧ pI v ∧ aw g 169 5 L r (hput σ 3 a 0 v) Q) := (aw_eq g 169 2 _ _ _ _).trans (by rw [tq169_2]; exact rfl)
theorem tq169_5 : tT g 169 5 = s_load vRf 169 6 0 := rfl
theorem A169_5 {l1 : Option Value} {l2 : Option Value} {l3 : Option Value} {x : Value} {r : List Value} : aw g 169 5 [some (x), l1, l2, l3] r σ Q = (vRf x = true ∧ aw g 169 6 [some (x), l1, l2, l3] (x :: r) σ Q) := (aw_eq g 169 5 _ _ _ _).trans (by rw [tq169_5]; exact h_load rfl)
theorem tq169_6 : tT g 169 6 = s_load vI 169 7 1 := rfl
theorem A169_6 {l0 : Option Value} {l2 : Option Value} {l3 : Option Value} {x : Int32} {r : List Value} : aw g 169 6 [l0, some (.int x), l2, l3] r σ Q = aw g 169 7 [l0, some (.int x), l2, l3] (.int x :: r) σ Q := (aw_eq g 169 6 _ _ _ _).trans (by rw [tq169_6]; exact (h_load rfl).trans (propext ⟨fun z => z.2, fun z => ⟨rfl, z⟩⟩))
theorem tq169_7 : tT g 169 7 = s_callvk 169 10 143 3 [0] 2 := rfl
theorem A169_7 {L : AL} {r : List Value} {a : Nat} {w0 : Value} : aw g 169 7 L (w0 :: .ref a :: r) σ Q = (hty σ a = some 3 ∧ (vI w0 && true) = true ∧ csum r ≤ 8 ∧ aw g 143 0 [some (.ref a), some w0] [] σ (kt (aw g) 169 10 L r Q)) := (aw_eq g 169 7 _ _ _ _).trans (by rw [tq169_7]; exact rfl)
theorem tq169_10 : tT g 169 10 = s_if 169 13 25 (fun a => a = 0) := rfl
theorem A169_10 {L : AL} {r : List Value} {a : Int32} : aw g 169 10 L (.int a :: r) σ Q = ((a = 0 → aw g 169 25 L r σ Q) ∧ (¬ a = 0 → aw g 169 13 L r σ Q)) := (aw_eq g 169 10 _ _ _ _).trans (by rw [tq169_10]; exact rfl)
theorem tq169_13 : tT g 169 13 = s_load vI 169 14 3 := rfl
theorem A169_13 {l0 : Option Value} {l1 : Option Value} {l2 : Option Value} {x : Int32} {r : List Value} : aw g 169 13 [l0, l1, l2, some (.int x)] r σ Q = aw g 169 14 [l0, l1, l2, some (.int x)] (.int x :: r) σ Q := (aw_eq g 169 13 _ _ _ _).trans (by rw [tq169_13]; exact (h_load rfl).trans (propext ⟨fun z => z.2, fun z => ⟨rfl, z⟩⟩))
theorem tq169_14 : tT g 169 14 = s_const 169 15 (.int (-1)) := rfl
theorem A169_14 {L : AL} {r : List Value} : aw g 169 14 L r σ Q = aw g 169 15 L (.int (-1) :: r) σ Q := (aw_eq g 169 14 _ _ _ _).trans (by rw [tq169_14]; exact rfl)
theorem tq169_15 : tT g 169 15 = s_icmp 169 18 31 (fun a b => a = b) := rfl
theorem A169_15 {L : AL} {r : List Value} {a b : Int32} : aw g 169 15 L (.int b :: .int a :: r) σ Q = ((a = b → aw g 169 31 L r σ Q) ∧ (¬ a = b → aw g 169 18 L r σ Q)) := (aw_eq g 169 15 _ _ _ _).trans (by rw [tq169_15]; exact rfl)
theorem tq169_18 : tT g 169 18 = s_load vI 169 19 3 := rfl
theorem A169_18 {l0 : Option Value} {l1 : Option Value} {l2 : Option Value} {x : Int32} {r : List Value} : aw g 169 18 [l0, l1, l2, some (.int x)] r σ Q = aw g 169 19 [l0, l1, l2, some (.int x)] (.int x :: r) σ Q := (aw_eq g 169 18 _ _ _ _).trans (by rw [tq169_18]; exact (h_load rfl).trans (propext ⟨fun z => z.2, fun z => ⟨rfl, z⟩⟩))
theorem tq169_19 : tT g 169 19 = s_callk 169 22 144 [0] 1 := rfl
theorem A169_19 {L : AL} {r : List Value} {w0 : Value} : aw g 169 19 L (w0 :: r) σ Q = ((vI w0 && true) = true ∧ csum r ≤ 8 ∧ aw g 144 0 [some w0] [] σ (kt (aw g) 169 22 L r Q)) := (aw_eq g 169 19 _ _ _ _).trans (by rw [tq169_19]; exact rfl)
theorem tq169_22 : tT g 169 22 = s_if 169 31 25 (fun a => a = 0) := rfl
theorem A169_22 {L : AL} {r : List Value} {a : Int32} : aw g 169 22 L (.int a :: r) σ Q = ((a = 0 → aw g 169 25 L r σ Q) ∧ (¬ a = 0 → aw g 169 31 L r σ Q)) := (aw_eq g 169 22 _ _ _ _).trans (by rw [tq169_22]; exact rfl)
theorem tq169_25 : tT g 169 25 = s_load vRf 169 26 0 := rfl
theorem A169_25 {l1 : Option Value} {l2 : Option Value} {l3 : Option Value} {x : Value} {r : List Value} : aw g 169 25 [some (x), l1, l2, l3] r σ Q = (vRf x = true ∧ aw g 169 26 [some (x), l1, l2, l3] (x :: r) σ Q) := (aw_eq g 169 25 _ _ _ _).trans (by rw [tq169_25]; exact h_load rfl)
theorem tq169_26 : tT g 169 26 = s_const 169 27 (.int 1) := rfl
theorem A169_26 {L : AL} {r : List Value} : aw g 169 26 L r σ Q = aw g 169 27 L (.int 1 :: r) σ Q := (aw_eq g 169 26 _ _ _ _).trans (by rw [tq169_26]; exact rfl)
theorem tq169_27 : tT g 169 27 = s_callvk 169 30 141 3 [0] 2 := rfl
theorem A169_27 {L : AL} {r : List Value} {a : Nat} {w0 : Value} : aw g 169 27 L (w0 :: .ref a :: r) σ Q = (hty σ a = some 3 ∧ (vI w0 && true) = true ∧ csum r ≤ 8 ∧ aw g 141 0 [some (.ref a), some w0] [] σ (kt (aw g) 169 30 L r Q)) := (aw_eq g 169 27 _ _ _ _).trans (by rw [tq169_27]; exact rfl)
theorem tq169_30 : tT g 169 30 = s_ret pI := rfl
theorem A169_30 {L : AL} {v : Value} : aw g 169 30 L [v] σ Q = (pI v ∧ Q (.inl (some v)) σ) := (aw_eq g 169 30 _ _ _ _).trans (by rw [tq169_30]; exact rfl)
theorem tq169_31 : tT g 169 31 = s_load vI 169 32 2 := rfl
theorem A169_31 {l0 : Option Value} {l1 : Option Value} {l3 : Option Value} {x : Int32} {r : List Value} : aw g 169 31 [l0, l1, some (.int x), l3] r σ Q = aw g 169 32 [l0, l1, some (.int x), l3] (.int x :: r) σ Q := (aw_eq g 169 31 _ _ _ _).trans (by rw [tq169_31]; exact (h_load rfl).trans (propext ⟨fun z => z.2, fun z => ⟨rfl, z⟩⟩))
theorem tq169_32 : tT g 169 32 = s_const 169 33 (.int 0) := rfl
theorem A169_32 {L : AL} {r : List Value} : aw g 169 32 L r σ Q = aw g 169 33 L (.int 0 :: r) σ Q := (aw_eq g 169 32 _ _ _ _).trans (by rw [tq169_32]; exact rfl)
theorem tq169_33 : tT g 169 33 = s_const 169 36 (.int 200) := rfl
theorem A169_33 {L : AL} {r : List Value} : aw g 169 33 L r σ Q = aw g 169 36 L (.int 200 :: r) σ Q := (aw_eq g 169 33 _ _ _ _).trans (by rw [tq169_33]; exact rfl)
theorem tq169_36 : tT g 169 36 = s_callk 169 39 140 [0, 0, 0] 3 := rfl
theorem A169_36 {L : AL} {r : List Value} {w0 w1 w2 : Value} : aw g 169 36 L (w2 :: w1 :: w0 :: r) σ Q = ((vI w0 && (vI w1 && (vI w2 && true))) = true ∧ csum r ≤ 8 ∧ aw g 140 0 [some w0, some w1, some w2] [] σ (kt (aw g) 169 39 L r Q)) := (aw_eq g 169 36 _ _ _ _).trans (by rw [tq169_36]; exact rfl)
theorem tq169_39 : tT g 169 39 = s_if 169 42 64 (fun a => a = 0) := rfl
theorem A169_39 {L : AL} {r : List Value} {a : Int32} : aw g 169 39 L (.int a :: r) σ Q = ((a = 0 → aw g 169 64 L r σ Q) ∧ (¬ a = 0 → aw g 169 42 L r σ Q)) := (aw_eq g 169 39 _ _ _ _).trans (by rw [tq169_39]; exact rfl)
theorem tq169_42 : tT g 169 42 = s_load vRf 169 43 0 := rfl
theorem A169_42 {l1 : Option Value} {l2 : Option Value} {l3 : Option Value} {x : Value} {r : List Value} : aw g 169 42 [some (x), l1, l2, l3] r σ Q = (vRf x = true ∧ aw g 169 43 [some (x), l1, l2, l3] (x :: r) σ Q) := (aw_eq g 169 42 _ _ _ _).trans (by rw [tq169_42]; exact h_load rfl)
theorem tq169_43 : tT g 169 43 = s_getf 169 46 3 1 := rfl
theorem A169_43 {L : AL} {r : List Value} {a : Nat} : aw g 169 43 L (.ref a :: r) σ Q = (hty σ a = some 3 ∧ aw g 169 46 L (hv σ 3 a 1 :: r) σ Q) := (aw_eq g 169 43 _ _ _ _).trans (by rw [tq169_43]; exact rfl)
theorem tq169_46 : tT g 169 46 = s_getf 169 49 4 0 := rfl
theorem A169_46 {L : AL} {r : List Value} {a : Nat} : aw g 169 46 L (.ref a :: r) σ Q = (hty σ a = some 4 ∧ aw g 169 49 L (hv σ 4 a 0 :: r) σ Q) := (aw_eq g 169 46 _ _ _ _).trans (by rw [tq169_46]; exact rfl)
theorem tq169_49 : tT g 169 49 = s_load vI 169 50 1 := rfl
theorem A169_49 {l0 : Option Value} {l2 : Option Value} {l3 : Option Value} {x : Int32} {r : List Value} : aw g 169 49 [l0, some (.int x), l2, l3] r σ Q = aw g 169 50 [l0, some (.int x), l2, l3] (.int x :: r) σ Q := (aw_eq g 169 49 _ _ _ _).trans (by rw [tq169_49]; exact (h_load rfl).trans (propext ⟨fun z => z.2, fun z => ⟨rfl, z⟩⟩))
theorem tq169_50 : tT g 169 50 = s_callvk 169 53 25 10 [0] 2 := rfl
theorem A169_50 {L : AL} {r : List Value} {a : Nat} {w0 : Value} : aw g 169 50 L (w0 :: .ref a :: r) σ Q = (hty σ a = some 10 ∧ (vI w0 && true) = true ∧ csum r ≤ 8 ∧ aw g 25 0 [some (.ref a), some w0] [] σ (kt (aw g) 169 53 L r Q)) := (aw_eq g 169 50 _ _ _ _).trans (by rw [tq169_50]; exact rfl)
theorem tq169_53 : tT g 169 53 = s_cast 169 56 [7] := rfl
theorem A169_53 {L : AL} {r : List Value} : aw g 169 53 L (.null :: r) σ Q = aw g 169 56 L (.null :: r) σ Q := (aw_eq g 169 53 _ _ _ _).trans (by rw [tq169_53]; exact rfl)
theorem A169_53r {L : AL} {r : List Value} {a : Nat} : aw g 169 53 L (.ref a :: r) σ Q = (hty σ a = some 7 ∧ aw g 169 56 L (.ref a :: r) σ Q) := (aw_eq g 169 53 _ _ _ _).trans (by rw [tq169_53]; exact propext ⟨fun z => (by obtain ⟨⟨u, hu, hu2⟩, z2⟩ := z; rw [List.mem_singleton] at hu; subst hu; exact ⟨hu2, z2⟩), fun z => ⟨⟨_, List.mem_cons_self, z.1⟩, z.2⟩⟩)
theorem tq169_56 : tT g 169 56 = s_load vI 169 57 2 := rfl
theorem A169_56 {l0 : Option Value} {l1 : Option Value} {l3 : Option Value} {x : Int32} {r : List Value} : aw g 169 56 [l0, l1, some (.int x), l3] r σ Q = aw g 169 57 [l0, l1, some (.int x), l3] (.int x :: r) σ Q := (aw_eq g 169 56 _ _ _ _).trans (by rw [tq169_56]; exact (h_load rfl).trans (propext ⟨fun z => z.2, fun z => ⟨rfl, z⟩⟩))
theorem tq169_57 : tT g 169 57 = s_load vI 169 58 3 := rfl
theorem A169_57 {l0 : Option Value} {l1 : Option Value} {l2 : Option Value} {x : Int32} {r : List Value} : aw g 169 57 [l0, l1, l2, some (.int x)] r σ Q = aw g 169 58 [l0, l1, l2, some (.int x)] (.int x :: r) σ Q := (aw_eq g 169 57 _ _ _ _).trans (by rw [tq169_57]; exact (h_load rfl).trans (propext ⟨fun z => z.2, fun z => ⟨rfl, z⟩⟩))
theorem tq169_58 : tT g 169 58 = s_callvk 169 61 209 7 [0, 0] 10 := rfl
theorem A169_58 {L : AL} {r : List Value} {a : Nat} {w0 w1 : Value} : aw g 169 58 L (w1 :: w0 :: .ref a :: r) σ Q = (hty σ a = some 7 ∧ (vI w0 && (vI w1 && true)) = true ∧ csum r ≤ 8 ∧ aw g 209 0 [some (.ref a), some w0, some w1, none, none, none, none, none, none, none] [] σ (kt (aw g) 169 61 L r Q)) := (aw_eq g 169 58 _ _ _ _).trans (by rw [tq169_58]; exact rfl)
theorem tq169_61 : tT g 169 61 = s_goto 169 69 := rfl
theorem A169_61 {L : AL} {r : List Value} : aw g 169 61 L r σ Q = aw g 169 69 L r σ Q := (aw_eq g 169 61 _ _ _ _).trans (by rw [tq169_61]; exact rfl)
theorem tq169_64 : tT g 169 64 = s_load vRf 169 65 0 := rfl
theorem A169_64 {l1 : Option Value} {l2 : Option Value} {l3 : Option Value} {x : Value} {r : List Value} : aw g 169 64 [some (x), l1, l2, l3] r σ Q = (vRf x = true ∧ aw g 169 65 [some (x), l1, l2, l3] (x :: r) σ Q) := (aw_eq g 169 64 _ _ _ _).trans (by rw [tq169_64]; exact h_load rfl)
theorem tq169_65 : tT g 169 65 = s_const 169 66 (.int 2) := rfl
theorem A169_65 {L : AL} {r : List Value} : aw g 169 65 L r σ Q = aw g 169 66 L (.int 2 :: r) σ Q := (aw_eq g 169 65 _ _ _ _).trans (by rw [tq169_65]; exact rfl)
theorem tq169_66 : tT g 169 66 = s_callvk 169 69 141 3 [0] 2 := rfl
theorem A169_66 {L : AL} {r : List Value} {a : Nat} {w0 : Value} : aw g 169 66 L (w0 :: .ref a :: r) σ Q = (hty σ a = some 3 ∧ (vI w0 && true) = true ∧ csum r ≤ 8 ∧ aw g 141 0 [some (.ref a), some w0] [] σ (kt (aw g) 169 69 L r Q)) := (aw_eq g 169 66 _ _ _ _).trans (by rw [tq169_66]; exact rfl)
theorem tq169_69 : tT g 169 69 = s_ret pI := rfl
theorem A169_69 {L : AL} {v : Value} : aw g 169 69 L [v] σ Q = (pI v ∧ Q (.inl (some v)) σ) := (aw_eq g 169 69 _ _ _ _).trans (by rw [tq169_69]; exact rfl)
theorem tq170_0 : tT g 170 0 = s_load vRf 170 1 0 := rfl
theorem A170_0 {l1 : Option Value} {l2 : Option Value} {x : Value} {r : List Value} : aw g 170 0 [some (x), l1, l2] r σ Q = (vRf x = true ∧ aw g 170 1 [some (x), l1, l2] (x :: r) σ Q) := (aw_eq g 170 0 _ _ _ _).trans (by rw [tq170_0]; exact h_load rfl)
theorem tq170_1 : tT g 170 1 = s_const 170 2 (.int 0) := rfl
theorem A170_1 {L : AL} {r : List Value} : aw g 170 1 L r σ Q = aw g 170 2 L (.int 0 :: r) σ Q := (aw_eq g 170 1 _ _ _ _).trans (by rw [tq170_1]; exact rfl)
theorem tq170_2 : tT g 170 2 = s_putf g pI 170 5 3 0 := rfl
theorem A170_2 {L : AL} {r : List Value} {a : Nat} {v : Value} : aw g 170 2 L (v :: .ref a :: r) σ Q = (hty σ a = some 3 ∧ gB g ≤ a ∧ pI v ∧ aw g 170 5 L r (hput σ 3 a 0 v) Q) := (aw_eq g 170 2 _ _ _ _).trans (by rw [tq170_2]; exact rfl)
theorem tq170_5 : tT g 170 5 = s_load vRf 170 6 0 := rfl
theorem A170_5 {l1 : Option Value} {l2 : Option Value} {x : Value} {r : List Value} : aw g 170 5 [some (x), l1, l2] r σ Q = (vRf x = true ∧ aw g 170 6 [some (x), l1, l2] (x :: r) σ Q) := (aw_eq g 170 5 _ _ _ _).trans (by rw [tq170_5]; exact h_load rfl)
theorem tq170_6 : tT g 170 6 = s_load vI 170 7 1 := rfl
theorem A170_6 {l0 : Option Value} {l2 : Option Value} {x : Int32} {r : List Value} : aw g 170 6 [l0, some (.int x), l2] r σ Q = aw g 170 7 [l0, some (.int x), l2] (.int x :: r) σ Q := (aw_eq g 170 6 _ _ _ _).trans (by rw [tq170_6]; exact (h_load rfl).trans (propext ⟨fun z => z.2, fun z => ⟨rfl, z⟩⟩))
theorem tq170_7 : tT g 170 7 = s_callvk 170 10 143 3 [0] 2 := rfl
theorem A170_7 {L : AL} {r : List Value} {a : Nat} {w0 : Value} : aw g 170 7 L (w0 :: .ref a :: r) σ Q = (hty σ a = some 3 ∧ (vI w0 && true) = true ∧ csum r ≤ 8 ∧ aw g 143 0 [some (.ref a), some w0] [] σ (kt (aw g) 170 10 L r Q)) := (aw_eq g 170 7 _ _ _ _).trans (by rw [tq170_7]; exact rfl)
theorem tq170_10 : tT g 170 10 = s_if 170 19 13 (fun a => a = 0) := rfl
theorem A170_10 {L : AL} {r : List Value} {a : Int32} : aw g 170 10 L (.int a :: r) σ Q = ((a = 0 → aw g 170 13 L r σ Q) ∧ (¬ a = 0 → aw g 170 19 L r σ Q)) := (aw_eq g 170 10 _ _ _ _).trans (by rw [tq170_10]; exact rfl)
theorem tq170_13 : tT g 170 13 = s_load vRf 170 14 0 := rfl
theorem A170_13 {l1 : Option Value} {l2 : Option Value} {x : Value} {r : List Value} : aw g 170 13 [some (x), l1, l2] r σ Q = (vRf x = true ∧ aw g 170 14 [some (x), l1, l2] (x :: r) σ Q) := (aw_eq g 170 13 _ _ _ _).trans (by rw [tq170_13]; exact h_load rfl)
theorem tq170_14 : tT g 170 14 = s_const 170 15 (.int 1) := rfl
theorem A170_14 {L : AL} {r : List Value} : aw g 170 14 L r σ Q = aw g 170 15 L (.int 1 :: r) σ Q := (aw_eq g 170 14 _ _ _ _).trans (by rw [tq170_14]; exact rfl)
theorem tq170_15 : tT g 170 15 = s_callvk 170 18 141 3 [0] 2 := rfl
theorem A170_15 {L : AL} {r : List Value} {a : Nat} {w0 : Value} : aw g 170 15 L (w0 :: .ref a :: r) σ Q = (hty σ a = some 3 ∧ (vI w0 && true) = true ∧ csum r ≤ 8 ∧ aw g 141 0 [some (.ref a), some w0] [] σ (kt (aw g) 170 18 L r Q)) := (aw_eq g 170 15 _ _ _ _).trans (by rw [tq170_15]; exact rfl)
theorem tq170_18 : tT g 170 18 = s_ret pI := rfl
theorem A170_18 {L : AL} {v : Value} : aw g 170 18 L [v] σ Q = (pI v ∧ Q (.inl (some v)) σ) := (aw_eq g 170 18 _ _ _ _).trans (by rw [tq170_18]; exact rfl)
theorem tq170_19 : tT g 170 19 = s_load vI 170 20 2 := rfl
theorem A170_19 {l0 : Option Value} {l1 : Option Value} {x : Int32} {r : List Value} : aw g 170 19 [l0, l1, some (.int x)] r σ Q = aw g 170 20 [l0, l1, some (.int x)] (.int x :: r) σ Q := (aw_eq g 170 19 _ _ _ _).trans (by rw [tq170_19]; exact (h_load rfl).trans (propext ⟨fun z => z.2, fun z => ⟨rfl, z⟩⟩))
theorem tq170_20 : tT g 170 20 = s_callk 170 23 155 [0] 1 := rfl
theorem A170_20 {L : AL} {r : List Value} {w0 : Value} : aw g 170 20 L (w0 :: r) σ Q = ((vI w0 && true) = true ∧ csum r ≤ 8 ∧ aw g 155 0 [some w0] [] σ (kt (aw g) 170 23 L r Q)) := (aw_eq g 170 20 _ _ _ _).trans (by rw [tq170_20]; exact rfl)
theorem tq170_23 : tT g 170 23 = s_if 170 26 35 (fun a => a = 0) := rfl
theorem A170_23 {L : AL} {r : List Value} {a : Int32} : aw g 170 23 L (.int a :: r) σ Q = ((a = 0 → aw g 170 35 L r σ Q) ∧ (¬ a = 0 → aw g 170 26 L r σ Q)) := (aw_eq g 170 23 _ _ _ _).trans (by rw [tq170_23]; exact rfl)
theorem tq170_26 : tT g 170 26 = s_load vRf 170 27 0 := rfl
theorem A170_26 {l1 : Option Value} {l2 : Option Value} {x : Value} {r : List Value} : aw g 170 26 [some (x), l1, l2] r σ Q = (vRf x = true ∧ aw g 170 27 [some (x), l1, l2] (x :: r) σ Q) := (aw_eq g 170 26 _ _ _ _).trans (by rw [tq170_26]; exact h_load rfl)
theorem tq170_27 : tT g 170 27 = s_load vI 170 28 1 := rfl
theorem A170_27 {l0 : Option Value} {l2 : Option Value} {x : Int32} {r : List Value} : aw g 170 27 [l0, some (.int x), l2] r σ Q = aw g 170 28 [l0, some (.int x), l2] (.int x :: r) σ Q := (aw_eq g 170 27 _ _ _ _).trans (by rw [tq170_27]; exact (h_load rfl).trans (propext ⟨fun z => z.2, fun z => ⟨rfl, z⟩⟩))
theorem tq170_28 : tT g 170 28 = s_load vI 170 29 2 := rfl
theorem A170_28 {l0 : Option Value} {l1 : Option Value} {x : Int32} {r : List Value} : aw g 170 28 [l0, l1, some (.int x)] r σ Q = aw g 170 29 [l0, l1, some (.int x)] (.int x :: r) σ Q := (aw_eq g 170 28 _ _ _ _).trans (by rw [tq170_28]; exact (h_load rfl).trans (propext ⟨fun z => z.2, fun z => ⟨rfl, z⟩⟩))
theorem tq170_29 : tT g 170 29 = s_callvk 170 32 171 3 [0, 0] 5 := rfl
theorem A170_29 {L : AL} {r : List Value} {a : Nat} {w0 w1 : Value} : aw g 170 29 L (w1 :: w0 :: .ref a :: r) σ Q = (hty σ a = some 3 ∧ (vI w0 && (vI w1 && true)) = true ∧ csum r ≤ 8 ∧ aw g 171 0 [some (.ref a), some w0, some w1, none, none] [] σ (kt (aw g) 170 32 L r Q)) := (aw_eq g 170 29 _ _ _ _).trans (by rw [tq170_29]; exact rfl)
theorem tq170_32 : tT g 170 32 = s_goto 170 40 := rfl
theorem A170_32 {L : AL} {r : List Value} : aw g 170 32 L r σ Q = aw g 170 40 L r σ Q := (aw_eq g 170 32 _ _ _ _).trans (by rw [tq170_32]; exact rfl)
theorem tq170_35 : tT g 170 35 = s_load vRf 170 36 0 := rfl
theorem A170_35 {l1 : Option Value} {l2 : Option Value} {x : Value} {r : List Value} : aw g 170 35 [some (x), l1, l2] r σ Q = (vRf x = true ∧ aw g 170 36 [some (x), l1, l2] (x :: r) σ Q) := (aw_eq g 170 35 _ _ _ _).trans (by rw [tq170_35]; exact h_load rfl)
theorem tq170_36 : tT g 170 36 = s_const 170 37 (.int 2) := rfl
theorem A170_36 {L : AL} {r : List Value} : aw g 170 36 L r σ Q = aw g 170 37 L (.int 2 :: r) σ Q := (aw_eq g 170 36 _ _ _ _).trans (by rw [tq170_36]; exact rfl)
theorem tq170_37 : tT g 170 37 = s_callvk 170 40 141 3 [0] 2 := rfl
theorem A170_37 {L : AL} {r : List Value} {a : Nat} {w0 : Value} : aw g 170 37 L (w0 :: .ref a :: r) σ Q = (hty σ a = some 3 ∧ (vI w0 && true) = true ∧ csum r ≤ 8 ∧ aw g 141 0 [some (.ref a), some w0] [] σ (kt (aw g) 170 40 L r Q)) := (aw_eq g 170 37 _ _ _ _).trans (by rw [tq170_37]; exact rfl)
theorem tq170_40 : tT g 170 40 = s_ret pI := rfl
theorem A170_40 {L : AL} {v : Value} : aw g 170 40 L [v] σ Q = (pI v ∧ Q (.inl (some v)) σ) := (aw_eq g 170 40 _ _ _ _).trans (by rw [tq170_40]; exact rfl)
theorem tq171_0 : tT g 171 0 = s_load vRf 171 1 0 := rfl
theorem A171_0 {l1 : Option Value} {l2 : Option Value} {l3 : Option Value} {l4 : Option Value} {x : Value} {r : List Value} : aw g 171 0 [some (x), l1, l2, l3, l4] r σ Q = (vRf x = true ∧ aw g 171 1 [some (x), l1, l2, l3, l4] (x :: r) σ Q) := (aw_eq g 171 0 _ _ _ _).trans (by rw [tq171_0]; exact h_load rfl)
theorem tq171_1 : tT g 171 1 = s_getf 171 4 3 1 := rfl
theorem A171_1 {L : AL} {r : List Value} {a : Nat} : aw g 171 1 L (.ref a :: r) σ Q = (hty σ a = some 3 ∧ aw g 171 4 L (hv σ 3 a 1 :: r) σ Q) := (aw_eq g 171 1 _ _ _ _).trans (by rw [tq171_1]; exact rfl)
theorem tq171_4 : tT g 171 4 = s_callvk 171 7 192 4 [] 4 := rfl
theorem A171_4 {L : AL} {r : List Value} {a : Nat} : aw g 171 4 L (.ref a :: r) σ Q = (hty σ a = some 4 ∧ true = true ∧ csum r ≤ 8 ∧ aw g 192 0 [some (.ref a), none, none, none] [] σ (kt (aw g) 171 7 L r Q)) := (aw_eq g 171 4 _ _ _ _).trans (by rw [tq171_4]; exact rfl)
theorem tq171_7 : tT g 171 7 = s_store vRf 171 8 3 := rfl
theorem A171_7 {l0 : Option Value} {l1 : Option Value} {l2 : Option Value} {l3 : Option Value} {l4 : Option Value} {x : Value} {r : List Value} : aw g 171 7 [l0, l1, l2, l3, l4] (x :: r) σ Q = (vRf x = true ∧ oc l2 = true ∧ aw g 171 8 [l0, l1, l2, some (x), l4] r σ Q) := (aw_eq g 171 7 _ _ _ _).trans (by rw [tq171_7]; exact (h_store (o := oc l2) rfl rfl rfl))
theorem tq171_8 : tT g 171 8 = s_const 171 9 (.int 0) := rfl
theorem A171_8 {L : AL} {r : List Value} : aw g 171 8 L r σ Q = aw g 171 9 L (.int 0 :: r) σ Q := (aw_eq g 171 8 _ _ _ _).trans (by rw [tq171_8]; exact rfl)
theorem tq171_9 : tT g 171 9 = s_store vI 171 11 4 := rfl
theorem A171_9 {l0 : Option Value} {l1 : Option Value} {l2 : Option Value} {l3 : Option Value} {l4 : Option Value} {x : Int32} {r : List Value} : aw g 171 9 [l0, l1, l2, l3, l4] (.int x :: r) σ Q = (oc l3 = true ∧ aw g 171 11 [l0, l1, l2, l3, some (.int x)] r σ Q) := (aw_eq g 171 9 _ _ _ _).trans (by rw [tq171_9]; exact (h_store (o := oc l3) rfl rfl rfl).trans (propext ⟨fun z => z.2, fun z => ⟨rfl, z⟩⟩))
theorem tq171_11 : tT g 171 11 = s_load vI 171 13 4 := rfl
theorem A171_11 {l0 : Option Value} {l1 : Option Value} {l2 : Option Value} {l3 : Option Value} {x : Int32} {r : List Value} : aw g 171 11 [l0, l1, l2, l3, some (.int x)] r σ Q = aw g 171 13 [l0, l1, l2, l3, some (.int x)] (.int x :: r) σ Q := (aw_eq g 171 11 _ _ _ _).trans (by rw [tq171_11]; exact (h_load rfl).trans (propext ⟨fun z => z.2, fun z => ⟨rfl, z⟩⟩))
theorem tq171_13 : tT g 171 13 = s_load vI 171 14 2 := rfl
theorem A171_13 {l0 : Option Value} {l1 : Option Value} {l3 : Option Value} {l4 : Option Value} {x : Int32} {r : List Value} : aw g 171 13 [l0, l1, some (.int x), l3, l4] r σ Q = aw g 171 14 [l0, l1, some (.int x), l3, l4] (.int x :: r) σ Q := (aw_eq g 171 13 _ _ _ _).trans (by rw [tq171_13]; exact (h_load rfl).trans (propext ⟨fun z => z.2, fun z => ⟨rfl, z⟩⟩))
theorem tq171_14 : tT g 171 14 = s_icmp 171 17 27 (fun a b => b ≤ a) := rfl
theorem A171_14 {L : AL} {r : List Value} {a b : Int32} : aw g 171 14 L (.int b :: .int a :: r) σ Q = ((b ≤ a → aw g 171 27 L r σ Q) ∧ (¬ b ≤ a → aw g 171 17 L r σ Q)) := (aw_eq g 171 14 _ _ _ _).trans (by rw [tq171_14]; exact rfl)
theorem tq171_17 : tT g 171 17 = s_load vRf 171 18 3 := rfl
theorem A171_17 {l0 : Option Value} {l1 : Option Value} {l2 : Option Value} {l4 : Option Value} {x : Value} {r : List Value} : aw g 171 17 [l0, l1, l2, some (x), l4] r σ Q = (vRf x = true ∧ aw g 171 18 [l0, l1, l2, some (x), l4] (x :: r) σ Q) := (aw_eq g 171 17 _ _ _ _).trans (by rw [tq171_17]; exact h_load rfl)
theorem tq171_18 : tT g 171 18 = s_callvk 171 21 183 4 [] 3 := rfl
theorem A171_18 {L : AL} {r : List Value} {a : Nat} : aw g 171 18 L (.ref a :: r) σ Q = (hty σ a = some 4 ∧ true = true ∧ csum r ≤ 8 ∧ aw g 183 0 [some (.ref a), none, none] [] σ (kt (aw g) 171 21 L r Q)) := (aw_eq g 171 18 _ _ _ _).trans (by rw [tq171_18]; exact rfl)
theorem tq171_21 : tT g 171 21 = s_iinc 171 24 4 1 := rfl
theorem A171_21 {l0 : Option Value} {l1 : Option Value} {l2 : Option Value} {l3 : Option Value} {x : Int32} {r : List Value} : aw g 171 21 [l0, l1, l2, l3, some (.int x)] r σ Q = (oc l3 = true ∧ aw g 171 24 [l0, l1, l2, l3, some (.int (x + 1))] r σ Q) := (aw_eq g 171 21 _ _ _ _).trans (by rw [tq171_21]; exact (h_iinc (o := oc l3) rfl rfl rfl))
theorem tq171_24 : tT g 171 24 = s_goto 171 11 := rfl
theorem A171_24 {L : AL} {r : List Value} : aw g 171 24 L r σ Q = aw g 171 11 L r σ Q := (aw_eq g 171 24 _ _ _ _).trans (by rw [tq171_24]; exact rfl)
theorem tq171_27 : tT g 171 27 = s_load vRf 171 28 3 := rfl
theorem A171_27 {l0 : Option Value} {l1 : Option Value} {l2 : Option Value} {l4 : Option Value} {x : Value} {r : List Value} : aw g 171 27 [l0, l1, l2, some (x), l4] r σ Q = (vRf x = true ∧ aw g 171 28 [l0, l1, l2, some (x), l4] (x :: r) σ Q) := (aw_eq g 171 27 _ _ _ _).trans (by rw [tq171_27]; exact h_load rfl)
theorem tq171_28 : tT g 171 28 = s_getf 171 31 4 0 := rfl
theorem A171_28 {L : AL} {r : List Value} {a : Nat} : aw g 171 28 L (.ref a :: r) σ Q = (hty σ a = some 4 ∧ aw g 171 31 L (hv σ 4 a 0 :: r) σ Q) := (aw_eq g 171 28 _ _ _ _).trans (by rw [tq171_28]; exact rfl)
theorem tq171_31 : tT g 171 31 = s_load vI 171 32 1 := rfl
theorem A171_31 {l0 : Option Value} {l2 : Option Value} {l3 : Option Value} {l4 : Option Value} {x : Int32} {r : List Value} : aw g 171 31 [l0, some (.int x), l2, l3, l4] r σ Q = aw g 171 32 [l0, some (.int x), l2, l3, l4] (.int x :: r) σ Q := (aw_eq g 171 31 _ _ _ _).trans (by rw [tq171_31]; exact (h_load rfl).trans (propext ⟨fun z => z.2, fun z => ⟨rfl, z⟩⟩))
theorem tq171_32 : tT g 171 32 = s_callvk 171 35 25 10 [0] 2 := rfl
theorem A171_32 {L : AL} {r : List Value} {a : Nat} {w0 : Value} : aw g 171 32 L (w0 :: .ref a :: r) σ Q = (hty σ a = some 10 ∧ (vI w0 && true) = true ∧ csum r ≤ 8 ∧ aw g 25 0 [some (.ref a), some w0] [] σ (kt (aw g) 171 35 L r Q)) := (aw_eq g 171 32 _ _ _ _).trans (by rw [tq171_32]; exact rfl)
theorem tq171_35 : tT g 171 35 = s_cast 171 38 [7] := rfl
theorem A171_35 {L : AL} {r : List Value} : aw g 171 35 L (.null :: r) σ Q = aw g 171 38 L (.null :: r) σ Q := (aw_eq g 171 35 _ _ _ _).trans (by rw [tq171_35]; exact rfl)
theorem A171_35r {L : AL} {r : List Value} {a : Nat} : aw g 171 35 L (.ref a :: r) σ Q = (hty σ a = some 7 ∧ aw g 171 38 L (.ref a :: r) σ Q) := (aw_eq g 171 35 _ _ _ _).trans (by rw [tq171_35]; exact propext ⟨fun z => (by obtain ⟨⟨u, hu, hu2⟩, z2⟩ := z; rw [List.mem_singleton] at hu; subst hu; exact ⟨hu2, z2⟩), fun z => ⟨⟨_, List.mem_cons_self, z.1⟩, z.2⟩⟩)
theorem tq171_38 : tT g 171 38 = s_getf 171 41 7 10 := rfl
theorem A171_38 {L : AL} {r : List Value} {a : Nat} : aw g 171 38 L (.ref a :: r) σ Q = (hty σ a = some 7 ∧ aw g 171 41 L (hv σ 7 a 10 :: r) σ Q) := (aw_eq g 171 38 _ _ _ _).trans (by rw [tq171_38]; exact rfl)
theorem tq171_41 : tT g 171 41 = s_load vRf 171 42 0 := rfl
theorem A171_41 {l1 : Option Value} {l2 : Option Value} {l3 : Option Value} {l4 : Option Value} {x : Value} {r : List Value} : aw g 171 41 [some (x), l1, l2, l3, l4] r σ Q = (vRf x = true ∧ aw g 171 42 [some (x), l1, l2, l3, l4] (x :: r) σ Q) := (aw_eq g 171 41 _ _ _ _).trans (by rw [tq171_41]; exact h_load rfl)
theorem tq171_42 : tT g 171 42 = s_getf 171 45 3 1 := rfl
theorem A171_42 {L : AL} {r : List Value} {a : Nat} : aw g 171 42 L (.ref a :: r) σ Q = (hty σ a = some 3 ∧ aw g 171 45 L (hv σ 3 a 1 :: r) σ Q) := (aw_eq g 171 42 _ _ _ _).trans (by rw [tq171_42]; exact rfl)
theorem tq171_45 : tT g 171 45 = s_getf 171 48 4 0 := rfl
theorem A171_45 {L : AL} {r : List Value} {a : Nat} : aw g 171 45 L (.ref a :: r) σ Q = (hty σ a = some 4 ∧ aw g 171 48 L (hv σ 4 a 0 :: r) σ Q) := (aw_eq g 171 45 _ _ _ _).trans (by rw [tq171_45]; exact rfl)
theorem tq171_48 : tT g 171 48 = s_load vI 171 49 1 := rfl
theorem A171_48 {l0 : Option Value} {l2 : Option Value} {l3 : Option Value} {l4 : Option Value} {x : Int32} {r : List Value} : aw g 171 48 [l0, some (.int x), l2, l3, l4] r σ Q = aw g 171 49 [l0, some (.int x), l2, l3, l4] (.int x :: r) σ Q := (aw_eq g 171 48 _ _ _ _).trans (by rw [tq171_48]; exact (h_load rfl).trans (propext ⟨fun z => z.2, fun z => ⟨rfl, z⟩⟩))
theorem tq171_49 : tT g 171 49 = s_callvk 171 52 25 10 [0] 2 := rfl
theorem A171_49 {L : AL} {r : List Value} {a : Nat} {w0 : Value} : aw g 171 49 L (w0 :: .ref a :: r) σ Q = (hty σ a = some 10 ∧ (vI w0 && true) = true ∧ csum r ≤ 8 ∧ aw g 25 0 [some (.ref a), some w0] [] σ (kt (aw g) 171 52 L r Q)) := (aw_eq g 171 49 _ _ _ _).trans (by rw [tq171_49]; exact rfl)
theorem tq171_52 : tT g 171 52 = s_cast 171 55 [7] := rfl
theorem A171_52 {L : AL} {r : List Value} : aw g 171 52 L (.null :: r) σ Q = aw g 171 55 L (.null :: r) σ Q := (aw_eq g 171 52 _ _ _ _).trans (by rw [tq171_52]; exact rfl)
theorem A171_52r {L : AL} {r : List Value} {a : Nat} : aw g 171 52 L (.ref a :: r) σ Q = (hty σ a = some 7 ∧ aw g 171 55 L (.ref a :: r) σ Q) := (aw_eq g 171 52 _ _ _ _).trans (by rw [tq171_52]; exact propext ⟨fun z => (by obtain ⟨⟨u, hu, hu2⟩, z2⟩ := z; rw [List.mem_singleton] at hu; subst hu; exact ⟨hu2, z2⟩), fun z => ⟨⟨_, List.mem_cons_self, z.1⟩, z.2⟩⟩)
theorem tq171_55 : tT g 171 55 = s_getf 171 58 7 10 := rfl
theorem A171_55 {L : AL} {r : List Value} {a : Nat} : aw g 171 55 L (.ref a :: r) σ Q = (hty σ a = some 7 ∧ aw g 171 58 L (hv σ 7 a 10 :: r) σ Q) := (aw_eq g 171 55 _ _ _ _).trans (by rw [tq171_55]; exact rfl)
theorem tq171_58 : tT g 171 58 = s_bin 171 59 (fun a b => a - b) := rfl
theorem A171_58 {L : AL} {r : List Value} {a b : Int32} : aw g 171 58 L (.int b :: .int a :: r) σ Q = aw g 171 59 L (.int (a - b) :: r) σ Q := (aw_eq g 171 58 _ _ _ _).trans (by rw [tq171_58]; exact rfl)
theorem tq171_59 : tT g 171 59 = s_ret pI := rfl
theorem A171_59 {L : AL} {v : Value} : aw g 171 59 L [v] σ Q = (pI v ∧ Q (.inl (some v)) σ) := (aw_eq g 171 59 _ _ _ _).trans (by rw [tq171_59]; exact rfl)
theorem tq172_0 : tT g 172 0 = s_load vRf 172 1 0 := rfl
theorem A172_0 {l1 : Option Value} {l2 : Option Value} {x : Value} {r : List Value} : aw g 172 0 [some (x), l1, l2] r σ Q = (vRf x = true ∧ aw g 172 1 [some (x), l1, l2] (x :: r) σ Q) := (aw_eq g 172 0 _ _ _ _).trans (by rw [tq172_0]; exact h_load rfl)
theorem tq172_1 : tT g 172 1 = s_const 172 2 (.int 0) := rfl
theorem A172_1 {L : AL} {r : List Value} : aw g 172 1 L r σ Q = aw g 172 2 L (.int 0 :: r) σ Q := (aw_eq g 172 1 _ _ _ _).trans (by rw [tq172_1]; exact rfl)
theorem tq172_2 : tT g 172 2 = s_putf g pI 172 5 3 0 := rfl
theorem A172_2 {L : AL} {r : List Value} {a : Nat} {v : Value} : aw g 172 2 L (v :: .ref a :: r) σ Q = (hty σ a = some 3 ∧ gB g ≤ a ∧ pI v ∧ aw g 172 5 L r (hput σ 3 a 0 v) Q) := (aw_eq g 172 2 _ _ _ _).trans (by rw [tq172_2]; exact rfl)
theorem tq172_5 : tT g 172 5 = s_load vRf 172 6 0 := rfl
theorem A172_5 {l1 : Option Value} {l2 : Option Value} {x : Value} {r : List Value} : aw g 172 5 [some (x), l1, l2] r σ Q = (vRf x = true ∧ aw g 172 6 [some (x), l1, l2] (x :: r) σ Q) := (aw_eq g 172 5 _ _ _ _).trans (by rw [tq172_5]; exact h_load rfl)
theorem tq172_6 : tT g 172 6 = s_load vI 172 7 1 := rfl
theorem A172_6 {l0 : Option Value} {l2 : Option Value} {x : Int32} {r : List Value} : aw g 172 6 [l0, some (.int x), l2] r σ Q = aw g 172 7 [l0, some (.int x), l2] (.int x :: r) σ Q := (aw_eq g 172 6 _ _ _ _).trans (by rw [tq172_6]; exact (h_load rfl).trans (propext ⟨fun z => z.2, fun z => ⟨rfl, z⟩⟩))
theorem tq172_7 : tT g 172 7 = s_callvk 172 10 143 3 [0] 2 := rfl
theorem A172_7 {L : AL} {r : List Value} {a : Nat} {w0 : Value} : aw g 172 7 L (w0 :: .ref a :: r) σ Q = (hty σ a = some 3 ∧ (vI w0 && true) = true ∧ csum r ≤ 8 ∧ aw g 143 0 [some (.ref a), some w0] [] σ (kt (aw g) 172 10 L r Q)) := (aw_eq g 172 7 _ _ _ _).trans (by rw [tq172_7]; exact rfl)
theorem tq172_10 : tT g 172 10 = s_if 172 19 13 (fun a => a = 0) := rfl
theorem A172_10 {L : AL} {r : List Value} {a : Int32} : aw g 172 10 L (.int a :: r) σ Q = ((a = 0 → aw g 172 13 L r σ Q) ∧ (¬ a = 0 → aw g 172 19 L r σ Q)) := (aw_eq g 172 10 _ _ _ _).trans (by rw [tq172_10]; exact rfl)
theorem tq172_13 : tT g 172 13 = s_load vRf 172 14 0 := rfl
theorem A172_13 {l1 : Option Value} {l2 : Option Value} {x : Value} {r : List Value} : aw g 172 13 [some (x), l1, l2] r σ Q = (vRf x = true ∧ aw g 172 14 [some (x), l1, l2] (x :: r) σ Q) := (aw_eq g 172 13 _ _ _ _).trans (by rw [tq172_13]; exact h_load rfl)
theorem tq172_14 : tT g 172 14 = s_const 172 15 (.int 1) := rfl
theorem A172_14 {L : AL} {r : List Value} : aw g 172 14 L r σ Q = aw g 172 15 L (.int 1 :: r) σ Q := (aw_eq g 172 14 _ _ _ _).trans (by rw [tq172_14]; exact rfl)
theorem tq172_15 : tT g 172 15 = s_callvk 172 18 141 3 [0] 2 := rfl
theorem A172_15 {L : AL} {r : List Value} {a : Nat} {w0 : Value} : aw g 172 15 L (w0 :: .ref a :: r) σ Q = (hty σ a = some 3 ∧ (vI w0 && true) = true ∧ csum r ≤ 8 ∧ aw g 141 0 [some (.ref a), some w0] [] σ (kt (aw g) 172 18 L r Q)) := (aw_eq g 172 15 _ _ _ _).trans (by rw [tq172_15]; exact rfl)
theorem tq172_18 : tT g 172 18 = s_ret pI := rfl
theorem A172_18 {L : AL} {v : Value} : aw g 172 18 L [v] σ Q = (pI v ∧ Q (.inl (some v)) σ) := (aw_eq g 172 18 _ _ _ _).trans (by rw [tq172_18]; exact rfl)
theorem tq172_19 : tT g 172 19 = s_load vI 172 20 2 := rfl
theorem A172_19 {l0 : Option Value} {l1 : Option Value} {x : Int32} {r : List Value} : aw g 172 19 [l0, l1, some (.int x)] r σ Q = aw g 172 20 [l0, l1, some (.int x)] (.int x :: r) σ Q := (aw_eq g 172 19 _ _ _ _).trans (by rw [tq172_19]; exact (h_load rfl).trans (propext ⟨fun z => z.2, fun z => ⟨rfl, z⟩⟩))
theorem tq172_20 : tT g 172 20 = s_callk 172 23 151 [0] 1 := rfl
theorem A172_20 {L : AL} {r : List Value} {w0 : Value} : aw g 172 20 L (w0 :: r) σ Q = ((vI w0 && true) = true ∧ csum r ≤ 8 ∧ aw g 151 0 [some w0] [] σ (kt (aw g) 172 23 L r Q)) := (aw_eq g 172 20 _ _ _ _).trans (by rw [tq172_20]; exact rfl)
theorem tq172_23 : tT g 172 23 = s_if 172 32 26 (fun a => a = 0) := rfl
theorem A172_23 {L : AL} {r : List Value} {a : Int32} : aw g 172 23 L (.int a :: r) σ Q = ((a = 0 → aw g 172 26 L r σ Q) ∧ (¬ a = 0 → aw g 172 32 L r σ Q)) := (aw_eq g 172 23 _ _ _ _).trans (by rw [tq172_23]; exact rfl)
theorem tq172_26 : tT g 172 26 = s_load vRf 172 27 0 := rfl
theorem A172_26 {l1 : Option Value} {l2 : Option Value} {x : Value} {r : List Value} : aw g 172 26 [some (x), l1, l2] r σ Q = (vRf x = true ∧ aw g 172 27 [some (x), l1, l2] (x :: r) σ Q) := (aw_eq g 172 26 _ _ _ _).trans (by rw [tq172_26]; exact h_load rfl)
theorem tq172_27 : tT g 172 27 = s_const 172 28 (.int 2) := rfl
theorem A172_27 {L : AL} {r : List Value} : aw g 172 27 L r σ Q = aw g 172 28 L (.int 2 :: r) σ Q := (aw_eq g 172 27 _ _ _ _).trans (by rw [tq172_27]; exact rfl)
theorem tq172_28 : tT g 172 28 = s_callvk 172 31 141 3 [0] 2 := rfl
theorem A172_28 {L : AL} {r : List Value} {a : Nat} {w0 : Value} : aw g 172 28 L (w0 :: .ref a :: r) σ Q = (hty σ a = some 3 ∧ (vI w0 && true) = true ∧ csum r ≤ 8 ∧ aw g 141 0 [some (.ref a), some w0] [] σ (kt (aw g) 172 31 L r Q)) := (aw_eq g 172 28 _ _ _ _).trans (by rw [tq172_28]; exact rfl)
theorem tq172_31 : tT g 172 31 = s_ret pI := rfl
theorem A172_31 {L : AL} {v : Value} : aw g 172 31 L [v] σ Q = (pI v ∧ Q (.inl (some v)) σ) := (aw_eq g 172 31 _ _ _ _).trans (by rw [tq172_31]; exact rfl)
theorem tq172_32 : tT g 172 32 = s_load vRf 172 33 0 := rfl
theorem A172_32 {l1 : Option Value} {l2 : Option Value} {x : Value} {r : List Value} : aw g 172 32 [some (x), l1, l2] r σ Q = (vRf x = true ∧ aw g 172 33 [some (x), l1, l2] (x :: r) σ Q) := (aw_eq g 172 32 _ _ _ _).trans (by rw [tq172_32]; exact h_load rfl)
theorem tq172_33 : tT g 172 33 = s_load vI 172 34 1 := rfl
theorem A172_33 {l0 : Option Value} {l2 : Option Value} {x : Int32} {r : List Value} : aw g 172 33 [l0, some (.int x), l2] r σ Q = aw g 172 34 [l0, some (.int x), l2] (.int x :: r) σ Q := (aw_eq g 172 33 _ _ _ _).trans (by rw [tq172_33]; exact (h_load rfl).trans (propext ⟨fun z => z.2, fun z => ⟨rfl, z⟩⟩))
theorem tq172_34 : tT g 172 34 = s_callvk 172 37 152 3 [0] 2 := rfl
theorem A172_34 {L : AL} {r : List Value} {a : Nat} {w0 : Value} : aw g 172 34 L (w0 :: .ref a :: r) σ Q = (hty σ a = some 3 ∧ (vI w0 && true) = true ∧ csum r ≤ 8 ∧ aw g 152 0 [some (.ref a), some w0] [] σ (kt (aw g) 172 37 L r Q)) := (aw_eq g 172 34 _ _ _ _).trans (by rw [tq172_34]; exact rfl)
theorem tq172_37 : tT g 172 37 = s_if 172 40 49 (fun a => a = 0) := rfl
theorem A172_37 {L : AL} {r : List Value} {a : Int32} : aw g 172 37 L (.int a :: r) σ Q = ((a = 0 → aw g 172 49 L r σ Q) ∧ (¬ a = 0 → aw g 172 40 L r σ Q)) := (aw_eq g 172 37 _ _ _ _).trans (by rw [tq172_37]; exact rfl)
theorem tq172_40 : tT g 172 40 = s_load vRf 172 41 0 := rfl
theorem A172_40 {l1 : Option Value} {l2 : Option Value} {x : Value} {r : List Value} : aw g 172 40 [some (x), l1, l2] r σ Q = (vRf x = true ∧ aw g 172 41 [some (x), l1, l2] (x :: r) σ Q) := (aw_eq g 172 40 _ _ _ _).trans (by rw [tq172_40]; exact h_load rfl)
theorem tq172_41 : tT g 172 41 = s_load vI 172 42 1 := rfl
theorem A172_41 {l0 : Option Value} {l2 : Option Value} {x : Int32} {r : List Value} : aw g 172 41 [l0, some (.int x), l2] r σ Q = aw g 172 42 [l0, some (.int x), l2] (.int x :: r) σ Q := (aw_eq g 172 41 _ _ _ _).trans (by rw [tq172_41]; exact (h_load rfl).trans (propext ⟨fun z => z.2, fun z => ⟨rfl, z⟩⟩))
theorem tq172_42 : tT g 172 42 = s_load vI 172 43 2 := rfl
theorem A172_42 {l0 : Option Value} {l1 : Option Value} {x : Int32} {r : List Value} : aw g 172 42 [l0, l1, some (.int x)] r σ Q = aw g 172 43 [l0, l1, some (.int x)] (.int x :: r) σ Q := (aw_eq g 172 42 _ _ _ _).trans (by rw [tq172_42]; exact (h_load rfl).trans (propext ⟨fun z => z.2, fun z => ⟨rfl, z⟩⟩))
theorem tq172_43 : tT g 172 43 = s_callvk 172 46 173 3 [0, 0] 5 := rfl
theorem A172_43 {L : AL} {r : List Value} {a : Nat} {w0 w1 : Value} : aw g 172 43 L (w1 :: w0 :: .ref a :: r) σ Q = (hty σ a = some 3 ∧ (vI w0 && (vI w1 && true)) = true ∧ csum r ≤ 8 ∧ aw g 173 0 [some (.ref a), some w0, some w1, none, none] [] σ (kt (aw g) 172 46 L r Q)) := (aw_eq g 172 43 _ _ _ _).trans (by rw [tq172_43]; exact rfl)
theorem tq172_46 : tT g 172 46 = s_goto 172 54 := rfl
theorem A172_46 {L : AL} {r : List Value} : aw g 172 46 L r σ Q = aw g 172 54 L r σ Q := (aw_eq g 172 46 _ _ _ _).trans (by rw [tq172_46]; exact rfl)
theorem tq172_49 : tT g 172 49 = s_load vRf 172 50 0 := rfl
theorem A172_49 {l1 : Option Value} {l2 : Option Value} {x : Value} {r : List Value} : aw g 172 49 [some (x), l1, l2] r σ Q = (vRf x = true ∧ aw g 172 50 [some (x), l1, l2] (x :: r) σ Q) := (aw_eq g 172 49 _ _ _ _).trans (by rw [tq172_49]; exact h_load rfl)
theorem tq172_50 : tT g 172 50 = s_const 172 51 (.int 3) := rfl
theorem A172_50 {L : AL} {r : List Value} : aw g 172 50 L r σ Q = aw g 172 51 L (.int 3 :: r) σ Q := (aw_eq g 172 50 _ _ _ _).trans (by rw [tq172_50]; exact rfl)
theorem tq172_51 : tT g 172 51 = s_callvk 172 54 141 3 [0] 2 := rfl
theorem A172_51 {L : AL} {r : List Value} {a : Nat} {w0 : Value} : aw g 172 51 L (w0 :: .ref a :: r) σ Q = (hty σ a = some 3 ∧ (vI w0 && true) = true ∧ csum r ≤ 8 ∧ aw g 141 0 [some (.ref a), some w0] [] σ (kt (aw g) 172 54 L r Q)) := (aw_eq g 172 51 _ _ _ _).trans (by rw [tq172_51]; exact rfl)
theorem tq172_54 : tT g 172 54 = s_ret pI := rfl
theorem A172_54 {L : AL} {v : Value} : aw g 172 54 L [v] σ Q = (pI v ∧ Q (.inl (some v)) σ) := (aw_eq g 172 54 _ _ _ _).trans (by rw [tq172_54]; exact rfl)
theorem tq173_0 : tT g 173 0 = s_load vRf 173 1 0 := rfl
theorem A173_0 {l1 : Option Value} {l2 : Option Value} {l3 : Option Value} {l4 : Option Value} {x : Value} {r : List Value} : aw g 173 0 [some (x), l1, l2, l3, l4] r σ Q = (vRf x = true ∧ aw g 173 1 [some (x), l1, l2, l3, l4] (x :: r) σ Q) := (aw_eq g 173 0 _ _ _ _).trans (by rw [tq173_0]; exact h_load rfl)
theorem tq173_1 : tT g 173 1 = s_getf 173 4 3 1 := rfl
theorem A173_1 {L : AL} {r : List Value} {a : Nat} : aw g 173 1 L (.ref a :: r) σ Q = (hty σ a = some 3 ∧ aw g 173 4 L (hv σ 3 a 1 :: r) σ Q) := (aw_eq g 173 1 _ _ _ _).trans (by rw [tq173_1]; exact rfl)
theorem tq173_4 : tT g 173 4 = s_callvk 173 7 192 4 [] 4 := rfl
theorem A173_4 {L : AL} {r : List Value} {a : Nat} : aw g 173 4 L (.ref a :: r) σ Q = (hty σ a = some 4 ∧ true = true ∧ csum r ≤ 8 ∧ aw g 192 0 [some (.ref a), none, none, none] [] σ (kt (aw g) 173 7 L r Q)) := (aw_eq g 173 4 _ _ _ _).trans (by rw [tq173_4]; exact rfl)
theorem tq173_7 : tT g 173 7 = s_store vRf 173 8 3 := rfl
theorem A173_7 {l0 : Option Value} {l1 : Option Value} {l2 : Option Value} {l3 : Option Value} {l4 : Option Value} {x : Value} {r : List Value} : aw g 173 7 [l0, l1, l2, l3, l4] (x :: r) σ Q = (vRf x = true ∧ oc l2 = true ∧ aw g 173 8 [l0, l1, l2, some (x), l4] r σ Q) := (aw_eq g 173 7 _ _ _ _).trans (by rw [tq173_7]; exact (h_store (o := oc l2) rfl rfl rfl))
theorem tq173_8 : tT g 173 8 = s_load vRf 173 9 3 := rfl
theorem A173_8 {l0 : Option Value} {l1 : Option Value} {l2 : Option Value} {l4 : Option Value} {x : Value} {r : List Value} : aw g 173 8 [l0, l1, l2, some (x), l4] r σ Q = (vRf x = true ∧ aw g 173 9 [l0, l1, l2, some (x), l4] (x :: r) σ Q) := (aw_eq g 173 8 _ _ _ _).trans (by rw [tq173_8]; exact h_load rfl)
theorem tq173_9 : tT g 173 9 = s_load vI 173 10 1 := rfl
theorem A173_9 {l0 : Option Value} {l2 : Option Value} {l3 : Option Value} {l4 : Option Value} {x : Int32} {r : List Value} : aw g 173 9 [l0, some (.int x), l2, l3, l4] r σ Q = aw g 173 10 [l0, some (.int x), l2, l3, l4] (.int x :: r) σ Q := (aw_eq g 173 9 _ _ _ _).trans (by rw [tq173_9]; exact (h_load rfl).trans (propext ⟨fun z => z.2, fun z => ⟨rfl, z⟩⟩))
theorem tq173_10 : tT g 173 10 = s_load vI 173 11 2 := rfl
theorem A173_10 {l0 : Option Value} {l1 : Option Value} {l3 : Option Value} {l4 : Option Value} {x : Int32} {r : List Value} : aw g 173 10 [l0, l1, some (.int x), l3, l4] r σ Q = aw g 173 11 [l0, l1, some (.int x), l3, l4] (.int x :: r) σ Q := (aw_eq g 173 10 _ _ _ _).trans (by rw [tq173_10]; exact (h_load rfl).trans (propext ⟨fun z => z.2, fun z => ⟨rfl, z⟩⟩))
theorem tq173_11 : tT g 173 11 = s_callvk 173 14 181 4 [0, 0] 5 := rfl
theorem A173_11 {L : AL} {r : List Value} {a : Nat} {w0 w1 : Value} : aw g 173 11 L (w1 :: w0 :: .ref a :: r) σ Q = (hty σ a = some 4 ∧ (vI w0 && (vI w1 && true)) = true ∧ csum r ≤ 8 ∧ aw g 181 0 [some (.ref a), some w0, some w1, none, none] [] σ (kt (aw g) 173 14 L r Q)) := (aw_eq g 173 11 _ _ _ _).trans (by rw [tq173_11]; exact rfl)
theorem tq173_14 : tT g 173 14 = s_pop 173 15 := rfl
theorem A173_14 {L : AL} {r : List Value} {v : Value} : aw g 173 14 L (v :: r) σ Q = (v.category = 1 ∧ aw g 173 15 L r σ Q) := (aw_eq g 173 14 _ _ _ _).trans (by rw [tq173_14]; exact rfl)
theorem tq173_15 : tT g 173 15 = s_const 173 16 (.int 1) := rfl
theorem A173_15 {L : AL} {r : List Value} : aw g 173 15 L r σ Q = aw g 173 16 L (.int 1 :: r) σ Q := (aw_eq g 173 15 _ _ _ _).trans (by rw [tq173_15]; exact rfl)
theorem tq173_16 : tT g 173 16 = s_store vI 173 18 4 := rfl
theorem A173_16 {l0 : Option Value} {l1 : Option Value} {l2 : Option Value} {l3 : Option Value} {l4 : Option Value} {x : Int32} {r : List Value} : aw g 173 16 [l0, l1, l2, l3, l4] (.int x :: r) σ Q = (oc l3 = true ∧ aw g 173 18 [l0, l1, l2, l3, some (.int x)] r σ Q) := (aw_eq g 173 16 _ _ _ _).trans (by rw [tq173_16]; exact (h_store (o := oc l3) rfl rfl rfl).trans (propext ⟨fun z => z.2, fun z => ⟨rfl, z⟩⟩))
theorem tq173_18 : tT g 173 18 = s_load vI 173 20 4 := rfl
theorem A173_18 {l0 : Option Value} {l1 : Option Value} {l2 : Option Value} {l3 : Option Value} {x : Int32} {r : List Value} : aw g 173 18 [l0, l1, l2, l3, some (.int x)] r σ Q = aw g 173 20 [l0, l1, l2, l3, some (.int x)] (.int x :: r) σ Q := (aw_eq g 173 18 _ _ _ _).trans (by rw [tq173_18]; exact (h_load rfl).trans (propext ⟨fun z => z.2, fun z => ⟨rfl, z⟩⟩))
theorem tq173_20 : tT g 173 20 = s_const 173 22 (.int 40) := rfl
theorem A173_20 {L : AL} {r : List Value} : aw g 173 20 L r σ Q = aw g 173 22 L (.int 40 :: r) σ Q := (aw_eq g 173 20 _ _ _ _).trans (by rw [tq173_20]; exact rfl)
theorem tq173_22 : tT g 173 22 = s_icmp 173 25 56 (fun a b => b < a) := rfl
theorem A173_22 {L : AL} {r : List Value} {a b : Int32} : aw g 173 22 L (.int b :: .int a :: r) σ Q = ((b < a → aw g 173 56 L r σ Q) ∧ (¬ b < a → aw g 173 25 L r σ Q)) := (aw_eq g 173 22 _ _ _ _).trans (by rw [tq173_22]; exact rfl)
theorem tq173_25 : tT g 173 25 = s_load vRf 173 26 3 := rfl
theorem A173_25 {l0 : Option Value} {l1 : Option Value} {l2 : Option Value} {l4 : Option Value} {x : Value} {r : List Value} : aw g 173 25 [l0, l1, l2, some (x), l4] r σ Q = (vRf x = true ∧ aw g 173 26 [l0, l1, l2, some (x), l4] (x :: r) σ Q) := (aw_eq g 173 25 _ _ _ _).trans (by rw [tq173_25]; exact h_load rfl)
theorem tq173_26 : tT g 173 26 = s_callvk 173 29 183 4 [] 3 := rfl
theorem A173_26 {L : AL} {r : List Value} {a : Nat} : aw g 173 26 L (.ref a :: r) σ Q = (hty σ a = some 4 ∧ true = true ∧ csum r ≤ 8 ∧ aw g 183 0 [some (.ref a), none, none] [] σ (kt (aw g) 173 29 L r Q)) := (aw_eq g 173 26 _ _ _ _).trans (by rw [tq173_26]; exact rfl)
theorem tq173_29 : tT g 173 29 = s_load vRf 173 30 3 := rfl
theorem A173_29 {l0 : Option Value} {l1 : Option Value} {l2 : Option Value} {l4 : Option Value} {x : Value} {r : List Value} : aw g 173 29 [l0, l1, l2, some (x), l4] r σ Q = (vRf x = true ∧ aw g 173 30 [l0, l1, l2, some (x), l4] (x :: r) σ Q) := (aw_eq g 173 29 _ _ _ _).trans (by rw [tq173_29]; exact h_load rfl)
theorem tq173_30 : tT g 173 30 = s_getf 173 33 4 0 := rfl
theorem A173_30 {L : AL} {r : List Value} {a : Nat} : aw g 173 30 L (.ref a :: r) σ Q = (hty σ a = some 4 ∧ aw g 173 33 L (hv σ 4 a 0 :: r) σ Q) := (aw_eq g 173 30 _ _ _ _).trans (by rw [tq173_30]; exact rfl)
theorem tq173_33 : tT g 173 33 = s_load vI 173 34 1 := rfl
theorem A173_33 {l0 : Option Value} {l2 : Option Value} {l3 : Option Value} {l4 : Option Value} {x : Int32} {r : List Value} : aw g 173 33 [l0, some (.int x), l2, l3, l4] r σ Q = aw g 173 34 [l0, some (.int x), l2, l3, l4] (.int x :: r) σ Q := (aw_eq g 173 33 _ _ _ _).trans (by rw [tq173_33]; exact (h_load rfl).trans (propext ⟨fun z => z.2, fun z => ⟨rfl, z⟩⟩))
theorem tq173_34 : tT g 173 34 = s_callvk 173 37 25 10 [0] 2 := rfl
theorem A173_34 {L : AL} {r : List Value} {a : Nat} {w0 : Value} : aw g 173 34 L (w0 :: .ref a :: r) σ Q = (hty σ a = some 10 ∧ (vI w0 && true) = true ∧ csum r ≤ 8 ∧ aw g 25 0 [some (.ref a), some w0] [] σ (kt (aw g) 173 37 L r Q)) := (aw_eq g 173 34 _ _ _ _).trans (by rw [tq173_34]; exact rfl)
theorem tq173_37 : tT g 173 37 = s_cast 173 40 [7] := rfl
theorem A173_37 {L : AL} {r : List Value} : aw g 173 37 L (.null :: r) σ Q = aw g 173 40 L (.null :: r) σ Q := (aw_eq g 173 37 _ _ _ _).trans (by rw [tq173_37]; exact rfl)
theorem A173_37r {L : AL} {r : List Value} {a : Nat} : aw g 173 37 L (.ref a :: r) σ Q = (hty σ a = some 7 ∧ aw g 173 40 L (.ref a :: r) σ Q) := (aw_eq g 173 37 _ _ _ _).trans (by rw [tq173_37]; exact propext ⟨fun z => (by obtain ⟨⟨u, hu, hu2⟩, z2⟩ := z; rw [List.mem_singleton] at hu; subst hu; exact ⟨hu2, z2⟩), fun z => ⟨⟨_, List.mem_cons_self, z.1⟩, z.2⟩⟩)
theorem tq173_40 : tT g 173 40 = s_getf 173 43 7 6 := rfl
theorem A173_40 {L : AL} {r : List Value} {a : Nat} : aw g 173 40 L (.ref a :: r) σ Q = (hty σ a = some 7 ∧ aw g 173 43 L (hv σ 7 a 6 :: r) σ Q) := (aw_eq g 173 40 _ _ _ _).trans (by rw [tq173_40]; exact rfl)
theorem tq173_43 : tT g 173 43 = s_const 173 44 (.int 4) := rfl
theorem A173_43 {L : AL} {r : List Value} : aw g 173 43 L r σ Q = aw g 173 44 L (.int 4 :: r) σ Q := (aw_eq g 173 43 _ _ _ _).trans (by rw [tq173_43]; exact rfl)
theorem tq173_44 : tT g 173 44 = s_icmp 173 50 47 (fun a b => a = b) := rfl
theorem A173_44 {L : AL} {r : List Value} {a b : Int32} : aw g 173 44 L (.int b :: .int a :: r) σ Q = ((a = b → aw g 173 47 L r σ Q) ∧ (¬ a = b → aw g 173 50 L r σ Q)) := (aw_eq g 173 44 _ _ _ _).trans (by rw [tq173_44]; exact rfl)
theorem tq173_47 : tT g 173 47 = s_load vI 173 49 4 := rfl
theorem A173_47 {l0 : Option Value} {l1 : Option Value} {l2 : Option Value} {l3 : Option Value} {x : Int32} {r : List Value} : aw g 173 47 [l0, l1, l2, l3, some (.int x)] r σ Q = aw g 173 49 [l0, l1, l2, l3, some (.int x)] (.int x :: r) σ Q := (aw_eq g 173 47 _ _ _ _).trans (by rw [tq173_47]; exact (h_load rfl).trans (propext ⟨fun z => z.2, fun z => ⟨rfl, z⟩⟩))
theorem tq173_49 : tT g 173 49 = s_ret pI := rfl
theorem A173_49 {L : AL} {v : Value} : aw g 173 49 L [v] σ Q = (pI v ∧ Q (.inl (some v)) σ) := (aw_eq g 173 49 _ _ _ _).trans (by rw [tq173_49]; exact rfl)
theorem tq173_50 : tT g 173 50 = s_iinc 173 53 4 1 := rfl
theorem A173_50 {l0 : Option Value} {l1 : Option Value} {l2 : Option Value} {l3 : Option Value} {x : Int32} {r : List Value} : aw g 173 50 [l0, l1, l2, l3, some (.int x)] r σ Q = (oc l3 = true ∧ aw g 173 53 [l0, l1, l2, l3, some (.int (x + 1))] r σ Q) := (aw_eq g 173 50 _ _ _ _).trans (by rw [tq173_50]; exact (h_iinc (o := oc l3) rfl rfl rfl))
theorem tq173_53 : tT g 173 53 = s_goto 173 18 := rfl
theorem A173_53 {L : AL} {r : List Value} : aw g 173 53 L r σ Q = aw g 173 18 L r σ Q := (aw_eq g 173 53 _ _ _ _).trans (by rw [tq173_53]; exact rfl)
theorem tq173_56 : tT g 173 56 = s_const 173 57 (.int (-1)) := rfl
theorem A173_56 {L : AL} {r : List Value} : aw g 173 56 L r σ Q = aw g 173 57 L (.int (-1) :: r) σ Q := (aw_eq g 173 56 _ _ _ _).trans (by rw [tq173_56]; exact rfl)
theorem tq173_57 : tT g 173 57 = s_ret pI := rfl
theorem A173_57 {L : AL} {v : Value} : aw g 173 57 L [v] σ Q = (pI v ∧ Q (.inl (some v)) σ) := (aw_eq g 173 57 _ _ _ _).trans (by rw [tq173_57]; exact rfl)
theorem tq174_0 : tT g 174 0 = s_load vRf 174 1 0 := rfl
theorem A174_0 {l1 : Option Value} {l2 : Option Value} {x : Value} {r : List Value} : aw g 174 0 [some (x), l1, l2] r σ Q = (vRf x = true ∧ aw g 174 1 [some (x), l1, l2] (x :: r) σ Q) := (aw_eq g 174 0 _ _ _ _).trans (by rw [tq174_0]; exact h_load rfl)
theorem tq174_1 : tT g 174 1 = s_const 174 2 (.int 0) := rfl
theorem A174_1 {L : AL} {r : List Value} : aw g 174 1 L r σ Q = aw g 174 2 L (.int 0 :: r) σ Q := (aw_eq g 174 1 _ _ _ _).trans (by rw [tq174_1]; exact rfl)
theorem tq174_2 : tT g 174 2 = s_putf g pI 174 5 3 0 := rfl
theorem A174_2 {L : AL} {r : List Value} {a : Nat} {v : Value} : aw g 174 2 L (v :: .ref a :: r) σ Q = (hty σ a = some 3 ∧ gB g ≤ a ∧ pI v ∧ aw g 174 5 L r (hput σ 3 a 0 v) Q) := (aw_eq g 174 2 _ _ _ _).trans (by rw [tq174_2]; exact rfl)
theorem tq174_5 : tT g 174 5 = s_load vRf 174 6 0 := rfl
theorem A174_5 {l1 : Option Value} {l2 : Option Value} {x : Value} {r : List Value} : aw g 174 5 [some (x), l1, l2] r σ Q = (vRf x = true ∧ aw g 174 6 [some (x), l1, l2] (x :: r) σ Q) := (aw_eq g 174 5 _ _ _ _).trans (by rw [tq174_5]; exact h_load rfl)
theorem tq174_6 : tT g 174 6 = s_const 174 9 (.long 9609) := rfl
theorem A174_6 {L : AL} {r : List Value} : aw g 174 6 L r σ Q = aw g 174 9 L (.long 9609 :: r) σ Q := (aw_eq g 174 6 _ _ _ _).trans (by rw [tq174_6]; exact rfl)
theorem tq174_9 : tT g 174 9 = s_putf g pJ 174 12 3 2 := rfl
theorem A174_9 {L : AL} {r : List Value} {a : Nat} {v : Value} : aw g 174 9 L (v :: .ref a :: r) σ Q = (hty σ a = some 3 ∧ gB g ≤ a ∧ pJ v ∧ aw g 174 12 L r (hput σ 3 a 2 v) Q) := (aw_eq g 174 9 _ _ _ _).trans (by rw [tq174_9]; exact rfl)
theorem tq174_12 : tT g 174 12 = s_const 174 13 (.int 0) := rfl
theorem A174_12 {L : AL} {r : List Value} : aw g 174 12 L r σ Q = aw g 174 13 L (.int 0 :: r) σ Q := (aw_eq g 174 12 _ _ _ _).trans (by rw [tq174_12]; exact rfl)
theorem tq174_13 : tT g 174 13 = s_store vI 174 14 1 := rfl
theorem A174_13 {l0 : Option Value} {l1 : Option Value} {l2 : Option Value} {x : Int32} {r : List Value} : aw g 174 13 [l0, l1, l2] (.int x :: r) σ Q = (oc l0 = true ∧ aw g 174 14 [l0, some (.int x), l2] r σ Q) := (aw_eq g 174 13 _ _ _ _).trans (by rw [tq174_13]; exact (h_store (o := oc l0) rfl rfl rfl).trans (propext ⟨fun z => z.2, fun z => ⟨rfl, z⟩⟩))
theorem tq174_14 : tT g 174 14 = s_load vI 174 15 1 := rfl
theorem A174_14 {l0 : Option Value} {l2 : Option Value} {x : Int32} {r : List Value} : aw g 174 14 [l0, some (.int x), l2] r σ Q = aw g 174 15 [l0, some (.int x), l2] (.int x :: r) σ Q := (aw_eq g 174 14 _ _ _ _).trans (by rw [tq174_14]; exact (h_load rfl).trans (propext ⟨fun z => z.2, fun z => ⟨rfl, z⟩⟩))
theorem tq174_15 : tT g 174 15 = s_const 174 17 (.int 11) := rfl
theorem A174_15 {L : AL} {r : List Value} : aw g 174 15 L r σ Q = aw g 174 17 L (.int 11 :: r) σ Q := (aw_eq g 174 15 _ _ _ _).trans (by rw [tq174_15]; exact rfl)
theorem tq174_17 : tT g 174 17 = s_icmp 174 20 35 (fun a b => b ≤ a) := rfl
theorem A174_17 {L : AL} {r : List Value} {a b : Int32} : aw g 174 17 L (.int b :: .int a :: r) σ Q = ((b ≤ a → aw g 174 35 L r σ Q) ∧ (¬ b ≤ a → aw g 174 20 L r σ Q)) := (aw_eq g 174 17 _ _ _ _).trans (by rw [tq174_17]; exact rfl)
theorem tq174_20 : tT g 174 20 = s_load vRf 174 21 0 := rfl
theorem A174_20 {l1 : Option Value} {l2 : Option Value} {x : Value} {r : List Value} : aw g 174 20 [some (x), l1, l2] r σ Q = (vRf x = true ∧ aw g 174 21 [some (x), l1, l2] (x :: r) σ Q) := (aw_eq g 174 20 _ _ _ _).trans (by rw [tq174_20]; exact h_load rfl)
theorem tq174_21 : tT g 174 21 = s_load vRf 174 22 0 := rfl
theorem A174_21 {l1 : Option Value} {l2 : Option Value} {x : Value} {r : List Value} : aw g 174 21 [some (x), l1, l2] r σ Q = (vRf x = true ∧ aw g 174 22 [some (x), l1, l2] (x :: r) σ Q) := (aw_eq g 174 21 _ _ _ _).trans (by rw [tq174_21]; exact h_load rfl)
theorem tq174_22 : tT g 174 22 = s_load vI 174 23 1 := rfl
theorem A174_22 {l0 : Option Value} {l2 : Option Value} {x : Int32} {r : List Value} : aw g 174 22 [l0, some (.int x), l2] r σ Q = aw g 174 23 [l0, some (.int x), l2] (.int x :: r) σ Q := (aw_eq g 174 22 _ _ _ _).trans (by rw [tq174_22]; exact (h_load rfl).trans (propext ⟨fun z => z.2, fun z => ⟨rfl, z⟩⟩))
theorem tq174_23 : tT g 174 23 = s_callvk 174 26 167 3 [0] 10 := rfl
theorem A174_23 {L : AL} {r : List Value} {a : Nat} {w0 : Value} : aw g 174 23 L (w0 :: .ref a :: r) σ Q = (hty σ a = some 3 ∧ (vI w0 && true) = true ∧ csum r ≤ 8 ∧ aw g 167 0 [some (.ref a), some w0, none, none, none, none, none, none, none, none] [] σ (kt (aw g) 174 26 L r Q)) := (aw_eq g 174 23 _ _ _ _).trans (by rw [tq174_23]; exact rfl)
theorem tq174_26 : tT g 174 26 = s_callvk 174 29 175 3 [0] 2 := rfl
theorem A174_26 {L : AL} {r : List Value} {a : Nat} {w0 : Value} : aw g 174 26 L (w0 :: .ref a :: r) σ Q = (hty σ a = some 3 ∧ (vI w0 && true) = true ∧ csum r ≤ 8 ∧ aw g 175 0 [some (.ref a), some w0] [] σ (kt (aw g) 174 29 L r Q)) := (aw_eq g 174 26 _ _ _ _).trans (by rw [tq174_26]; exact rfl)
theorem tq174_29 : tT g 174 29 = s_iinc 174 32 1 1 := rfl
theorem A174_29 {l0 : Option Value} {l2 : Option Value} {x : Int32} {r : List Value} : aw g 174 29 [l0, some (.int x), l2] r σ Q = (oc l0 = true ∧ aw g 174 32 [l0, some (.int (x + 1)), l2] r σ Q) := (aw_eq g 174 29 _ _ _ _).trans (by rw [tq174_29]; exact (h_iinc (o := oc l0) rfl rfl rfl))
theorem tq174_32 : tT g 174 32 = s_goto 174 14 := rfl
theorem A174_32 {L : AL} {r : List Value} : aw g 174 32 L r σ Q = aw g 174 14 L r σ Q := (aw_eq g 174 32 _ _ _ _).trans (by rw [tq174_32]; exact rfl)
theorem tq174_35 : tT g 174 35 = s_const 174 36 (.int 0) := rfl
theorem A174_35 {L : AL} {r : List Value} : aw g 174 35 L r σ Q = aw g 174 36 L (.int 0 :: r) σ Q := (aw_eq g 174 35 _ _ _ _).trans (by rw [tq174_35]; exact rfl)
theorem tq174_36 : tT g 174 36 = s_store vI 174 37 1 := rfl
theorem A174_36 {l0 : Option Value} {l1 : Option Value} {l2 : Option Value} {x : Int32} {r : List Value} : aw g 174 36 [l0, l1, l2] (.int x :: r) σ Q = (oc l0 = true ∧ aw g 174 37 [l0, some (.int x), l2] r σ Q) := (aw_eq g 174 36 _ _ _ _).trans (by rw [tq174_36]; exact (h_store (o := oc l0) rfl rfl rfl).trans (propext ⟨fun z => z.2, fun z => ⟨rfl, z⟩⟩))
theorem tq174_37 : tT g 174 37 = s_load vI 174 38 1 := rfl
theorem A174_37 {l0 : Option Value} {l2 : Option Value} {x : Int32} {r : List Value} : aw g 174 37 [l0, some (.int x), l2] r σ Q = aw g 174 38 [l0, some (.int x), l2] (.int x :: r) σ Q := (aw_eq g 174 37 _ _ _ _).trans (by rw [tq174_37]; exact (h_load rfl).trans (propext ⟨fun z => z.2, fun z => ⟨rfl, z⟩⟩))
theorem tq174_38 : tT g 174 38 = s_load vRf 174 39 0 := rfl
theorem A174_38 {l1 : Option Value} {l2 : Option Value} {x : Value} {r : List Value} : aw g 174 38 [some (x), l1, l2] r σ Q = (vRf x = true ∧ aw g 174 39 [some (x), l1, l2] (x :: r) σ Q) := (aw_eq g 174 38 _ _ _ _).trans (by rw [tq174_38]; exact h_load rfl)
theorem tq174_39 : tT g 174 39 = s_getf 174 42 3 1 := rfl
theorem A174_39 {L : AL} {r : List Value} {a : Nat} : aw g 174 39 L (.ref a :: r) σ Q = (hty σ a = some 3 ∧ aw g 174 42 L (hv σ 3 a 1 :: r) σ Q) := (aw_eq g 174 39 _ _ _ _).trans (by rw [tq174_39]; exact rfl)
theorem tq174_42 : tT g 174 42 = s_getf 174 45 4 0 := rfl
theorem A174_42 {L : AL} {r : List Value} {a : Nat} : aw g 174 42 L (.ref a :: r) σ Q = (hty σ a = some 4 ∧ aw g 174 45 L (hv σ 4 a 0 :: r) σ Q) := (aw_eq g 174 42 _ _ _ _).trans (by rw [tq174_42]; exact rfl)
theorem tq174_45 : tT g 174 45 = s_callvk 174 48 15 10 [] 1 := rfl
theorem A174_45 {L : AL} {r : List Value} {a : Nat} : aw g 174 45 L (.ref a :: r) σ Q = (hty σ a = some 10 ∧ true = true ∧ csum r ≤ 8 ∧ aw g 15 0 [some (.ref a)] [] σ (kt (aw g) 174 48 L r Q)) := (aw_eq g 174 45 _ _ _ _).trans (by rw [tq174_45]; exact rfl)
theorem tq174_48 : tT g 174 48 = s_icmp 174 51 62 (fun a b => b ≤ a) := rfl
theorem A174_48 {L : AL} {r : List Value} {a b : Int32} : aw g 174 48 L (.int b :: .int a :: r) σ Q = ((b ≤ a → aw g 174 62 L r σ Q) ∧ (¬ b ≤ a → aw g 174 51 L r σ Q)) := (aw_eq g 174 48 _ _ _ _).trans (by rw [tq174_48]; exact rfl)
theorem tq174_51 : tT g 174 51 = s_load vRf 174 52 0 := rfl
theorem A174_51 {l1 : Option Value} {l2 : Option Value} {x : Value} {r : List Value} : aw g 174 51 [some (x), l1, l2] r σ Q = (vRf x = true ∧ aw g 174 52 [some (x), l1, l2] (x :: r) σ Q) := (aw_eq g 174 51 _ _ _ _).trans (by rw [tq174_51]; exact h_load rfl)
theorem tq174_52 : tT g 174 52 = s_load vI 174 53 1 := rfl
theorem A174_52 {l0 : Option Value} {l2 : Option Value} {x : Int32} {r : List Value} : aw g 174 52 [l0, some (.int x), l2] r σ Q = aw g 174 53 [l0, some (.int x), l2] (.int x :: r) σ Q := (aw_eq g 174 52 _ _ _ _).trans (by rw [tq174_52]; exact (h_load rfl).trans (propext ⟨fun z => z.2, fun z => ⟨rfl, z⟩⟩))
theorem tq174_53 : tT g 174 53 = s_callvk 174 56 176 3 [0] 8 := rfl
theorem A174_53 {L : AL} {r : List Value} {a : Nat} {w0 : Value} : aw g 174 53 L (w0 :: .ref a :: r) σ Q = (hty σ a = some 3 ∧ (vI w0 && true) = true ∧ csum r ≤ 8 ∧ aw g 176 0 [some (.ref a), some w0, none, none, none, none, none, none] [] σ (kt (aw g) 174 56 L r Q)) := (aw_eq g 174 53 _ _ _ _).trans (by rw [tq174_53]; exact rfl)
theorem tq174_56 : tT g 174 56 = s_iinc 174 59 1 1 := rfl
theorem A174_56 {l0 : Option Value} {l2 : Option Value} {x : Int32} {r : List Value} : aw g 174 56 [l0, some (.int x), l2] r σ Q = (oc l0 = true ∧ aw g 174 59 [l0, some (.int (x + 1)), l2] r σ Q) := (aw_eq g 174 56 _ _ _ _).trans (by rw [tq174_56]; exact (h_iinc (o := oc l0) rfl rfl rfl))
theorem tq174_59 : tT g 174 59 = s_goto 174 37 := rfl
theorem A174_59 {L : AL} {r : List Value} : aw g 174 59 L r σ Q = aw g 174 37 L r σ Q := (aw_eq g 174 59 _ _ _ _).trans (by rw [tq174_59]; exact rfl)
theorem tq174_62 : tT g 174 62 = s_const 174 63 (.int 0) := rfl
theorem A174_62 {L : AL} {r : List Value} : aw g 174 62 L r σ Q = aw g 174 63 L (.int 0 :: r) σ Q := (aw_eq g 174 62 _ _ _ _).trans (by rw [tq174_62]; exact rfl)
theorem tq174_63 : tT g 174 63 = s_store vI 174 64 1 := rfl
theorem A174_63 {l0 : Option Value} {l1 : Option Value} {l2 : Option Value} {x : Int32} {r : List Value} : aw g 174 63 [l0, l1, l2] (.int x :: r) σ Q = (oc l0 = true ∧ aw g 174 64 [l0, some (.int x), l2] r σ Q) := (aw_eq g 174 63 _ _ _ _).trans (by rw [tq174_63]; exact (h_store (o := oc l0) rfl rfl rfl).trans (propext ⟨fun z => z.2, fun z => ⟨rfl, z⟩⟩))
theorem tq174_64 : tT g 174 64 = s_load vI 174 65 1 := rfl
theorem A174_64 {l0 : Option Value} {l2 : Option Value} {x : Int32} {r : List Value} : aw g 174 64 [l0, some (.int x), l2] r σ Q = aw g 174 65 [l0, some (.int x), l2] (.int x :: r) σ Q := (aw_eq g 174 64 _ _ _ _).trans (by rw [tq174_64]; exact (h_load rfl).trans (propext ⟨fun z => z.2, fun z => ⟨rfl, z⟩⟩))
theorem tq174_65 : tT g 174 65 = s_load vRf 174 66 0 := rfl
theorem A174_65 {l1 : Option Value} {l2 : Option Value} {x : Value} {r : List Value} : aw g 174 65 [some (x), l1, l2] r σ Q = (vRf x = true ∧ aw g 174 66 [some (x), l1, l2] (x :: r) σ Q) := (aw_eq g 174 65 _ _ _ _).trans (by rw [tq174_65]; exact h_load rfl)
theorem tq174_66 : tT g 174 66 = s_getf 174 69 3 1 := rfl
theorem A174_66 {L : AL} {r : List Value} {a : Nat} : aw g 174 66 L (.ref a :: r) σ Q = (hty σ a = some 3 ∧ aw g 174 69 L (hv σ 3 a 1 :: r) σ Q) := (aw_eq g 174 66 _ _ _ _).trans (by rw [tq174_66]; exact rfl)
theorem tq174_69 : tT g 174 69 = s_getf 174 72 4 2 := rfl
theorem A174_69 {L : AL} {r : List Value} {a : Nat} : aw g 174 69 L (.ref a :: r) σ Q = (hty σ a = some 4 ∧ aw g 174 72 L (hv σ 4 a 2 :: r) σ Q) := (aw_eq g 174 69 _ _ _ _).trans (by rw [tq174_69]; exact rfl)
theorem tq174_72 : tT g 174 72 = s_icmp 174 75 104 (fun a b => b ≤ a) := rfl
theorem A174_72 {L : AL} {r : List Value} {a b : Int32} : aw g 174 72 L (.int b :: .int a :: r) σ Q = ((b ≤ a → aw g 174 104 L r σ Q) ∧ (¬ b ≤ a → aw g 174 75 L r σ Q)) := (aw_eq g 174 72 _ _ _ _).trans (by rw [tq174_72]; exact rfl)
theorem tq174_75 : tT g 174 75 = s_const 174 76 (.int 0) := rfl
theorem A174_75 {L : AL} {r : List Value} : aw g 174 75 L r σ Q = aw g 174 76 L (.int 0 :: r) σ Q := (aw_eq g 174 75 _ _ _ _).trans (by rw [tq174_75]; exact rfl)
theorem tq174_76 : tT g 174 76 = s_store vI 174 77 2 := rfl
theorem A174_76 {l0 : Option Value} {l1 : Option Value} {l2 : Option Value} {x : Int32} {r : List Value} : aw g 174 76 [l0, l1, l2] (.int x :: r) σ Q = (oc l1 = true ∧ aw g 174 77 [l0, l1, some (.int x)] r σ Q) := (aw_eq g 174 76 _ _ _ _).trans (by rw [tq174_76]; exact (h_store (o := oc l1) rfl rfl rfl).trans (propext ⟨fun z => z.2, fun z => ⟨rfl, z⟩⟩))
theorem tq174_77 : tT g 174 77 = s_load vI 174 78 2 := rfl
theorem A174_77 {l0 : Option Value} {l1 : Option Value} {x : Int32} {r : List Value} : aw g 174 77 [l0, l1, some (.int x)] r σ Q = aw g 174 78 [l0, l1, some (.int x)] (.int x :: r) σ Q := (aw_eq g 174 77 _ _ _ _).trans (by rw [tq174_77]; exact (h_load rfl).trans (propext ⟨fun z => z.2, fun z => ⟨rfl, z⟩⟩))
theorem tq174_78 : tT g 174 78 = s_const 174 79 (.int 3) := rfl
theorem A174_78 {L : AL} {r : List Value} : aw g 174 78 L r σ Q = aw g 174 79 L (.int 3 :: r) σ Q := (aw_eq g 174 78 _ _ _ _).trans (by rw [tq174_78]; exact rfl)
theorem tq174_79 : tT g 174 79 = s_icmp 174 82 98 (fun a b => b ≤ a) := rfl
theorem A174_79 {L : AL} {r : List Value} {a b : Int32} : aw g 174 79 L (.int b :: .int a :: r) σ Q = ((b ≤ a → aw g 174 98 L r σ Q) ∧ (¬ b ≤ a → aw g 174 82 L r σ Q)) := (aw_eq g 174 79 _ _ _ _).trans (by rw [tq174_79]; exact rfl)
theorem tq174_82 : tT g 174 82 = s_load vRf 174 83 0 := rfl
theorem A174_82 {l1 : Option Value} {l2 : Option Value} {x : Value} {r : List Value} : aw g 174 82 [some (x), l1, l2] r σ Q = (vRf x = true ∧ aw g 174 83 [some (x), l1, l2] (x :: r) σ Q) := (aw_eq g 174 82 _ _ _ _).trans (by rw [tq174_82]; exact h_load rfl)
theorem tq174_83 : tT g 174 83 = s_load vRf 174 84 0 := rfl
theorem A174_83 {l1 : Option Value} {l2 : Option Value} {x : Value} {r : List Value} : aw g 174 83 [some (x), l1, l2] r σ Q = (vRf x = true ∧ aw g 174 84 [some (x), l1, l2] (x :: r) σ Q) := (aw_eq g 174 83 _ _ _ _).trans (by rw [tq174_83]; exact h_load rfl)
theorem tq174_84 : tT g 174 84 = s_load vI 174 85 1 := rfl
theorem A174_84 {l0 : Option Value} {l2 : Option Value} {x : Int32} {r : List Value} : aw g 174 84 [l0, some (.int x), l2] r σ Q = aw g 174 85 [l0, some (.int x), l2] (.int x :: r) σ Q := (aw_eq g 174 84 _ _ _ _).trans (by rw [tq174_84]; exact (h_load rfl).trans (propext ⟨fun z => z.2, fun z => ⟨rfl, z⟩⟩))
theorem tq174_85 : tT g 174 85 = s_load vI 174 86 2 := rfl
theorem A174_85 {l0 : Option Value} {l1 : Option Value} {x : Int32} {r : List Value} : aw g 174 85 [l0, l1, some (.int x)] r σ Q = aw g 174 86 [l0, l1, some (.int x)] (.int x :: r) σ Q := (aw_eq g 174 85 _ _ _ _).trans (by rw [tq174_85]; exact (h_load rfl).trans (propext ⟨fun z => z.2, fun z => ⟨rfl, z⟩⟩))
theorem tq174_86 : tT g 174 86 = s_callvk 174 89 163 3 [0, 0] 4 := rfl
theorem A174_86 {L : AL} {r : List Value} {a : Nat} {w0 w1 : Value} : aw g 174 86 L (w1 :: w0 :: .ref a :: r) σ Q = (hty σ a = some 3 ∧ (vI w0 && (vI w1 && true)) = true ∧ csum r ≤ 8 ∧ aw g 163 0 [some (.ref a), some w0, some w1, none] [] σ (kt (aw g) 174 89 L r Q)) := (aw_eq g 174 86 _ _ _ _).trans (by rw [tq174_86]; exact rfl)
theorem tq174_89 : tT g 174 89 = s_callvk 174 92 175 3 [0] 2 := rfl
theorem A174_89 {L : AL} {r : List Value} {a : Nat} {w0 : Value} : aw g 174 89 L (w0 :: .ref a :: r) σ Q = (hty σ a = some 3 ∧ (vI w0 && true) = true ∧ csum r ≤ 8 ∧ aw g 175 0 [some (.ref a), some w0] [] σ (kt (aw g) 174 92 L r Q)) := (aw_eq g 174 89 _ _ _ _).trans (by rw [tq174_89]; exact rfl)
theorem tq174_92 : tT g 174 92 = s_iinc 174 95 2 1 := rfl
theorem A174_92 {l0 : Option Value} {l1 : Option Value} {x : Int32} {r : List Value} : aw g 174 92 [l0, l1, some (.int x)] r σ Q = (oc l1 = true ∧ aw g 174 95 [l0, l1, some (.int (x + 1))] r σ Q) := (aw_eq g 174 92 _ _ _ _).trans (by rw [tq174_92]; exact (h_iinc (o := oc l1) rfl rfl rfl))
theorem tq174_95 : tT g 174 95 = s_goto 174 77 := rfl
theorem A174_95 {L : AL} {r : List Value} : aw g 174 95 L r σ Q = aw g 174 77 L r σ Q := (aw_eq g 174 95 _ _ _ _).trans (by rw [tq174_95]; exact rfl)
theorem tq174_98 : tT g 174 98 = s_iinc 174 101 1 1 := rfl
theorem A174_98 {l0 : Option Value} {l2 : Option Value} {x : Int32} {r : List Value} : aw g 174 98 [l0, some (.int x), l2] r σ Q = (oc l0 = true ∧ aw g 174 101 [l0, some (.int (x + 1)), l2] r σ Q) := (aw_eq g 174 98 _ _ _ _).trans (by rw [tq174_98]; exact (h_iinc (o := oc l0) rfl rfl rfl))
theorem tq174_101 : tT g 174 101 = s_goto 174 64 := rfl
theorem A174_101 {L : AL} {r : List Value} : aw g 174 101 L r σ Q = aw g 174 64 L r σ Q := (aw_eq g 174 101 _ _ _ _).trans (by rw [tq174_101]; exact rfl)
theorem tq174_104 : tT g 174 104 = s_load vRf 174 105 0 := rfl
theorem A174_104 {l1 : Option Value} {l2 : Option Value} {x : Value} {r : List Value} : aw g 174 104 [some (x), l1, l2] r σ Q = (vRf x = true ∧ aw g 174 105 [some (x), l1, l2] (x :: r) σ Q) := (aw_eq g 174 104 _ _ _ _).trans (by rw [tq174_104]; exact h_load rfl)
theorem tq174_105 : tT g 174 105 = s_getf 174 108 3 2 := rfl
theorem A174_105 {L : AL} {r : List Value} {a : Nat} : aw g 174 105 L (.ref a :: r) σ Q = (hty σ a = some 3 ∧ aw g 174 108 L (hv σ 3 a 2 :: r) σ Q) := (aw_eq g 174 105 _ _ _ _).trans (by rw [tq174_105]; exact rfl)
theorem tq174_108 : tT g 174 108 = s_ret pJ := rfl
theorem A174_108 {L : AL} {v : Value} : aw g 174 108 L [v] σ Q = (pJ v ∧ Q (.inl (some v)) σ) := (aw_eq g 174 108 _ _ _ _).trans (by rw [tq174_108]; exact rfl)
theorem tq175_0 : tT g 175 0 = s_load vRf 175 1 0 := rfl
theorem A175_0 {l1 : Option Value} {x : Value} {r : List Value} : aw g 175 0 [some (x), l1] r σ Q = (vRf x = true ∧ aw g 175 1 [some (x), l1] (x :: r) σ Q) := (aw_eq g 175 0 _ _ _ _).trans (by rw [tq175_0]; exact h_load rfl)
theorem tq175_1 : tT g 175 1 = s_load vRf 175 2 0 := rfl
theorem A175_1 {l1 : Option Value} {x : Value} {r : List Value} : aw g 175 1 [some (x), l1] r σ Q = (vRf x = true ∧ aw g 175 2 [some (x), l1] (x :: r) σ Q) := (aw_eq g 175 1 _ _ _ _).trans (by rw [tq175_1]; exact h_load rfl)
theorem tq175_2 : tT g 175 2 = s_getf 175 5 3 2 := rfl
theorem A175_2 {L : AL} {r : List Value} {a : Nat} : aw g 175 2 L (.ref a :: r) σ Q = (hty σ a = some 3 ∧ aw g 175 5 L (hv σ 3 a 2 :: r) σ Q) := (aw_eq g 175 2 _ _ _ _).trans (by rw [tq175_2]; exact rfl)
theorem tq175_5 : tT g 175 5 = s_const 175 8 (.long 31) := rfl
theorem A175_5 {L : AL} {r : List Value} : aw g 175 5 L r σ Q = aw g 175 8 L (.long 31 :: r) σ Q := (aw_eq g 175 5 _ _ _ _).trans (by rw [tq175_5]; exact rfl)
theorem tq175_8 : tT g 175 8 = s_lbin 175 9 (fun a b => .long (a * b)) := rfl
theorem A175_8 {L : AL} {r : List Value} {a b : Int64} : aw g 175 8 L (.long b :: .long a :: r) σ Q = aw g 175 9 L (.long (a * b) :: r) σ Q := (aw_eq g 175 8 _ _ _ _).trans (by rw [tq175_8]; exact rfl)
theorem tq175_9 : tT g 175 9 = s_load vI 175 10 1 := rfl
theorem A175_9 {l0 : Option Value} {x : Int32} {r : List Value} : aw g 175 9 [l0, some (.int x)] r σ Q = aw g 175 10 [l0, some (.int x)] (.int x :: r) σ Q := (aw_eq g 175 9 _ _ _ _).trans (by rw [tq175_9]; exact (h_load rfl).trans (propext ⟨fun z => z.2, fun z => ⟨rfl, z⟩⟩))
theorem tq175_10 : tT g 175 10 = s_i2 175 11 (fun a => .long a.toInt64) := rfl
theorem A175_10 {L : AL} {r : List Value} {a : Int32} : aw g 175 10 L (.int a :: r) σ Q = aw g 175 11 L (.long a.toInt64 :: r) σ Q := (aw_eq g 175 10 _ _ _ _).trans (by rw [tq175_10]; exact rfl)
theorem tq175_11 : tT g 175 11 = s_lbin 175 12 (fun a b => .long (a + b)) := rfl
theorem A175_11 {L : AL} {r : List Value} {a b : Int64} : aw g 175 11 L (.long b :: .long a :: r) σ Q = aw g 175 12 L (.long (a + b) :: r) σ Q := (aw_eq g 175 11 _ _ _ _).trans (by rw [tq175_11]; exact rfl)
theorem tq175_12 : tT g 175 12 = s_putf g pJ 175 15 3 2 := rfl
theorem A175_12 {L : AL} {r : List Value} {a : Nat} {v : Value} : aw g 175 12 L (v :: .ref a :: r) σ Q = (hty σ a = some 3 ∧ gB g ≤ a ∧ pJ v ∧ aw g 175 15 L r (hput σ 3 a 2 v) Q) := (aw_eq g 175 12 _ _ _ _).trans (by rw [tq175_12]; exact rfl)
theorem tq175_15 : tT g 175 15 = s_vret := rfl
theorem A175_15 {L : AL} : aw g 175 15 L [] σ Q = Q (.inl none) σ := (aw_eq g 175 15 _ _ _ _).trans (by rw [tq175_15]; exact rfl)
theorem tq176_0 : tT g 176 0 = s_const 176 1 (.int 0) := rfl
theorem A176_0 {L : AL} {r : List Value} : aw g 176 0 L r σ Q = aw g 176 1 L (.int 0 :: r) σ Q := (aw_eq g 176 0 _ _ _ _).trans (by rw [tq176_0]; exact rfl)
theorem tq176_1 : tT g 176 1 = s_store vI 176 2 2 := rfl
theorem A176_1 {l0 : Option Value} {l1 : Option Value} {l2 : Option Value} {l3 : Option Value} {l4 : Option Value} {l5 : Option Value} {l6 : Option Value} {l7 : Option Value} {x : Int32} {r : List Value} : aw g 176 1 [l0, l1, l2, l3, l4, l5, l6, l7] (.int x :: r) σ Q = (oc l1 = true ∧ aw g 176 2 [l0, l1, some (.int x), l3, l4, l5, l6, l7] r σ Q) := (aw_eq g 176 1 _ _ _ _).trans (by rw [tq176_1]; exact (h_store (o := oc l1) rfl rfl rfl).trans (propext ⟨fun z => z.2, fun z => ⟨rfl, z⟩⟩))
theorem tq176_2 : tT g 176 2 = s_load vI 176 3 2 := rfl
theorem A176_2 {l0 : Option Value} {l1 : Option Value} {l3 : Option Value} {l4 : Option Value} {l5 : Option Value} {l6 : Option Value} {l7 : Option Value} {x : Int32} {r : List Value} : aw g 176 2 [l0, l1, some (.int x), l3, l4, l5, l6, l7] r σ Q = aw g 176 3 [l0, l1, some (.int x), l3, l4, l5, l6, l7] (.int x :: r) σ Q := (aw_eq g 176 2 _ _ _ _).trans (by rw [tq176_2]; exact (h_load rfl).trans (propext ⟨fun z => z.2, fun z => ⟨rfl, z⟩⟩))
theorem tq176_3 : tT g 176 3 = s_const 176 5 (.int 16) := rfl
theorem A176_3 {L : AL} {r : List Value} : aw g 176 3 L r σ Q = aw g 176 5 L (.int 16 :: r) σ Q := (aw_eq g 176 3 _ _ _ _).trans (by rw [tq176_3]; exact rfl)
theorem tq176_5 : tT g 176 5 = s_icmp 176 8 24 (fun a b => b ≤ a) := rfl
theorem A176_5 {L : AL} {r : List Value} {a b : Int32} : aw g 176 5 L (.int b :: .int a :: r) σ Q = ((b ≤ a → aw g 176 24 L r σ Q) ∧ (¬ b ≤ a → aw g 176 8 L r σ Q)) := (aw_eq g 176 5 _ _ _ _).trans (by rw [tq176_5]; exact rfl)
theorem tq176_8 : tT g 176 8 = s_load vRf 176 9 0 := rfl
theorem A176_8 {l1 : Option Value} {l2 : Option Value} {l3 : Option Value} {l4 : Option Value} {l5 : Option Value} {l6 : Option Value} {l7 : Option Value} {x : Value} {r : List Value} : aw g 176 8 [some (x), l1, l2, l3, l4, l5, l6, l7] r σ Q = (vRf x = true ∧ aw g 176 9 [some (x), l1, l2, l3, l4, l5, l6, l7] (x :: r) σ Q) := (aw_eq g 176 8 _ _ _ _).trans (by rw [tq176_8]; exact h_load rfl)
theorem tq176_9 : tT g 176 9 = s_load vRf 176 10 0 := rfl
theorem A176_9 {l1 : Option Value} {l2 : Option Value} {l3 : Option Value} {l4 : Option Value} {l5 : Option Value} {l6 : Option Value} {l7 : Option Value} {x : Value} {r : List Value} : aw g 176 9 [some (x), l1, l2, l3, l4, l5, l6, l7] r σ Q = (vRf x = true ∧ aw g 176 10 [some (x), l1, l2, l3, l4, l5, l6, l7] (x :: r) σ Q) := (aw_eq g 176 9 _ _ _ _).trans (by rw [tq176_9]; exact h_load rfl)
theorem tq176_10 : tT g 176 10 = s_load vI 176 11 1 := rfl
theorem A176_10 {l0 : Option Value} {l2 : Option Value} {l3 : Option Value} {l4 : Option Value} {l5 : Option Value} {l6 : Option Value} {l7 : Option Value} {x : Int32} {r : List Value} : aw g 176 10 [l0, some (.int x), l2, l3, l4, l5, l6, l7] r σ Q = aw g 176 11 [l0, some (.int x), l2, l3, l4, l5, l6, l7] (.int x :: r) σ Q := (aw_eq g 176 10 _ _ _ _).trans (by rw [tq176_10]; exact (h_load rfl).trans (propext ⟨fun z => z.2, fun z => ⟨rfl, z⟩⟩))
theorem tq176_11 : tT g 176 11 = s_load vI 176 12 2 := rfl
theorem A176_11 {l0 : Option Value} {l1 : Option Value} {l3 : Option Value} {l4 : Option Value} {l5 : Option Value} {l6 : Option Value} {l7 : Option Value} {x : Int32} {r : List Value} : aw g 176 11 [l0, l1, some (.int x), l3, l4, l5, l6, l7] r σ Q = aw g 176 12 [l0, l1, some (.int x), l3, l4, l5, l6, l7] (.int x :: r) σ Q := (aw_eq g 176 11 _ _ _ _).trans (by rw [tq176_11]; exact (h_load rfl).trans (propext ⟨fun z => z.2, fun z => ⟨rfl, z⟩⟩))
theorem tq176_12 : tT g 176 12 = s_callvk 176 15 157 3 [0, 0] 5 := rfl
theorem A176_12 {L : AL} {r : List Value} {a : Nat} {w0 w1 : Value} : aw g 176 12 L (w1 :: w0 :: .ref a :: r) σ Q = (hty σ a = some 3 ∧ (vI w0 && (vI w1 && true)) = true ∧ csum r ≤ 8 ∧ aw g 157 0 [some (.ref a), some w0, some w1, none, none] [] σ (kt (aw g) 176 15 L r Q)) := (aw_eq g 176 12 _ _ _ _).trans (by rw [tq176_12]; exact rfl)
theorem tq176_15 : tT g 176 15 = s_callvk 176 18 175 3 [0] 2 := rfl
theorem A176_15 {L : AL} {r : List Value} {a : Nat} {w0 : Value} : aw g 176 15 L (w0 :: .ref a :: r) σ Q = (hty σ a = some 3 ∧ (vI w0 && true) = true ∧ csum r ≤ 8 ∧ aw g 175 0 [some (.ref a), some w0] [] σ (kt (aw g) 176 18 L r Q)) := (aw_eq g 176 15 _ _ _ _).trans (by rw [tq176_15]; exact rfl)
theorem tq176_18 : tT g 176 18 = s_iinc 176 21 2 1 := rfl
theorem A176_18 {l0 : Option Value} {l1 : Option Value} {l3 : Option Value} {l4 : Option Value} {l5 : Option Value} {l6 : Option Value} {l7 : Option Value} {x : Int32} {r : List Value} : aw g 176 18 [l0, l1, some (.int x), l3, l4, l5, l6, l7] r σ Q = (oc l1 = true ∧ aw g 176 21 [l0, l1, some (.int (x + 1)), l3, l4, l5, l6, l7] r σ Q) := (aw_eq g 176 18 _ _ _ _).trans (by rw [tq176_18]; exact (h_iinc (o := oc l1) rfl rfl rfl))
theorem tq176_21 : tT g 176 21 = s_goto 176 2 := rfl
theorem A176_21 {L : AL} {r : List Value} : aw g 176 21 L r σ Q = aw g 176 2 L r σ Q := (aw_eq g 176 21 _ _ _ _).trans (by rw [tq176_21]; exact rfl)
theorem tq176_24 : tT g 176 24 = s_load vRf 176 25 0 := rfl
theorem A176_24 {l1 : Option Value} {l2 : Option Value} {l3 : Option Value} {l4 : Option Value} {l5 : Option Value} {l6 : Option Value} {l7 : Option Value} {x : Value} {r : List Value} : aw g 176 24 [some (x), l1, l2, l3, l4, l5, l6, l7] r σ Q = (vRf x = true ∧ aw g 176 25 [some (x), l1, l2, l3, l4, l5, l6, l7] (x :: r) σ Q) := (aw_eq g 176 24 _ _ _ _).trans (by rw [tq176_24]; exact h_load rfl)
theorem tq176_25 : tT g 176 25 = s_getf 176 28 3 1 := rfl
theorem A176_25 {L : AL} {r : List Value} {a : Nat} : aw g 176 25 L (.ref a :: r) σ Q = (hty σ a = some 3 ∧ aw g 176 28 L (hv σ 3 a 1 :: r) σ Q) := (aw_eq g 176 25 _ _ _ _).trans (by rw [tq176_25]; exact rfl)
theorem tq176_28 : tT g 176 28 = s_getf 176 31 4 0 := rfl
theorem A176_28 {L : AL} {r : List Value} {a : Nat} : aw g 176 28 L (.ref a :: r) σ Q = (hty σ a = some 4 ∧ aw g 176 31 L (hv σ 4 a 0 :: r) σ Q) := (aw_eq g 176 28 _ _ _ _).trans (by rw [tq176_28]; exact rfl)
theorem tq176_31 : tT g 176 31 = s_load vI 176 32 1 := rfl
theorem A176_31 {l0 : Option Value} {l2 : Option Value} {l3 : Option Value} {l4 : Option Value} {l5 : Option Value} {l6 : Option Value} {l7 : Option Value} {x : Int32} {r : List Value} : aw g 176 31 [l0, some (.int x), l2, l3, l4, l5, l6, l7] r σ Q = aw g 176 32 [l0, some (.int x), l2, l3, l4, l5, l6, l7] (.int x :: r) σ Q := (aw_eq g 176 31 _ _ _ _).trans (by rw [tq176_31]; exact (h_load rfl).trans (propext ⟨fun z => z.2, fun z => ⟨rfl, z⟩⟩))
theorem tq176_32 : tT g 176 32 = s_callvk 176 35 25 10 [0] 2 := rfl
theorem A176_32 {L : AL} {r : List Value} {a : Nat} {w0 : Value} : aw g 176 32 L (w0 :: .ref a :: r) σ Q = (hty σ a = some 10 ∧ (vI w0 && true) = true ∧ csum r ≤ 8 ∧ aw g 25 0 [some (.ref a), some w0] [] σ (kt (aw g) 176 35 L r Q)) := (aw_eq g 176 32 _ _ _ _).trans (by rw [tq176_32]; exact rfl)
theorem tq176_35 : tT g 176 35 = s_cast 176 38 [7] := rfl
theorem A176_35 {L : AL} {r : List Value} : aw g 176 35 L (.null :: r) σ Q = aw g 176 38 L (.null :: r) σ Q := (aw_eq g 176 35 _ _ _ _).trans (by rw [tq176_35]; exact rfl)
theorem A176_35r {L : AL} {r : List Value} {a : Nat} : aw g 176 35 L (.ref a :: r) σ Q = (hty σ a = some 7 ∧ aw g 176 38 L (.ref a :: r) σ Q) := (aw_eq g 176 35 _ _ _ _).trans (by rw [tq176_35]; exact propext ⟨fun z => (by obtain ⟨⟨u, hu, hu2⟩, z2⟩ := z; rw [List.mem_singleton] at hu; subst hu; exact ⟨hu2, z2⟩), fun z => ⟨⟨_, List.mem_cons_self, z.1⟩, z.2⟩⟩)
theorem tq176_38 : tT g 176 38 = s_store vRf 176 39 2 := rfl
theorem A176_38 {l0 : Option Value} {l1 : Option Value} {l2 : Option Value} {l3 : Option Value} {l4 : Option Value} {l5 : Option Value} {l6 : Option Value} {l7 : Option Value} {x : Value} {r : List Value} : aw g 176 38 [l0, l1, l2, l3, l4, l5, l6, l7] (x :: r) σ Q = (vRf x = true ∧ oc l1 = true ∧ aw g 176 39 [l0, l1, some (x), l3, l4, l5, l6, l7] r σ Q) := (aw_eq g 176 38 _ _ _ _).trans (by rw [tq176_38]; exact (h_store (o := oc l1) rfl rfl rfl))
theorem tq176_39 : tT g 176 39 = s_load vRf 176 40 2 := rfl
theorem A176_39 {l0 : Option Value} {l1 : Option Value} {l3 : Option Value} {l4 : Option Value} {l5 : Option Value} {l6 : Option Value} {l7 : Option Value} {x : Value} {r : List Value} : aw g 176 39 [l0, l1, some (x), l3, l4, l5, l6, l7] r σ Q = (vRf x = true ∧ aw g 176 40 [l0, l1, some (x), l3, l4, l5, l6, l7] (x :: r) σ Q) := (aw_eq g 176 39 _ _ _ _).trans (by rw [tq176_39]; exact h_load rfl)
theorem tq176_40 : tT g 176 40 = s_getf 176 43 7 17 := rfl
theorem A176_40 {L : AL} {r : List Value} {a : Nat} : aw g 176 40 L (.ref a :: r) σ Q = (hty σ a = some 7 ∧ aw g 176 43 L (hv σ 7 a 17 :: r) σ Q) := (aw_eq g 176 40 _ _ _ _).trans (by rw [tq176_40]; exact rfl)
theorem tq176_43 : tT g 176 43 = s_store vRf 176 44 3 := rfl
theorem A176_43 {l0 : Option Value} {l1 : Option Value} {l2 : Option Value} {l3 : Option Value} {l4 : Option Value} {l5 : Option Value} {l6 : Option Value} {l7 : Option Value} {x : Value} {r : List Value} : aw g 176 43 [l0, l1, l2, l3, l4, l5, l6, l7] (x :: r) σ Q = (vRf x = true ∧ oc l2 = true ∧ aw g 176 44 [l0, l1, l2, some (x), l4, l5, l6, l7] r σ Q) := (aw_eq g 176 43 _ _ _ _).trans (by rw [tq176_43]; exact (h_store (o := oc l2) rfl rfl rfl))
theorem tq176_44 : tT g 176 44 = s_load vRf 176 45 3 := rfl
theorem A176_44 {l0 : Option Value} {l1 : Option Value} {l2 : Option Value} {l4 : Option Value} {l5 : Option Value} {l6 : Option Value} {l7 : Option Value} {x : Value} {r : List Value} : aw g 176 44 [l0, l1, l2, some (x), l4, l5, l6, l7] r σ Q = (vRf x = true ∧ aw g 176 45 [l0, l1, l2, some (x), l4, l5, l6, l7] (x :: r) σ Q) := (aw_eq g 176 44 _ _ _ _).trans (by rw [tq176_44]; exact h_load rfl)
theorem tq176_45 : tT g 176 45 = s_alen 176 46 20 := rfl
theorem A176_45 {L : AL} {r : List Value} {a : Nat} : aw g 176 45 L (.ref a :: r) σ Q = (hty σ a = some 20 ∧ aw g 176 46 L (.int (Int32.ofNat (hln σ a)) :: r) σ Q) := (aw_eq g 176 45 _ _ _ _).trans (by rw [tq176_45]; exact rfl)
theorem tq176_46 : tT g 176 46 = s_store vI 176 48 4 := rfl
theorem A176_46 {l0 : Option Value} {l1 : Option Value} {l2 : Option Value} {l3 : Option Value} {l4 : Option Value} {l5 : Option Value} {l6 : Option Value} {l7 : Option Value} {x : Int32} {r : List Value} : aw g 176 46 [l0, l1, l2, l3, l4, l5, l6, l7] (.int x :: r) σ Q = (oc l3 = true ∧ aw g 176 48 [l0, l1, l2, l3, some (.int x), l5, l6, l7] r σ Q) := (aw_eq g 176 46 _ _ _ _).trans (by rw [tq176_46]; exact (h_store (o := oc l3) rfl rfl rfl).trans (propext ⟨fun z => z.2, fun z => ⟨rfl, z⟩⟩))
theorem tq176_48 : tT g 176 48 = s_const 176 49 (.int 0) := rfl
theorem A176_48 {L : AL} {r : List Value} : aw g 176 48 L r σ Q = aw g 176 49 L (.int 0 :: r) σ Q := (aw_eq g 176 48 _ _ _ _).trans (by rw [tq176_48]; exact rfl)
theorem tq176_49 : tT g 176 49 = s_store vI 176 51 5 := rfl
theorem A176_49 {l0 : Option Value} {l1 : Option Value} {l2 : Option Value} {l3 : Option Value} {l4 : Option Value} {l5 : Option Value} {l6 : Option Value} {l7 : Option Value} {x : Int32} {r : List Value} : aw g 176 49 [l0, l1, l2, l3, l4, l5, l6, l7] (.int x :: r) σ Q = (oc l4 = true ∧ aw g 176 51 [l0, l1, l2, l3, l4, some (.int x), l6, l7] r σ Q) := (aw_eq g 176 49 _ _ _ _).trans (by rw [tq176_49]; exact (h_store (o := oc l4) rfl rfl rfl).trans (propext ⟨fun z => z.2, fun z => ⟨rfl, z⟩⟩))
theorem tq176_51 : tT g 176 51 = s_load vI 176 53 5 := rfl
theorem A176_51 {l0 : Option Value} {l1 : Option Value} {l2 : Option Value} {l3 : Option Value} {l4 : Option Value} {l6 : Option Value} {l7 : Option Value} {x : Int32} {r : List Value} : aw g 176 51 [l0, l1, l2, l3, l4, some (.int x), l6, l7] r σ Q = aw g 176 53 [l0, l1, l2, l3, l4, some (.int x), l6, l7] (.int x :: r) σ Q := (aw_eq g 176 51 _ _ _ _).trans (by rw [tq176_51]; exact (h_load rfl).trans (propext ⟨fun z => z.2, fun z => ⟨rfl, z⟩⟩))
theorem tq176_53 : tT g 176 53 = s_load vI 176 55 4 := rfl
theorem A176_53 {l0 : Option Value} {l1 : Option Value} {l2 : Option Value} {l3 : Option Value} {l5 : Option Value} {l6 : Option Value} {l7 : Option Value} {x : Int32} {r : List Value} : aw g 176 53 [l0, l1, l2, l3, some (.int x), l5, l6, l7] r σ Q = aw g 176 55 [l0, l1, l2, l3, some (.int x), l5, l6, l7] (.int x :: r) σ Q := (aw_eq g 176 53 _ _ _ _).trans (by rw [tq176_53]; exact (h_load rfl).trans (propext ⟨fun z => z.2, fun z => ⟨rfl, z⟩⟩))
theorem tq176_55 : tT g 176 55 = s_icmp 176 58 76 (fun a b => b ≤ a) := rfl
theorem A176_55 {L : AL} {r : List Value} {a b : Int32} : aw g 176 55 L (.int b :: .int a :: r) σ Q = ((b ≤ a → aw g 176 76 L r σ Q) ∧ (¬ b ≤ a → aw g 176 58 L r σ Q)) := (aw_eq g 176 55 _ _ _ _).trans (by rw [tq176_55]; exact rfl)
theorem tq176_58 : tT g 176 58 = s_load vRf 176 59 3 := rfl
theorem A176_58 {l0 : Option Value} {l1 : Option Value} {l2 : Option Value} {l4 : Option Value} {l5 : Option Value} {l6 : Option Value} {l7 : Option Value} {x : Value} {r : List Value} : aw g 176 58 [l0, l1, l2, some (x), l4, l5, l6, l7] r σ Q = (vRf x = true ∧ aw g 176 59 [l0, l1, l2, some (x), l4, l5, l6, l7] (x :: r) σ Q) := (aw_eq g 176 58 _ _ _ _).trans (by rw [tq176_58]; exact h_load rfl)
theorem tq176_59 : tT g 176 59 = s_load vI 176 61 5 := rfl
theorem A176_59 {l0 : Option Value} {l1 : Option Value} {l2 : Option Value} {l3 : Option Value} {l4 : Option Value} {l6 : Option Value} {l7 : Option Value} {x : Int32} {r : List Value} : aw g 176 59 [l0, l1, l2, l3, l4, some (.int x), l6, l7] r σ Q = aw g 176 61 [l0, l1, l2, l3, l4, some (.int x), l6, l7] (.int x :: r) σ Q := (aw_eq g 176 59 _ _ _ _).trans (by rw [tq176_59]; exact (h_load rfl).trans (propext ⟨fun z => z.2, fun z => ⟨rfl, z⟩⟩))
theorem tq176_61 : tT g 176 61 = s_ald 176 62 20 := rfl
theorem A176_61 {L : AL} {r : List Value} {a : Nat} {i : Int32} : aw g 176 61 L (.int i :: .ref a :: r) σ Q = (hty σ a = some 20 ∧ ¬ i < 0 ∧ i.toNatClampNeg < hln σ a ∧ aw g 176 62 L (hv σ 20 a i.toNatClampNeg :: r) σ Q) := (aw_eq g 176 61 _ _ _ _).trans (by rw [tq176_61]; exact rfl)
theorem tq176_62 : tT g 176 62 = s_store vI 176 64 6 := rfl
theorem A176_62 {l0 : Option Value} {l1 : Option Value} {l2 : Option Value} {l3 : Option Value} {l4 : Option Value} {l5 : Option Value} {l6 : Option Value} {l7 : Option Value} {x : Int32} {r : List Value} : aw g 176 62 [l0, l1, l2, l3, l4, l5, l6, l7] (.int x :: r) σ Q = (oc l5 = true ∧ aw g 176 64 [l0, l1, l2, l3, l4, l5, some (.int x), l7] r σ Q) := (aw_eq g 176 62 _ _ _ _).trans (by rw [tq176_62]; exact (h_store (o := oc l5) rfl rfl rfl).trans (propext ⟨fun z => z.2, fun z => ⟨rfl, z⟩⟩))
theorem tq176_64 : tT g 176 64 = s_load vRf 176 65 0 := rfl
theorem A176_64 {l1 : Option Value} {l2 : Option Value} {l3 : Option Value} {l4 : Option Value} {l5 : Option Value} {l6 : Option Value} {l7 : Option Value} {x : Value} {r : List Value} : aw g 176 64 [some (x), l1, l2, l3, l4, l5, l6, l7] r σ Q = (vRf x = true ∧ aw g 176 65 [some (x), l1, l2, l3, l4, l5, l6, l7] (x :: r) σ Q) := (aw_eq g 176 64 _ _ _ _).trans (by rw [tq176_64]; exact h_load rfl)
theorem tq176_65 : tT g 176 65 = s_load vI 176 67 6 := rfl
theorem A176_65 {l0 : Option Value} {l1 : Option Value} {l2 : Option Value} {l3 : Option Value} {l4 : Option Value} {l5 : Option Value} {l7 : Option Value} {x : Int32} {r : List Value} : aw g 176 65 [l0, l1, l2, l3, l4, l5, some (.int x), l7] r σ Q = aw g 176 67 [l0, l1, l2, l3, l4, l5, some (.int x), l7] (.int x :: r) σ Q := (aw_eq g 176 65 _ _ _ _).trans (by rw [tq176_65]; exact (h_load rfl).trans (propext ⟨fun z => z.2, fun z => ⟨rfl, z⟩⟩))
theorem tq176_67 : tT g 176 67 = s_callvk 176 70 175 3 [0] 2 := rfl
theorem A176_67 {L : AL} {r : List Value} {a : Nat} {w0 : Value} : aw g 176 67 L (w0 :: .ref a :: r) σ Q = (hty σ a = some 3 ∧ (vI w0 && true) = true ∧ csum r ≤ 8 ∧ aw g 175 0 [some (.ref a), some w0] [] σ (kt (aw g) 176 70 L r Q)) := (aw_eq g 176 67 _ _ _ _).trans (by rw [tq176_67]; exact rfl)
theorem tq176_70 : tT g 176 70 = s_iinc 176 73 5 1 := rfl
theorem A176_70 {l0 : Option Value} {l1 : Option Value} {l2 : Option Value} {l3 : Option Value} {l4 : Option Value} {l6 : Option Value} {l7 : Option Value} {x : Int32} {r : List Value} : aw g 176 70 [l0, l1, l2, l3, l4, some (.int x), l6, l7] r σ Q = (oc l4 = true ∧ aw g 176 73 [l0, l1, l2, l3, l4, some (.int (x + 1)), l6, l7] r σ Q) := (aw_eq g 176 70 _ _ _ _).trans (by rw [tq176_70]; exact (h_iinc (o := oc l4) rfl rfl rfl))
theorem tq176_73 : tT g 176 73 = s_goto 176 51 := rfl
theorem A176_73 {L : AL} {r : List Value} : aw g 176 73 L r σ Q = aw g 176 51 L r σ Q := (aw_eq g 176 73 _ _ _ _).trans (by rw [tq176_73]; exact rfl)
theorem tq176_76 : tT g 176 76 = s_const 176 77 (.int 0) := rfl
theorem A176_76 {L : AL} {r : List Value} : aw g 176 76 L r σ Q = aw g 176 77 L (.int 0 :: r) σ Q := (aw_eq g 176 76 _ _ _ _).trans (by rw [tq176_76]; exact rfl)
theorem tq176_77 : tT g 176 77 = s_store vI 176 78 3 := rfl
theorem A176_77 {l0 : Option Value} {l1 : Option Value} {l2 : Option Value} {l3 : Option Value} {l4 : Option Value} {l5 : Option Value} {l6 : Option Value} {l7 : Option Value} {x : Int32} {r : List Value} : aw g 176 77 [l0, l1, l2, l3, l4, l5, l6, l7] (.int x :: r) σ Q = (oc l2 = true ∧ aw g 176 78 [l0, l1, l2, some (.int x), l4, l5, l6, l7] r σ Q) := (aw_eq g 176 77 _ _ _ _).trans (by rw [tq176_77]; exact (h_store (o := oc l2) rfl rfl rfl).trans (propext ⟨fun z => z.2, fun z => ⟨rfl, z⟩⟩))
theorem tq176_78 : tT g 176 78 = s_load vI 176 79 3 := rfl
theorem A176_78 {l0 : Option Value} {l1 : Option Value} {l2 : Option Value} {l4 : Option Value} {l5 : Option Value} {l6 : Option Value} {l7 : Option Value} {x : Int32} {r : List Value} : aw g 176 78 [l0, l1, l2, some (.int x), l4, l5, l6, l7] r σ Q = aw g 176 79 [l0, l1, l2, some (.int x), l4, l5, l6, l7] (.int x :: r) σ Q := (aw_eq g 176 78 _ _ _ _).trans (by rw [tq176_78]; exact (h_load rfl).trans (propext ⟨fun z => z.2, fun z => ⟨rfl, z⟩⟩))
theorem tq176_79 : tT g 176 79 = s_const 176 81 (.int 6) := rfl
theorem A176_79 {L : AL} {r : List Value} : aw g 176 79 L r σ Q = aw g 176 81 L (.int 6 :: r) σ Q := (aw_eq g 176 79 _ _ _ _).trans (by rw [tq176_79]; exact rfl)
theorem tq176_81 : tT g 176 81 = s_icmp 176 84 117 (fun a b => b ≤ a) := rfl
theorem A176_81 {L : AL} {r : List Value} {a b : Int32} : aw g 176 81 L (.int b :: .int a :: r) σ Q = ((b ≤ a → aw g 176 117 L r σ Q) ∧ (¬ b ≤ a → aw g 176 84 L r σ Q)) := (aw_eq g 176 81 _ _ _ _).trans (by rw [tq176_81]; exact rfl)
theorem tq176_84 : tT g 176 84 = s_const 176 85 (.int 0) := rfl
theorem A176_84 {L : AL} {r : List Value} : aw g 176 84 L r σ Q = aw g 176 85 L (.int 0 :: r) σ Q := (aw_eq g 176 84 _ _ _ _).trans (by rw [tq176_84]; exact rfl)
theorem tq176_85 : tT g 176 85 = s_store vI 176 87 4 := rfl
theorem A176_85 {l0 : Option Value} {l1 : Option Value} {l2 : Option Value} {l3 : Option Value} {l4 : Option Value} {l5 : Option Value} {l6 : Option Value} {l7 : Option Value} {x : Int32} {r : List Value} : aw g 176 85 [l0, l1, l2, l3, l4, l5, l6, l7] (.int x :: r) σ Q = (oc l3 = true ∧ aw g 176 87 [l0, l1, l2, l3, some (.int x), l5, l6, l7] r σ Q) := (aw_eq g 176 85 _ _ _ _).trans (by rw [tq176_85]; exact (h_store (o := oc l3) rfl rfl rfl).trans (propext ⟨fun z => z.2, fun z => ⟨rfl, z⟩⟩))
theorem tq176_87 : tT g 176 87 = s_load vI 176 89 4 := rfl
theorem A176_87 {l0 : Option Value} {l1 : Option Value} {l2 : Option Value} {l3 : Option Value} {l5 : Option Value} {l6 : Option Value} {l7 : Option Value} {x : Int32} {r : List Value} : aw g 176 87 [l0, l1, l2, l3, some (.int x), l5, l6, l7] r σ Q = aw g 176 89 [l0, l1, l2, l3, some (.int x), l5, l6, l7] (.int x :: r) σ Q := (aw_eq g 176 87 _ _ _ _).trans (by rw [tq176_87]; exact (h_load rfl).trans (propext ⟨fun z => z.2, fun z => ⟨rfl, z⟩⟩))
theorem tq176_89 : tT g 176 89 = s_const 176 90 (.int 4) := rfl
theorem A176_89 {L : AL} {r : List Value} : aw g 176 89 L r σ Q = aw g 176 90 L (.int 4 :: r) σ Q := (aw_eq g 176 89 _ _ _ _).trans (by rw [tq176_89]; exact rfl)
theorem tq176_90 : tT g 176 90 = s_icmp 176 93 111 (fun a b => b ≤ a) := rfl
theorem A176_90 {L : AL} {r : List Value} {a b : Int32} : aw g 176 90 L (.int b :: .int a :: r) σ Q = ((b ≤ a → aw g 176 111 L r σ Q) ∧ (¬ b ≤ a → aw g 176 93 L r σ Q)) := (aw_eq g 176 90 _ _ _ _).trans (by rw [tq176_90]; exact rfl)
theorem tq176_93 : tT g 176 93 = s_load vRf 176 94 0 := rfl
theorem A176_93 {l1 : Option Value} {l2 : Option Value} {l3 : Option Value} {l4 : Option Value} {l5 : Option Value} {l6 : Option Value} {l7 : Option Value} {x : Value} {r : List Value} : aw g 176 93 [some (x), l1, l2, l3, l4, l5, l6, l7] r σ Q = (vRf x = true ∧ aw g 176 94 [some (x), l1, l2, l3, l4, l5, l6, l7] (x :: r) σ Q) := (aw_eq g 176 93 _ _ _ _).trans (by rw [tq176_93]; exact h_load rfl)
theorem tq176_94 : tT g 176 94 = s_load vRf 176 95 0 := rfl
theorem A176_94 {l1 : Option Value} {l2 : Option Value} {l3 : Option Value} {l4 : Option Value} {l5 : Option Value} {l6 : Option Value} {l7 : Option Value} {x : Value} {r : List Value} : aw g 176 94 [some (x), l1, l2, l3, l4, l5, l6, l7] r σ Q = (vRf x = true ∧ aw g 176 95 [some (x), l1, l2, l3, l4, l5, l6, l7] (x :: r) σ Q) := (aw_eq g 176 94 _ _ _ _).trans (by rw [tq176_94]; exact h_load rfl)
theorem tq176_95 : tT g 176 95 = s_load vI 176 96 1 := rfl
theorem A176_95 {l0 : Option Value} {l2 : Option Value} {l3 : Option Value} {l4 : Option Value} {l5 : Option Value} {l6 : Option Value} {l7 : Option Value} {x : Int32} {r : List Value} : aw g 176 95 [l0, some (.int x), l2, l3, l4, l5, l6, l7] r σ Q = aw g 176 96 [l0, some (.int x), l2, l3, l4, l5, l6, l7] (.int x :: r) σ Q := (aw_eq g 176 95 _ _ _ _).trans (by rw [tq176_95]; exact (h_load rfl).trans (propext ⟨fun z => z.2, fun z => ⟨rfl, z⟩⟩))
theorem tq176_96 : tT g 176 96 = s_load vI 176 97 3 := rfl
theorem A176_96 {l0 : Option Value} {l1 : Option Value} {l2 : Option Value} {l4 : Option Value} {l5 : Option Value} {l6 : Option Value} {l7 : Option Value} {x : Int32} {r : List Value} : aw g 176 96 [l0, l1, l2, some (.int x), l4, l5, l6, l7] r σ Q = aw g 176 97 [l0, l1, l2, some (.int x), l4, l5, l6, l7] (.int x :: r) σ Q := (aw_eq g 176 96 _ _ _ _).trans (by rw [tq176_96]; exact (h_load rfl).trans (propext ⟨fun z => z.2, fun z => ⟨rfl, z⟩⟩))
theorem tq176_97 : tT g 176 97 = s_load vI 176 99 4 := rfl
theorem A176_97 {l0 : Option Value} {l1 : Option Value} {l2 : Option Value} {l3 : Option Value} {l5 : Option Value} {l6 : Option Value} {l7 : Option Value} {x : Int32} {r : List Value} : aw g 176 97 [l0, l1, l2, l3, some (.int x), l5, l6, l7] r σ Q = aw g 176 99 [l0, l1, l2, l3, some (.int x), l5, l6, l7] (.int x :: r) σ Q := (aw_eq g 176 97 _ _ _ _).trans (by rw [tq176_97]; exact (h_load rfl).trans (propext ⟨fun z => z.2, fun z => ⟨rfl, z⟩⟩))
theorem tq176_99 : tT g 176 99 = s_callvk 176 102 160 3 [0, 0, 0] 7 := rfl
theorem A176_99 {L : AL} {r : List Value} {a : Nat} {w0 w1 w2 : Value} : aw g 176 99 L (w2 :: w1 :: w0 :: .ref a :: r) σ Q = (hty σ a = some 3 ∧ (vI w0 && (vI w1 && (vI w2 && true))) = true ∧ csum r ≤ 8 ∧ aw g 160 0 [some (.ref a), some w0, some w1, some w2, none, none, none] [] σ (kt (aw g) 176 102 L r Q)) := (aw_eq g 176 99 _ _ _ _).trans (by rw [tq176_99]; exact rfl)
theorem tq176_102 : tT g 176 102 = s_callvk 176 105 175 3 [0] 2 := rfl
theorem A176_102 {L : AL} {r : List Value} {a : Nat} {w0 : Value} : aw g 176 102 L (w0 :: .ref a :: r) σ Q = (hty σ a = some 3 ∧ (vI w0 && true) = true ∧ csum r ≤ 8 ∧ aw g 175 0 [some (.ref a), some w0] [] σ (kt (aw g) 176 105 L r Q)) := (aw_eq g 176 102 _ _ _ _).trans (by rw [tq176_102]; exact rfl)
theorem tq176_105 : tT g 176 105 = s_iinc 176 108 4 1 := rfl
theorem A176_105 {l0 : Option Value} {l1 : Option Value} {l2 : Option Value} {l3 : Option Value} {l5 : Option Value} {l6 : Option Value} {l7 : Option Value} {x : Int32} {r : List Value} : aw g 176 105 [l0, l1, l2, l3, some (.int x), l5, l6, l7] r σ Q = (oc l3 = true ∧ aw g 176 108 [l0, l1, l2, l3, some (.int (x + 1)), l5, l6, l7] r σ Q) := (aw_eq g 176 105 _ _ _ _).trans (by rw [tq176_105]; exact (h_iinc (o := oc l3) rfl rfl rfl))
theorem tq176_108 : tT g 176 108 = s_goto 176 87 := rfl
theorem A176_108 {L : AL} {r : List Value} : aw g 176 108 L r σ Q = aw g 176 87 L r σ Q := (aw_eq g 176 108 _ _ _ _).trans (by rw [tq176_108]; exact rfl)
theorem tq176_111 : tT g 176 111 = s_iinc 176 114 3 1 := rfl
theorem A176_111 {l0 : Option Value} {l1 : Option Value} {l2 : Option Value} {l4 : Option Value} {l5 : Option Value} {l6 : Option Value} {l7 : Option Value} {x : Int32} {r : List Value} : aw g 176 111 [l0, l1, l2, some (.int x), l4, l5, l6, l7] r σ Q = (oc l2 = true ∧ aw g 176 114 [l0, l1, l2, some (.int (x + 1)), l4, l5, l6, l7] r σ Q) := (aw_eq g 176 111 _ _ _ _).trans (by rw [tq176_111]; exact (h_iinc (o := oc l2) rfl rfl rfl))
theorem tq176_114 : tT g 176 114 = s_goto 176 78 := rfl
theorem A176_114 {L : AL} {r : List Value} : aw g 176 114 L r σ Q = aw g 176 78 L r σ Q := (aw_eq g 176 114 _ _ _ _).trans (by rw [tq176_114]; exact rfl)
theorem tq176_117 : tT g 176 117 = s_const 176 118 (.int 0) := rfl
theorem A176_117 {L : AL} {r : List Value} : aw g 176 117 L r σ Q = aw g 176 118 L (.int 0 :: r) σ Q := (aw_eq g 176 117 _ _ _ _).trans (by rw [tq176_117]; exact rfl)
theorem tq176_118 : tT g 176 118 = s_store vI 176 119 3 := rfl
theorem A176_118 {l0 : Option Value} {l1 : Option Value} {l2 : Option Value} {l3 : Option Value} {l4 : Option Value} {l5 : Option Value} {l6 : Option Value} {l7 : Option Value} {x : Int32} {r : List Value} : aw g 176 118 [l0, l1, l2, l3, l4, l5, l6, l7] (.int x :: r) σ Q = (oc l2 = true ∧ aw g 176 119 [l0, l1, l2, some (.int x), l4, l5, l6, l7] r σ Q) := (aw_eq g 176 118 _ _ _ _).trans (by rw [tq176_118]; exact (h_store (o := oc l2) rfl rfl rfl).trans (propext ⟨fun z => z.2, fun z => ⟨rfl, z⟩⟩))
theorem tq176_119 : tT g 176 119 = s_load vRf 176 120 0 := rfl
theorem A176_119 {l1 : Option Value} {l2 : Option Value} {l3 : Option Value} {l4 : Option Value} {l5 : Option Value} {l6 : Option Value} {l7 : Option Value} {x : Value} {r : List Value} : aw g 176 119 [some (x), l1, l2, l3, l4, l5, l6, l7] r σ Q = (vRf x = true ∧ aw g 176 120 [some (x), l1, l2, l3, l4, l5, l6, l7] (x :: r) σ Q) := (aw_eq g 176 119 _ _ _ _).trans (by rw [tq176_119]; exact h_load rfl)
theorem tq176_120 : tT g 176 120 = s_load vI 176 121 1 := rfl
theorem A176_120 {l0 : Option Value} {l2 : Option Value} {l3 : Option Value} {l4 : Option Value} {l5 : Option Value} {l6 : Option Value} {l7 : Option Value} {x : Int32} {r : List Value} : aw g 176 120 [l0, some (.int x), l2, l3, l4, l5, l6, l7] r σ Q = aw g 176 121 [l0, some (.int x), l2, l3, l4, l5, l6, l7] (.int x :: r) σ Q := (aw_eq g 176 120 _ _ _ _).trans (by rw [tq176_120]; exact (h_load rfl).trans (propext ⟨fun z => z.2, fun z => ⟨rfl, z⟩⟩))
theorem tq176_121 : tT g 176 121 = s_load vI 176 122 3 := rfl
theorem A176_121 {l0 : Option Value} {l1 : Option Value} {l2 : Option Value} {l4 : Option Value} {l5 : Option Value} {l6 : Option Value} {l7 : Option Value} {x : Int32} {r : List Value} : aw g 176 121 [l0, l1, l2, some (.int x), l4, l5, l6, l7] r σ Q = aw g 176 122 [l0, l1, l2, some (.int x), l4, l5, l6, l7] (.int x :: r) σ Q := (aw_eq g 176 121 _ _ _ _).trans (by rw [tq176_121]; exact (h_load rfl).trans (propext ⟨fun z => z.2, fun z => ⟨rfl, z⟩⟩))
theorem tq176_122 : tT g 176 122 = s_callvk 176 125 165 3 [0, 0] 4 := rfl
theorem A176_122 {L : AL} {r : List Value} {a : Nat} {w0 w1 : Value} : aw g 176 122 L (w1 :: w0 :: .ref a :: r) σ Q = (hty σ a = some 3 ∧ (vI w0 && (vI w1 && true)) = true ∧ csum r ≤ 8 ∧ aw g 165 0 [some (.ref a), some w0, some w1, none] [] σ (kt (aw g) 176 125 L r Q)) := (aw_eq g 176 122 _ _ _ _).trans (by rw [tq176_122]; exact rfl)
theorem tq176_125 : tT g 176 125 = s_const 176 126 (.int (-1)) := rfl
theorem A176_125 {L : AL} {r : List Value} : aw g 176 125 L r σ Q = aw g 176 126 L (.int (-1) :: r) σ Q := (aw_eq g 176 125 _ _ _ _).trans (by rw [tq176_125]; exact rfl)
theorem tq176_126 : tT g 176 126 = s_icmp 176 129 145 (fun a b => a = b) := rfl
theorem A176_126 {L : AL} {r : List Value} {a b : Int32} : aw g 176 126 L (.int b :: .int a :: r) σ Q = ((a = b → aw g 176 145 L r σ Q) ∧ (¬ a = b → aw g 176 129 L r σ Q)) := (aw_eq g 176 126 _ _ _ _).trans (by rw [tq176_126]; exact rfl)
theorem tq176_129 : tT g 176 129 = s_load vRf 176 130 0 := rfl
theorem A176_129 {l1 : Option Value} {l2 : Option Value} {l3 : Option Value} {l4 : Option Value} {l5 : Option Value} {l6 : Option Value} {l7 : Option Value} {x : Value} {r : List Value} : aw g 176 129 [some (x), l1, l2, l3, l4, l5, l6, l7] r σ Q = (vRf x = true ∧ aw g 176 130 [some (x), l1, l2, l3, l4, l5, l6, l7] (x :: r) σ Q) := (aw_eq g 176 129 _ _ _ _).trans (by rw [tq176_129]; exact h_load rfl)
theorem tq176_130 : tT g 176 130 = s_load vRf 176 131 0 := rfl
theorem A176_130 {l1 : Option Value} {l2 : Option Value} {l3 : Option Value} {l4 : Option Value} {l5 : Option Value} {l6 : Option Value} {l7 : Option Value} {x : Value} {r : List Value} : aw g 176 130 [some (x), l1, l2, l3, l4, l5, l6, l7] r σ Q = (vRf x = true ∧ aw g 176 131 [some (x), l1, l2, l3, l4, l5, l6, l7] (x :: r) σ Q) := (aw_eq g 176 130 _ _ _ _).trans (by rw [tq176_130]; exact h_load rfl)
theorem tq176_131 : tT g 176 131 = s_load vI 176 132 1 := rfl
theorem A176_131 {l0 : Option Value} {l2 : Option Value} {l3 : Option Value} {l4 : Option Value} {l5 : Option Value} {l6 : Option Value} {l7 : Option Value} {x : Int32} {r : List Value} : aw g 176 131 [l0, some (.int x), l2, l3, l4, l5, l6, l7] r σ Q = aw g 176 132 [l0, some (.int x), l2, l3, l4, l5, l6, l7] (.int x :: r) σ Q := (aw_eq g 176 131 _ _ _ _).trans (by rw [tq176_131]; exact (h_load rfl).trans (propext ⟨fun z => z.2, fun z => ⟨rfl, z⟩⟩))
theorem tq176_132 : tT g 176 132 = s_load vI 176 133 3 := rfl
theorem A176_132 {l0 : Option Value} {l1 : Option Value} {l2 : Option Value} {l4 : Option Value} {l5 : Option Value} {l6 : Option Value} {l7 : Option Value} {x : Int32} {r : List Value} : aw g 176 132 [l0, l1, l2, some (.int x), l4, l5, l6, l7] r σ Q = aw g 176 133 [l0, l1, l2, some (.int x), l4, l5, l6, l7] (.int x :: r) σ Q := (aw_eq g 176 132 _ _ _ _).trans (by rw [tq176_132]; exact (h_load rfl).trans (propext ⟨fun z => z.2, fun z => ⟨rfl, z⟩⟩))
theorem tq176_133 : tT g 176 133 = s_callvk 176 136 165 3 [0, 0] 4 := rfl
theorem A176_133 {L : AL} {r : List Value} {a : Nat} {w0 w1 : Value} : aw g 176 133 L (w1 :: w0 :: .ref a :: r) σ Q = (hty σ a = some 3 ∧ (vI w0 && (vI w1 && true)) = true ∧ csum r ≤ 8 ∧ aw g 165 0 [some (.ref a), some w0, some w1, none] [] σ (kt (aw g) 176 136 L r Q)) := (aw_eq g 176 133 _ _ _ _).trans (by rw [tq176_133]; exact rfl)
theorem tq176_136 : tT g 176 136 = s_callvk 176 139 175 3 [0] 2 := rfl
theorem A176_136 {L : AL} {r : List Value} {a : Nat} {w0 : Value} : aw g 176 136 L (w0 :: .ref a :: r) σ Q = (hty σ a = some 3 ∧ (vI w0 && true) = true ∧ csum r ≤ 8 ∧ aw g 175 0 [some (.ref a), some w0] [] σ (kt (aw g) 176 139 L r Q)) := (aw_eq g 176 136 _ _ _ _).trans (by rw [tq176_136]; exact rfl)
theorem tq176_139 : tT g 176 139 = s_iinc 176 142 3 1 := rfl
theorem A176_139 {l0 : Option Value} {l1 : Option Value} {l2 : Option Value} {l4 : Option Value} {l5 : Option Value} {l6 : Option Value} {l7 : Option Value} {x : Int32} {r : List Value} : aw g 176 139 [l0, l1, l2, some (.int x), l4, l5, l6, l7] r σ Q = (oc l2 = true ∧ aw g 176 142 [l0, l1, l2, some (.int (x + 1)), l4, l5, l6, l7] r σ Q) := (aw_eq g 176 139 _ _ _ _).trans (by rw [tq176_139]; exact (h_iinc (o := oc l2) rfl rfl rfl))
theorem tq176_142 : tT g 176 142 = s_goto 176 119 := rfl
theorem A176_142 {L : AL} {r : List Value} : aw g 176 142 L r σ Q = aw g 176 119 L r σ Q := (aw_eq g 176 142 _ _ _ _).trans (by rw [tq176_142]; exact rfl)
theorem tq176_145 : tT g 176 145 = s_const 176 146 (.int 3) := rfl
theorem A176_145 {L : AL} {r : List Value} : aw g 176 145 L r σ Q = aw g 176 146 L (.int 3 :: r) σ Q := (aw_eq g 176 145 _ _ _ _).trans (by rw [tq176_145]; exact rfl)
theorem tq176_146 : tT g 176 146 = s_newa g 176 148 20 (.int 0) := rfl
theorem A176_146 {L : AL} {r : List Value} {x : Int32} : aw g 176 146 L (.int x :: r) σ Q = (¬ x < 0 ∧ x.toNatClampNeg ≤ 65536 ∧ hsz σ + 1 ≤ gC g ∧ hsl σ + x.toNatClampNeg ≤ gS g ∧ aw g 176 148 L (.ref (hsz σ) :: r) (hnew σ 20 x.toNatClampNeg (fun _ => .int 0) x.toNatClampNeg) Q) := (aw_eq g 176 146 _ _ _ _).trans (by rw [tq176_146]; exact rfl)
theorem tq176_148 : tT g 176 148 = s_dup 176 149 := rfl
theorem A176_148 {L : AL} {r : List Value} {v : Value} : aw g 176 148 L (v :: r) σ Q = (v.category = 1 ∧ aw g 176 149 L (v :: v :: r) σ Q) := (aw_eq g 176 148 _ _ _ _).trans (by rw [tq176_148]; exact rfl)
theorem tq176_149 : tT g 176 149 = s_const 176 150 (.int 0) := rfl
theorem A176_149 {L : AL} {r : List Value} : aw g 176 149 L r σ Q = aw g 176 150 L (.int 0 :: r) σ Q := (aw_eq g 176 149 _ _ _ _).trans (by rw [tq176_149]; exact rfl)
theorem tq176_150 : tT g 176 150 = s_const 176 151 (.int 0) := rfl
theorem A176_150 {L : AL} {r : List Value} : aw g 176 150 L r σ Q = aw g 176 151 L (.int 0 :: r) σ Q := (aw_eq g 176 150 _ _ _ _).trans (by rw [tq176_150]; exact rfl)
theorem tq176_151 : tT g 176 151 = s_ast g (fun _ v => vI v = true) 176 152 20 := rfl
theorem A176_151 {L : AL} {r : List Value} {a : Nat} {i : Int32} {v : Value} : aw g 176 151 L (v :: .int i :: .ref a :: r) σ Q = (hty σ a = some 20 ∧ gB g ≤ a ∧ ¬ i < 0 ∧ i.toNatClampNeg < hln σ a ∧ vI v = true ∧ aw g 176 152 L r (hput σ 20 a i.toNatClampNeg v) Q) := (aw_eq g 176 151 _ _ _ _).trans (by rw [tq176_151]; exact rfl)
theorem tq176_152 : tT g 176 152 = s_dup 176 153 := rfl
theorem A176_152 {L : AL} {r : List Value} {v : Value} : aw g 176 152 L (v :: r) σ Q = (v.category = 1 ∧ aw g 176 153 L (v :: v :: r) σ Q) := (aw_eq g 176 152 _ _ _ _).trans (by rw [tq176_152]; exact rfl)
theorem tq176_153 : tT g 176 153 = s_const 176 154 (.int 1) := rfl
theorem A176_153 {L : AL} {r : List Value} : aw g 176 153 L r σ Q = aw g 176 154 L (.int 1 :: r) σ Q := (aw_eq g 176 153 _ _ _ _).trans (by rw [tq176_153]; exact rfl)
theorem tq176_154 : tT g 176 154 = s_const 176 155 (.int 5) := rfl
theorem A176_154 {L : AL} {r : List Value} : aw g 176 154 L r σ Q = aw g 176 155 L (.int 5 :: r) σ Q := (aw_eq g 176 154 _ _ _ _).trans (by rw [tq176_154]; exact rfl)
theorem tq176_155 : tT g 176 155 = s_ast g (fun _ v => vI v = true) 176 156 20 := rfl
theorem A176_155 {L : AL} {r : List Value} {a : Nat} {i : Int32} {v : Value} : aw g 176 155 L (v :: .int i :: .ref a :: r) σ Q = (hty σ a = some 20 ∧ gB g ≤ a ∧ ¬ i < 0 ∧ i.toNatClampNeg < hln σ a ∧ vI v = true ∧ aw g 176 156 L r (hput σ 20 a i.toNatClampNeg v) Q) := (aw_eq g 176 155 _ _ _ _).trans (by rw [tq176_155]; exact rfl)
theorem tq176_156 : tT g 176 156 = s_dup 176 157 := rfl
theorem A176_156 {L : AL} {r : List Value} {v : Value} : aw g 176 156 L (v :: r) σ Q = (v.category = 1 ∧ aw g 176 157 L (v :: v :: r) σ Q) := (aw_eq g 176 156 _ _ _ _).trans (by rw [tq176_156]; exact rfl)
theorem tq176_157 : tT g 176 157 = s_const 176 158 (.int 2) := rfl
theorem A176_157 {L : AL} {r : List Value} : aw g 176 157 L r σ Q = aw g 176 158 L (.int 2 :: r) σ Q := (aw_eq g 176 157 _ _ _ _).trans (by rw [tq176_157]; exact rfl)
theorem tq176_158 : tT g 176 158 = s_const 176 160 (.int 12) := rfl
theorem A176_158 {L : AL} {r : List Value} : aw g 176 158 L r σ Q = aw g 176 160 L (.int 12 :: r) σ Q := (aw_eq g 176 158 _ _ _ _).trans (by rw [tq176_158]; exact rfl)
theorem tq176_160 : tT g 176 160 = s_ast g (fun _ v => vI v = true) 176 161 20 := rfl
theorem A176_160 {L : AL} {r : List Value} {a : Nat} {i : Int32} {v : Value} : aw g 176 160 L (v :: .int i :: .ref a :: r) σ Q = (hty σ a = some 20 ∧ gB g ≤ a ∧ ¬ i < 0 ∧ i.toNatClampNeg < hln σ a ∧ vI v = true ∧ aw g 176 161 L r (hput σ 20 a i.toNatClampNeg v) Q) := (aw_eq g 176 160 _ _ _ _).trans (by rw [tq176_160]; exact rfl)
theorem tq176_161 : tT g 176 161 = s_store vRf 176 162 3 := rfl
theorem A176_161 {l0 : Option Value} {l1 : Option Value} {l2 : Option Value} {l3 : Option Value} {l4 : Option Value} {l5 : Option Value} {l6 : Option Value} {l7 : Option Value} {x : Value} {r : List Value} : aw g 176 161 [l0, l1, l2, l3, l4, l5, l6, l7] (x :: r) σ Q = (vRf x = true ∧ oc l2 = true ∧ aw g 176 162 [l0, l1, l2, some (x), l4, l5, l6, l7] r σ Q) := (aw_eq g 176 161 _ _ _ _).trans (by rw [tq176_161]; exact (h_store (o := oc l2) rfl rfl rfl))
theorem tq176_162 : tT g 176 162 = s_load vRf 176 163 3 := rfl
theorem A176_162 {l0 : Option Value} {l1 : Option Value} {l2 : Option Value} {l4 : Option Value} {l5 : Option Value} {l6 : Option Value} {l7 : Option Value} {x : Value} {r : List Value} : aw g 176 162 [l0, l1, l2, some (x), l4, l5, l6, l7] r σ Q = (vRf x = true ∧ aw g 176 163 [l0, l1, l2, some (x), l4, l5, l6, l7] (x :: r) σ Q) := (aw_eq g 176 162 _ _ _ _).trans (by rw [tq176_162]; exact h_load rfl)
theorem tq176_163 : tT g 176 163 = s_store vRf 176 165 4 := rfl
theorem A176_163 {l0 : Option Value} {l1 : Option Value} {l2 : Option Value} {l3 : Option Value} {l4 : Option Value} {l5 : Option Value} {l6 : Option Value} {l7 : Option Value} {x : Value} {r : List Value} : aw g 176 163 [l0, l1, l2, l3, l4, l5, l6, l7] (x :: r) σ Q = (vRf x = true ∧ oc l3 = true ∧ aw g 176 165 [l0, l1, l2, l3, some (x), l5, l6, l7] r σ Q) := (aw_eq g 176 163 _ _ _ _).trans (by rw [tq176_163]; exact (h_store (o := oc l3) rfl rfl rfl))
theorem tq176_165 : tT g 176 165 = s_load vRf 176 167 4 := rfl
theorem A176_165 {l0 : Option Value} {l1 : Option Value} {l2 : Option Value} {l3 : Option Value} {l5 : Option Value} {l6 : Option Value} {l7 : Option Value} {x : Value} {r : List Value} : aw g 176 165 [l0, l1, l2, l3, some (x), l5, l6, l7] r σ Q = (vRf x = true ∧ aw g 176 167 [l0, l1, l2, l3, some (x), l5, l6, l7] (x :: r) σ Q) := (aw_eq g 176 165 _ _ _ _).trans (by rw [tq176_165]; exact h_load rfl)
theorem tq176_167 : tT g 176 167 = s_alen 176 168 20 := rfl
theorem A176_167 {L : AL} {r : List Value} {a : Nat} : aw g 176 167 L (.ref a :: r) σ Q = (hty σ a = some 20 ∧ aw g 176 168 L (.int (Int32.ofNat (hln σ a)) :: r) σ Q) := (aw_eq g 176 167 _ _ _ _).trans (by rw [tq176_167]; exact rfl)
theorem tq176_168 : tT g 176 168 = s_store vI 176 170 5 := rfl
theorem A176_168 {l0 : Option Value} {l1 : Option Value} {l2 : Option Value} {l3 : Option Value} {l4 : Option Value} {l5 : Option Value} {l6 : Option Value} {l7 : Option Value} {x : Int32} {r : List Value} : aw g 176 168 [l0, l1, l2, l3, l4, l5, l6, l7] (.int x :: r) σ Q = (oc l4 = true ∧ aw g 176 170 [l0, l1, l2, l3, l4, some (.int x), l6, l7] r σ Q) := (aw_eq g 176 168 _ _ _ _).trans (by rw [tq176_168]; exact (h_store (o := oc l4) rfl rfl rfl).trans (propext ⟨fun z => z.2, fun z => ⟨rfl, z⟩⟩))
theorem tq176_170 : tT g 176 170 = s_const 176 171 (.int 0) := rfl
theorem A176_170 {L : AL} {r : List Value} : aw g 176 170 L r σ Q = aw g 176 171 L (.int 0 :: r) σ Q := (aw_eq g 176 170 _ _ _ _).trans (by rw [tq176_170]; exact rfl)
theorem tq176_171 : tT g 176 171 = s_store vI 176 173 6 := rfl
theorem A176_171 {l0 : Option Value} {l1 : Option Value} {l2 : Option Value} {l3 : Option Value} {l4 : Option Value} {l5 : Option Value} {l6 : Option Value} {l7 : Option Value} {x : Int32} {r : List Value} : aw g 176 171 [l0, l1, l2, l3, l4, l5, l6, l7] (.int x :: r) σ Q = (oc l5 = true ∧ aw g 176 173 [l0, l1, l2, l3, l4, l5, some (.int x), l7] r σ Q) := (aw_eq g 176 171 _ _ _ _).trans (by rw [tq176_171]; exact (h_store (o := oc l5) rfl rfl rfl).trans (propext ⟨fun z => z.2, fun z => ⟨rfl, z⟩⟩))
theorem tq176_173 : tT g 176 173 = s_load vI 176 175 6 := rfl
theorem A176_173 {l0 : Option Value} {l1 : Option Value} {l2 : Option Value} {l3 : Option Value} {l4 : Option Value} {l5 : Option Value} {l7 : Option Value} {x : Int32} {r : List Value} : aw g 176 173 [l0, l1, l2, l3, l4, l5, some (.int x), l7] r σ Q = aw g 176 175 [l0, l1, l2, l3, l4, l5, some (.int x), l7] (.int x :: r) σ Q := (aw_eq g 176 173 _ _ _ _).trans (by rw [tq176_173]; exact (h_load rfl).trans (propext ⟨fun z => z.2, fun z => ⟨rfl, z⟩⟩))
theorem tq176_175 : tT g 176 175 = s_load vI 176 177 5 := rfl
theorem A176_175 {l0 : Option Value} {l1 : Option Value} {l2 : Option Value} {l3 : Option Value} {l4 : Option Value} {l6 : Option Value} {l7 : Option Value} {x : Int32} {r : List Value} : aw g 176 175 [l0, l1, l2, l3, l4, some (.int x), l6, l7] r σ Q = aw g 176 177 [l0, l1, l2, l3, l4, some (.int x), l6, l7] (.int x :: r) σ Q := (aw_eq g 176 175 _ _ _ _).trans (by rw [tq176_175]; exact (h_load rfl).trans (propext ⟨fun z => z.2, fun z => ⟨rfl, z⟩⟩))
theorem tq176_177 : tT g 176 177 = s_icmp 176 180 226 (fun a b => b ≤ a) := rfl
theorem A176_177 {L : AL} {r : List Value} {a b : Int32} : aw g 176 177 L (.int b :: .int a :: r) σ Q = ((b ≤ a → aw g 176 226 L r σ Q) ∧ (¬ b ≤ a → aw g 176 180 L r σ Q)) := (aw_eq g 176 177 _ _ _ _).trans (by rw [tq176_177]; exact rfl)
theorem tq176_180 : tT g 176 180 = s_load vRf 176 182 4 := rfl
theorem A176_180 {l0 : Option Value} {l1 : Option Value} {l2 : Option Value} {l3 : Option Value} {l5 : Option Value} {l6 : Option Value} {l7 : Option Value} {x : Value} {r : List Value} : aw g 176 180 [l0, l1, l2, l3, some (x), l5, l6, l7] r σ Q = (vRf x = true ∧ aw g 176 182 [l0, l1, l2, l3, some (x), l5, l6, l7] (x :: r) σ Q) := (aw_eq g 176 180 _ _ _ _).trans (by rw [tq176_180]; exact h_load rfl)
theorem tq176_182 : tT g 176 182 = s_load vI 176 184 6 := rfl
theorem A176_182 {l0 : Option Value} {l1 : Option Value} {l2 : Option Value} {l3 : Option Value} {l4 : Option Value} {l5 : Option Value} {l7 : Option Value} {x : Int32} {r : List Value} : aw g 176 182 [l0, l1, l2, l3, l4, l5, some (.int x), l7] r σ Q = aw g 176 184 [l0, l1, l2, l3, l4, l5, some (.int x), l7] (.int x :: r) σ Q := (aw_eq g 176 182 _ _ _ _).trans (by rw [tq176_182]; exact (h_load rfl).trans (propext ⟨fun z => z.2, fun z => ⟨rfl, z⟩⟩))
theorem tq176_184 : tT g 176 184 = s_ald 176 185 20 := rfl
theorem A176_184 {L : AL} {r : List Value} {a : Nat} {i : Int32} : aw g 176 184 L (.int i :: .ref a :: r) σ Q = (hty σ a = some 20 ∧ ¬ i < 0 ∧ i.toNatClampNeg < hln σ a ∧ aw g 176 185 L (hv σ 20 a i.toNatClampNeg :: r) σ Q) := (aw_eq g 176 184 _ _ _ _).trans (by rw [tq176_184]; exact rfl)
theorem tq176_185 : tT g 176 185 = s_store vI 176 187 7 := rfl
theorem A176_185 {l0 : Option Value} {l1 : Option Value} {l2 : Option Value} {l3 : Option Value} {l4 : Option Value} {l5 : Option Value} {l6 : Option Value} {l7 : Option Value} {x : Int32} {r : List Value} : aw g 176 185 [l0, l1, l2, l3, l4, l5, l6, l7] (.int x :: r) σ Q = (oc l6 = true ∧ aw g 176 187 [l0, l1, l2, l3, l4, l5, l6, some (.int x)] r σ Q) := (aw_eq g 176 185 _ _ _ _).trans (by rw [tq176_185]; exact (h_store (o := oc l6) rfl rfl rfl).trans (propext ⟨fun z => z.2, fun z => ⟨rfl, z⟩⟩))
theorem tq176_187 : tT g 176 187 = s_load vRf 176 188 0 := rfl
theorem A176_187 {l1 : Option Value} {l2 : Option Value} {l3 : Option Value} {l4 : Option Value} {l5 : Option Value} {l6 : Option Value} {l7 : Option Value} {x : Value} {r : List Value} : aw g 176 187 [some (x), l1, l2, l3, l4, l5, l6, l7] r σ Q = (vRf x = true ∧ aw g 176 188 [some (x), l1, l2, l3, l4, l5, l6, l7] (x :: r) σ Q) := (aw_eq g 176 187 _ _ _ _).trans (by rw [tq176_187]; exact h_load rfl)
theorem tq176_188 : tT g 176 188 = s_load vRf 176 189 2 := rfl
theorem A176_188 {l0 : Option Value} {l1 : Option Value} {l3 : Option Value} {l4 : Option Value} {l5 : Option Value} {l6 : Option Value} {l7 : Option Value} {x : Value} {r : List Value} : aw g 176 188 [l0, l1, some (x), l3, l4, l5, l6, l7] r σ Q = (vRf x = true ∧ aw g 176 189 [l0, l1, some (x), l3, l4, l5, l6, l7] (x :: r) σ Q) := (aw_eq g 176 188 _ _ _ _).trans (by rw [tq176_188]; exact h_load rfl)
theorem tq176_189 : tT g 176 189 = s_load vI 176 191 7 := rfl
theorem A176_189 {l0 : Option Value} {l1 : Option Value} {l2 : Option Value} {l3 : Option Value} {l4 : Option Value} {l5 : Option Value} {l6 : Option Value} {x : Int32} {r : List Value} : aw g 176 189 [l0, l1, l2, l3, l4, l5, l6, some (.int x)] r σ Q = aw g 176 191 [l0, l1, l2, l3, l4, l5, l6, some (.int x)] (.int x :: r) σ Q := (aw_eq g 176 189 _ _ _ _).trans (by rw [tq176_189]; exact (h_load rfl).trans (propext ⟨fun z => z.2, fun z => ⟨rfl, z⟩⟩))
theorem tq176_191 : tT g 176 191 = s_const 176 192 (.int 0) := rfl
theorem A176_191 {L : AL} {r : List Value} : aw g 176 191 L r σ Q = aw g 176 192 L (.int 0 :: r) σ Q := (aw_eq g 176 191 _ _ _ _).trans (by rw [tq176_191]; exact rfl)
theorem tq176_192 : tT g 176 192 = s_callvk 176 195 209 7 [0, 0] 10 := rfl
theorem A176_192 {L : AL} {r : List Value} {a : Nat} {w0 w1 : Value} : aw g 176 192 L (w1 :: w0 :: .ref a :: r) σ Q = (hty σ a = some 7 ∧ (vI w0 && (vI w1 && true)) = true ∧ csum r ≤ 8 ∧ aw g 209 0 [some (.ref a), some w0, some w1, none, none, none, none, none, none, none] [] σ (kt (aw g) 176 195 L r Q)) := (aw_eq g 176 192 _ _ _ _).trans (by rw [tq176_192]; exact rfl)
theorem tq176_195 : tT g 176 195 = s_callvk 176 198 175 3 [0] 2 := rfl
theorem A176_195 {L : AL} {r : List Value} {a : Nat} {w0 : Value} : aw g 176 195 L (w0 :: .ref a :: r) σ Q = (hty σ a = some 3 ∧ (vI w0 && true) = true ∧ csum r ≤ 8 ∧ aw g 175 0 [some (.ref a), some w0] [] σ (kt (aw g) 176 198 L r Q)) := (aw_eq g 176 195 _ _ _ _).trans (by rw [tq176_195]; exact rfl)
theorem tq176_198 : tT g 176 198 = s_load vRf 176 199 0 := rfl
theorem A176_198 {l1 : Option Value} {l2 : Option Value} {l3 : Option Value} {l4 : Option Value} {l5 : Option Value} {l6 : Option Value} {l7 : Option Value} {x : Value} {r : List Value} : aw g 176 198 [some (x), l1, l2, l3, l4, l5, l6, l7] r σ Q = (vRf x = true ∧ aw g 176 199 [some (x), l1, l2, l3, l4, l5, l6, l7] (x :: r) σ Q) := (aw_eq g 176 198 _ _ _ _).trans (by rw [tq176_198]; exact h_load rfl)
theorem tq176_199 : tT g 176 199 = s_load vRf 176 200 2 := rfl
theorem A176_199 {l0 : Option Value} {l1 : Option Value} {l3 : Option Value} {l4 : Option Value} {l5 : Option Value} {l6 : Option Value} {l7 : Option Value} {x : Value} {r : List Value} : aw g 176 199 [l0, l1, some (x), l3, l4, l5, l6, l7] r σ Q = (vRf x = true ∧ aw g 176 200 [l0, l1, some (x), l3, l4, l5, l6, l7] (x :: r) σ Q) := (aw_eq g 176 199 _ _ _ _).trans (by rw [tq176_199]; exact h_load rfl)
theorem tq176_200 : tT g 176 200 = s_load vI 176 202 7 := rfl
theorem A176_200 {l0 : Option Value} {l1 : Option Value} {l2 : Option Value} {l3 : Option Value} {l4 : Option Value} {l5 : Option Value} {l6 : Option Value} {x : Int32} {r : List Value} : aw g 176 200 [l0, l1, l2, l3, l4, l5, l6, some (.int x)] r σ Q = aw g 176 202 [l0, l1, l2, l3, l4, l5, l6, some (.int x)] (.int x :: r) σ Q := (aw_eq g 176 200 _ _ _ _).trans (by rw [tq176_200]; exact (h_load rfl).trans (propext ⟨fun z => z.2, fun z => ⟨rfl, z⟩⟩))
theorem tq176_202 : tT g 176 202 = s_const 176 203 (.int 1) := rfl
theorem A176_202 {L : AL} {r : List Value} : aw g 176 202 L r σ Q = aw g 176 203 L (.int 1 :: r) σ Q := (aw_eq g 176 202 _ _ _ _).trans (by rw [tq176_202]; exact rfl)
theorem tq176_203 : tT g 176 203 = s_callvk 176 206 209 7 [0, 0] 10 := rfl
theorem A176_203 {L : AL} {r : List Value} {a : Nat} {w0 w1 : Value} : aw g 176 203 L (w1 :: w0 :: .ref a :: r) σ Q = (hty σ a = some 7 ∧ (vI w0 && (vI w1 && true)) = true ∧ csum r ≤ 8 ∧ aw g 209 0 [some (.ref a), some w0, some w1, none, none, none, none, none, none, none] [] σ (kt (aw g) 176 206 L r Q)) := (aw_eq g 176 203 _ _ _ _).trans (by rw [tq176_203]; exact rfl)
theorem tq176_206 : tT g 176 206 = s_callvk 176 209 175 3 [0] 2 := rfl
theorem A176_206 {L : AL} {r : List Value} {a : Nat} {w0 : Value} : aw g 176 206 L (w0 :: .ref a :: r) σ Q = (hty σ a = some 3 ∧ (vI w0 && true) = true ∧ csum r ≤ 8 ∧ aw g 175 0 [some (.ref a), some w0] [] σ (kt (aw g) 176 209 L r Q)) := (aw_eq g 176 206 _ _ _ _).trans (by rw [tq176_206]; exact rfl)
theorem tq176_209 : tT g 176 209 = s_load vRf 176 210 0 := rfl
theorem A176_209 {l1 : Option Value} {l2 : Option Value} {l3 : Option Value} {l4 : Option Value} {l5 : Option Value} {l6 : Option Value} {l7 : Option Value} {x : Value} {r : List Value} : aw g 176 209 [some (x), l1, l2, l3, l4, l5, l6, l7] r σ Q = (vRf x = true ∧ aw g 176 210 [some (x), l1, l2, l3, l4, l5, l6, l7] (x :: r) σ Q) := (aw_eq g 176 209 _ _ _ _).trans (by rw [tq176_209]; exact h_load rfl)
theorem tq176_210 : tT g 176 210 = s_load vRf 176 211 2 := rfl
theorem A176_210 {l0 : Option Value} {l1 : Option Value} {l3 : Option Value} {l4 : Option Value} {l5 : Option Value} {l6 : Option Value} {l7 : Option Value} {x : Value} {r : List Value} : aw g 176 210 [l0, l1, some (x), l3, l4, l5, l6, l7] r σ Q = (vRf x = true ∧ aw g 176 211 [l0, l1, some (x), l3, l4, l5, l6, l7] (x :: r) σ Q) := (aw_eq g 176 210 _ _ _ _).trans (by rw [tq176_210]; exact h_load rfl)
theorem tq176_211 : tT g 176 211 = s_load vI 176 213 7 := rfl
theorem A176_211 {l0 : Option Value} {l1 : Option Value} {l2 : Option Value} {l3 : Option Value} {l4 : Option Value} {l5 : Option Value} {l6 : Option Value} {x : Int32} {r : List Value} : aw g 176 211 [l0, l1, l2, l3, l4, l5, l6, some (.int x)] r σ Q = aw g 176 213 [l0, l1, l2, l3, l4, l5, l6, some (.int x)] (.int x :: r) σ Q := (aw_eq g 176 211 _ _ _ _).trans (by rw [tq176_211]; exact (h_load rfl).trans (propext ⟨fun z => z.2, fun z => ⟨rfl, z⟩⟩))
theorem tq176_213 : tT g 176 213 = s_const 176 214 (.int (-1)) := rfl
theorem A176_213 {L : AL} {r : List Value} : aw g 176 213 L r σ Q = aw g 176 214 L (.int (-1) :: r) σ Q := (aw_eq g 176 213 _ _ _ _).trans (by rw [tq176_213]; exact rfl)
theorem tq176_214 : tT g 176 214 = s_callvk 176 217 209 7 [0, 0] 10 := rfl
theorem A176_214 {L : AL} {r : List Value} {a : Nat} {w0 w1 : Value} : aw g 176 214 L (w1 :: w0 :: .ref a :: r) σ Q = (hty σ a = some 7 ∧ (vI w0 && (vI w1 && true)) = true ∧ csum r ≤ 8 ∧ aw g 209 0 [some (.ref a), some w0, some w1, none, none, none, none, none, none, none] [] σ (kt (aw g) 176 217 L r Q)) := (aw_eq g 176 214 _ _ _ _).trans (by rw [tq176_214]; exact rfl)
theorem tq176_217 : tT g 176 217 = s_callvk 176 220 175 3 [0] 2 := rfl
theorem A176_217 {L : AL} {r : List Value} {a : Nat} {w0 : Value} : aw g 176 217 L (w0 :: .ref a :: r) σ Q = (hty σ a = some 3 ∧ (vI w0 && true) = true ∧ csum r ≤ 8 ∧ aw g 175 0 [some (.ref a), some w0] [] σ (kt (aw g) 176 220 L r Q)) := (aw_eq g 176 217 _ _ _ _).trans (by rw [tq176_217]; exact rfl)
theorem tq176_220 : tT g 176 220 = s_iinc 176 223 6 1 := rfl
theorem A176_220 {l0 : Option Value} {l1 : Option Value} {l2 : Option Value} {l3 : Option Value} {l4 : Option Value} {l5 : Option Value} {l7 : Option Value} {x : Int32} {r : List Value} : aw g 176 220 [l0, l1, l2, l3, l4, l5, some (.int x), l7] r σ Q = (oc l5 = true ∧ aw g 176 223 [l0, l1, l2, l3, l4, l5, some (.int (x + 1)), l7] r σ Q) := (aw_eq g 176 220 _ _ _ _).trans (by rw [tq176_220]; exact (h_iinc (o := oc l5) rfl rfl rfl))
theorem tq176_223 : tT g 176 223 = s_goto 176 173 := rfl
theorem A176_223 {L : AL} {r : List Value} : aw g 176 223 L r σ Q = aw g 176 173 L r σ Q := (aw_eq g 176 223 _ _ _ _).trans (by rw [tq176_223]; exact rfl)
theorem tq176_226 : tT g 176 226 = s_load vRf 176 227 0 := rfl
theorem A176_226 {l1 : Option Value} {l2 : Option Value} {l3 : Option Value} {l4 : Option Value} {l5 : Option Value} {l6 : Option Value} {l7 : Option Value} {x : Value} {r : List Value} : aw g 176 226 [some (x), l1, l2, l3, l4, l5, l6, l7] r σ Q = (vRf x = true ∧ aw g 176 227 [some (x), l1, l2, l3, l4, l5, l6, l7] (x :: r) σ Q) := (aw_eq g 176 226 _ _ _ _).trans (by rw [tq176_226]; exact h_load rfl)
theorem tq176_227 : tT g 176 227 = s_load vRf 176 228 0 := rfl
theorem A176_227 {l1 : Option Value} {l2 : Option Value} {l3 : Option Value} {l4 : Option Value} {l5 : Option Value} {l6 : Option Value} {l7 : Option Value} {x : Value} {r : List Value} : aw g 176 227 [some (x), l1, l2, l3, l4, l5, l6, l7] r σ Q = (vRf x = true ∧ aw g 176 228 [some (x), l1, l2, l3, l4, l5, l6, l7] (x :: r) σ Q) := (aw_eq g 176 227 _ _ _ _).trans (by rw [tq176_227]; exact h_load rfl)
theorem tq176_228 : tT g 176 228 = s_load vI 176 229 1 := rfl
theorem A176_228 {l0 : Option Value} {l2 : Option Value} {l3 : Option Value} {l4 : Option Value} {l5 : Option Value} {l6 : Option Value} {l7 : Option Value} {x : Int32} {r : List Value} : aw g 176 228 [l0, some (.int x), l2, l3, l4, l5, l6, l7] r σ Q = aw g 176 229 [l0, some (.int x), l2, l3, l4, l5, l6, l7] (.int x :: r) σ Q := (aw_eq g 176 228 _ _ _ _).trans (by rw [tq176_228]; exact (h_load rfl).trans (propext ⟨fun z => z.2, fun z => ⟨rfl, z⟩⟩))
theorem tq176_229 : tT g 176 229 = s_const 176 231 (.int 10) := rfl
theorem A176_229 {L : AL} {r : List Value} : aw g 176 229 L r σ Q = aw g 176 231 L (.int 10 :: r) σ Q := (aw_eq g 176 229 _ _ _ _).trans (by rw [tq176_229]; exact rfl)
theorem tq176_231 : tT g 176 231 = s_callvk 176 234 171 3 [0, 0] 5 := rfl
theorem A176_231 {L : AL} {r : List Value} {a : Nat} {w0 w1 : Value} : aw g 176 231 L (w1 :: w0 :: .ref a :: r) σ Q = (hty σ a = some 3 ∧ (vI w0 && (vI w1 && true)) = true ∧ csum r ≤ 8 ∧ aw g 171 0 [some (.ref a), some w0, some w1, none, none] [] σ (kt (aw g) 176 234 L r Q)) := (aw_eq g 176 231 _ _ _ _).trans (by rw [tq176_231]; exact rfl)
theorem tq176_234 : tT g 176 234 = s_callvk 176 237 175 3 [0] 2 := rfl
theorem A176_234 {L : AL} {r : List Value} {a : Nat} {w0 : Value} : aw g 176 234 L (w0 :: .ref a :: r) σ Q = (hty σ a = some 3 ∧ (vI w0 && true) = true ∧ csum r ≤ 8 ∧ aw g 175 0 [some (.ref a), some w0] [] σ (kt (aw g) 176 237 L r Q)) := (aw_eq g 176 234 _ _ _ _).trans (by rw [tq176_234]; exact rfl)
theorem tq176_237 : tT g 176 237 = s_load vRf 176 238 0 := rfl
theorem A176_237 {l1 : Option Value} {l2 : Option Value} {l3 : Option Value} {l4 : Option Value} {l5 : Option Value} {l6 : Option Value} {l7 : Option Value} {x : Value} {r : List Value} : aw g 176 237 [some (x), l1, l2, l3, l4, l5, l6, l7] r σ Q = (vRf x = true ∧ aw g 176 238 [some (x), l1, l2, l3, l4, l5, l6, l7] (x :: r) σ Q) := (aw_eq g 176 237 _ _ _ _).trans (by rw [tq176_237]; exact h_load rfl)
theorem tq176_238 : tT g 176 238 = s_load vI 176 239 1 := rfl
theorem A176_238 {l0 : Option Value} {l2 : Option Value} {l3 : Option Value} {l4 : Option Value} {l5 : Option Value} {l6 : Option Value} {l7 : Option Value} {x : Int32} {r : List Value} : aw g 176 238 [l0, some (.int x), l2, l3, l4, l5, l6, l7] r σ Q = aw g 176 239 [l0, some (.int x), l2, l3, l4, l5, l6, l7] (.int x :: r) σ Q := (aw_eq g 176 238 _ _ _ _).trans (by rw [tq176_238]; exact (h_load rfl).trans (propext ⟨fun z => z.2, fun z => ⟨rfl, z⟩⟩))
theorem tq176_239 : tT g 176 239 = s_callvk 176 242 152 3 [0] 2 := rfl
theorem A176_239 {L : AL} {r : List Value} {a : Nat} {w0 : Value} : aw g 176 239 L (w0 :: .ref a :: r) σ Q = (hty σ a = some 3 ∧ (vI w0 && true) = true ∧ csum r ≤ 8 ∧ aw g 152 0 [some (.ref a), some w0] [] σ (kt (aw g) 176 242 L r Q)) := (aw_eq g 176 239 _ _ _ _).trans (by rw [tq176_239]; exact rfl)
theorem tq176_242 : tT g 176 242 = s_if 176 245 255 (fun a => a = 0) := rfl
theorem A176_242 {L : AL} {r : List Value} {a : Int32} : aw g 176 242 L (.int a :: r) σ Q = ((a = 0 → aw g 176 255 L r σ Q) ∧ (¬ a = 0 → aw g 176 245 L r σ Q)) := (aw_eq g 176 242 _ _ _ _).trans (by rw [tq176_242]; exact rfl)
theorem tq176_245 : tT g 176 245 = s_load vRf 176 246 0 := rfl
theorem A176_245 {l1 : Option Value} {l2 : Option Value} {l3 : Option Value} {l4 : Option Value} {l5 : Option Value} {l6 : Option Value} {l7 : Option Value} {x : Value} {r : List Value} : aw g 176 245 [some (x), l1, l2, l3, l4, l5, l6, l7] r σ Q = (vRf x = true ∧ aw g 176 246 [some (x), l1, l2, l3, l4, l5, l6, l7] (x :: r) σ Q) := (aw_eq g 176 245 _ _ _ _).trans (by rw [tq176_245]; exact h_load rfl)
theorem tq176_246 : tT g 176 246 = s_load vRf 176 247 0 := rfl
theorem A176_246 {l1 : Option Value} {l2 : Option Value} {l3 : Option Value} {l4 : Option Value} {l5 : Option Value} {l6 : Option Value} {l7 : Option Value} {x : Value} {r : List Value} : aw g 176 246 [some (x), l1, l2, l3, l4, l5, l6, l7] r σ Q = (vRf x = true ∧ aw g 176 247 [some (x), l1, l2, l3, l4, l5, l6, l7] (x :: r) σ Q) := (aw_eq g 176 246 _ _ _ _).trans (by rw [tq176_246]; exact h_load rfl)
theorem tq176_247 : tT g 176 247 = s_load vI 176 248 1 := rfl
theorem A176_247 {l0 : Option Value} {l2 : Option Value} {l3 : Option Value} {l4 : Option Value} {l5 : Option Value} {l6 : Option Value} {l7 : Option Value} {x : Int32} {r : List Value} : aw g 176 247 [l0, some (.int x), l2, l3, l4, l5, l6, l7] r σ Q = aw g 176 248 [l0, some (.int x), l2, l3, l4, l5, l6, l7] (.int x :: r) σ Q := (aw_eq g 176 247 _ _ _ _).trans (by rw [tq176_247]; exact (h_load rfl).trans (propext ⟨fun z => z.2, fun z => ⟨rfl, z⟩⟩))
theorem tq176_248 : tT g 176 248 = s_const 176 249 (.int 2) := rfl
theorem A176_248 {L : AL} {r : List Value} : aw g 176 248 L r σ Q = aw g 176 249 L (.int 2 :: r) σ Q := (aw_eq g 176 248 _ _ _ _).trans (by rw [tq176_248]; exact rfl)
theorem tq176_249 : tT g 176 249 = s_callvk 176 252 173 3 [0, 0] 5 := rfl
theorem A176_249 {L : AL} {r : List Value} {a : Nat} {w0 w1 : Value} : aw g 176 249 L (w1 :: w0 :: .ref a :: r) σ Q = (hty σ a = some 3 ∧ (vI w0 && (vI w1 && true)) = true ∧ csum r ≤ 8 ∧ aw g 173 0 [some (.ref a), some w0, some w1, none, none] [] σ (kt (aw g) 176 252 L r Q)) := (aw_eq g 176 249 _ _ _ _).trans (by rw [tq176_249]; exact rfl)
theorem tq176_252 : tT g 176 252 = s_callvk 176 255 175 3 [0] 2 := rfl
theorem A176_252 {L : AL} {r : List Value} {a : Nat} {w0 : Value} : aw g 176 252 L (w0 :: .ref a :: r) σ Q = (hty σ a = some 3 ∧ (vI w0 && true) = true ∧ csum r ≤ 8 ∧ aw g 175 0 [some (.ref a), some w0] [] σ (kt (aw g) 176 255 L r Q)) := (aw_eq g 176 252 _ _ _ _).trans (by rw [tq176_252]; exact rfl)
theorem tq176_255 : tT g 176 255 = s_vret := rfl
theorem A176_255 {L : AL} : aw g 176 255 L [] σ Q = Q (.inl none) σ := (aw_eq g 176 255 _ _ _ _).trans (by rw [tq176_255]; exact rfl)
end STEPS
