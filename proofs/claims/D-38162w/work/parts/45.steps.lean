/-! one step of an abstract run, as an equation: printed by gen.py -/
section STEPS
variable {g : GC} {σ : AH} {Q : AQ}
theorem tq38_0 : tT g 38 0 = s_new g 38 3 0 1 (fun k => defaultValue (tyX1 k)) := rfl
theorem A38_0 {L : AL} {r : List Value} : aw g 38 0 L r σ Q = (hsz σ + 1 ≤ gC g ∧ hsl σ + 1 ≤ gS g ∧ aw g 38 3 L (.ref (hsz σ) :: r) (hnew σ 0 0 (fun k => defaultValue (tyX1 k)) 1) Q) := (aw_eq g 38 0 _ _ _ _).trans (by rw [tq38_0]; exact rfl)
theorem tq38_3 : tT g 38 3 = s_dup 38 4 := rfl
theorem A38_3 {L : AL} {r : List Value} {v : Value} : aw g 38 3 L (v :: r) σ Q = (v.category = 1 ∧ aw g 38 4 L (v :: v :: r) σ Q) := (aw_eq g 38 3 _ _ _ _).trans (by rw [tq38_3]; exact rfl)
theorem tq38_4 : tT g 38 4 = s_callik 38 7 58 [] 1 := rfl
theorem A38_4 {L : AL} {r : List Value} {a : Nat} : aw g 38 4 L (.ref a :: r) σ Q = (true = true ∧ csum r ≤ 8 ∧ aw g 58 0 [some (.ref a)] [] σ (kt (aw g) 38 7 L r Q)) := (aw_eq g 38 4 _ _ _ _).trans (by rw [tq38_4]; exact rfl)
theorem tq38_7 : tT g 38 7 = s_store vRf 38 8 1 := rfl
theorem A38_7 {l0 : Option Value} {l1 : Option Value} {l2 : Option Value} {l3 : Option Value} {l4 : Option Value} {l5 : Option Value} {l6 : Option Value} {l7 : Option Value} {l8 : Option Value} {x : Value} {r : List Value} : aw g 38 7 [l0, l1, l2, l3, l4, l5, l6, l7, l8] (x :: r) σ Q = (vRf x = true ∧ oc l0 = true ∧ aw g 38 8 [l0, some (x), l2, l3, l4, l5, l6, l7, l8] r σ Q) := (aw_eq g 38 7 _ _ _ _).trans (by rw [tq38_7]; exact (h_store (o := oc l0) rfl rfl rfl))
theorem tq38_8 : tT g 38 8 = s_new g 38 11 3 3 (fun k => defaultValue (tyX4 k)) := rfl
theorem A38_8 {L : AL} {r : List Value} : aw g 38 8 L r σ Q = (hsz σ + 1 ≤ gC g ∧ hsl σ + 3 ≤ gS g ∧ aw g 38 11 L (.ref (hsz σ) :: r) (hnew σ 3 0 (fun k => defaultValue (tyX4 k)) 3) Q) := (aw_eq g 38 8 _ _ _ _).trans (by rw [tq38_8]; exact rfl)
theorem tq38_11 : tT g 38 11 = s_dup 38 12 := rfl
theorem A38_11 {L : AL} {r : List Value} {v : Value} : aw g 38 11 L (v :: r) σ Q = (v.category = 1 ∧ aw g 38 12 L (v :: v :: r) σ Q) := (aw_eq g 38 11 _ _ _ _).trans (by rw [tq38_11]; exact rfl)
theorem tq38_12 : tT g 38 12 = s_callik 38 15 137 [] 1 := rfl
theorem A38_12 {L : AL} {r : List Value} {a : Nat} : aw g 38 12 L (.ref a :: r) σ Q = (true = true ∧ csum r ≤ 8 ∧ aw g 137 0 [some (.ref a)] [] σ (kt (aw g) 38 15 L r Q)) := (aw_eq g 38 12 _ _ _ _).trans (by rw [tq38_12]; exact rfl)
theorem tq38_15 : tT g 38 15 = s_store vRf 38 16 2 := rfl
theorem A38_15 {l0 : Option Value} {l1 : Option Value} {l2 : Option Value} {l3 : Option Value} {l4 : Option Value} {l5 : Option Value} {l6 : Option Value} {l7 : Option Value} {l8 : Option Value} {x : Value} {r : List Value} : aw g 38 15 [l0, l1, l2, l3, l4, l5, l6, l7, l8] (x :: r) σ Q = (vRf x = true ∧ oc l1 = true ∧ aw g 38 16 [l0, l1, some (x), l3, l4, l5, l6, l7, l8] r σ Q) := (aw_eq g 38 15 _ _ _ _).trans (by rw [tq38_15]; exact (h_store (o := oc l1) rfl rfl rfl))
theorem tq38_16 : tT g 38 16 = s_const 38 17 (.int 1) := rfl
theorem A38_16 {L : AL} {r : List Value} : aw g 38 16 L r σ Q = aw g 38 17 L (.int 1 :: r) σ Q := (aw_eq g 38 16 _ _ _ _).trans (by rw [tq38_16]; exact rfl)
theorem tq38_17 : tT g 38 17 = s_newa g 38 19 22 (.long 0) := rfl
theorem A38_17 {L : AL} {r : List Value} {x : Int32} : aw g 38 17 L (.int x :: r) σ Q = (¬ x < 0 ∧ x.toNatClampNeg ≤ 65536 ∧ hsz σ + 1 ≤ gC g ∧ hsl σ + x.toNatClampNeg ≤ gS g ∧ aw g 38 19 L (.ref (hsz σ) :: r) (hnew σ 22 x.toNatClampNeg (fun _ => .long 0) x.toNatClampNeg) Q) := (aw_eq g 38 17 _ _ _ _).trans (by rw [tq38_17]; exact rfl)
theorem tq38_19 : tT g 38 19 = s_store vRf 38 20 3 := rfl
theorem A38_19 {l0 : Option Value} {l1 : Option Value} {l2 : Option Value} {l3 : Option Value} {l4 : Option Value} {l5 : Option Value} {l6 : Option Value} {l7 : Option Value} {l8 : Option Value} {x : Value} {r : List Value} : aw g 38 19 [l0, l1, l2, l3, l4, l5, l6, l7, l8] (x :: r) σ Q = (vRf x = true ∧ oc l2 = true ∧ aw g 38 20 [l0, l1, l2, some (x), l4, l5, l6, l7, l8] r σ Q) := (aw_eq g 38 19 _ _ _ _).trans (by rw [tq38_19]; exact (h_store (o := oc l2) rfl rfl rfl))
theorem tq38_20 : tT g 38 20 = s_const 38 21 (.int 1) := rfl
theorem A38_20 {L : AL} {r : List Value} : aw g 38 20 L r σ Q = aw g 38 21 L (.int 1 :: r) σ Q := (aw_eq g 38 20 _ _ _ _).trans (by rw [tq38_20]; exact rfl)
theorem tq38_21 : tT g 38 21 = s_newa g 38 23 23 (.double 0) := rfl
theorem A38_21 {L : AL} {r : List Value} {x : Int32} : aw g 38 21 L (.int x :: r) σ Q = (¬ x < 0 ∧ x.toNatClampNeg ≤ 65536 ∧ hsz σ + 1 ≤ gC g ∧ hsl σ + x.toNatClampNeg ≤ gS g ∧ aw g 38 23 L (.ref (hsz σ) :: r) (hnew σ 23 x.toNatClampNeg (fun _ => .double 0) x.toNatClampNeg) Q) := (aw_eq g 38 21 _ _ _ _).trans (by rw [tq38_21]; exact rfl)
theorem tq38_23 : tT g 38 23 = s_store vRf 38 25 4 := rfl
theorem A38_23 {l0 : Option Value} {l1 : Option Value} {l2 : Option Value} {l3 : Option Value} {l4 : Option Value} {l5 : Option Value} {l6 : Option Value} {l7 : Option Value} {l8 : Option Value} {x : Value} {r : List Value} : aw g 38 23 [l0, l1, l2, l3, l4, l5, l6, l7, l8] (x :: r) σ Q = (vRf x = true ∧ oc l3 = true ∧ aw g 38 25 [l0, l1, l2, l3, some (x), l5, l6, l7, l8] r σ Q) := (aw_eq g 38 23 _ _ _ _).trans (by rw [tq38_23]; exact (h_store (o := oc l3) rfl rfl rfl))
theorem tq38_25 : tT g 38 25 = s_const 38 26 (.int 0) := rfl
theorem A38_25 {L : AL} {r : List Value} : aw g 38 25 L r σ Q = aw g 38 26 L (.int 0 :: r) σ Q := (aw_eq g 38 25 _ _ _ _).trans (by rw [tq38_25]; exact rfl)
theorem tq38_26 : tT g 38 26 = s_store vI 38 28 5 := rfl
theorem A38_26 {l0 : Option Value} {l1 : Option Value} {l2 : Option Value} {l3 : Option Value} {l4 : Option Value} {l5 : Option Value} {l6 : Option Value} {l7 : Option Value} {l8 : Option Value} {x : Int32} {r : List Value} : aw g 38 26 [l0, l1, l2, l3, l4, l5, l6, l7, l8] (.int x :: r) σ Q = (oc l4 = true ∧ aw g 38 28 [l0, l1, l2, l3, l4, some (.int x), l6, l7, l8] r σ Q) := (aw_eq g 38 26 _ _ _ _).trans (by rw [tq38_26]; exact (h_store (o := oc l4) rfl rfl rfl).trans (propext ⟨fun z => z.2, fun z => ⟨rfl, z⟩⟩))
theorem tq38_28 : tT g 38 28 = s_load vI 38 30 5 := rfl
theorem A38_28 {l0 : Option Value} {l1 : Option Value} {l2 : Option Value} {l3 : Option Value} {l4 : Option Value} {l6 : Option Value} {l7 : Option Value} {l8 : Option Value} {x : Int32} {r : List Value} : aw g 38 28 [l0, l1, l2, l3, l4, some (.int x), l6, l7, l8] r σ Q = aw g 38 30 [l0, l1, l2, l3, l4, some (.int x), l6, l7, l8] (.int x :: r) σ Q := (aw_eq g 38 28 _ _ _ _).trans (by rw [tq38_28]; exact (h_load rfl).trans (propext ⟨fun z => z.2, fun z => ⟨rfl, z⟩⟩))
theorem tq38_30 : tT g 38 30 = s_load vRf 38 31 0 := rfl
theorem A38_30 {l1 : Option Value} {l2 : Option Value} {l3 : Option Value} {l4 : Option Value} {l5 : Option Value} {l6 : Option Value} {l7 : Option Value} {l8 : Option Value} {x : Value} {r : List Value} : aw g 38 30 [some (x), l1, l2, l3, l4, l5, l6, l7, l8] r σ Q = (vRf x = true ∧ aw g 38 31 [some (x), l1, l2, l3, l4, l5, l6, l7, l8] (x :: r) σ Q) := (aw_eq g 38 30 _ _ _ _).trans (by rw [tq38_30]; exact h_load rfl)
theorem tq38_31 : tT g 38 31 = s_alen 38 32 27 := rfl
theorem A38_31 {L : AL} {r : List Value} {a : Nat} : aw g 38 31 L (.ref a :: r) σ Q = (hty σ a = some 27 ∧ aw g 38 32 L (.int (Int32.ofNat (hln σ a)) :: r) σ Q) := (aw_eq g 38 31 _ _ _ _).trans (by rw [tq38_31]; exact rfl)
theorem tq38_32 : tT g 38 32 = s_const 38 33 (.int 4) := rfl
theorem A38_32 {L : AL} {r : List Value} : aw g 38 32 L r σ Q = aw g 38 33 L (.int 4 :: r) σ Q := (aw_eq g 38 32 _ _ _ _).trans (by rw [tq38_32]; exact rfl)
theorem tq38_33 : tT g 38 33 = s_bin 38 34 (fun a b => a - b) := rfl
theorem A38_33 {L : AL} {r : List Value} {a b : Int32} : aw g 38 33 L (.int b :: .int a :: r) σ Q = aw g 38 34 L (.int (a - b) :: r) σ Q := (aw_eq g 38 33 _ _ _ _).trans (by rw [tq38_33]; exact rfl)
theorem tq38_34 : tT g 38 34 = s_icmp 38 37 1460 (fun a b => b < a) := rfl
theorem A38_34 {L : AL} {r : List Value} {a b : Int32} : aw g 38 34 L (.int b :: .int a :: r) σ Q = ((b < a → aw g 38 1460 L r σ Q) ∧ (¬ b < a → aw g 38 37 L r σ Q)) := (aw_eq g 38 34 _ _ _ _).trans (by rw [tq38_34]; exact rfl)
theorem tq38_37 : tT g 38 37 = s_load vRf 38 38 0 := rfl
theorem A38_37 {l1 : Option Value} {l2 : Option Value} {l3 : Option Value} {l4 : Option Value} {l5 : Option Value} {l6 : Option Value} {l7 : Option Value} {l8 : Option Value} {x : Value} {r : List Value} : aw g 38 37 [some (x), l1, l2, l3, l4, l5, l6, l7, l8] r σ Q = (vRf x = true ∧ aw g 38 38 [some (x), l1, l2, l3, l4, l5, l6, l7, l8] (x :: r) σ Q) := (aw_eq g 38 37 _ _ _ _).trans (by rw [tq38_37]; exact h_load rfl)
theorem tq38_38 : tT g 38 38 = s_load vI 38 40 5 := rfl
theorem A38_38 {l0 : Option Value} {l1 : Option Value} {l2 : Option Value} {l3 : Option Value} {l4 : Option Value} {l6 : Option Value} {l7 : Option Value} {l8 : Option Value} {x : Int32} {r : List Value} : aw g 38 38 [l0, l1, l2, l3, l4, some (.int x), l6, l7, l8] r σ Q = aw g 38 40 [l0, l1, l2, l3, l4, some (.int x), l6, l7, l8] (.int x :: r) σ Q := (aw_eq g 38 38 _ _ _ _).trans (by rw [tq38_38]; exact (h_load rfl).trans (propext ⟨fun z => z.2, fun z => ⟨rfl, z⟩⟩))
theorem tq38_40 : tT g 38 40 = s_ald 38 41 27 := rfl
theorem A38_40 {L : AL} {r : List Value} {a : Nat} {i : Int32} : aw g 38 40 L (.int i :: .ref a :: r) σ Q = (hty σ a = some 27 ∧ ¬ i < 0 ∧ i.toNatClampNeg < hln σ a ∧ aw g 38 41 L (hv σ 27 a i.toNatClampNeg :: r) σ Q) := (aw_eq g 38 40 _ _ _ _).trans (by rw [tq38_40]; exact rfl)
theorem tq38_41 : tT g 38 41 = s_const 38 43 (.int 31) := rfl
theorem A38_41 {L : AL} {r : List Value} : aw g 38 41 L r σ Q = aw g 38 43 L (.int 31 :: r) σ Q := (aw_eq g 38 41 _ _ _ _).trans (by rw [tq38_41]; exact rfl)
theorem tq38_43 : tT g 38 43 = s_bin 38 44 (fun a b => a &&& b) := rfl
theorem A38_43 {L : AL} {r : List Value} {a b : Int32} : aw g 38 43 L (.int b :: .int a :: r) σ Q = aw g 38 44 L (.int (a &&& b) :: r) σ Q := (aw_eq g 38 43 _ _ _ _).trans (by rw [tq38_43]; exact rfl)
theorem tq38_44 : tT g 38 44 = s_tsw 38 (tswf 0 1454 [140, 196, 276, 344, 435, 491, 559, 627, 683, 739, 807, 875, 955, 1023, 1091, 1147, 1224, 1304, 1372, 1440]) := rfl
theorem A38_44 {L : AL} {r : List Value} {a : Int32} : aw g 38 44 L (.int a :: r) σ Q = aw g 38 (tswf 0 1454 [140, 196, 276, 344, 435, 491, 559, 627, 683, 739, 807, 875, 955, 1023, 1091, 1147, 1224, 1304, 1372, 1440] a) L r σ Q := (aw_eq g 38 44 _ _ _ _).trans (by rw [tq38_44]; exact rfl)
theorem tq38_140 : tT g 38 140 = s_load vRf 38 141 1 := rfl
theorem A38_140 {l0 : Option Value} {l2 : Option Value} {l3 : Option Value} {l4 : Option Value} {l5 : Option Value} {l6 : Option Value} {l7 : Option Value} {l8 : Option Value} {x : Value} {r : List Value} : aw g 38 140 [l0, some (x), l2, l3, l4, l5, l6, l7, l8] r σ Q = (vRf x = true ∧ aw g 38 141 [l0, some (x), l2, l3, l4, l5, l6, l7, l8] (x :: r) σ Q) := (aw_eq g 38 140 _ _ _ _).trans (by rw [tq38_140]; exact h_load rfl)
theorem tq38_141 : tT g 38 141 = s_load vRf 38 142 0 := rfl
theorem A38_141 {l1 : Option Value} {l2 : Option Value} {l3 : Option Value} {l4 : Option Value} {l5 : Option Value} {l6 : Option Value} {l7 : Option Value} {l8 : Option Value} {x : Value} {r : List Value} : aw g 38 141 [some (x), l1, l2, l3, l4, l5, l6, l7, l8] r σ Q = (vRf x = true ∧ aw g 38 142 [some (x), l1, l2, l3, l4, l5, l6, l7, l8] (x :: r) σ Q) := (aw_eq g 38 141 _ _ _ _).trans (by rw [tq38_141]; exact h_load rfl)
theorem tq38_142 : tT g 38 142 = s_load vI 38 144 5 := rfl
theorem A38_142 {l0 : Option Value} {l1 : Option Value} {l2 : Option Value} {l3 : Option Value} {l4 : Option Value} {l6 : Option Value} {l7 : Option Value} {l8 : Option Value} {x : Int32} {r : List Value} : aw g 38 142 [l0, l1, l2, l3, l4, some (.int x), l6, l7, l8] r σ Q = aw g 38 144 [l0, l1, l2, l3, l4, some (.int x), l6, l7, l8] (.int x :: r) σ Q := (aw_eq g 38 142 _ _ _ _).trans (by rw [tq38_142]; exact (h_load rfl).trans (propext ⟨fun z => z.2, fun z => ⟨rfl, z⟩⟩))
theorem tq38_144 : tT g 38 144 = s_const 38 145 (.int 1) := rfl
theorem A38_144 {L : AL} {r : List Value} : aw g 38 144 L r σ Q = aw g 38 145 L (.int 1 :: r) σ Q := (aw_eq g 38 144 _ _ _ _).trans (by rw [tq38_144]; exact rfl)
theorem tq38_145 : tT g 38 145 = s_bin 38 146 (fun a b => a + b) := rfl
theorem A38_145 {L : AL} {r : List Value} {a b : Int32} : aw g 38 145 L (.int b :: .int a :: r) σ Q = aw g 38 146 L (.int (a + b) :: r) σ Q := (aw_eq g 38 145 _ _ _ _).trans (by rw [tq38_145]; exact rfl)
theorem tq38_146 : tT g 38 146 = s_ald 38 147 27 := rfl
theorem A38_146 {L : AL} {r : List Value} {a : Nat} {i : Int32} : aw g 38 146 L (.int i :: .ref a :: r) σ Q = (hty σ a = some 27 ∧ ¬ i < 0 ∧ i.toNatClampNeg < hln σ a ∧ aw g 38 147 L (hv σ 27 a i.toNatClampNeg :: r) σ Q) := (aw_eq g 38 146 _ _ _ _).trans (by rw [tq38_146]; exact rfl)
theorem tq38_147 : tT g 38 147 = s_load vRf 38 148 3 := rfl
theorem A38_147 {l0 : Option Value} {l1 : Option Value} {l2 : Option Value} {l4 : Option Value} {l5 : Option Value} {l6 : Option Value} {l7 : Option Value} {l8 : Option Value} {x : Value} {r : List Value} : aw g 38 147 [l0, l1, l2, some (x), l4, l5, l6, l7, l8] r σ Q = (vRf x = true ∧ aw g 38 148 [l0, l1, l2, some (x), l4, l5, l6, l7, l8] (x :: r) σ Q) := (aw_eq g 38 147 _ _ _ _).trans (by rw [tq38_147]; exact h_load rfl)
theorem tq38_148 : tT g 38 148 = s_callk 38 151 39 [1, 0, 1] 4 := rfl
theorem A38_148 {L : AL} {r : List Value} {w0 w1 w2 : Value} : aw g 38 148 L (w2 :: w1 :: w0 :: r) σ Q = ((vRf w0 && (vI w1 && (vRf w2 && true))) = true ∧ csum r ≤ 8 ∧ aw g 39 0 [some w0, some w1, some w2, none] [] σ (kt (aw g) 38 151 L r Q)) := (aw_eq g 38 148 _ _ _ _).trans (by rw [tq38_148]; exact rfl)
theorem tq38_151 : tT g 38 151 = s_store vI 38 153 6 := rfl
theorem A38_151 {l0 : Option Value} {l1 : Option Value} {l2 : Option Value} {l3 : Option Value} {l4 : Option Value} {l5 : Option Value} {l6 : Option Value} {l7 : Option Value} {l8 : Option Value} {x : Int32} {r : List Value} : aw g 38 151 [l0, l1, l2, l3, l4, l5, l6, l7, l8] (.int x :: r) σ Q = (oc l5 = true ∧ aw g 38 153 [l0, l1, l2, l3, l4, l5, some (.int x), l7, l8] r σ Q) := (aw_eq g 38 151 _ _ _ _).trans (by rw [tq38_151]; exact (h_store (o := oc l5) rfl rfl rfl).trans (propext ⟨fun z => z.2, fun z => ⟨rfl, z⟩⟩))
theorem tq38_153 : tT g 38 153 = s_load vRf 38 154 2 := rfl
theorem A38_153 {l0 : Option Value} {l1 : Option Value} {l3 : Option Value} {l4 : Option Value} {l5 : Option Value} {l6 : Option Value} {l7 : Option Value} {l8 : Option Value} {x : Value} {r : List Value} : aw g 38 153 [l0, l1, some (x), l3, l4, l5, l6, l7, l8] r σ Q = (vRf x = true ∧ aw g 38 154 [l0, l1, some (x), l3, l4, l5, l6, l7, l8] (x :: r) σ Q) := (aw_eq g 38 153 _ _ _ _).trans (by rw [tq38_153]; exact h_load rfl)
theorem tq38_154 : tT g 38 154 = s_load vRf 38 155 0 := rfl
theorem A38_154 {l1 : Option Value} {l2 : Option Value} {l3 : Option Value} {l4 : Option Value} {l5 : Option Value} {l6 : Option Value} {l7 : Option Value} {l8 : Option Value} {x : Value} {r : List Value} : aw g 38 154 [some (x), l1, l2, l3, l4, l5, l6, l7, l8] r σ Q = (vRf x = true ∧ aw g 38 155 [some (x), l1, l2, l3, l4, l5, l6, l7, l8] (x :: r) σ Q) := (aw_eq g 38 154 _ _ _ _).trans (by rw [tq38_154]; exact h_load rfl)
theorem tq38_155 : tT g 38 155 = s_load vI 38 157 5 := rfl
theorem A38_155 {l0 : Option Value} {l1 : Option Value} {l2 : Option Value} {l3 : Option Value} {l4 : Option Value} {l6 : Option Value} {l7 : Option Value} {l8 : Option Value} {x : Int32} {r : List Value} : aw g 38 155 [l0, l1, l2, l3, l4, some (.int x), l6, l7, l8] r σ Q = aw g 38 157 [l0, l1, l2, l3, l4, some (.int x), l6, l7, l8] (.int x :: r) σ Q := (aw_eq g 38 155 _ _ _ _).trans (by rw [tq38_155]; exact (h_load rfl).trans (propext ⟨fun z => z.2, fun z => ⟨rfl, z⟩⟩))
theorem tq38_157 : tT g 38 157 = s_const 38 158 (.int 1) := rfl
theorem A38_157 {L : AL} {r : List Value} : aw g 38 157 L r σ Q = aw g 38 158 L (.int 1 :: r) σ Q := (aw_eq g 38 157 _ _ _ _).trans (by rw [tq38_157]; exact rfl)
theorem tq38_158 : tT g 38 158 = s_bin 38 159 (fun a b => a + b) := rfl
theorem A38_158 {L : AL} {r : List Value} {a b : Int32} : aw g 38 158 L (.int b :: .int a :: r) σ Q = aw g 38 159 L (.int (a + b) :: r) σ Q := (aw_eq g 38 158 _ _ _ _).trans (by rw [tq38_158]; exact rfl)
theorem tq38_159 : tT g 38 159 = s_ald 38 160 27 := rfl
theorem A38_159 {L : AL} {r : List Value} {a : Nat} {i : Int32} : aw g 38 159 L (.int i :: .ref a :: r) σ Q = (hty σ a = some 27 ∧ ¬ i < 0 ∧ i.toNatClampNeg < hln σ a ∧ aw g 38 160 L (hv σ 27 a i.toNatClampNeg :: r) σ Q) := (aw_eq g 38 159 _ _ _ _).trans (by rw [tq38_159]; exact rfl)
theorem tq38_160 : tT g 38 160 = s_callvk 38 163 139 3 [0] 3 := rfl
theorem A38_160 {L : AL} {r : List Value} {a : Nat} {w0 : Value} : aw g 38 160 L (w0 :: .ref a :: r) σ Q = (hty σ a = some 3 ∧ (vI w0 && true) = true ∧ csum r ≤ 8 ∧ aw g 139 0 [some (.ref a), some w0, none] [] σ (kt (aw g) 38 163 L r Q)) := (aw_eq g 38 160 _ _ _ _).trans (by rw [tq38_160]; exact rfl)
theorem tq38_163 : tT g 38 163 = s_store vI 38 165 7 := rfl
theorem A38_163 {l0 : Option Value} {l1 : Option Value} {l2 : Option Value} {l3 : Option Value} {l4 : Option Value} {l5 : Option Value} {l6 : Option Value} {l7 : Option Value} {l8 : Option Value} {x : Int32} {r : List Value} : aw g 38 163 [l0, l1, l2, l3, l4, l5, l6, l7, l8] (.int x :: r) σ Q = (oc l6 = true ∧ aw g 38 165 [l0, l1, l2, l3, l4, l5, l6, some (.int x), l8] r σ Q) := (aw_eq g 38 163 _ _ _ _).trans (by rw [tq38_163]; exact (h_store (o := oc l6) rfl rfl rfl).trans (propext ⟨fun z => z.2, fun z => ⟨rfl, z⟩⟩))
theorem tq38_165 : tT g 38 165 = s_load vRf 38 166 2 := rfl
theorem A38_165 {l0 : Option Value} {l1 : Option Value} {l3 : Option Value} {l4 : Option Value} {l5 : Option Value} {l6 : Option Value} {l7 : Option Value} {l8 : Option Value} {x : Value} {r : List Value} : aw g 38 165 [l0, l1, some (x), l3, l4, l5, l6, l7, l8] r σ Q = (vRf x = true ∧ aw g 38 166 [l0, l1, some (x), l3, l4, l5, l6, l7, l8] (x :: r) σ Q) := (aw_eq g 38 165 _ _ _ _).trans (by rw [tq38_165]; exact h_load rfl)
theorem tq38_166 : tT g 38 166 = s_callvk 38 169 138 3 [] 1 := rfl
theorem A38_166 {L : AL} {r : List Value} {a : Nat} : aw g 38 166 L (.ref a :: r) σ Q = (hty σ a = some 3 ∧ true = true ∧ csum r ≤ 8 ∧ aw g 138 0 [some (.ref a)] [] σ (kt (aw g) 38 169 L r Q)) := (aw_eq g 38 166 _ _ _ _).trans (by rw [tq38_166]; exact rfl)
theorem tq38_169 : tT g 38 169 = s_load vI 38 171 6 := rfl
theorem A38_169 {l0 : Option Value} {l1 : Option Value} {l2 : Option Value} {l3 : Option Value} {l4 : Option Value} {l5 : Option Value} {l7 : Option Value} {l8 : Option Value} {x : Int32} {r : List Value} : aw g 38 169 [l0, l1, l2, l3, l4, l5, some (.int x), l7, l8] r σ Q = aw g 38 171 [l0, l1, l2, l3, l4, l5, some (.int x), l7, l8] (.int x :: r) σ Q := (aw_eq g 38 169 _ _ _ _).trans (by rw [tq38_169]; exact (h_load rfl).trans (propext ⟨fun z => z.2, fun z => ⟨rfl, z⟩⟩))
theorem tq38_171 : tT g 38 171 = s_icmp 38 174 176 (fun a b => a = b) := rfl
theorem A38_171 {L : AL} {r : List Value} {a b : Int32} : aw g 38 171 L (.int b :: .int a :: r) σ Q = ((a = b → aw g 38 176 L r σ Q) ∧ (¬ a = b → aw g 38 174 L r σ Q)) := (aw_eq g 38 171 _ _ _ _).trans (by rw [tq38_171]; exact rfl)
theorem tq38_174 : tT g 38 174 = s_const 38 175 (.int 0) := rfl
theorem A38_174 {L : AL} {r : List Value} : aw g 38 174 L r σ Q = aw g 38 175 L (.int 0 :: r) σ Q := (aw_eq g 38 174 _ _ _ _).trans (by rw [tq38_174]; exact rfl)
theorem tq38_175 : tT g 38 175 = s_ret vZ := rfl
theorem A38_175 {L : AL} {v : Value} : aw g 38 175 L [v] σ Q = (vZ v ∧ Q (.inl (some v)) σ) := (aw_eq g 38 175 _ _ _ _).trans (by rw [tq38_175]; exact rfl)
theorem tq38_176 : tT g 38 176 = s_load vI 38 178 6 := rfl
theorem A38_176 {l0 : Option Value} {l1 : Option Value} {l2 : Option Value} {l3 : Option Value} {l4 : Option Value} {l5 : Option Value} {l7 : Option Value} {l8 : Option Value} {x : Int32} {r : List Value} : aw g 38 176 [l0, l1, l2, l3, l4, l5, some (.int x), l7, l8] r σ Q = aw g 38 178 [l0, l1, l2, l3, l4, l5, some (.int x), l7, l8] (.int x :: r) σ Q := (aw_eq g 38 176 _ _ _ _).trans (by rw [tq38_176]; exact (h_load rfl).trans (propext ⟨fun z => z.2, fun z => ⟨rfl, z⟩⟩))
theorem tq38_178 : tT g 38 178 = s_if 38 193 181 (fun a => a = 0) := rfl
theorem A38_178 {L : AL} {r : List Value} {a : Int32} : aw g 38 178 L (.int a :: r) σ Q = ((a = 0 → aw g 38 181 L r σ Q) ∧ (¬ a = 0 → aw g 38 193 L r σ Q)) := (aw_eq g 38 178 _ _ _ _).trans (by rw [tq38_178]; exact rfl)
theorem tq38_181 : tT g 38 181 = s_load vRf 38 182 3 := rfl
theorem A38_181 {l0 : Option Value} {l1 : Option Value} {l2 : Option Value} {l4 : Option Value} {l5 : Option Value} {l6 : Option Value} {l7 : Option Value} {l8 : Option Value} {x : Value} {r : List Value} : aw g 38 181 [l0, l1, l2, some (x), l4, l5, l6, l7, l8] r σ Q = (vRf x = true ∧ aw g 38 182 [l0, l1, l2, some (x), l4, l5, l6, l7, l8] (x :: r) σ Q) := (aw_eq g 38 181 _ _ _ _).trans (by rw [tq38_181]; exact h_load rfl)
theorem tq38_182 : tT g 38 182 = s_const 38 183 (.int 0) := rfl
theorem A38_182 {L : AL} {r : List Value} : aw g 38 182 L r σ Q = aw g 38 183 L (.int 0 :: r) σ Q := (aw_eq g 38 182 _ _ _ _).trans (by rw [tq38_182]; exact rfl)
theorem tq38_183 : tT g 38 183 = s_ald 38 184 22 := rfl
theorem A38_183 {L : AL} {r : List Value} {a : Nat} {i : Int32} : aw g 38 183 L (.int i :: .ref a :: r) σ Q = (hty σ a = some 22 ∧ ¬ i < 0 ∧ i.toNatClampNeg < hln σ a ∧ aw g 38 184 L (hv σ 22 a i.toNatClampNeg :: r) σ Q) := (aw_eq g 38 183 _ _ _ _).trans (by rw [tq38_183]; exact rfl)
theorem tq38_184 : tT g 38 184 = s_load vI 38 186 7 := rfl
theorem A38_184 {l0 : Option Value} {l1 : Option Value} {l2 : Option Value} {l3 : Option Value} {l4 : Option Value} {l5 : Option Value} {l6 : Option Value} {l8 : Option Value} {x : Int32} {r : List Value} : aw g 38 184 [l0, l1, l2, l3, l4, l5, l6, some (.int x), l8] r σ Q = aw g 38 186 [l0, l1, l2, l3, l4, l5, l6, some (.int x), l8] (.int x :: r) σ Q := (aw_eq g 38 184 _ _ _ _).trans (by rw [tq38_184]; exact (h_load rfl).trans (propext ⟨fun z => z.2, fun z => ⟨rfl, z⟩⟩))
theorem tq38_186 : tT g 38 186 = s_i2 38 187 (fun a => .long a.toInt64) := rfl
theorem A38_186 {L : AL} {r : List Value} {a : Int32} : aw g 38 186 L (.int a :: r) σ Q = aw g 38 187 L (.long a.toInt64 :: r) σ Q := (aw_eq g 38 186 _ _ _ _).trans (by rw [tq38_186]; exact rfl)
theorem tq38_187 : tT g 38 187 = s_lbin 38 188 (fun a b => .int (lg_cmp a b)) := rfl
theorem A38_187 {L : AL} {r : List Value} {a b : Int64} : aw g 38 187 L (.long b :: .long a :: r) σ Q = aw g 38 188 L (.int (lg_cmp a b) :: r) σ Q := (aw_eq g 38 187 _ _ _ _).trans (by rw [tq38_187]; exact rfl)
theorem tq38_188 : tT g 38 188 = s_if 38 191 193 (fun a => a = 0) := rfl
theorem A38_188 {L : AL} {r : List Value} {a : Int32} : aw g 38 188 L (.int a :: r) σ Q = ((a = 0 → aw g 38 193 L r σ Q) ∧ (¬ a = 0 → aw g 38 191 L r σ Q)) := (aw_eq g 38 188 _ _ _ _).trans (by rw [tq38_188]; exact rfl)
theorem tq38_191 : tT g 38 191 = s_const 38 192 (.int 0) := rfl
theorem A38_191 {L : AL} {r : List Value} : aw g 38 191 L r σ Q = aw g 38 192 L (.int 0 :: r) σ Q := (aw_eq g 38 191 _ _ _ _).trans (by rw [tq38_191]; exact rfl)
theorem tq38_192 : tT g 38 192 = s_ret vZ := rfl
theorem A38_192 {L : AL} {v : Value} : aw g 38 192 L [v] σ Q = (vZ v ∧ Q (.inl (some v)) σ) := (aw_eq g 38 192 _ _ _ _).trans (by rw [tq38_192]; exact rfl)
theorem tq38_193 : tT g 38 193 = s_goto 38 1454 := rfl
theorem A38_193 {L : AL} {r : List Value} : aw g 38 193 L r σ Q = aw g 38 1454 L r σ Q := (aw_eq g 38 193 _ _ _ _).trans (by rw [tq38_193]; exact rfl)
theorem tq38_196 : tT g 38 196 = s_load vRf 38 197 1 := rfl
theorem A38_196 {l0 : Option Value} {l2 : Option Value} {l3 : Option Value} {l4 : Option Value} {l5 : Option Value} {l6 : Option Value} {l7 : Option Value} {l8 : Option Value} {x : Value} {r : List Value} : aw g 38 196 [l0, some (x), l2, l3, l4, l5, l6, l7, l8] r σ Q = (vRf x = true ∧ aw g 38 197 [l0, some (x), l2, l3, l4, l5, l6, l7, l8] (x :: r) σ Q) := (aw_eq g 38 196 _ _ _ _).trans (by rw [tq38_196]; exact h_load rfl)
theorem tq38_197 : tT g 38 197 = s_load vRf 38 198 0 := rfl
theorem A38_197 {l1 : Option Value} {l2 : Option Value} {l3 : Option Value} {l4 : Option Value} {l5 : Option Value} {l6 : Option Value} {l7 : Option Value} {l8 : Option Value} {x : Value} {r : List Value} : aw g 38 197 [some (x), l1, l2, l3, l4, l5, l6, l7, l8] r σ Q = (vRf x = true ∧ aw g 38 198 [some (x), l1, l2, l3, l4, l5, l6, l7, l8] (x :: r) σ Q) := (aw_eq g 38 197 _ _ _ _).trans (by rw [tq38_197]; exact h_load rfl)
theorem tq38_198 : tT g 38 198 = s_load vI 38 200 5 := rfl
theorem A38_198 {l0 : Option Value} {l1 : Option Value} {l2 : Option Value} {l3 : Option Value} {l4 : Option Value} {l6 : Option Value} {l7 : Option Value} {l8 : Option Value} {x : Int32} {r : List Value} : aw g 38 198 [l0, l1, l2, l3, l4, some (.int x), l6, l7, l8] r σ Q = aw g 38 200 [l0, l1, l2, l3, l4, some (.int x), l6, l7, l8] (.int x :: r) σ Q := (aw_eq g 38 198 _ _ _ _).trans (by rw [tq38_198]; exact (h_load rfl).trans (propext ⟨fun z => z.2, fun z => ⟨rfl, z⟩⟩))
theorem tq38_200 : tT g 38 200 = s_const 38 201 (.int 1) := rfl
theorem A38_200 {L : AL} {r : List Value} : aw g 38 200 L r σ Q = aw g 38 201 L (.int 1 :: r) σ Q := (aw_eq g 38 200 _ _ _ _).trans (by rw [tq38_200]; exact rfl)
theorem tq38_201 : tT g 38 201 = s_bin 38 202 (fun a b => a + b) := rfl
theorem A38_201 {L : AL} {r : List Value} {a b : Int32} : aw g 38 201 L (.int b :: .int a :: r) σ Q = aw g 38 202 L (.int (a + b) :: r) σ Q := (aw_eq g 38 201 _ _ _ _).trans (by rw [tq38_201]; exact rfl)
theorem tq38_202 : tT g 38 202 = s_ald 38 203 27 := rfl
theorem A38_202 {L : AL} {r : List Value} {a : Nat} {i : Int32} : aw g 38 202 L (.int i :: .ref a :: r) σ Q = (hty σ a = some 27 ∧ ¬ i < 0 ∧ i.toNatClampNeg < hln σ a ∧ aw g 38 203 L (hv σ 27 a i.toNatClampNeg :: r) σ Q) := (aw_eq g 38 202 _ _ _ _).trans (by rw [tq38_202]; exact rfl)
theorem tq38_203 : tT g 38 203 = s_load vRf 38 204 0 := rfl
theorem A38_203 {l1 : Option Value} {l2 : Option Value} {l3 : Option Value} {l4 : Option Value} {l5 : Option Value} {l6 : Option Value} {l7 : Option Value} {l8 : Option Value} {x : Value} {r : List Value} : aw g 38 203 [some (x), l1, l2, l3, l4, l5, l6, l7, l8] r σ Q = (vRf x = true ∧ aw g 38 204 [some (x), l1, l2, l3, l4, l5, l6, l7, l8] (x :: r) σ Q) := (aw_eq g 38 203 _ _ _ _).trans (by rw [tq38_203]; exact h_load rfl)
theorem tq38_204 : tT g 38 204 = s_load vI 38 206 5 := rfl
theorem A38_204 {l0 : Option Value} {l1 : Option Value} {l2 : Option Value} {l3 : Option Value} {l4 : Option Value} {l6 : Option Value} {l7 : Option Value} {l8 : Option Value} {x : Int32} {r : List Value} : aw g 38 204 [l0, l1, l2, l3, l4, some (.int x), l6, l7, l8] r σ Q = aw g 38 206 [l0, l1, l2, l3, l4, some (.int x), l6, l7, l8] (.int x :: r) σ Q := (aw_eq g 38 204 _ _ _ _).trans (by rw [tq38_204]; exact (h_load rfl).trans (propext ⟨fun z => z.2, fun z => ⟨rfl, z⟩⟩))
theorem tq38_206 : tT g 38 206 = s_const 38 207 (.int 2) := rfl
theorem A38_206 {L : AL} {r : List Value} : aw g 38 206 L r σ Q = aw g 38 207 L (.int 2 :: r) σ Q := (aw_eq g 38 206 _ _ _ _).trans (by rw [tq38_206]; exact rfl)
theorem tq38_207 : tT g 38 207 = s_bin 38 208 (fun a b => a + b) := rfl
theorem A38_207 {L : AL} {r : List Value} {a b : Int32} : aw g 38 207 L (.int b :: .int a :: r) σ Q = aw g 38 208 L (.int (a + b) :: r) σ Q := (aw_eq g 38 207 _ _ _ _).trans (by rw [tq38_207]; exact rfl)
theorem tq38_208 : tT g 38 208 = s_ald 38 209 27 := rfl
theorem A38_208 {L : AL} {r : List Value} {a : Nat} {i : Int32} : aw g 38 208 L (.int i :: .ref a :: r) σ Q = (hty σ a = some 27 ∧ ¬ i < 0 ∧ i.toNatClampNeg < hln σ a ∧ aw g 38 209 L (hv σ 27 a i.toNatClampNeg :: r) σ Q) := (aw_eq g 38 208 _ _ _ _).trans (by rw [tq38_208]; exact rfl)
theorem tq38_209 : tT g 38 209 = s_load vRf 38 210 0 := rfl
theorem A38_209 {l1 : Option Value} {l2 : Option Value} {l3 : Option Value} {l4 : Option Value} {l5 : Option Value} {l6 : Option Value} {l7 : Option Value} {l8 : Option Value} {x : Value} {r : List Value} : aw g 38 209 [some (x), l1, l2, l3, l4, l5, l6, l7, l8] r σ Q = (vRf x = true ∧ aw g 38 210 [some (x), l1, l2, l3, l4, l5, l6, l7, l8] (x :: r) σ Q) := (aw_eq g 38 209 _ _ _ _).trans (by rw [tq38_209]; exact h_load rfl)
theorem tq38_210 : tT g 38 210 = s_load vI 38 212 5 := rfl
theorem A38_210 {l0 : Option Value} {l1 : Option Value} {l2 : Option Value} {l3 : Option Value} {l4 : Option Value} {l6 : Option Value} {l7 : Option Value} {l8 : Option Value} {x : Int32} {r : List Value} : aw g 38 210 [l0, l1, l2, l3, l4, some (.int x), l6, l7, l8] r σ Q = aw g 38 212 [l0, l1, l2, l3, l4, some (.int x), l6, l7, l8] (.int x :: r) σ Q := (aw_eq g 38 210 _ _ _ _).trans (by rw [tq38_210]; exact (h_load rfl).trans (propext ⟨fun z => z.2, fun z => ⟨rfl, z⟩⟩))
theorem tq38_212 : tT g 38 212 = s_const 38 213 (.int 3) := rfl
theorem A38_212 {L : AL} {r : List Value} : aw g 38 212 L r σ Q = aw g 38 213 L (.int 3 :: r) σ Q := (aw_eq g 38 212 _ _ _ _).trans (by rw [tq38_212]; exact rfl)
theorem tq38_213 : tT g 38 213 = s_bin 38 214 (fun a b => a + b) := rfl
theorem A38_213 {L : AL} {r : List Value} {a b : Int32} : aw g 38 213 L (.int b :: .int a :: r) σ Q = aw g 38 214 L (.int (a + b) :: r) σ Q := (aw_eq g 38 213 _ _ _ _).trans (by rw [tq38_213]; exact rfl)
theorem tq38_214 : tT g 38 214 = s_ald 38 215 27 := rfl
theorem A38_214 {L : AL} {r : List Value} {a : Nat} {i : Int32} : aw g 38 214 L (.int i :: .ref a :: r) σ Q = (hty σ a = some 27 ∧ ¬ i < 0 ∧ i.toNatClampNeg < hln σ a ∧ aw g 38 215 L (hv σ 27 a i.toNatClampNeg :: r) σ Q) := (aw_eq g 38 214 _ _ _ _).trans (by rw [tq38_214]; exact rfl)
theorem tq38_215 : tT g 38 215 = s_load vRf 38 216 3 := rfl
theorem A38_215 {l0 : Option Value} {l1 : Option Value} {l2 : Option Value} {l4 : Option Value} {l5 : Option Value} {l6 : Option Value} {l7 : Option Value} {l8 : Option Value} {x : Value} {r : List Value} : aw g 38 215 [l0, l1, l2, some (x), l4, l5, l6, l7, l8] r σ Q = (vRf x = true ∧ aw g 38 216 [l0, l1, l2, some (x), l4, l5, l6, l7, l8] (x :: r) σ Q) := (aw_eq g 38 215 _ _ _ _).trans (by rw [tq38_215]; exact h_load rfl)
theorem tq38_216 : tT g 38 216 = s_callk 38 219 40 [1, 0, 0, 0, 1] 6 := rfl
theorem A38_216 {L : AL} {r : List Value} {w0 w1 w2 w3 w4 : Value} : aw g 38 216 L (w4 :: w3 :: w2 :: w1 :: w0 :: r) σ Q = ((vRf w0 && (vI w1 && (vI w2 && (vI w3 && (vRf w4 && true))))) = true ∧ csum r ≤ 8 ∧ aw g 40 0 [some w0, some w1, some w2, some w3, some w4, none] [] σ (kt (aw g) 38 219 L r Q)) := (aw_eq g 38 216 _ _ _ _).trans (by rw [tq38_216]; exact rfl)
theorem tq38_219 : tT g 38 219 = s_store vI 38 221 6 := rfl
theorem A38_219 {l0 : Option Value} {l1 : Option Value} {l2 : Option Value} {l3 : Option Value} {l4 : Option Value} {l5 : Option Value} {l6 : Option Value} {l7 : Option Value} {l8 : Option Value} {x : Int32} {r : List Value} : aw g 38 219 [l0, l1, l2, l3, l4, l5, l6, l7, l8] (.int x :: r) σ Q = (oc l5 = true ∧ aw g 38 221 [l0, l1, l2, l3, l4, l5, some (.int x), l7, l8] r σ Q) := (aw_eq g 38 219 _ _ _ _).trans (by rw [tq38_219]; exact (h_store (o := oc l5) rfl rfl rfl).trans (propext ⟨fun z => z.2, fun z => ⟨rfl, z⟩⟩))
theorem tq38_221 : tT g 38 221 = s_load vRf 38 222 2 := rfl
theorem A38_221 {l0 : Option Value} {l1 : Option Value} {l3 : Option Value} {l4 : Option Value} {l5 : Option Value} {l6 : Option Value} {l7 : Option Value} {l8 : Option Value} {x : Value} {r : List Value} : aw g 38 221 [l0, l1, some (x), l3, l4, l5, l6, l7, l8] r σ Q = (vRf x = true ∧ aw g 38 222 [l0, l1, some (x), l3, l4, l5, l6, l7, l8] (x :: r) σ Q) := (aw_eq g 38 221 _ _ _ _).trans (by rw [tq38_221]; exact h_load rfl)
theorem tq38_222 : tT g 38 222 = s_load vRf 38 223 0 := rfl
theorem A38_222 {l1 : Option Value} {l2 : Option Value} {l3 : Option Value} {l4 : Option Value} {l5 : Option Value} {l6 : Option Value} {l7 : Option Value} {l8 : Option Value} {x : Value} {r : List Value} : aw g 38 222 [some (x), l1, l2, l3, l4, l5, l6, l7, l8] r σ Q = (vRf x = true ∧ aw g 38 223 [some (x), l1, l2, l3, l4, l5, l6, l7, l8] (x :: r) σ Q) := (aw_eq g 38 222 _ _ _ _).trans (by rw [tq38_222]; exact h_load rfl)
theorem tq38_223 : tT g 38 223 = s_load vI 38 225 5 := rfl
theorem A38_223 {l0 : Option Value} {l1 : Option Value} {l2 : Option Value} {l3 : Option Value} {l4 : Option Value} {l6 : Option Value} {l7 : Option Value} {l8 : Option Value} {x : Int32} {r : List Value} : aw g 38 223 [l0, l1, l2, l3, l4, some (.int x), l6, l7, l8] r σ Q = aw g 38 225 [l0, l1, l2, l3, l4, some (.int x), l6, l7, l8] (.int x :: r) σ Q := (aw_eq g 38 223 _ _ _ _).trans (by rw [tq38_223]; exact (h_load rfl).trans (propext ⟨fun z => z.2, fun z => ⟨rfl, z⟩⟩))
theorem tq38_225 : tT g 38 225 = s_const 38 226 (.int 1) := rfl
theorem A38_225 {L : AL} {r : List Value} : aw g 38 225 L r σ Q = aw g 38 226 L (.int 1 :: r) σ Q := (aw_eq g 38 225 _ _ _ _).trans (by rw [tq38_225]; exact rfl)
theorem tq38_226 : tT g 38 226 = s_bin 38 227 (fun a b => a + b) := rfl
theorem A38_226 {L : AL} {r : List Value} {a b : Int32} : aw g 38 226 L (.int b :: .int a :: r) σ Q = aw g 38 227 L (.int (a + b) :: r) σ Q := (aw_eq g 38 226 _ _ _ _).trans (by rw [tq38_226]; exact rfl)
theorem tq38_227 : tT g 38 227 = s_ald 38 228 27 := rfl
theorem A38_227 {L : AL} {r : List Value} {a : Nat} {i : Int32} : aw g 38 227 L (.int i :: .ref a :: r) σ Q = (hty σ a = some 27 ∧ ¬ i < 0 ∧ i.toNatClampNeg < hln σ a ∧ aw g 38 228 L (hv σ 27 a i.toNatClampNeg :: r) σ Q) := (aw_eq g 38 227 _ _ _ _).trans (by rw [tq38_227]; exact rfl)
theorem tq38_228 : tT g 38 228 = s_load vRf 38 229 0 := rfl
theorem A38_228 {l1 : Option Value} {l2 : Option Value} {l3 : Option Value} {l4 : Option Value} {l5 : Option Value} {l6 : Option Value} {l7 : Option Value} {l8 : Option Value} {x : Value} {r : List Value} : aw g 38 228 [some (x), l1, l2, l3, l4, l5, l6, l7, l8] r σ Q = (vRf x = true ∧ aw g 38 229 [some (x), l1, l2, l3, l4, l5, l6, l7, l8] (x :: r) σ Q) := (aw_eq g 38 228 _ _ _ _).trans (by rw [tq38_228]; exact h_load rfl)
theorem tq38_229 : tT g 38 229 = s_load vI 38 231 5 := rfl
theorem A38_229 {l0 : Option Value} {l1 : Option Value} {l2 : Option Value} {l3 : Option Value} {l4 : Option Value} {l6 : Option Value} {l7 : Option Value} {l8 : Option Value} {x : Int32} {r : List Value} : aw g 38 229 [l0, l1, l2, l3, l4, some (.int x), l6, l7, l8] r σ Q = aw g 38 231 [l0, l1, l2, l3, l4, some (.int x), l6, l7, l8] (.int x :: r) σ Q := (aw_eq g 38 229 _ _ _ _).trans (by rw [tq38_229]; exact (h_load rfl).trans (propext ⟨fun z => z.2, fun z => ⟨rfl, z⟩⟩))
theorem tq38_231 : tT g 38 231 = s_const 38 232 (.int 2) := rfl
theorem A38_231 {L : AL} {r : List Value} : aw g 38 231 L r σ Q = aw g 38 232 L (.int 2 :: r) σ Q := (aw_eq g 38 231 _ _ _ _).trans (by rw [tq38_231]; exact rfl)
theorem tq38_232 : tT g 38 232 = s_bin 38 233 (fun a b => a + b) := rfl
theorem A38_232 {L : AL} {r : List Value} {a b : Int32} : aw g 38 232 L (.int b :: .int a :: r) σ Q = aw g 38 233 L (.int (a + b) :: r) σ Q := (aw_eq g 38 232 _ _ _ _).trans (by rw [tq38_232]; exact rfl)
theorem tq38_233 : tT g 38 233 = s_ald 38 234 27 := rfl
theorem A38_233 {L : AL} {r : List Value} {a : Nat} {i : Int32} : aw g 38 233 L (.int i :: .ref a :: r) σ Q = (hty σ a = some 27 ∧ ¬ i < 0 ∧ i.toNatClampNeg < hln σ a ∧ aw g 38 234 L (hv σ 27 a i.toNatClampNeg :: r) σ Q) := (aw_eq g 38 233 _ _ _ _).trans (by rw [tq38_233]; exact rfl)
theorem tq38_234 : tT g 38 234 = s_load vRf 38 235 0 := rfl
theorem A38_234 {l1 : Option Value} {l2 : Option Value} {l3 : Option Value} {l4 : Option Value} {l5 : Option Value} {l6 : Option Value} {l7 : Option Value} {l8 : Option Value} {x : Value} {r : List Value} : aw g 38 234 [some (x), l1, l2, l3, l4, l5, l6, l7, l8] r σ Q = (vRf x = true ∧ aw g 38 235 [some (x), l1, l2, l3, l4, l5, l6, l7, l8] (x :: r) σ Q) := (aw_eq g 38 234 _ _ _ _).trans (by rw [tq38_234]; exact h_load rfl)
theorem tq38_235 : tT g 38 235 = s_load vI 38 237 5 := rfl
theorem A38_235 {l0 : Option Value} {l1 : Option Value} {l2 : Option Value} {l3 : Option Value} {l4 : Option Value} {l6 : Option Value} {l7 : Option Value} {l8 : Option Value} {x : Int32} {r : List Value} : aw g 38 235 [l0, l1, l2, l3, l4, some (.int x), l6, l7, l8] r σ Q = aw g 38 237 [l0, l1, l2, l3, l4, some (.int x), l6, l7, l8] (.int x :: r) σ Q := (aw_eq g 38 235 _ _ _ _).trans (by rw [tq38_235]; exact (h_load rfl).trans (propext ⟨fun z => z.2, fun z => ⟨rfl, z⟩⟩))
theorem tq38_237 : tT g 38 237 = s_const 38 238 (.int 3) := rfl
theorem A38_237 {L : AL} {r : List Value} : aw g 38 237 L r σ Q = aw g 38 238 L (.int 3 :: r) σ Q := (aw_eq g 38 237 _ _ _ _).trans (by rw [tq38_237]; exact rfl)
theorem tq38_238 : tT g 38 238 = s_bin 38 239 (fun a b => a + b) := rfl
theorem A38_238 {L : AL} {r : List Value} {a b : Int32} : aw g 38 238 L (.int b :: .int a :: r) σ Q = aw g 38 239 L (.int (a + b) :: r) σ Q := (aw_eq g 38 238 _ _ _ _).trans (by rw [tq38_238]; exact rfl)
theorem tq38_239 : tT g 38 239 = s_ald 38 240 27 := rfl
theorem A38_239 {L : AL} {r : List Value} {a : Nat} {i : Int32} : aw g 38 239 L (.int i :: .ref a :: r) σ Q = (hty σ a = some 27 ∧ ¬ i < 0 ∧ i.toNatClampNeg < hln σ a ∧ aw g 38 240 L (hv σ 27 a i.toNatClampNeg :: r) σ Q) := (aw_eq g 38 239 _ _ _ _).trans (by rw [tq38_239]; exact rfl)
theorem tq38_240 : tT g 38 240 = s_callvk 38 243 142 3 [0, 0, 0] 6 := rfl
theorem A38_240 {L : AL} {r : List Value} {a : Nat} {w0 w1 w2 : Value} : aw g 38 240 L (w2 :: w1 :: w0 :: .ref a :: r) σ Q = (hty σ a = some 3 ∧ (vI w0 && (vI w1 && (vI w2 && true))) = true ∧ csum r ≤ 8 ∧ aw g 142 0 [some (.ref a), some w0, some w1, some w2, none, none] [] σ (kt (aw g) 38 243 L r Q)) := (aw_eq g 38 240 _ _ _ _).trans (by rw [tq38_240]; exact rfl)
theorem tq38_243 : tT g 38 243 = s_store vI 38 245 7 := rfl
theorem A38_243 {l0 : Option Value} {l1 : Option Value} {l2 : Option Value} {l3 : Option Value} {l4 : Option Value} {l5 : Option Value} {l6 : Option Value} {l7 : Option Value} {l8 : Option Value} {x : Int32} {r : List Value} : aw g 38 243 [l0, l1, l2, l3, l4, l5, l6, l7, l8] (.int x :: r) σ Q = (oc l6 = true ∧ aw g 38 245 [l0, l1, l2, l3, l4, l5, l6, some (.int x), l8] r σ Q) := (aw_eq g 38 243 _ _ _ _).trans (by rw [tq38_243]; exact (h_store (o := oc l6) rfl rfl rfl).trans (propext ⟨fun z => z.2, fun z => ⟨rfl, z⟩⟩))
theorem tq38_245 : tT g 38 245 = s_load vRf 38 246 2 := rfl
theorem A38_245 {l0 : Option Value} {l1 : Option Value} {l3 : Option Value} {l4 : Option Value} {l5 : Option Value} {l6 : Option Value} {l7 : Option Value} {l8 : Option Value} {x : Value} {r : List Value} : aw g 38 245 [l0, l1, some (x), l3, l4, l5, l6, l7, l8] r σ Q = (vRf x = true ∧ aw g 38 246 [l0, l1, some (x), l3, l4, l5, l6, l7, l8] (x :: r) σ Q) := (aw_eq g 38 245 _ _ _ _).trans (by rw [tq38_245]; exact h_load rfl)
theorem tq38_246 : tT g 38 246 = s_callvk 38 249 138 3 [] 1 := rfl
theorem A38_246 {L : AL} {r : List Value} {a : Nat} : aw g 38 246 L (.ref a :: r) σ Q = (hty σ a = some 3 ∧ true = true ∧ csum r ≤ 8 ∧ aw g 138 0 [some (.ref a)] [] σ (kt (aw g) 38 249 L r Q)) := (aw_eq g 38 246 _ _ _ _).trans (by rw [tq38_246]; exact rfl)
theorem tq38_249 : tT g 38 249 = s_load vI 38 251 6 := rfl
theorem A38_249 {l0 : Option Value} {l1 : Option Value} {l2 : Option Value} {l3 : Option Value} {l4 : Option Value} {l5 : Option Value} {l7 : Option Value} {l8 : Option Value} {x : Int32} {r : List Value} : aw g 38 249 [l0, l1, l2, l3, l4, l5, some (.int x), l7, l8] r σ Q = aw g 38 251 [l0, l1, l2, l3, l4, l5, some (.int x), l7, l8] (.int x :: r) σ Q := (aw_eq g 38 249 _ _ _ _).trans (by rw [tq38_249]; exact (h_load rfl).trans (propext ⟨fun z => z.2, fun z => ⟨rfl, z⟩⟩))
theorem tq38_251 : tT g 38 251 = s_icmp 38 254 256 (fun a b => a = b) := rfl
theorem A38_251 {L : AL} {r : List Value} {a b : Int32} : aw g 38 251 L (.int b :: .int a :: r) σ Q = ((a = b → aw g 38 256 L r σ Q) ∧ (¬ a = b → aw g 38 254 L r σ Q)) := (aw_eq g 38 251 _ _ _ _).trans (by rw [tq38_251]; exact rfl)
theorem tq38_254 : tT g 38 254 = s_const 38 255 (.int 0) := rfl
theorem A38_254 {L : AL} {r : List Value} : aw g 38 254 L r σ Q = aw g 38 255 L (.int 0 :: r) σ Q := (aw_eq g 38 254 _ _ _ _).trans (by rw [tq38_254]; exact rfl)
theorem tq38_255 : tT g 38 255 = s_ret vZ := rfl
theorem A38_255 {L : AL} {v : Value} : aw g 38 255 L [v] σ Q = (vZ v ∧ Q (.inl (some v)) σ) := (aw_eq g 38 255 _ _ _ _).trans (by rw [tq38_255]; exact rfl)
theorem tq38_256 : tT g 38 256 = s_load vI 38 258 6 := rfl
theorem A38_256 {l0 : Option Value} {l1 : Option Value} {l2 : Option Value} {l3 : Option Value} {l4 : Option Value} {l5 : Option Value} {l7 : Option Value} {l8 : Option Value} {x : Int32} {r : List Value} : aw g 38 256 [l0, l1, l2, l3, l4, l5, some (.int x), l7, l8] r σ Q = aw g 38 258 [l0, l1, l2, l3, l4, l5, some (.int x), l7, l8] (.int x :: r) σ Q := (aw_eq g 38 256 _ _ _ _).trans (by rw [tq38_256]; exact (h_load rfl).trans (propext ⟨fun z => z.2, fun z => ⟨rfl, z⟩⟩))
theorem tq38_258 : tT g 38 258 = s_if 38 273 261 (fun a => a = 0) := rfl
theorem A38_258 {L : AL} {r : List Value} {a : Int32} : aw g 38 258 L (.int a :: r) σ Q = ((a = 0 → aw g 38 261 L r σ Q) ∧ (¬ a = 0 → aw g 38 273 L r σ Q)) := (aw_eq g 38 258 _ _ _ _).trans (by rw [tq38_258]; exact rfl)
theorem tq38_261 : tT g 38 261 = s_load vRf 38 262 3 := rfl
theorem A38_261 {l0 : Option Value} {l1 : Option Value} {l2 : Option Value} {l4 : Option Value} {l5 : Option Value} {l6 : Option Value} {l7 : Option Value} {l8 : Option Value} {x : Value} {r : List Value} : aw g 38 261 [l0, l1, l2, some (x), l4, l5, l6, l7, l8] r σ Q = (vRf x = true ∧ aw g 38 262 [l0, l1, l2, some (x), l4, l5, l6, l7, l8] (x :: r) σ Q) := (aw_eq g 38 261 _ _ _ _).trans (by rw [tq38_261]; exact h_load rfl)
theorem tq38_262 : tT g 38 262 = s_const 38 263 (.int 0) := rfl
theorem A38_262 {L : AL} {r : List Value} : aw g 38 262 L r σ Q = aw g 38 263 L (.int 0 :: r) σ Q := (aw_eq g 38 262 _ _ _ _).trans (by rw [tq38_262]; exact rfl)
theorem tq38_263 : tT g 38 263 = s_ald 38 264 22 := rfl
theorem A38_263 {L : AL} {r : List Value} {a : Nat} {i : Int32} : aw g 38 263 L (.int i :: .ref a :: r) σ Q = (hty σ a = some 22 ∧ ¬ i < 0 ∧ i.toNatClampNeg < hln σ a ∧ aw g 38 264 L (hv σ 22 a i.toNatClampNeg :: r) σ Q) := (aw_eq g 38 263 _ _ _ _).trans (by rw [tq38_263]; exact rfl)
theorem tq38_264 : tT g 38 264 = s_load vI 38 266 7 := rfl
theorem A38_264 {l0 : Option Value} {l1 : Option Value} {l2 : Option Value} {l3 : Option Value} {l4 : Option Value} {l5 : Option Value} {l6 : Option Value} {l8 : Option Value} {x : Int32} {r : List Value} : aw g 38 264 [l0, l1, l2, l3, l4, l5, l6, some (.int x), l8] r σ Q = aw g 38 266 [l0, l1, l2, l3, l4, l5, l6, some (.int x), l8] (.int x :: r) σ Q := (aw_eq g 38 264 _ _ _ _).trans (by rw [tq38_264]; exact (h_load rfl).trans (propext ⟨fun z => z.2, fun z => ⟨rfl, z⟩⟩))
theorem tq38_266 : tT g 38 266 = s_i2 38 267 (fun a => .long a.toInt64) := rfl
theorem A38_266 {L : AL} {r : List Value} {a : Int32} : aw g 38 266 L (.int a :: r) σ Q = aw g 38 267 L (.long a.toInt64 :: r) σ Q := (aw_eq g 38 266 _ _ _ _).trans (by rw [tq38_266]; exact rfl)
theorem tq38_267 : tT g 38 267 = s_lbin 38 268 (fun a b => .int (lg_cmp a b)) := rfl
theorem A38_267 {L : AL} {r : List Value} {a b : Int64} : aw g 38 267 L (.long b :: .long a :: r) σ Q = aw g 38 268 L (.int (lg_cmp a b) :: r) σ Q := (aw_eq g 38 267 _ _ _ _).trans (by rw [tq38_267]; exact rfl)
theorem tq38_268 : tT g 38 268 = s_if 38 271 273 (fun a => a = 0) := rfl
theorem A38_268 {L : AL} {r : List Value} {a : Int32} : aw g 38 268 L (.int a :: r) σ Q = ((a = 0 → aw g 38 273 L r σ Q) ∧ (¬ a = 0 → aw g 38 271 L r σ Q)) := (aw_eq g 38 268 _ _ _ _).trans (by rw [tq38_268]; exact rfl)
theorem tq38_271 : tT g 38 271 = s_const 38 272 (.int 0) := rfl
theorem A38_271 {L : AL} {r : List Value} : aw g 38 271 L r σ Q = aw g 38 272 L (.int 0 :: r) σ Q := (aw_eq g 38 271 _ _ _ _).trans (by rw [tq38_271]; exact rfl)
theorem tq38_272 : tT g 38 272 = s_ret vZ := rfl
theorem A38_272 {L : AL} {v : Value} : aw g 38 272 L [v] σ Q = (vZ v ∧ Q (.inl (some v)) σ) := (aw_eq g 38 272 _ _ _ _).trans (by rw [tq38_272]; exact rfl)
theorem tq38_273 : tT g 38 273 = s_goto 38 1454 := rfl
theorem A38_273 {L : AL} {r : List Value} : aw g 38 273 L r σ Q = aw g 38 1454 L r σ Q := (aw_eq g 38 273 _ _ _ _).trans (by rw [tq38_273]; exact rfl)
theorem tq38_276 : tT g 38 276 = s_load vRf 38 277 1 := rfl
theorem A38_276 {l0 : Option Value} {l2 : Option Value} {l3 : Option Value} {l4 : Option Value} {l5 : Option Value} {l6 : Option Value} {l7 : Option Value} {l8 : Option Value} {x : Value} {r : List Value} : aw g 38 276 [l0, some (x), l2, l3, l4, l5, l6, l7, l8] r σ Q = (vRf x = true ∧ aw g 38 277 [l0, some (x), l2, l3, l4, l5, l6, l7, l8] (x :: r) σ Q) := (aw_eq g 38 276 _ _ _ _).trans (by rw [tq38_276]; exact h_load rfl)
theorem tq38_277 : tT g 38 277 = s_load vRf 38 278 0 := rfl
theorem A38_277 {l1 : Option Value} {l2 : Option Value} {l3 : Option Value} {l4 : Option Value} {l5 : Option Value} {l6 : Option Value} {l7 : Option Value} {l8 : Option Value} {x : Value} {r : List Value} : aw g 38 277 [some (x), l1, l2, l3, l4, l5, l6, l7, l8] r σ Q = (vRf x = true ∧ aw g 38 278 [some (x), l1, l2, l3, l4, l5, l6, l7, l8] (x :: r) σ Q) := (aw_eq g 38 277 _ _ _ _).trans (by rw [tq38_277]; exact h_load rfl)
theorem tq38_278 : tT g 38 278 = s_load vI 38 280 5 := rfl
theorem A38_278 {l0 : Option Value} {l1 : Option Value} {l2 : Option Value} {l3 : Option Value} {l4 : Option Value} {l6 : Option Value} {l7 : Option Value} {l8 : Option Value} {x : Int32} {r : List Value} : aw g 38 278 [l0, l1, l2, l3, l4, some (.int x), l6, l7, l8] r σ Q = aw g 38 280 [l0, l1, l2, l3, l4, some (.int x), l6, l7, l8] (.int x :: r) σ Q := (aw_eq g 38 278 _ _ _ _).trans (by rw [tq38_278]; exact (h_load rfl).trans (propext ⟨fun z => z.2, fun z => ⟨rfl, z⟩⟩))
theorem tq38_280 : tT g 38 280 = s_const 38 281 (.int 1) := rfl
theorem A38_280 {L : AL} {r : List Value} : aw g 38 280 L r σ Q = aw g 38 281 L (.int 1 :: r) σ Q := (aw_eq g 38 280 _ _ _ _).trans (by rw [tq38_280]; exact rfl)
theorem tq38_281 : tT g 38 281 = s_bin 38 282 (fun a b => a + b) := rfl
theorem A38_281 {L : AL} {r : List Value} {a b : Int32} : aw g 38 281 L (.int b :: .int a :: r) σ Q = aw g 38 282 L (.int (a + b) :: r) σ Q := (aw_eq g 38 281 _ _ _ _).trans (by rw [tq38_281]; exact rfl)
theorem tq38_282 : tT g 38 282 = s_ald 38 283 27 := rfl
theorem A38_282 {L : AL} {r : List Value} {a : Nat} {i : Int32} : aw g 38 282 L (.int i :: .ref a :: r) σ Q = (hty σ a = some 27 ∧ ¬ i < 0 ∧ i.toNatClampNeg < hln σ a ∧ aw g 38 283 L (hv σ 27 a i.toNatClampNeg :: r) σ Q) := (aw_eq g 38 282 _ _ _ _).trans (by rw [tq38_282]; exact rfl)
theorem tq38_283 : tT g 38 283 = s_load vRf 38 284 0 := rfl
theorem A38_283 {l1 : Option Value} {l2 : Option Value} {l3 : Option Value} {l4 : Option Value} {l5 : Option Value} {l6 : Option Value} {l7 : Option Value} {l8 : Option Value} {x : Value} {r : List Value} : aw g 38 283 [some (x), l1, l2, l3, l4, l5, l6, l7, l8] r σ Q = (vRf x = true ∧ aw g 38 284 [some (x), l1, l2, l3, l4, l5, l6, l7, l8] (x :: r) σ Q) := (aw_eq g 38 283 _ _ _ _).trans (by rw [tq38_283]; exact h_load rfl)
theorem tq38_284 : tT g 38 284 = s_load vI 38 286 5 := rfl
theorem A38_284 {l0 : Option Value} {l1 : Option Value} {l2 : Option Value} {l3 : Option Value} {l4 : Option Value} {l6 : Option Value} {l7 : Option Value} {l8 : Option Value} {x : Int32} {r : List Value} : aw g 38 284 [l0, l1, l2, l3, l4, some (.int x), l6, l7, l8] r σ Q = aw g 38 286 [l0, l1, l2, l3, l4, some (.int x), l6, l7, l8] (.int x :: r) σ Q := (aw_eq g 38 284 _ _ _ _).trans (by rw [tq38_284]; exact (h_load rfl).trans (propext ⟨fun z => z.2, fun z => ⟨rfl, z⟩⟩))
theorem tq38_286 : tT g 38 286 = s_const 38 287 (.int 2) := rfl
theorem A38_286 {L : AL} {r : List Value} : aw g 38 286 L r σ Q = aw g 38 287 L (.int 2 :: r) σ Q := (aw_eq g 38 286 _ _ _ _).trans (by rw [tq38_286]; exact rfl)
theorem tq38_287 : tT g 38 287 = s_bin 38 288 (fun a b => a + b) := rfl
theorem A38_287 {L : AL} {r : List Value} {a b : Int32} : aw g 38 287 L (.int b :: .int a :: r) σ Q = aw g 38 288 L (.int (a + b) :: r) σ Q := (aw_eq g 38 287 _ _ _ _).trans (by rw [tq38_287]; exact rfl)
theorem tq38_288 : tT g 38 288 = s_ald 38 289 27 := rfl
theorem A38_288 {L : AL} {r : List Value} {a : Nat} {i : Int32} : aw g 38 288 L (.int i :: .ref a :: r) σ Q = (hty σ a = some 27 ∧ ¬ i < 0 ∧ i.toNatClampNeg < hln σ a ∧ aw g 38 289 L (hv σ 27 a i.toNatClampNeg :: r) σ Q) := (aw_eq g 38 288 _ _ _ _).trans (by rw [tq38_288]; exact rfl)
theorem tq38_289 : tT g 38 289 = s_load vRf 38 290 3 := rfl
theorem A38_289 {l0 : Option Value} {l1 : Option Value} {l2 : Option Value} {l4 : Option Value} {l5 : Option Value} {l6 : Option Value} {l7 : Option Value} {l8 : Option Value} {x : Value} {r : List Value} : aw g 38 289 [l0, l1, l2, some (x), l4, l5, l6, l7, l8] r σ Q = (vRf x = true ∧ aw g 38 290 [l0, l1, l2, some (x), l4, l5, l6, l7, l8] (x :: r) σ Q) := (aw_eq g 38 289 _ _ _ _).trans (by rw [tq38_289]; exact h_load rfl)
theorem tq38_290 : tT g 38 290 = s_callk 38 293 41 [1, 0, 0, 1] 5 := rfl
theorem A38_290 {L : AL} {r : List Value} {w0 w1 w2 w3 : Value} : aw g 38 290 L (w3 :: w2 :: w1 :: w0 :: r) σ Q = ((vRf w0 && (vI w1 && (vI w2 && (vRf w3 && true)))) = true ∧ csum r ≤ 8 ∧ aw g 41 0 [some w0, some w1, some w2, some w3, none] [] σ (kt (aw g) 38 293 L r Q)) := (aw_eq g 38 290 _ _ _ _).trans (by rw [tq38_290]; exact rfl)
theorem tq38_293 : tT g 38 293 = s_store vI 38 295 6 := rfl
theorem A38_293 {l0 : Option Value} {l1 : Option Value} {l2 : Option Value} {l3 : Option Value} {l4 : Option Value} {l5 : Option Value} {l6 : Option Value} {l7 : Option Value} {l8 : Option Value} {x : Int32} {r : List Value} : aw g 38 293 [l0, l1, l2, l3, l4, l5, l6, l7, l8] (.int x :: r) σ Q = (oc l5 = true ∧ aw g 38 295 [l0, l1, l2, l3, l4, l5, some (.int x), l7, l8] r σ Q) := (aw_eq g 38 293 _ _ _ _).trans (by rw [tq38_293]; exact (h_store (o := oc l5) rfl rfl rfl).trans (propext ⟨fun z => z.2, fun z => ⟨rfl, z⟩⟩))
theorem tq38_295 : tT g 38 295 = s_load vRf 38 296 2 := rfl
theorem A38_295 {l0 : Option Value} {l1 : Option Value} {l3 : Option Value} {l4 : Option Value} {l5 : Option Value} {l6 : Option Value} {l7 : Option Value} {l8 : Option Value} {x : Value} {r : List Value} : aw g 38 295 [l0, l1, some (x), l3, l4, l5, l6, l7, l8] r σ Q = (vRf x = true ∧ aw g 38 296 [l0, l1, some (x), l3, l4, l5, l6, l7, l8] (x :: r) σ Q) := (aw_eq g 38 295 _ _ _ _).trans (by rw [tq38_295]; exact h_load rfl)
theorem tq38_296 : tT g 38 296 = s_load vRf 38 297 0 := rfl
theorem A38_296 {l1 : Option Value} {l2 : Option Value} {l3 : Option Value} {l4 : Option Value} {l5 : Option Value} {l6 : Option Value} {l7 : Option Value} {l8 : Option Value} {x : Value} {r : List Value} : aw g 38 296 [some (x), l1, l2, l3, l4, l5, l6, l7, l8] r σ Q = (vRf x = true ∧ aw g 38 297 [some (x), l1, l2, l3, l4, l5, l6, l7, l8] (x :: r) σ Q) := (aw_eq g 38 296 _ _ _ _).trans (by rw [tq38_296]; exact h_load rfl)
theorem tq38_297 : tT g 38 297 = s_load vI 38 299 5 := rfl
theorem A38_297 {l0 : Option Value} {l1 : Option Value} {l2 : Option Value} {l3 : Option Value} {l4 : Option Value} {l6 : Option Value} {l7 : Option Value} {l8 : Option Value} {x : Int32} {r : List Value} : aw g 38 297 [l0, l1, l2, l3, l4, some (.int x), l6, l7, l8] r σ Q = aw g 38 299 [l0, l1, l2, l3, l4, some (.int x), l6, l7, l8] (.int x :: r) σ Q := (aw_eq g 38 297 _ _ _ _).trans (by rw [tq38_297]; exact (h_load rfl).trans (propext ⟨fun z => z.2, fun z => ⟨rfl, z⟩⟩))
theorem tq38_299 : tT g 38 299 = s_const 38 300 (.int 1) := rfl
theorem A38_299 {L : AL} {r : List Value} : aw g 38 299 L r σ Q = aw g 38 300 L (.int 1 :: r) σ Q := (aw_eq g 38 299 _ _ _ _).trans (by rw [tq38_299]; exact rfl)
theorem tq38_300 : tT g 38 300 = s_bin 38 301 (fun a b => a + b) := rfl
theorem A38_300 {L : AL} {r : List Value} {a b : Int32} : aw g 38 300 L (.int b :: .int a :: r) σ Q = aw g 38 301 L (.int (a + b) :: r) σ Q := (aw_eq g 38 300 _ _ _ _).trans (by rw [tq38_300]; exact rfl)
theorem tq38_301 : tT g 38 301 = s_ald 38 302 27 := rfl
theorem A38_301 {L : AL} {r : List Value} {a : Nat} {i : Int32} : aw g 38 301 L (.int i :: .ref a :: r) σ Q = (hty σ a = some 27 ∧ ¬ i < 0 ∧ i.toNatClampNeg < hln σ a ∧ aw g 38 302 L (hv σ 27 a i.toNatClampNeg :: r) σ Q) := (aw_eq g 38 301 _ _ _ _).trans (by rw [tq38_301]; exact rfl)
theorem tq38_302 : tT g 38 302 = s_load vRf 38 303 0 := rfl
theorem A38_302 {l1 : Option Value} {l2 : Option Value} {l3 : Option Value} {l4 : Option Value} {l5 : Option Value} {l6 : Option Value} {l7 : Option Value} {l8 : Option Value} {x : Value} {r : List Value} : aw g 38 302 [some (x), l1, l2, l3, l4, l5, l6, l7, l8] r σ Q = (vRf x = true ∧ aw g 38 303 [some (x), l1, l2, l3, l4, l5, l6, l7, l8] (x :: r) σ Q) := (aw_eq g 38 302 _ _ _ _).trans (by rw [tq38_302]; exact h_load rfl)
theorem tq38_303 : tT g 38 303 = s_load vI 38 305 5 := rfl
theorem A38_303 {l0 : Option Value} {l1 : Option Value} {l2 : Option Value} {l3 : Option Value} {l4 : Option Value} {l6 : Option Value} {l7 : Option Value} {l8 : Option Value} {x : Int32} {r : List Value} : aw g 38 303 [l0, l1, l2, l3, l4, some (.int x), l6, l7, l8] r σ Q = aw g 38 305 [l0, l1, l2, l3, l4, some (.int x), l6, l7, l8] (.int x :: r) σ Q := (aw_eq g 38 303 _ _ _ _).trans (by rw [tq38_303]; exact (h_load rfl).trans (propext ⟨fun z => z.2, fun z => ⟨rfl, z⟩⟩))
theorem tq38_305 : tT g 38 305 = s_const 38 306 (.int 2) := rfl
theorem A38_305 {L : AL} {r : List Value} : aw g 38 305 L r σ Q = aw g 38 306 L (.int 2 :: r) σ Q := (aw_eq g 38 305 _ _ _ _).trans (by rw [tq38_305]; exact rfl)
theorem tq38_306 : tT g 38 306 = s_bin 38 307 (fun a b => a + b) := rfl
theorem A38_306 {L : AL} {r : List Value} {a b : Int32} : aw g 38 306 L (.int b :: .int a :: r) σ Q = aw g 38 307 L (.int (a + b) :: r) σ Q := (aw_eq g 38 306 _ _ _ _).trans (by rw [tq38_306]; exact rfl)
theorem tq38_307 : tT g 38 307 = s_ald 38 308 27 := rfl
theorem A38_307 {L : AL} {r : List Value} {a : Nat} {i : Int32} : aw g 38 307 L (.int i :: .ref a :: r) σ Q = (hty σ a = some 27 ∧ ¬ i < 0 ∧ i.toNatClampNeg < hln σ a ∧ aw g 38 308 L (hv σ 27 a i.toNatClampNeg :: r) σ Q) := (aw_eq g 38 307 _ _ _ _).trans (by rw [tq38_307]; exact rfl)
theorem tq38_308 : tT g 38 308 = s_callvk 38 311 145 3 [0, 0] 4 := rfl
theorem A38_308 {L : AL} {r : List Value} {a : Nat} {w0 w1 : Value} : aw g 38 308 L (w1 :: w0 :: .ref a :: r) σ Q = (hty σ a = some 3 ∧ (vI w0 && (vI w1 && true)) = true ∧ csum r ≤ 8 ∧ aw g 145 0 [some (.ref a), some w0, some w1, none] [] σ (kt (aw g) 38 311 L r Q)) := (aw_eq g 38 308 _ _ _ _).trans (by rw [tq38_308]; exact rfl)
theorem tq38_311 : tT g 38 311 = s_store vI 38 313 7 := rfl
theorem A38_311 {l0 : Option Value} {l1 : Option Value} {l2 : Option Value} {l3 : Option Value} {l4 : Option Value} {l5 : Option Value} {l6 : Option Value} {l7 : Option Value} {l8 : Option Value} {x : Int32} {r : List Value} : aw g 38 311 [l0, l1, l2, l3, l4, l5, l6, l7, l8] (.int x :: r) σ Q = (oc l6 = true ∧ aw g 38 313 [l0, l1, l2, l3, l4, l5, l6, some (.int x), l8] r σ Q) := (aw_eq g 38 311 _ _ _ _).trans (by rw [tq38_311]; exact (h_store (o := oc l6) rfl rfl rfl).trans (propext ⟨fun z => z.2, fun z => ⟨rfl, z⟩⟩))
theorem tq38_313 : tT g 38 313 = s_load vRf 38 314 2 := rfl
theorem A38_313 {l0 : Option Value} {l1 : Option Value} {l3 : Option Value} {l4 : Option Value} {l5 : Option Value} {l6 : Option Value} {l7 : Option Value} {l8 : Option Value} {x : Value} {r : List Value} : aw g 38 313 [l0, l1, some (x), l3, l4, l5, l6, l7, l8] r σ Q = (vRf x = true ∧ aw g 38 314 [l0, l1, some (x), l3, l4, l5, l6, l7, l8] (x :: r) σ Q) := (aw_eq g 38 313 _ _ _ _).trans (by rw [tq38_313]; exact h_load rfl)
theorem tq38_314 : tT g 38 314 = s_callvk 38 317 138 3 [] 1 := rfl
theorem A38_314 {L : AL} {r : List Value} {a : Nat} : aw g 38 314 L (.ref a :: r) σ Q = (hty σ a = some 3 ∧ true = true ∧ csum r ≤ 8 ∧ aw g 138 0 [some (.ref a)] [] σ (kt (aw g) 38 317 L r Q)) := (aw_eq g 38 314 _ _ _ _).trans (by rw [tq38_314]; exact rfl)
theorem tq38_317 : tT g 38 317 = s_load vI 38 319 6 := rfl
theorem A38_317 {l0 : Option Value} {l1 : Option Value} {l2 : Option Value} {l3 : Option Value} {l4 : Option Value} {l5 : Option Value} {l7 : Option Value} {l8 : Option Value} {x : Int32} {r : List Value} : aw g 38 317 [l0, l1, l2, l3, l4, l5, some (.int x), l7, l8] r σ Q = aw g 38 319 [l0, l1, l2, l3, l4, l5, some (.int x), l7, l8] (.int x :: r) σ Q := (aw_eq g 38 317 _ _ _ _).trans (by rw [tq38_317]; exact (h_load rfl).trans (propext ⟨fun z => z.2, fun z => ⟨rfl, z⟩⟩))
theorem tq38_319 : tT g 38 319 = s_icmp 38 322 324 (fun a b => a = b) := rfl
theorem A38_319 {L : AL} {r : List Value} {a b : Int32} : aw g 38 319 L (.int b :: .int a :: r) σ Q = ((a = b → aw g 38 324 L r σ Q) ∧ (¬ a = b → aw g 38 322 L r σ Q)) := (aw_eq g 38 319 _ _ _ _).trans (by rw [tq38_319]; exact rfl)
theorem tq38_322 : tT g 38 322 = s_const 38 323 (.int 0) := rfl
theorem A38_322 {L : AL} {r : List Value} : aw g 38 322 L r σ Q = aw g 38 323 L (.int 0 :: r) σ Q := (aw_eq g 38 322 _ _ _ _).trans (by rw [tq38_322]; exact rfl)
theorem tq38_323 : tT g 38 323 = s_ret vZ := rfl
theorem A38_323 {L : AL} {v : Value} : aw g 38 323 L [v] σ Q = (vZ v ∧ Q (.inl (some v)) σ) := (aw_eq g 38 323 _ _ _ _).trans (by rw [tq38_323]; exact rfl)
theorem tq38_324 : tT g 38 324 = s_load vI 38 326 6 := rfl
theorem A38_324 {l0 : Option Value} {l1 : Option Value} {l2 : Option Value} {l3 : Option Value} {l4 : Option Value} {l5 : Option Value} {l7 : Option Value} {l8 : Option Value} {x : Int32} {r : List Value} : aw g 38 324 [l0, l1, l2, l3, l4, l5, some (.int x), l7, l8] r σ Q = aw g 38 326 [l0, l1, l2, l3, l4, l5, some (.int x), l7, l8] (.int x :: r) σ Q := (aw_eq g 38 324 _ _ _ _).trans (by rw [tq38_324]; exact (h_load rfl).trans (propext ⟨fun z => z.2, fun z => ⟨rfl, z⟩⟩))
theorem tq38_326 : tT g 38 326 = s_if 38 341 329 (fun a => a = 0) := rfl
theorem A38_326 {L : AL} {r : List Value} {a : Int32} : aw g 38 326 L (.int a :: r) σ Q = ((a = 0 → aw g 38 329 L r σ Q) ∧ (¬ a = 0 → aw g 38 341 L r σ Q)) := (aw_eq g 38 326 _ _ _ _).trans (by rw [tq38_326]; exact rfl)
theorem tq38_329 : tT g 38 329 = s_load vRf 38 330 3 := rfl
theorem A38_329 {l0 : Option Value} {l1 : Option Value} {l2 : Option Value} {l4 : Option Value} {l5 : Option Value} {l6 : Option Value} {l7 : Option Value} {l8 : Option Value} {x : Value} {r : List Value} : aw g 38 329 [l0, l1, l2, some (x), l4, l5, l6, l7, l8] r σ Q = (vRf x = true ∧ aw g 38 330 [l0, l1, l2, some (x), l4, l5, l6, l7, l8] (x :: r) σ Q) := (aw_eq g 38 329 _ _ _ _).trans (by rw [tq38_329]; exact h_load rfl)
theorem tq38_330 : tT g 38 330 = s_const 38 331 (.int 0) := rfl
theorem A38_330 {L : AL} {r : List Value} : aw g 38 330 L r σ Q = aw g 38 331 L (.int 0 :: r) σ Q := (aw_eq g 38 330 _ _ _ _).trans (by rw [tq38_330]; exact rfl)
theorem tq38_331 : tT g 38 331 = s_ald 38 332 22 := rfl
theorem A38_331 {L : AL} {r : List Value} {a : Nat} {i : Int32} : aw g 38 331 L (.int i :: .ref a :: r) σ Q = (hty σ a = some 22 ∧ ¬ i < 0 ∧ i.toNatClampNeg < hln σ a ∧ aw g 38 332 L (hv σ 22 a i.toNatClampNeg :: r) σ Q) := (aw_eq g 38 331 _ _ _ _).trans (by rw [tq38_331]; exact rfl)
theorem tq38_332 : tT g 38 332 = s_load vI 38 334 7 := rfl
theorem A38_332 {l0 : Option Value} {l1 : Option Value} {l2 : Option Value} {l3 : Option Value} {l4 : Option Value} {l5 : Option Value} {l6 : Option Value} {l8 : Option Value} {x : Int32} {r : List Value} : aw g 38 332 [l0, l1, l2, l3, l4, l5, l6, some (.int x), l8] r σ Q = aw g 38 334 [l0, l1, l2, l3, l4, l5, l6, some (.int x), l8] (.int x :: r) σ Q := (aw_eq g 38 332 _ _ _ _).trans (by rw [tq38_332]; exact (h_load rfl).trans (propext ⟨fun z => z.2, fun z => ⟨rfl, z⟩⟩))
theorem tq38_334 : tT g 38 334 = s_i2 38 335 (fun a => .long a.toInt64) := rfl
theorem A38_334 {L : AL} {r : List Value} {a : Int32} : aw g 38 334 L (.int a :: r) σ Q = aw g 38 335 L (.long a.toInt64 :: r) σ Q := (aw_eq g 38 334 _ _ _ _).trans (by rw [tq38_334]; exact rfl)
theorem tq38_335 : tT g 38 335 = s_lbin 38 336 (fun a b => .int (lg_cmp a b)) := rfl
theorem A38_335 {L : AL} {r : List Value} {a b : Int64} : aw g 38 335 L (.long b :: .long a :: r) σ Q = aw g 38 336 L (.int (lg_cmp a b) :: r) σ Q := (aw_eq g 38 335 _ _ _ _).trans (by rw [tq38_335]; exact rfl)
theorem tq38_336 : tT g 38 336 = s_if 38 339 341 (fun a => a = 0) := rfl
theorem A38_336 {L : AL} {r : List Value} {a : Int32} : aw g 38 336 L (.int a :: r) σ Q = ((a = 0 → aw g 38 341 L r σ Q) ∧ (¬ a = 0 → aw g 38 339 L r σ Q)) := (aw_eq g 38 336 _ _ _ _).trans (by rw [tq38_336]; exact rfl)
theorem tq38_339 : tT g 38 339 = s_const 38 340 (.int 0) := rfl
theorem A38_339 {L : AL} {r : List Value} : aw g 38 339 L r σ Q = aw g 38 340 L (.int 0 :: r) σ Q := (aw_eq g 38 339 _ _ _ _).trans (by rw [tq38_339]; exact rfl)
theorem tq38_340 : tT g 38 340 = s_ret vZ := rfl
theorem A38_340 {L : AL} {v : Value} : aw g 38 340 L [v] σ Q = (vZ v ∧ Q (.inl (some v)) σ) := (aw_eq g 38 340 _ _ _ _).trans (by rw [tq38_340]; exact rfl)
theorem tq38_341 : tT g 38 341 = s_goto 38 1454 := rfl
theorem A38_341 {L : AL} {r : List Value} : aw g 38 341 L r σ Q = aw g 38 1454 L r σ Q := (aw_eq g 38 341 _ _ _ _).trans (by rw [tq38_341]; exact rfl)
theorem tq38_344 : tT g 38 344 = s_load vRf 38 345 1 := rfl
theorem A38_344 {l0 : Option Value} {l2 : Option Value} {l3 : Option Value} {l4 : Option Value} {l5 : Option Value} {l6 : Option Value} {l7 : Option Value} {l8 : Option Value} {x : Value} {r : List Value} : aw g 38 344 [l0, some (x), l2, l3, l4, l5, l6, l7, l8] r σ Q = (vRf x = true ∧ aw g 38 345 [l0, some (x), l2, l3, l4, l5, l6, l7, l8] (x :: r) σ Q) := (aw_eq g 38 344 _ _ _ _).trans (by rw [tq38_344]; exact h_load rfl)
theorem tq38_345 : tT g 38 345 = s_load vRf 38 346 0 := rfl
theorem A38_345 {l1 : Option Value} {l2 : Option Value} {l3 : Option Value} {l4 : Option Value} {l5 : Option Value} {l6 : Option Value} {l7 : Option Value} {l8 : Option Value} {x : Value} {r : List Value} : aw g 38 345 [some (x), l1, l2, l3, l4, l5, l6, l7, l8] r σ Q = (vRf x = true ∧ aw g 38 346 [some (x), l1, l2, l3, l4, l5, l6, l7, l8] (x :: r) σ Q) := (aw_eq g 38 345 _ _ _ _).trans (by rw [tq38_345]; exact h_load rfl)
theorem tq38_346 : tT g 38 346 = s_load vI 38 348 5 := rfl
theorem A38_346 {l0 : Option Value} {l1 : Option Value} {l2 : Option Value} {l3 : Option Value} {l4 : Option Value} {l6 : Option Value} {l7 : Option Value} {l8 : Option Value} {x : Int32} {r : List Value} : aw g 38 346 [l0, l1, l2, l3, l4, some (.int x), l6, l7, l8] r σ Q = aw g 38 348 [l0, l1, l2, l3, l4, some (.int x), l6, l7, l8] (.int x :: r) σ Q := (aw_eq g 38 346 _ _ _ _).trans (by rw [tq38_346]; exact (h_load rfl).trans (propext ⟨fun z => z.2, fun z => ⟨rfl, z⟩⟩))
theorem tq38_348 : tT g 38 348 = s_const 38 349 (.int 1) := rfl
theorem A38_348 {L : AL} {r : List Value} : aw g 38 348 L r σ Q = aw g 38 349 L (.int 1 :: r) σ Q := (aw_eq g 38 348 _ _ _ _).trans (by rw [tq38_348]; exact rfl)
theorem tq38_349 : tT g 38 349 = s_bin 38 350 (fun a b => a + b) := rfl
theorem A38_349 {L : AL} {r : List Value} {a b : Int32} : aw g 38 349 L (.int b :: .int a :: r) σ Q = aw g 38 350 L (.int (a + b) :: r) σ Q := (aw_eq g 38 349 _ _ _ _).trans (by rw [tq38_349]; exact rfl)
theorem tq38_350 : tT g 38 350 = s_ald 38 351 27 := rfl
theorem A38_350 {L : AL} {r : List Value} {a : Nat} {i : Int32} : aw g 38 350 L (.int i :: .ref a :: r) σ Q = (hty σ a = some 27 ∧ ¬ i < 0 ∧ i.toNatClampNeg < hln σ a ∧ aw g 38 351 L (hv σ 27 a i.toNatClampNeg :: r) σ Q) := (aw_eq g 38 350 _ _ _ _).trans (by rw [tq38_350]; exact rfl)
theorem tq38_351 : tT g 38 351 = s_load vRf 38 352 0 := rfl
theorem A38_351 {l1 : Option Value} {l2 : Option Value} {l3 : Option Value} {l4 : Option Value} {l5 : Option Value} {l6 : Option Value} {l7 : Option Value} {l8 : Option Value} {x : Value} {r : List Value} : aw g 38 351 [some (x), l1, l2, l3, l4, l5, l6, l7, l8] r σ Q = (vRf x = true ∧ aw g 38 352 [some (x), l1, l2, l3, l4, l5, l6, l7, l8] (x :: r) σ Q) := (aw_eq g 38 351 _ _ _ _).trans (by rw [tq38_351]; exact h_load rfl)
theorem tq38_352 : tT g 38 352 = s_load vI 38 354 5 := rfl
theorem A38_352 {l0 : Option Value} {l1 : Option Value} {l2 : Option Value} {l3 : Option Value} {l4 : Option Value} {l6 : Option Value} {l7 : Option Value} {l8 : Option Value} {x : Int32} {r : List Value} : aw g 38 352 [l0, l1, l2, l3, l4, some (.int x), l6, l7, l8] r σ Q = aw g 38 354 [l0, l1, l2, l3, l4, some (.int x), l6, l7, l8] (.int x :: r) σ Q := (aw_eq g 38 352 _ _ _ _).trans (by rw [tq38_352]; exact (h_load rfl).trans (propext ⟨fun z => z.2, fun z => ⟨rfl, z⟩⟩))
theorem tq38_354 : tT g 38 354 = s_const 38 355 (.int 2) := rfl
theorem A38_354 {L : AL} {r : List Value} : aw g 38 354 L r σ Q = aw g 38 355 L (.int 2 :: r) σ Q := (aw_eq g 38 354 _ _ _ _).trans (by rw [tq38_354]; exact rfl)
theorem tq38_355 : tT g 38 355 = s_bin 38 356 (fun a b => a + b) := rfl
theorem A38_355 {L : AL} {r : List Value} {a b : Int32} : aw g 38 355 L (.int b :: .int a :: r) σ Q = aw g 38 356 L (.int (a + b) :: r) σ Q := (aw_eq g 38 355 _ _ _ _).trans (by rw [tq38_355]; exact rfl)
theorem tq38_356 : tT g 38 356 = s_ald 38 357 27 := rfl
theorem A38_356 {L : AL} {r : List Value} {a : Nat} {i : Int32} : aw g 38 356 L (.int i :: .ref a :: r) σ Q = (hty σ a = some 27 ∧ ¬ i < 0 ∧ i.toNatClampNeg < hln σ a ∧ aw g 38 357 L (hv σ 27 a i.toNatClampNeg :: r) σ Q) := (aw_eq g 38 356 _ _ _ _).trans (by rw [tq38_356]; exact rfl)
theorem tq38_357 : tT g 38 357 = s_if 38 360 364 (fun a => a = 0) := rfl
theorem A38_357 {L : AL} {r : List Value} {a : Int32} : aw g 38 357 L (.int a :: r) σ Q = ((a = 0 → aw g 38 364 L r σ Q) ∧ (¬ a = 0 → aw g 38 360 L r σ Q)) := (aw_eq g 38 357 _ _ _ _).trans (by rw [tq38_357]; exact rfl)
theorem tq38_360 : tT g 38 360 = s_const 38 361 (.int 1) := rfl
theorem A38_360 {L : AL} {r : List Value} : aw g 38 360 L r σ Q = aw g 38 361 L (.int 1 :: r) σ Q := (aw_eq g 38 360 _ _ _ _).trans (by rw [tq38_360]; exact rfl)
theorem tq38_361 : tT g 38 361 = s_goto 38 365 := rfl
theorem A38_361 {L : AL} {r : List Value} : aw g 38 361 L r σ Q = aw g 38 365 L r σ Q := (aw_eq g 38 361 _ _ _ _).trans (by rw [tq38_361]; exact rfl)
theorem tq38_364 : tT g 38 364 = s_const 38 365 (.int 0) := rfl
theorem A38_364 {L : AL} {r : List Value} : aw g 38 364 L r σ Q = aw g 38 365 L (.int 0 :: r) σ Q := (aw_eq g 38 364 _ _ _ _).trans (by rw [tq38_364]; exact rfl)
theorem tq38_365 : tT g 38 365 = s_load vRf 38 366 3 := rfl
theorem A38_365 {l0 : Option Value} {l1 : Option Value} {l2 : Option Value} {l4 : Option Value} {l5 : Option Value} {l6 : Option Value} {l7 : Option Value} {l8 : Option Value} {x : Value} {r : List Value} : aw g 38 365 [l0, l1, l2, some (x), l4, l5, l6, l7, l8] r σ Q = (vRf x = true ∧ aw g 38 366 [l0, l1, l2, some (x), l4, l5, l6, l7, l8] (x :: r) σ Q) := (aw_eq g 38 365 _ _ _ _).trans (by rw [tq38_365]; exact h_load rfl)
theorem tq38_366 : tT g 38 366 = s_callk 38 369 42 [1, 0, 0, 1] 5 := rfl
theorem A38_366 {L : AL} {r : List Value} {w0 w1 w2 w3 : Value} : aw g 38 366 L (w3 :: w2 :: w1 :: w0 :: r) σ Q = ((vRf w0 && (vI w1 && (vI w2 && (vRf w3 && true)))) = true ∧ csum r ≤ 8 ∧ aw g 42 0 [some w0, some w1, some w2, some w3, none] [] σ (kt (aw g) 38 369 L r Q)) := (aw_eq g 38 366 _ _ _ _).trans (by rw [tq38_366]; exact rfl)
theorem tq38_369 : tT g 38 369 = s_store vI 38 371 6 := rfl
theorem A38_369 {l0 : Option Value} {l1 : Option Value} {l2 : Option Value} {l3 : Option Value} {l4 : Option Value} {l5 : Option Value} {l6 : Option Value} {l7 : Option Value} {l8 : Option Value} {x : Int32} {r : List Value} : aw g 38 369 [l0, l1, l2, l3, l4, l5, l6, l7, l8] (.int x :: r) σ Q = (oc l5 = true ∧ aw g 38 371 [l0, l1, l2, l3, l4, l5, some (.int x), l7, l8] r σ Q) := (aw_eq g 38 369 _ _ _ _).trans (by rw [tq38_369]; exact (h_store (o := oc l5) rfl rfl rfl).trans (propext ⟨fun z => z.2, fun z => ⟨rfl, z⟩⟩))
theorem tq38_371 : tT g 38 371 = s_load vRf 38 372 2 := rfl
theorem A38_371 {l0 : Option Value} {l1 : Option Value} {l3 : Option Value} {l4 : Option Value} {l5 : Option Value} {l6 : Option Value} {l7 : Option Value} {l8 : Option Value} {x : Value} {r : List Value} : aw g 38 371 [l0, l1, some (x), l3, l4, l5, l6, l7, l8] r σ Q = (vRf x = true ∧ aw g 38 372 [l0, l1, some (x), l3, l4, l5, l6, l7, l8] (x :: r) σ Q) := (aw_eq g 38 371 _ _ _ _).trans (by rw [tq38_371]; exact h_load rfl)
theorem tq38_372 : tT g 38 372 = s_load vRf 38 373 0 := rfl
theorem A38_372 {l1 : Option Value} {l2 : Option Value} {l3 : Option Value} {l4 : Option Value} {l5 : Option Value} {l6 : Option Value} {l7 : Option Value} {l8 : Option Value} {x : Value} {r : List Value} : aw g 38 372 [some (x), l1, l2, l3, l4, l5, l6, l7, l8] r σ Q = (vRf x = true ∧ aw g 38 373 [some (x), l1, l2, l3, l4, l5, l6, l7, l8] (x :: r) σ Q) := (aw_eq g 38 372 _ _ _ _).trans (by rw [tq38_372]; exact h_load rfl)
theorem tq38_373 : tT g 38 373 = s_load vI 38 375 5 := rfl
theorem A38_373 {l0 : Option Value} {l1 : Option Value} {l2 : Option Value} {l3 : Option Value} {l4 : Option Value} {l6 : Option Value} {l7 : Option Value} {l8 : Option Value} {x : Int32} {r : List Value} : aw g 38 373 [l0, l1, l2, l3, l4, some (.int x), l6, l7, l8] r σ Q = aw g 38 375 [l0, l1, l2, l3, l4, some (.int x), l6, l7, l8] (.int x :: r) σ Q := (aw_eq g 38 373 _ _ _ _).trans (by rw [tq38_373]; exact (h_load rfl).trans (propext ⟨fun z => z.2, fun z => ⟨rfl, z⟩⟩))
theorem tq38_375 : tT g 38 375 = s_const 38 376 (.int 1) := rfl
theorem A38_375 {L : AL} {r : List Value} : aw g 38 375 L r σ Q = aw g 38 376 L (.int 1 :: r) σ Q := (aw_eq g 38 375 _ _ _ _).trans (by rw [tq38_375]; exact rfl)
theorem tq38_376 : tT g 38 376 = s_bin 38 377 (fun a b => a + b) := rfl
theorem A38_376 {L : AL} {r : List Value} {a b : Int32} : aw g 38 376 L (.int b :: .int a :: r) σ Q = aw g 38 377 L (.int (a + b) :: r) σ Q := (aw_eq g 38 376 _ _ _ _).trans (by rw [tq38_376]; exact rfl)
theorem tq38_377 : tT g 38 377 = s_ald 38 378 27 := rfl
theorem A38_377 {L : AL} {r : List Value} {a : Nat} {i : Int32} : aw g 38 377 L (.int i :: .ref a :: r) σ Q = (hty σ a = some 27 ∧ ¬ i < 0 ∧ i.toNatClampNeg < hln σ a ∧ aw g 38 378 L (hv σ 27 a i.toNatClampNeg :: r) σ Q) := (aw_eq g 38 377 _ _ _ _).trans (by rw [tq38_377]; exact rfl)
theorem tq38_378 : tT g 38 378 = s_load vRf 38 379 0 := rfl
theorem A38_378 {l1 : Option Value} {l2 : Option Value} {l3 : Option Value} {l4 : Option Value} {l5 : Option Value} {l6 : Option Value} {l7 : Option Value} {l8 : Option Value} {x : Value} {r : List Value} : aw g 38 378 [some (x), l1, l2, l3, l4, l5, l6, l7, l8] r σ Q = (vRf x = true ∧ aw g 38 379 [some (x), l1, l2, l3, l4, l5, l6, l7, l8] (x :: r) σ Q) := (aw_eq g 38 378 _ _ _ _).trans (by rw [tq38_378]; exact h_load rfl)
theorem tq38_379 : tT g 38 379 = s_load vI 38 381 5 := rfl
theorem A38_379 {l0 : Option Value} {l1 : Option Value} {l2 : Option Value} {l3 : Option Value} {l4 : Option Value} {l6 : Option Value} {l7 : Option Value} {l8 : Option Value} {x : Int32} {r : List Value} : aw g 38 379 [l0, l1, l2, l3, l4, some (.int x), l6, l7, l8] r σ Q = aw g 38 381 [l0, l1, l2, l3, l4, some (.int x), l6, l7, l8] (.int x :: r) σ Q := (aw_eq g 38 379 _ _ _ _).trans (by rw [tq38_379]; exact (h_load rfl).trans (propext ⟨fun z => z.2, fun z => ⟨rfl, z⟩⟩))
theorem tq38_381 : tT g 38 381 = s_const 38 382 (.int 2) := rfl
theorem A38_381 {L : AL} {r : List Value} : aw g 38 381 L r σ Q = aw g 38 382 L (.int 2 :: r) σ Q := (aw_eq g 38 381 _ _ _ _).trans (by rw [tq38_381]; exact rfl)
theorem tq38_382 : tT g 38 382 = s_bin 38 383 (fun a b => a + b) := rfl
theorem A38_382 {L : AL} {r : List Value} {a b : Int32} : aw g 38 382 L (.int b :: .int a :: r) σ Q = aw g 38 383 L (.int (a + b) :: r) σ Q := (aw_eq g 38 382 _ _ _ _).trans (by rw [tq38_382]; exact rfl)
theorem tq38_383 : tT g 38 383 = s_ald 38 384 27 := rfl
theorem A38_383 {L : AL} {r : List Value} {a : Nat} {i : Int32} : aw g 38 383 L (.int i :: .ref a :: r) σ Q = (hty σ a = some 27 ∧ ¬ i < 0 ∧ i.toNatClampNeg < hln σ a ∧ aw g 38 384 L (hv σ 27 a i.toNatClampNeg :: r) σ Q) := (aw_eq g 38 383 _ _ _ _).trans (by rw [tq38_383]; exact rfl)
theorem tq38_384 : tT g 38 384 = s_if 38 387 391 (fun a => a = 0) := rfl
theorem A38_384 {L : AL} {r : List Value} {a : Int32} : aw g 38 384 L (.int a :: r) σ Q = ((a = 0 → aw g 38 391 L r σ Q) ∧ (¬ a = 0 → aw g 38 387 L r σ Q)) := (aw_eq g 38 384 _ _ _ _).trans (by rw [tq38_384]; exact rfl)
theorem tq38_387 : tT g 38 387 = s_const 38 388 (.int 1) := rfl
theorem A38_387 {L : AL} {r : List Value} : aw g 38 387 L r σ Q = aw g 38 388 L (.int 1 :: r) σ Q := (aw_eq g 38 387 _ _ _ _).trans (by rw [tq38_387]; exact rfl)
theorem tq38_388 : tT g 38 388 = s_goto 38 392 := rfl
theorem A38_388 {L : AL} {r : List Value} : aw g 38 388 L r σ Q = aw g 38 392 L r σ Q := (aw_eq g 38 388 _ _ _ _).trans (by rw [tq38_388]; exact rfl)
theorem tq38_391 : tT g 38 391 = s_const 38 392 (.int 0) := rfl
theorem A38_391 {L : AL} {r : List Value} : aw g 38 391 L r σ Q = aw g 38 392 L (.int 0 :: r) σ Q := (aw_eq g 38 391 _ _ _ _).trans (by rw [tq38_391]; exact rfl)
theorem tq38_392 : tT g 38 392 = s_callvk 38 395 146 3 [0, 0] 5 := rfl
theorem A38_392 {L : AL} {r : List Value} {a : Nat} {w0 w1 : Value} : aw g 38 392 L (w1 :: w0 :: .ref a :: r) σ Q = (hty σ a = some 3 ∧ (vI w0 && (vI w1 && true)) = true ∧ csum r ≤ 8 ∧ aw g 146 0 [some (.ref a), some w0, some w1, none, none] [] σ (kt (aw g) 38 395 L r Q)) := (aw_eq g 38 392 _ _ _ _).trans (by rw [tq38_392]; exact rfl)
theorem tq38_395 : tT g 38 395 = s_store vI 38 397 7 := rfl
theorem A38_395 {l0 : Option Value} {l1 : Option Value} {l2 : Option Value} {l3 : Option Value} {l4 : Option Value} {l5 : Option Value} {l6 : Option Value} {l7 : Option Value} {l8 : Option Value} {x : Int32} {r : List Value} : aw g 38 395 [l0, l1, l2, l3, l4, l5, l6, l7, l8] (.int x :: r) σ Q = (oc l6 = true ∧ aw g 38 397 [l0, l1, l2, l3, l4, l5, l6, some (.int x), l8] r σ Q) := (aw_eq g 38 395 _ _ _ _).trans (by rw [tq38_395]; exact (h_store (o := oc l6) rfl rfl rfl).trans (propext ⟨fun z => z.2, fun z => ⟨rfl, z⟩⟩))
theorem tq38_397 : tT g 38 397 = s_load vRf 38 398 2 := rfl
theorem A38_397 {l0 : Option Value} {l1 : Option Value} {l3 : Option Value} {l4 : Option Value} {l5 : Option Value} {l6 : Option Value} {l7 : Option Value} {l8 : Option Value} {x : Value} {r : List Value} : aw g 38 397 [l0, l1, some (x), l3, l4, l5, l6, l7, l8] r σ Q = (vRf x = true ∧ aw g 38 398 [l0, l1, some (x), l3, l4, l5, l6, l7, l8] (x :: r) σ Q) := (aw_eq g 38 397 _ _ _ _).trans (by rw [tq38_397]; exact h_load rfl)
theorem tq38_398 : tT g 38 398 = s_callvk 38 401 138 3 [] 1 := rfl
theorem A38_398 {L : AL} {r : List Value} {a : Nat} : aw g 38 398 L (.ref a :: r) σ Q = (hty σ a = some 3 ∧ true = true ∧ csum r ≤ 8 ∧ aw g 138 0 [some (.ref a)] [] σ (kt (aw g) 38 401 L r Q)) := (aw_eq g 38 398 _ _ _ _).trans (by rw [tq38_398]; exact rfl)
theorem tq38_401 : tT g 38 401 = s_load vI 38 403 6 := rfl
theorem A38_401 {l0 : Option Value} {l1 : Option Value} {l2 : Option Value} {l3 : Option Value} {l4 : Option Value} {l5 : Option Value} {l7 : Option Value} {l8 : Option Value} {x : Int32} {r : List Value} : aw g 38 401 [l0, l1, l2, l3, l4, l5, some (.int x), l7, l8] r σ Q = aw g 38 403 [l0, l1, l2, l3, l4, l5, some (.int x), l7, l8] (.int x :: r) σ Q := (aw_eq g 38 401 _ _ _ _).trans (by rw [tq38_401]; exact (h_load rfl).trans (propext ⟨fun z => z.2, fun z => ⟨rfl, z⟩⟩))
theorem tq38_403 : tT g 38 403 = s_icmp 38 406 408 (fun a b => a = b) := rfl
theorem A38_403 {L : AL} {r : List Value} {a b : Int32} : aw g 38 403 L (.int b :: .int a :: r) σ Q = ((a = b → aw g 38 408 L r σ Q) ∧ (¬ a = b → aw g 38 406 L r σ Q)) := (aw_eq g 38 403 _ _ _ _).trans (by rw [tq38_403]; exact rfl)
theorem tq38_406 : tT g 38 406 = s_const 38 407 (.int 0) := rfl
theorem A38_406 {L : AL} {r : List Value} : aw g 38 406 L r σ Q = aw g 38 407 L (.int 0 :: r) σ Q := (aw_eq g 38 406 _ _ _ _).trans (by rw [tq38_406]; exact rfl)
theorem tq38_407 : tT g 38 407 = s_ret vZ := rfl
theorem A38_407 {L : AL} {v : Value} : aw g 38 407 L [v] σ Q = (vZ v ∧ Q (.inl (some v)) σ) := (aw_eq g 38 407 _ _ _ _).trans (by rw [tq38_407]; exact rfl)
theorem tq38_408 : tT g 38 408 = s_load vI 38 410 6 := rfl
theorem A38_408 {l0 : Option Value} {l1 : Option Value} {l2 : Option Value} {l3 : Option Value} {l4 : Option Value} {l5 : Option Value} {l7 : Option Value} {l8 : Option Value} {x : Int32} {r : List Value} : aw g 38 408 [l0, l1, l2, l3, l4, l5, some (.int x), l7, l8] r σ Q = aw g 38 410 [l0, l1, l2, l3, l4, l5, some (.int x), l7, l8] (.int x :: r) σ Q := (aw_eq g 38 408 _ _ _ _).trans (by rw [tq38_408]; exact (h_load rfl).trans (propext ⟨fun z => z.2, fun z => ⟨rfl, z⟩⟩))
theorem tq38_410 : tT g 38 410 = s_if 38 432 413 (fun a => a = 0) := rfl
theorem A38_410 {L : AL} {r : List Value} {a : Int32} : aw g 38 410 L (.int a :: r) σ Q = ((a = 0 → aw g 38 413 L r σ Q) ∧ (¬ a = 0 → aw g 38 432 L r σ Q)) := (aw_eq g 38 410 _ _ _ _).trans (by rw [tq38_410]; exact rfl)
theorem tq38_413 : tT g 38 413 = s_load vRf 38 414 3 := rfl
theorem A38_413 {l0 : Option Value} {l1 : Option Value} {l2 : Option Value} {l4 : Option Value} {l5 : Option Value} {l6 : Option Value} {l7 : Option Value} {l8 : Option Value} {x : Value} {r : List Value} : aw g 38 413 [l0, l1, l2, some (x), l4, l5, l6, l7, l8] r σ Q = (vRf x = true ∧ aw g 38 414 [l0, l1, l2, some (x), l4, l5, l6, l7, l8] (x :: r) σ Q) := (aw_eq g 38 413 _ _ _ _).trans (by rw [tq38_413]; exact h_load rfl)
theorem tq38_414 : tT g 38 414 = s_const 38 415 (.int 0) := rfl
theorem A38_414 {L : AL} {r : List Value} : aw g 38 414 L r σ Q = aw g 38 415 L (.int 0 :: r) σ Q := (aw_eq g 38 414 _ _ _ _).trans (by rw [tq38_414]; exact rfl)
theorem tq38_415 : tT g 38 415 = s_ald 38 416 22 := rfl
theorem A38_415 {L : AL} {r : List Value} {a : Nat} {i : Int32} : aw g 38 415 L (.int i :: .ref a :: r) σ Q = (hty σ a = some 22 ∧ ¬ i < 0 ∧ i.toNatClampNeg < hln σ a ∧ aw g 38 416 L (hv σ 22 a i.toNatClampNeg :: r) σ Q) := (aw_eq g 38 415 _ _ _ _).trans (by rw [tq38_415]; exact rfl)
theorem tq38_416 : tT g 38 416 = s_load vI 38 418 7 := rfl
theorem A38_416 {l0 : Option Value} {l1 : Option Value} {l2 : Option Value} {l3 : Option Value} {l4 : Option Value} {l5 : Option Value} {l6 : Option Value} {l8 : Option Value} {x : Int32} {r : List Value} : aw g 38 416 [l0, l1, l2, l3, l4, l5, l6, some (.int x), l8] r σ Q = aw g 38 418 [l0, l1, l2, l3, l4, l5, l6, some (.int x), l8] (.int x :: r) σ Q := (aw_eq g 38 416 _ _ _ _).trans (by rw [tq38_416]; exact (h_load rfl).trans (propext ⟨fun z => z.2, fun z => ⟨rfl, z⟩⟩))
theorem tq38_418 : tT g 38 418 = s_if 38 421 425 (fun a => a = 0) := rfl
theorem A38_418 {L : AL} {r : List Value} {a : Int32} : aw g 38 418 L (.int a :: r) σ Q = ((a = 0 → aw g 38 425 L r σ Q) ∧ (¬ a = 0 → aw g 38 421 L r σ Q)) := (aw_eq g 38 418 _ _ _ _).trans (by rw [tq38_418]; exact rfl)
theorem tq38_421 : tT g 38 421 = s_const 38 422 (.long 1) := rfl
theorem A38_421 {L : AL} {r : List Value} : aw g 38 421 L r σ Q = aw g 38 422 L (.long 1 :: r) σ Q := (aw_eq g 38 421 _ _ _ _).trans (by rw [tq38_421]; exact rfl)
theorem tq38_422 : tT g 38 422 = s_goto 38 426 := rfl
theorem A38_422 {L : AL} {r : List Value} : aw g 38 422 L r σ Q = aw g 38 426 L r σ Q := (aw_eq g 38 422 _ _ _ _).trans (by rw [tq38_422]; exact rfl)
theorem tq38_425 : tT g 38 425 = s_const 38 426 (.long 0) := rfl
theorem A38_425 {L : AL} {r : List Value} : aw g 38 425 L r σ Q = aw g 38 426 L (.long 0 :: r) σ Q := (aw_eq g 38 425 _ _ _ _).trans (by rw [tq38_425]; exact rfl)
theorem tq38_426 : tT g 38 426 = s_lbin 38 427 (fun a b => .int (lg_cmp a b)) := rfl
theorem A38_426 {L : AL} {r : List Value} {a b : Int64} : aw g 38 426 L (.long b :: .long a :: r) σ Q = aw g 38 427 L (.int (lg_cmp a b) :: r) σ Q := (aw_eq g 38 426 _ _ _ _).trans (by rw [tq38_426]; exact rfl)
theorem tq38_427 : tT g 38 427 = s_if 38 430 432 (fun a => a = 0) := rfl
theorem A38_427 {L : AL} {r : List Value} {a : Int32} : aw g 38 427 L (.int a :: r) σ Q = ((a = 0 → aw g 38 432 L r σ Q) ∧ (¬ a = 0 → aw g 38 430 L r σ Q)) := (aw_eq g 38 427 _ _ _ _).trans (by rw [tq38_427]; exact rfl)
theorem tq38_430 : tT g 38 430 = s_const 38 431 (.int 0) := rfl
theorem A38_430 {L : AL} {r : List Value} : aw g 38 430 L r σ Q = aw g 38 431 L (.int 0 :: r) σ Q := (aw_eq g 38 430 _ _ _ _).trans (by rw [tq38_430]; exact rfl)
theorem tq38_431 : tT g 38 431 = s_ret vZ := rfl
theorem A38_431 {L : AL} {v : Value} : aw g 38 431 L [v] σ Q = (vZ v ∧ Q (.inl (some v)) σ) := (aw_eq g 38 431 _ _ _ _).trans (by rw [tq38_431]; exact rfl)
theorem tq38_432 : tT g 38 432 = s_goto 38 1454 := rfl
theorem A38_432 {L : AL} {r : List Value} : aw g 38 432 L r σ Q = aw g 38 1454 L r σ Q := (aw_eq g 38 432 _ _ _ _).trans (by rw [tq38_432]; exact rfl)
theorem tq38_435 : tT g 38 435 = s_load vRf 38 436 1 := rfl
theorem A38_435 {l0 : Option Value} {l2 : Option Value} {l3 : Option Value} {l4 : Option Value} {l5 : Option Value} {l6 : Option Value} {l7 : Option Value} {l8 : Option Value} {x : Value} {r : List Value} : aw g 38 435 [l0, some (x), l2, l3, l4, l5, l6, l7, l8] r σ Q = (vRf x = true ∧ aw g 38 436 [l0, some (x), l2, l3, l4, l5, l6, l7, l8] (x :: r) σ Q) := (aw_eq g 38 435 _ _ _ _).trans (by rw [tq38_435]; exact h_load rfl)
theorem tq38_436 : tT g 38 436 = s_load vRf 38 437 0 := rfl
theorem A38_436 {l1 : Option Value} {l2 : Option Value} {l3 : Option Value} {l4 : Option Value} {l5 : Option Value} {l6 : Option Value} {l7 : Option Value} {l8 : Option Value} {x : Value} {r : List Value} : aw g 38 436 [some (x), l1, l2, l3, l4, l5, l6, l7, l8] r σ Q = (vRf x = true ∧ aw g 38 437 [some (x), l1, l2, l3, l4, l5, l6, l7, l8] (x :: r) σ Q) := (aw_eq g 38 436 _ _ _ _).trans (by rw [tq38_436]; exact h_load rfl)
theorem tq38_437 : tT g 38 437 = s_load vI 38 439 5 := rfl
theorem A38_437 {l0 : Option Value} {l1 : Option Value} {l2 : Option Value} {l3 : Option Value} {l4 : Option Value} {l6 : Option Value} {l7 : Option Value} {l8 : Option Value} {x : Int32} {r : List Value} : aw g 38 437 [l0, l1, l2, l3, l4, some (.int x), l6, l7, l8] r σ Q = aw g 38 439 [l0, l1, l2, l3, l4, some (.int x), l6, l7, l8] (.int x :: r) σ Q := (aw_eq g 38 437 _ _ _ _).trans (by rw [tq38_437]; exact (h_load rfl).trans (propext ⟨fun z => z.2, fun z => ⟨rfl, z⟩⟩))
theorem tq38_439 : tT g 38 439 = s_const 38 440 (.int 1) := rfl
theorem A38_439 {L : AL} {r : List Value} : aw g 38 439 L r σ Q = aw g 38 440 L (.int 1 :: r) σ Q := (aw_eq g 38 439 _ _ _ _).trans (by rw [tq38_439]; exact rfl)
theorem tq38_440 : tT g 38 440 = s_bin 38 441 (fun a b => a + b) := rfl
theorem A38_440 {L : AL} {r : List Value} {a b : Int32} : aw g 38 440 L (.int b :: .int a :: r) σ Q = aw g 38 441 L (.int (a + b) :: r) σ Q := (aw_eq g 38 440 _ _ _ _).trans (by rw [tq38_440]; exact rfl)
theorem tq38_441 : tT g 38 441 = s_ald 38 442 27 := rfl
theorem A38_441 {L : AL} {r : List Value} {a : Nat} {i : Int32} : aw g 38 441 L (.int i :: .ref a :: r) σ Q = (hty σ a = some 27 ∧ ¬ i < 0 ∧ i.toNatClampNeg < hln σ a ∧ aw g 38 442 L (hv σ 27 a i.toNatClampNeg :: r) σ Q) := (aw_eq g 38 441 _ _ _ _).trans (by rw [tq38_441]; exact rfl)
theorem tq38_442 : tT g 38 442 = s_load vRf 38 443 3 := rfl
theorem A38_442 {l0 : Option Value} {l1 : Option Value} {l2 : Option Value} {l4 : Option Value} {l5 : Option Value} {l6 : Option Value} {l7 : Option Value} {l8 : Option Value} {x : Value} {r : List Value} : aw g 38 442 [l0, l1, l2, some (x), l4, l5, l6, l7, l8] r σ Q = (vRf x = true ∧ aw g 38 443 [l0, l1, l2, some (x), l4, l5, l6, l7, l8] (x :: r) σ Q) := (aw_eq g 38 442 _ _ _ _).trans (by rw [tq38_442]; exact h_load rfl)
theorem tq38_443 : tT g 38 443 = s_callk 38 446 43 [1, 0, 1] 4 := rfl
theorem A38_443 {L : AL} {r : List Value} {w0 w1 w2 : Value} : aw g 38 443 L (w2 :: w1 :: w0 :: r) σ Q = ((vRf w0 && (vI w1 && (vRf w2 && true))) = true ∧ csum r ≤ 8 ∧ aw g 43 0 [some w0, some w1, some w2, none] [] σ (kt (aw g) 38 446 L r Q)) := (aw_eq g 38 443 _ _ _ _).trans (by rw [tq38_443]; exact rfl)
theorem tq38_446 : tT g 38 446 = s_store vI 38 448 6 := rfl
theorem A38_446 {l0 : Option Value} {l1 : Option Value} {l2 : Option Value} {l3 : Option Value} {l4 : Option Value} {l5 : Option Value} {l6 : Option Value} {l7 : Option Value} {l8 : Option Value} {x : Int32} {r : List Value} : aw g 38 446 [l0, l1, l2, l3, l4, l5, l6, l7, l8] (.int x :: r) σ Q = (oc l5 = true ∧ aw g 38 448 [l0, l1, l2, l3, l4, l5, some (.int x), l7, l8] r σ Q) := (aw_eq g 38 446 _ _ _ _).trans (by rw [tq38_446]; exact (h_store (o := oc l5) rfl rfl rfl).trans (propext ⟨fun z => z.2, fun z => ⟨rfl, z⟩⟩))
theorem tq38_448 : tT g 38 448 = s_load vRf 38 449 2 := rfl
theorem A38_448 {l0 : Option Value} {l1 : Option Value} {l3 : Option Value} {l4 : Option Value} {l5 : Option Value} {l6 : Option Value} {l7 : Option Value} {l8 : Option Value} {x : Value} {r : List Value} : aw g 38 448 [l0, l1, some (x), l3, l4, l5, l6, l7, l8] r σ Q = (vRf x = true ∧ aw g 38 449 [l0, l1, some (x), l3, l4, l5, l6, l7, l8] (x :: r) σ Q) := (aw_eq g 38 448 _ _ _ _).trans (by rw [tq38_448]; exact h_load rfl)
theorem tq38_449 : tT g 38 449 = s_load vRf 38 450 0 := rfl
theorem A38_449 {l1 : Option Value} {l2 : Option Value} {l3 : Option Value} {l4 : Option Value} {l5 : Option Value} {l6 : Option Value} {l7 : Option Value} {l8 : Option Value} {x : Value} {r : List Value} : aw g 38 449 [some (x), l1, l2, l3, l4, l5, l6, l7, l8] r σ Q = (vRf x = true ∧ aw g 38 450 [some (x), l1, l2, l3, l4, l5, l6, l7, l8] (x :: r) σ Q) := (aw_eq g 38 449 _ _ _ _).trans (by rw [tq38_449]; exact h_load rfl)
theorem tq38_450 : tT g 38 450 = s_load vI 38 452 5 := rfl
theorem A38_450 {l0 : Option Value} {l1 : Option Value} {l2 : Option Value} {l3 : Option Value} {l4 : Option Value} {l6 : Option Value} {l7 : Option Value} {l8 : Option Value} {x : Int32} {r : List Value} : aw g 38 450 [l0, l1, l2, l3, l4, some (.int x), l6, l7, l8] r σ Q = aw g 38 452 [l0, l1, l2, l3, l4, some (.int x), l6, l7, l8] (.int x :: r) σ Q := (aw_eq g 38 450 _ _ _ _).trans (by rw [tq38_450]; exact (h_load rfl).trans (propext ⟨fun z => z.2, fun z => ⟨rfl, z⟩⟩))
theorem tq38_452 : tT g 38 452 = s_const 38 453 (.int 1) := rfl
theorem A38_452 {L : AL} {r : List Value} : aw g 38 452 L r σ Q = aw g 38 453 L (.int 1 :: r) σ Q := (aw_eq g 38 452 _ _ _ _).trans (by rw [tq38_452]; exact rfl)
theorem tq38_453 : tT g 38 453 = s_bin 38 454 (fun a b => a + b) := rfl
theorem A38_453 {L : AL} {r : List Value} {a b : Int32} : aw g 38 453 L (.int b :: .int a :: r) σ Q = aw g 38 454 L (.int (a + b) :: r) σ Q := (aw_eq g 38 453 _ _ _ _).trans (by rw [tq38_453]; exact rfl)
theorem tq38_454 : tT g 38 454 = s_ald 38 455 27 := rfl
theorem A38_454 {L : AL} {r : List Value} {a : Nat} {i : Int32} : aw g 38 454 L (.int i :: .ref a :: r) σ Q = (hty σ a = some 27 ∧ ¬ i < 0 ∧ i.toNatClampNeg < hln σ a ∧ aw g 38 455 L (hv σ 27 a i.toNatClampNeg :: r) σ Q) := (aw_eq g 38 454 _ _ _ _).trans (by rw [tq38_454]; exact rfl)
theorem tq38_455 : tT g 38 455 = s_callvk 38 458 148 3 [0] 4 := rfl
theorem A38_455 {L : AL} {r : List Value} {a : Nat} {w0 : Value} : aw g 38 455 L (w0 :: .ref a :: r) σ Q = (hty σ a = some 3 ∧ (vI w0 && true) = true ∧ csum r ≤ 8 ∧ aw g 148 0 [some (.ref a), some w0, none, none] [] σ (kt (aw g) 38 458 L r Q)) := (aw_eq g 38 455 _ _ _ _).trans (by rw [tq38_455]; exact rfl)
theorem tq38_458 : tT g 38 458 = s_store vI 38 460 7 := rfl
theorem A38_458 {l0 : Option Value} {l1 : Option Value} {l2 : Option Value} {l3 : Option Value} {l4 : Option Value} {l5 : Option Value} {l6 : Option Value} {l7 : Option Value} {l8 : Option Value} {x : Int32} {r : List Value} : aw g 38 458 [l0, l1, l2, l3, l4, l5, l6, l7, l8] (.int x :: r) σ Q = (oc l6 = true ∧ aw g 38 460 [l0, l1, l2, l3, l4, l5, l6, some (.int x), l8] r σ Q) := (aw_eq g 38 458 _ _ _ _).trans (by rw [tq38_458]; exact (h_store (o := oc l6) rfl rfl rfl).trans (propext ⟨fun z => z.2, fun z => ⟨rfl, z⟩⟩))
theorem tq38_460 : tT g 38 460 = s_load vRf 38 461 2 := rfl
theorem A38_460 {l0 : Option Value} {l1 : Option Value} {l3 : Option Value} {l4 : Option Value} {l5 : Option Value} {l6 : Option Value} {l7 : Option Value} {l8 : Option Value} {x : Value} {r : List Value} : aw g 38 460 [l0, l1, some (x), l3, l4, l5, l6, l7, l8] r σ Q = (vRf x = true ∧ aw g 38 461 [l0, l1, some (x), l3, l4, l5, l6, l7, l8] (x :: r) σ Q) := (aw_eq g 38 460 _ _ _ _).trans (by rw [tq38_460]; exact h_load rfl)
theorem tq38_461 : tT g 38 461 = s_callvk 38 464 138 3 [] 1 := rfl
theorem A38_461 {L : AL} {r : List Value} {a : Nat} : aw g 38 461 L (.ref a :: r) σ Q = (hty σ a = some 3 ∧ true = true ∧ csum r ≤ 8 ∧ aw g 138 0 [some (.ref a)] [] σ (kt (aw g) 38 464 L r Q)) := (aw_eq g 38 461 _ _ _ _).trans (by rw [tq38_461]; exact rfl)
theorem tq38_464 : tT g 38 464 = s_load vI 38 466 6 := rfl
theorem A38_464 {l0 : Option Value} {l1 : Option Value} {l2 : Option Value} {l3 : Option Value} {l4 : Option Value} {l5 : Option Value} {l7 : Option Value} {l8 : Option Value} {x : Int32} {r : List Value} : aw g 38 464 [l0, l1, l2, l3, l4, l5, some (.int x), l7, l8] r σ Q = aw g 38 466 [l0, l1, l2, l3, l4, l5, some (.int x), l7, l8] (.int x :: r) σ Q := (aw_eq g 38 464 _ _ _ _).trans (by rw [tq38_464]; exact (h_load rfl).trans (propext ⟨fun z => z.2, fun z => ⟨rfl, z⟩⟩))
theorem tq38_466 : tT g 38 466 = s_icmp 38 469 471 (fun a b => a = b) := rfl
theorem A38_466 {L : AL} {r : List Value} {a b : Int32} : aw g 38 466 L (.int b :: .int a :: r) σ Q = ((a = b → aw g 38 471 L r σ Q) ∧ (¬ a = b → aw g 38 469 L r σ Q)) := (aw_eq g 38 466 _ _ _ _).trans (by rw [tq38_466]; exact rfl)
theorem tq38_469 : tT g 38 469 = s_const 38 470 (.int 0) := rfl
theorem A38_469 {L : AL} {r : List Value} : aw g 38 469 L r σ Q = aw g 38 470 L (.int 0 :: r) σ Q := (aw_eq g 38 469 _ _ _ _).trans (by rw [tq38_469]; exact rfl)
theorem tq38_470 : tT g 38 470 = s_ret vZ := rfl
theorem A38_470 {L : AL} {v : Value} : aw g 38 470 L [v] σ Q = (vZ v ∧ Q (.inl (some v)) σ) := (aw_eq g 38 470 _ _ _ _).trans (by rw [tq38_470]; exact rfl)
theorem tq38_471 : tT g 38 471 = s_load vI 38 473 6 := rfl
theorem A38_471 {l0 : Option Value} {l1 : Option Value} {l2 : Option Value} {l3 : Option Value} {l4 : Option Value} {l5 : Option Value} {l7 : Option Value} {l8 : Option Value} {x : Int32} {r : List Value} : aw g 38 471 [l0, l1, l2, l3, l4, l5, some (.int x), l7, l8] r σ Q = aw g 38 473 [l0, l1, l2, l3, l4, l5, some (.int x), l7, l8] (.int x :: r) σ Q := (aw_eq g 38 471 _ _ _ _).trans (by rw [tq38_471]; exact (h_load rfl).trans (propext ⟨fun z => z.2, fun z => ⟨rfl, z⟩⟩))
theorem tq38_473 : tT g 38 473 = s_if 38 488 476 (fun a => a = 0) := rfl
theorem A38_473 {L : AL} {r : List Value} {a : Int32} : aw g 38 473 L (.int a :: r) σ Q = ((a = 0 → aw g 38 476 L r σ Q) ∧ (¬ a = 0 → aw g 38 488 L r σ Q)) := (aw_eq g 38 473 _ _ _ _).trans (by rw [tq38_473]; exact rfl)
theorem tq38_476 : tT g 38 476 = s_load vRf 38 477 3 := rfl
theorem A38_476 {l0 : Option Value} {l1 : Option Value} {l2 : Option Value} {l4 : Option Value} {l5 : Option Value} {l6 : Option Value} {l7 : Option Value} {l8 : Option Value} {x : Value} {r : List Value} : aw g 38 476 [l0, l1, l2, some (x), l4, l5, l6, l7, l8] r σ Q = (vRf x = true ∧ aw g 38 477 [l0, l1, l2, some (x), l4, l5, l6, l7, l8] (x :: r) σ Q) := (aw_eq g 38 476 _ _ _ _).trans (by rw [tq38_476]; exact h_load rfl)
theorem tq38_477 : tT g 38 477 = s_const 38 478 (.int 0) := rfl
theorem A38_477 {L : AL} {r : List Value} : aw g 38 477 L r σ Q = aw g 38 478 L (.int 0 :: r) σ Q := (aw_eq g 38 477 _ _ _ _).trans (by rw [tq38_477]; exact rfl)
theorem tq38_478 : tT g 38 478 = s_ald 38 479 22 := rfl
theorem A38_478 {L : AL} {r : List Value} {a : Nat} {i : Int32} : aw g 38 478 L (.int i :: .ref a :: r) σ Q = (hty σ a = some 22 ∧ ¬ i < 0 ∧ i.toNatClampNeg < hln σ a ∧ aw g 38 479 L (hv σ 22 a i.toNatClampNeg :: r) σ Q) := (aw_eq g 38 478 _ _ _ _).trans (by rw [tq38_478]; exact rfl)
theorem tq38_479 : tT g 38 479 = s_load vI 38 481 7 := rfl
theorem A38_479 {l0 : Option Value} {l1 : Option Value} {l2 : Option Value} {l3 : Option Value} {l4 : Option Value} {l5 : Option Value} {l6 : Option Value} {l8 : Option Value} {x : Int32} {r : List Value} : aw g 38 479 [l0, l1, l2, l3, l4, l5, l6, some (.int x), l8] r σ Q = aw g 38 481 [l0, l1, l2, l3, l4, l5, l6, some (.int x), l8] (.int x :: r) σ Q := (aw_eq g 38 479 _ _ _ _).trans (by rw [tq38_479]; exact (h_load rfl).trans (propext ⟨fun z => z.2, fun z => ⟨rfl, z⟩⟩))
theorem tq38_481 : tT g 38 481 = s_i2 38 482 (fun a => .long a.toInt64) := rfl
theorem A38_481 {L : AL} {r : List Value} {a : Int32} : aw g 38 481 L (.int a :: r) σ Q = aw g 38 482 L (.long a.toInt64 :: r) σ Q := (aw_eq g 38 481 _ _ _ _).trans (by rw [tq38_481]; exact rfl)
theorem tq38_482 : tT g 38 482 = s_lbin 38 483 (fun a b => .int (lg_cmp a b)) := rfl
theorem A38_482 {L : AL} {r : List Value} {a b : Int64} : aw g 38 482 L (.long b :: .long a :: r) σ Q = aw g 38 483 L (.int (lg_cmp a b) :: r) σ Q := (aw_eq g 38 482 _ _ _ _).trans (by rw [tq38_482]; exact rfl)
theorem tq38_483 : tT g 38 483 = s_if 38 486 488 (fun a => a = 0) := rfl
theorem A38_483 {L : AL} {r : List Value} {a : Int32} : aw g 38 483 L (.int a :: r) σ Q = ((a = 0 → aw g 38 488 L r σ Q) ∧ (¬ a = 0 → aw g 38 486 L r σ Q)) := (aw_eq g 38 483 _ _ _ _).trans (by rw [tq38_483]; exact rfl)
theorem tq38_486 : tT g 38 486 = s_const 38 487 (.int 0) := rfl
theorem A38_486 {L : AL} {r : List Value} : aw g 38 486 L r σ Q = aw g 38 487 L (.int 0 :: r) σ Q := (aw_eq g 38 486 _ _ _ _).trans (by rw [tq38_486]; exact rfl)
theorem tq38_487 : tT g 38 487 = s_ret vZ := rfl
theorem A38_487 {L : AL} {v : Value} : aw g 38 487 L [v] σ Q = (vZ v ∧ Q (.inl (some v)) σ) := (aw_eq g 38 487 _ _ _ _).trans (by rw [tq38_487]; exact rfl)
theorem tq38_488 : tT g 38 488 = s_goto 38 1454 := rfl
theorem A38_488 {L : AL} {r : List Value} : aw g 38 488 L r σ Q = aw g 38 1454 L r σ Q := (aw_eq g 38 488 _ _ _ _).trans (by rw [tq38_488]; exact rfl)
theorem tq38_491 : tT g 38 491 = s_load vRf 38 492 1 := rfl
theorem A38_491 {l0 : Option Value} {l2 : Option Value} {l3 : Option Value} {l4 : Option Value} {l5 : Option Value} {l6 : Option Value} {l7 : Option Value} {l8 : Option Value} {x : Value} {r : List Value} : aw g 38 491 [l0, some (x), l2, l3, l4, l5, l6, l7, l8] r σ Q = (vRf x = true ∧ aw g 38 492 [l0, some (x), l2, l3, l4, l5, l6, l7, l8] (x :: r) σ Q) := (aw_eq g 38 491 _ _ _ _).trans (by rw [tq38_491]; exact h_load rfl)
theorem tq38_492 : tT g 38 492 = s_load vRf 38 493 0 := rfl
theorem A38_492 {l1 : Option Value} {l2 : Option Value} {l3 : Option Value} {l4 : Option Value} {l5 : Option Value} {l6 : Option Value} {l7 : Option Value} {l8 : Option Value} {x : Value} {r : List Value} : aw g 38 492 [some (x), l1, l2, l3, l4, l5, l6, l7, l8] r σ Q = (vRf x = true ∧ aw g 38 493 [some (x), l1, l2, l3, l4, l5, l6, l7, l8] (x :: r) σ Q) := (aw_eq g 38 492 _ _ _ _).trans (by rw [tq38_492]; exact h_load rfl)
theorem tq38_493 : tT g 38 493 = s_load vI 38 495 5 := rfl
theorem A38_493 {l0 : Option Value} {l1 : Option Value} {l2 : Option Value} {l3 : Option Value} {l4 : Option Value} {l6 : Option Value} {l7 : Option Value} {l8 : Option Value} {x : Int32} {r : List Value} : aw g 38 493 [l0, l1, l2, l3, l4, some (.int x), l6, l7, l8] r σ Q = aw g 38 495 [l0, l1, l2, l3, l4, some (.int x), l6, l7, l8] (.int x :: r) σ Q := (aw_eq g 38 493 _ _ _ _).trans (by rw [tq38_493]; exact (h_load rfl).trans (propext ⟨fun z => z.2, fun z => ⟨rfl, z⟩⟩))
theorem tq38_495 : tT g 38 495 = s_const 38 496 (.int 1) := rfl
theorem A38_495 {L : AL} {r : List Value} : aw g 38 495 L r σ Q = aw g 38 496 L (.int 1 :: r) σ Q := (aw_eq g 38 495 _ _ _ _).trans (by rw [tq38_495]; exact rfl)
theorem tq38_496 : tT g 38 496 = s_bin 38 497 (fun a b => a + b) := rfl
theorem A38_496 {L : AL} {r : List Value} {a b : Int32} : aw g 38 496 L (.int b :: .int a :: r) σ Q = aw g 38 497 L (.int (a + b) :: r) σ Q := (aw_eq g 38 496 _ _ _ _).trans (by rw [tq38_496]; exact rfl)
theorem tq38_497 : tT g 38 497 = s_ald 38 498 27 := rfl
theorem A38_497 {L : AL} {r : List Value} {a : Nat} {i : Int32} : aw g 38 497 L (.int i :: .ref a :: r) σ Q = (hty σ a = some 27 ∧ ¬ i < 0 ∧ i.toNatClampNeg < hln σ a ∧ aw g 38 498 L (hv σ 27 a i.toNatClampNeg :: r) σ Q) := (aw_eq g 38 497 _ _ _ _).trans (by rw [tq38_497]; exact rfl)
theorem tq38_498 : tT g 38 498 = s_load vRf 38 499 0 := rfl
theorem A38_498 {l1 : Option Value} {l2 : Option Value} {l3 : Option Value} {l4 : Option Value} {l5 : Option Value} {l6 : Option Value} {l7 : Option Value} {l8 : Option Value} {x : Value} {r : List Value} : aw g 38 498 [some (x), l1, l2, l3, l4, l5, l6, l7, l8] r σ Q = (vRf x = true ∧ aw g 38 499 [some (x), l1, l2, l3, l4, l5, l6, l7, l8] (x :: r) σ Q) := (aw_eq g 38 498 _ _ _ _).trans (by rw [tq38_498]; exact h_load rfl)
theorem tq38_499 : tT g 38 499 = s_load vI 38 501 5 := rfl
theorem A38_499 {l0 : Option Value} {l1 : Option Value} {l2 : Option Value} {l3 : Option Value} {l4 : Option Value} {l6 : Option Value} {l7 : Option Value} {l8 : Option Value} {x : Int32} {r : List Value} : aw g 38 499 [l0, l1, l2, l3, l4, some (.int x), l6, l7, l8] r σ Q = aw g 38 501 [l0, l1, l2, l3, l4, some (.int x), l6, l7, l8] (.int x :: r) σ Q := (aw_eq g 38 499 _ _ _ _).trans (by rw [tq38_499]; exact (h_load rfl).trans (propext ⟨fun z => z.2, fun z => ⟨rfl, z⟩⟩))
theorem tq38_501 : tT g 38 501 = s_const 38 502 (.int 2) := rfl
theorem A38_501 {L : AL} {r : List Value} : aw g 38 501 L r σ Q = aw g 38 502 L (.int 2 :: r) σ Q := (aw_eq g 38 501 _ _ _ _).trans (by rw [tq38_501]; exact rfl)
theorem tq38_502 : tT g 38 502 = s_bin 38 503 (fun a b => a + b) := rfl
theorem A38_502 {L : AL} {r : List Value} {a b : Int32} : aw g 38 502 L (.int b :: .int a :: r) σ Q = aw g 38 503 L (.int (a + b) :: r) σ Q := (aw_eq g 38 502 _ _ _ _).trans (by rw [tq38_502]; exact rfl)
theorem tq38_503 : tT g 38 503 = s_ald 38 504 27 := rfl
theorem A38_503 {L : AL} {r : List Value} {a : Nat} {i : Int32} : aw g 38 503 L (.int i :: .ref a :: r) σ Q = (hty σ a = some 27 ∧ ¬ i < 0 ∧ i.toNatClampNeg < hln σ a ∧ aw g 38 504 L (hv σ 27 a i.toNatClampNeg :: r) σ Q) := (aw_eq g 38 503 _ _ _ _).trans (by rw [tq38_503]; exact rfl)
theorem tq38_504 : tT g 38 504 = s_load vRf 38 505 3 := rfl
theorem A38_504 {l0 : Option Value} {l1 : Option Value} {l2 : Option Value} {l4 : Option Value} {l5 : Option Value} {l6 : Option Value} {l7 : Option Value} {l8 : Option Value} {x : Value} {r : List Value} : aw g 38 504 [l0, l1, l2, some (x), l4, l5, l6, l7, l8] r σ Q = (vRf x = true ∧ aw g 38 505 [l0, l1, l2, some (x), l4, l5, l6, l7, l8] (x :: r) σ Q) := (aw_eq g 38 504 _ _ _ _).trans (by rw [tq38_504]; exact h_load rfl)
theorem tq38_505 : tT g 38 505 = s_callk 38 508 44 [1, 0, 0, 1] 5 := rfl
theorem A38_505 {L : AL} {r : List Value} {w0 w1 w2 w3 : Value} : aw g 38 505 L (w3 :: w2 :: w1 :: w0 :: r) σ Q = ((vRf w0 && (vI w1 && (vI w2 && (vRf w3 && true)))) = true ∧ csum r ≤ 8 ∧ aw g 44 0 [some w0, some w1, some w2, some w3, none] [] σ (kt (aw g) 38 508 L r Q)) := (aw_eq g 38 505 _ _ _ _).trans (by rw [tq38_505]; exact rfl)
theorem tq38_508 : tT g 38 508 = s_store vI 38 510 6 := rfl
theorem A38_508 {l0 : Option Value} {l1 : Option Value} {l2 : Option Value} {l3 : Option Value} {l4 : Option Value} {l5 : Option Value} {l6 : Option Value} {l7 : Option Value} {l8 : Option Value} {x : Int32} {r : List Value} : aw g 38 508 [l0, l1, l2, l3, l4, l5, l6, l7, l8] (.int x :: r) σ Q = (oc l5 = true ∧ aw g 38 510 [l0, l1, l2, l3, l4, l5, some (.int x), l7, l8] r σ Q) := (aw_eq g 38 508 _ _ _ _).trans (by rw [tq38_508]; exact (h_store (o := oc l5) rfl rfl rfl).trans (propext ⟨fun z => z.2, fun z => ⟨rfl, z⟩⟩))
theorem tq38_510 : tT g 38 510 = s_load vRf 38 511 2 := rfl
theorem A38_510 {l0 : Option Value} {l1 : Option Value} {l3 : Option Value} {l4 : Option Value} {l5 : Option Value} {l6 : Option Value} {l7 : Option Value} {l8 : Option Value} {x : Value} {r : List Value} : aw g 38 510 [l0, l1, some (x), l3, l4, l5, l6, l7, l8] r σ Q = (vRf x = true ∧ aw g 38 511 [l0, l1, some (x), l3, l4, l5, l6, l7, l8] (x :: r) σ Q) := (aw_eq g 38 510 _ _ _ _).trans (by rw [tq38_510]; exact h_load rfl)
theorem tq38_511 : tT g 38 511 = s_load vRf 38 512 0 := rfl
theorem A38_511 {l1 : Option Value} {l2 : Option Value} {l3 : Option Value} {l4 : Option Value} {l5 : Option Value} {l6 : Option Value} {l7 : Option Value} {l8 : Option Value} {x : Value} {r : List Value} : aw g 38 511 [some (x), l1, l2, l3, l4, l5, l6, l7, l8] r σ Q = (vRf x = true ∧ aw g 38 512 [some (x), l1, l2, l3, l4, l5, l6, l7, l8] (x :: r) σ Q) := (aw_eq g 38 511 _ _ _ _).trans (by rw [tq38_511]; exact h_load rfl)
theorem tq38_512 : tT g 38 512 = s_load vI 38 514 5 := rfl
theorem A38_512 {l0 : Option Value} {l1 : Option Value} {l2 : Option Value} {l3 : Option Value} {l4 : Option Value} {l6 : Option Value} {l7 : Option Value} {l8 : Option Value} {x : Int32} {r : List Value} : aw g 38 512 [l0, l1, l2, l3, l4, some (.int x), l6, l7, l8] r σ Q = aw g 38 514 [l0, l1, l2, l3, l4, some (.int x), l6, l7, l8] (.int x :: r) σ Q := (aw_eq g 38 512 _ _ _ _).trans (by rw [tq38_512]; exact (h_load rfl).trans (propext ⟨fun z => z.2, fun z => ⟨rfl, z⟩⟩))
theorem tq38_514 : tT g 38 514 = s_const 38 515 (.int 1) := rfl
theorem A38_514 {L : AL} {r : List Value} : aw g 38 514 L r σ Q = aw g 38 515 L (.int 1 :: r) σ Q := (aw_eq g 38 514 _ _ _ _).trans (by rw [tq38_514]; exact rfl)
theorem tq38_515 : tT g 38 515 = s_bin 38 516 (fun a b => a + b) := rfl
theorem A38_515 {L : AL} {r : List Value} {a b : Int32} : aw g 38 515 L (.int b :: .int a :: r) σ Q = aw g 38 516 L (.int (a + b) :: r) σ Q := (aw_eq g 38 515 _ _ _ _).trans (by rw [tq38_515]; exact rfl)
theorem tq38_516 : tT g 38 516 = s_ald 38 517 27 := rfl
theorem A38_516 {L : AL} {r : List Value} {a : Nat} {i : Int32} : aw g 38 516 L (.int i :: .ref a :: r) σ Q = (hty σ a = some 27 ∧ ¬ i < 0 ∧ i.toNatClampNeg < hln σ a ∧ aw g 38 517 L (hv σ 27 a i.toNatClampNeg :: r) σ Q) := (aw_eq g 38 516 _ _ _ _).trans (by rw [tq38_516]; exact rfl)
theorem tq38_517 : tT g 38 517 = s_load vRf 38 518 0 := rfl
theorem A38_517 {l1 : Option Value} {l2 : Option Value} {l3 : Option Value} {l4 : Option Value} {l5 : Option Value} {l6 : Option Value} {l7 : Option Value} {l8 : Option Value} {x : Value} {r : List Value} : aw g 38 517 [some (x), l1, l2, l3, l4, l5, l6, l7, l8] r σ Q = (vRf x = true ∧ aw g 38 518 [some (x), l1, l2, l3, l4, l5, l6, l7, l8] (x :: r) σ Q) := (aw_eq g 38 517 _ _ _ _).trans (by rw [tq38_517]; exact h_load rfl)
theorem tq38_518 : tT g 38 518 = s_load vI 38 520 5 := rfl
theorem A38_518 {l0 : Option Value} {l1 : Option Value} {l2 : Option Value} {l3 : Option Value} {l4 : Option Value} {l6 : Option Value} {l7 : Option Value} {l8 : Option Value} {x : Int32} {r : List Value} : aw g 38 518 [l0, l1, l2, l3, l4, some (.int x), l6, l7, l8] r σ Q = aw g 38 520 [l0, l1, l2, l3, l4, some (.int x), l6, l7, l8] (.int x :: r) σ Q := (aw_eq g 38 518 _ _ _ _).trans (by rw [tq38_518]; exact (h_load rfl).trans (propext ⟨fun z => z.2, fun z => ⟨rfl, z⟩⟩))
theorem tq38_520 : tT g 38 520 = s_const 38 521 (.int 2) := rfl
theorem A38_520 {L : AL} {r : List Value} : aw g 38 520 L r σ Q = aw g 38 521 L (.int 2 :: r) σ Q := (aw_eq g 38 520 _ _ _ _).trans (by rw [tq38_520]; exact rfl)
theorem tq38_521 : tT g 38 521 = s_bin 38 522 (fun a b => a + b) := rfl
theorem A38_521 {L : AL} {r : List Value} {a b : Int32} : aw g 38 521 L (.int b :: .int a :: r) σ Q = aw g 38 522 L (.int (a + b) :: r) σ Q := (aw_eq g 38 521 _ _ _ _).trans (by rw [tq38_521]; exact rfl)
theorem tq38_522 : tT g 38 522 = s_ald 38 523 27 := rfl
theorem A38_522 {L : AL} {r : List Value} {a : Nat} {i : Int32} : aw g 38 522 L (.int i :: .ref a :: r) σ Q = (hty σ a = some 27 ∧ ¬ i < 0 ∧ i.toNatClampNeg < hln σ a ∧ aw g 38 523 L (hv σ 27 a i.toNatClampNeg :: r) σ Q) := (aw_eq g 38 522 _ _ _ _).trans (by rw [tq38_522]; exact rfl)
theorem tq38_523 : tT g 38 523 = s_callvk 38 526 149 3 [0, 0] 8 := rfl
theorem A38_523 {L : AL} {r : List Value} {a : Nat} {w0 w1 : Value} : aw g 38 523 L (w1 :: w0 :: .ref a :: r) σ Q = (hty σ a = some 3 ∧ (vI w0 && (vI w1 && true)) = true ∧ csum r ≤ 8 ∧ aw g 149 0 [some (.ref a), some w0, some w1, none, none, none, none, none] [] σ (kt (aw g) 38 526 L r Q)) := (aw_eq g 38 523 _ _ _ _).trans (by rw [tq38_523]; exact rfl)
theorem tq38_526 : tT g 38 526 = s_store vI 38 528 7 := rfl
theorem A38_526 {l0 : Option Value} {l1 : Option Value} {l2 : Option Value} {l3 : Option Value} {l4 : Option Value} {l5 : Option Value} {l6 : Option Value} {l7 : Option Value} {l8 : Option Value} {x : Int32} {r : List Value} : aw g 38 526 [l0, l1, l2, l3, l4, l5, l6, l7, l8] (.int x :: r) σ Q = (oc l6 = true ∧ aw g 38 528 [l0, l1, l2, l3, l4, l5, l6, some (.int x), l8] r σ Q) := (aw_eq g 38 526 _ _ _ _).trans (by rw [tq38_526]; exact (h_store (o := oc l6) rfl rfl rfl).trans (propext ⟨fun z => z.2, fun z => ⟨rfl, z⟩⟩))
theorem tq38_528 : tT g 38 528 = s_load vRf 38 529 2 := rfl
theorem A38_528 {l0 : Option Value} {l1 : Option Value} {l3 : Option Value} {l4 : Option Value} {l5 : Option Value} {l6 : Option Value} {l7 : Option Value} {l8 : Option Value} {x : Value} {r : List Value} : aw g 38 528 [l0, l1, some (x), l3, l4, l5, l6, l7, l8] r σ Q = (vRf x = true ∧ aw g 38 529 [l0, l1, some (x), l3, l4, l5, l6, l7, l8] (x :: r) σ Q) := (aw_eq g 38 528 _ _ _ _).trans (by rw [tq38_528]; exact h_load rfl)
theorem tq38_529 : tT g 38 529 = s_callvk 38 532 138 3 [] 1 := rfl
theorem A38_529 {L : AL} {r : List Value} {a : Nat} : aw g 38 529 L (.ref a :: r) σ Q = (hty σ a = some 3 ∧ true = true ∧ csum r ≤ 8 ∧ aw g 138 0 [some (.ref a)] [] σ (kt (aw g) 38 532 L r Q)) := (aw_eq g 38 529 _ _ _ _).trans (by rw [tq38_529]; exact rfl)
theorem tq38_532 : tT g 38 532 = s_load vI 38 534 6 := rfl
theorem A38_532 {l0 : Option Value} {l1 : Option Value} {l2 : Option Value} {l3 : Option Value} {l4 : Option Value} {l5 : Option Value} {l7 : Option Value} {l8 : Option Value} {x : Int32} {r : List Value} : aw g 38 532 [l0, l1, l2, l3, l4, l5, some (.int x), l7, l8] r σ Q = aw g 38 534 [l0, l1, l2, l3, l4, l5, some (.int x), l7, l8] (.int x :: r) σ Q := (aw_eq g 38 532 _ _ _ _).trans (by rw [tq38_532]; exact (h_load rfl).trans (propext ⟨fun z => z.2, fun z => ⟨rfl, z⟩⟩))
theorem tq38_534 : tT g 38 534 = s_icmp 38 537 539 (fun a b => a = b) := rfl
theorem A38_534 {L : AL} {r : List Value} {a b : Int32} : aw g 38 534 L (.int b :: .int a :: r) σ Q = ((a = b → aw g 38 539 L r σ Q) ∧ (¬ a = b → aw g 38 537 L r σ Q)) := (aw_eq g 38 534 _ _ _ _).trans (by rw [tq38_534]; exact rfl)
theorem tq38_537 : tT g 38 537 = s_const 38 538 (.int 0) := rfl
theorem A38_537 {L : AL} {r : List Value} : aw g 38 537 L r σ Q = aw g 38 538 L (.int 0 :: r) σ Q := (aw_eq g 38 537 _ _ _ _).trans (by rw [tq38_537]; exact rfl)
theorem tq38_538 : tT g 38 538 = s_ret vZ := rfl
theorem A38_538 {L : AL} {v : Value} : aw g 38 538 L [v] σ Q = (vZ v ∧ Q (.inl (some v)) σ) := (aw_eq g 38 538 _ _ _ _).trans (by rw [tq38_538]; exact rfl)
theorem tq38_539 : tT g 38 539 = s_load vI 38 541 6 := rfl
theorem A38_539 {l0 : Option Value} {l1 : Option Value} {l2 : Option Value} {l3 : Option Value} {l4 : Option Value} {l5 : Option Value} {l7 : Option Value} {l8 : Option Value} {x : Int32} {r : List Value} : aw g 38 539 [l0, l1, l2, l3, l4, l5, some (.int x), l7, l8] r σ Q = aw g 38 541 [l0, l1, l2, l3, l4, l5, some (.int x), l7, l8] (.int x :: r) σ Q := (aw_eq g 38 539 _ _ _ _).trans (by rw [tq38_539]; exact (h_load rfl).trans (propext ⟨fun z => z.2, fun z => ⟨rfl, z⟩⟩))
theorem tq38_541 : tT g 38 541 = s_if 38 556 544 (fun a => a = 0) := rfl
theorem A38_541 {L : AL} {r : List Value} {a : Int32} : aw g 38 541 L (.int a :: r) σ Q = ((a = 0 → aw g 38 544 L r σ Q) ∧ (¬ a = 0 → aw g 38 556 L r σ Q)) := (aw_eq g 38 541 _ _ _ _).trans (by rw [tq38_541]; exact rfl)
theorem tq38_544 : tT g 38 544 = s_load vRf 38 545 3 := rfl
theorem A38_544 {l0 : Option Value} {l1 : Option Value} {l2 : Option Value} {l4 : Option Value} {l5 : Option Value} {l6 : Option Value} {l7 : Option Value} {l8 : Option Value} {x : Value} {r : List Value} : aw g 38 544 [l0, l1, l2, some (x), l4, l5, l6, l7, l8] r σ Q = (vRf x = true ∧ aw g 38 545 [l0, l1, l2, some (x), l4, l5, l6, l7, l8] (x :: r) σ Q) := (aw_eq g 38 544 _ _ _ _).trans (by rw [tq38_544]; exact h_load rfl)
theorem tq38_545 : tT g 38 545 = s_const 38 546 (.int 0) := rfl
theorem A38_545 {L : AL} {r : List Value} : aw g 38 545 L r σ Q = aw g 38 546 L (.int 0 :: r) σ Q := (aw_eq g 38 545 _ _ _ _).trans (by rw [tq38_545]; exact rfl)
theorem tq38_546 : tT g 38 546 = s_ald 38 547 22 := rfl
theorem A38_546 {L : AL} {r : List Value} {a : Nat} {i : Int32} : aw g 38 546 L (.int i :: .ref a :: r) σ Q = (hty σ a = some 22 ∧ ¬ i < 0 ∧ i.toNatClampNeg < hln σ a ∧ aw g 38 547 L (hv σ 22 a i.toNatClampNeg :: r) σ Q) := (aw_eq g 38 546 _ _ _ _).trans (by rw [tq38_546]; exact rfl)
theorem tq38_547 : tT g 38 547 = s_load vI 38 549 7 := rfl
theorem A38_547 {l0 : Option Value} {l1 : Option Value} {l2 : Option Value} {l3 : Option Value} {l4 : Option Value} {l5 : Option Value} {l6 : Option Value} {l8 : Option Value} {x : Int32} {r : List Value} : aw g 38 547 [l0, l1, l2, l3, l4, l5, l6, some (.int x), l8] r σ Q = aw g 38 549 [l0, l1, l2, l3, l4, l5, l6, some (.int x), l8] (.int x :: r) σ Q := (aw_eq g 38 547 _ _ _ _).trans (by rw [tq38_547]; exact (h_load rfl).trans (propext ⟨fun z => z.2, fun z => ⟨rfl, z⟩⟩))
theorem tq38_549 : tT g 38 549 = s_i2 38 550 (fun a => .long a.toInt64) := rfl
theorem A38_549 {L : AL} {r : List Value} {a : Int32} : aw g 38 549 L (.int a :: r) σ Q = aw g 38 550 L (.long a.toInt64 :: r) σ Q := (aw_eq g 38 549 _ _ _ _).trans (by rw [tq38_549]; exact rfl)
theorem tq38_550 : tT g 38 550 = s_lbin 38 551 (fun a b => .int (lg_cmp a b)) := rfl
theorem A38_550 {L : AL} {r : List Value} {a b : Int64} : aw g 38 550 L (.long b :: .long a :: r) σ Q = aw g 38 551 L (.int (lg_cmp a b) :: r) σ Q := (aw_eq g 38 550 _ _ _ _).trans (by rw [tq38_550]; exact rfl)
theorem tq38_551 : tT g 38 551 = s_if 38 554 556 (fun a => a = 0) := rfl
theorem A38_551 {L : AL} {r : List Value} {a : Int32} : aw g 38 551 L (.int a :: r) σ Q = ((a = 0 → aw g 38 556 L r σ Q) ∧ (¬ a = 0 → aw g 38 554 L r σ Q)) := (aw_eq g 38 551 _ _ _ _).trans (by rw [tq38_551]; exact rfl)
theorem tq38_554 : tT g 38 554 = s_const 38 555 (.int 0) := rfl
theorem A38_554 {L : AL} {r : List Value} : aw g 38 554 L r σ Q = aw g 38 555 L (.int 0 :: r) σ Q := (aw_eq g 38 554 _ _ _ _).trans (by rw [tq38_554]; exact rfl)
theorem tq38_555 : tT g 38 555 = s_ret vZ := rfl
theorem A38_555 {L : AL} {v : Value} : aw g 38 555 L [v] σ Q = (vZ v ∧ Q (.inl (some v)) σ) := (aw_eq g 38 555 _ _ _ _).trans (by rw [tq38_555]; exact rfl)
theorem tq38_556 : tT g 38 556 = s_goto 38 1454 := rfl
theorem A38_556 {L : AL} {r : List Value} : aw g 38 556 L r σ Q = aw g 38 1454 L r σ Q := (aw_eq g 38 556 _ _ _ _).trans (by rw [tq38_556]; exact rfl)
theorem tq38_559 : tT g 38 559 = s_load vRf 38 560 1 := rfl
theorem A38_559 {l0 : Option Value} {l2 : Option Value} {l3 : Option Value} {l4 : Option Value} {l5 : Option Value} {l6 : Option Value} {l7 : Option Value} {l8 : Option Value} {x : Value} {r : List Value} : aw g 38 559 [l0, some (x), l2, l3, l4, l5, l6, l7, l8] r σ Q = (vRf x = true ∧ aw g 38 560 [l0, some (x), l2, l3, l4, l5, l6, l7, l8] (x :: r) σ Q) := (aw_eq g 38 559 _ _ _ _).trans (by rw [tq38_559]; exact h_load rfl)
theorem tq38_560 : tT g 38 560 = s_load vRf 38 561 0 := rfl
theorem A38_560 {l1 : Option Value} {l2 : Option Value} {l3 : Option Value} {l4 : Option Value} {l5 : Option Value} {l6 : Option Value} {l7 : Option Value} {l8 : Option Value} {x : Value} {r : List Value} : aw g 38 560 [some (x), l1, l2, l3, l4, l5, l6, l7, l8] r σ Q = (vRf x = true ∧ aw g 38 561 [some (x), l1, l2, l3, l4, l5, l6, l7, l8] (x :: r) σ Q) := (aw_eq g 38 560 _ _ _ _).trans (by rw [tq38_560]; exact h_load rfl)
theorem tq38_561 : tT g 38 561 = s_load vI 38 563 5 := rfl
theorem A38_561 {l0 : Option Value} {l1 : Option Value} {l2 : Option Value} {l3 : Option Value} {l4 : Option Value} {l6 : Option Value} {l7 : Option Value} {l8 : Option Value} {x : Int32} {r : List Value} : aw g 38 561 [l0, l1, l2, l3, l4, some (.int x), l6, l7, l8] r σ Q = aw g 38 563 [l0, l1, l2, l3, l4, some (.int x), l6, l7, l8] (.int x :: r) σ Q := (aw_eq g 38 561 _ _ _ _).trans (by rw [tq38_561]; exact (h_load rfl).trans (propext ⟨fun z => z.2, fun z => ⟨rfl, z⟩⟩))
theorem tq38_563 : tT g 38 563 = s_const 38 564 (.int 1) := rfl
theorem A38_563 {L : AL} {r : List Value} : aw g 38 563 L r σ Q = aw g 38 564 L (.int 1 :: r) σ Q := (aw_eq g 38 563 _ _ _ _).trans (by rw [tq38_563]; exact rfl)
theorem tq38_564 : tT g 38 564 = s_bin 38 565 (fun a b => a + b) := rfl
theorem A38_564 {L : AL} {r : List Value} {a b : Int32} : aw g 38 564 L (.int b :: .int a :: r) σ Q = aw g 38 565 L (.int (a + b) :: r) σ Q := (aw_eq g 38 564 _ _ _ _).trans (by rw [tq38_564]; exact rfl)
theorem tq38_565 : tT g 38 565 = s_ald 38 566 27 := rfl
theorem A38_565 {L : AL} {r : List Value} {a : Nat} {i : Int32} : aw g 38 565 L (.int i :: .ref a :: r) σ Q = (hty σ a = some 27 ∧ ¬ i < 0 ∧ i.toNatClampNeg < hln σ a ∧ aw g 38 566 L (hv σ 27 a i.toNatClampNeg :: r) σ Q) := (aw_eq g 38 565 _ _ _ _).trans (by rw [tq38_565]; exact rfl)
theorem tq38_566 : tT g 38 566 = s_load vRf 38 567 0 := rfl
theorem A38_566 {l1 : Option Value} {l2 : Option Value} {l3 : Option Value} {l4 : Option Value} {l5 : Option Value} {l6 : Option Value} {l7 : Option Value} {l8 : Option Value} {x : Value} {r : List Value} : aw g 38 566 [some (x), l1, l2, l3, l4, l5, l6, l7, l8] r σ Q = (vRf x = true ∧ aw g 38 567 [some (x), l1, l2, l3, l4, l5, l6, l7, l8] (x :: r) σ Q) := (aw_eq g 38 566 _ _ _ _).trans (by rw [tq38_566]; exact h_load rfl)
theorem tq38_567 : tT g 38 567 = s_load vI 38 569 5 := rfl
theorem A38_567 {l0 : Option Value} {l1 : Option Value} {l2 : Option Value} {l3 : Option Value} {l4 : Option Value} {l6 : Option Value} {l7 : Option Value} {l8 : Option Value} {x : Int32} {r : List Value} : aw g 38 567 [l0, l1, l2, l3, l4, some (.int x), l6, l7, l8] r σ Q = aw g 38 569 [l0, l1, l2, l3, l4, some (.int x), l6, l7, l8] (.int x :: r) σ Q := (aw_eq g 38 567 _ _ _ _).trans (by rw [tq38_567]; exact (h_load rfl).trans (propext ⟨fun z => z.2, fun z => ⟨rfl, z⟩⟩))
theorem tq38_569 : tT g 38 569 = s_const 38 570 (.int 2) := rfl
theorem A38_569 {L : AL} {r : List Value} : aw g 38 569 L r σ Q = aw g 38 570 L (.int 2 :: r) σ Q := (aw_eq g 38 569 _ _ _ _).trans (by rw [tq38_569]; exact rfl)
theorem tq38_570 : tT g 38 570 = s_bin 38 571 (fun a b => a + b) := rfl
theorem A38_570 {L : AL} {r : List Value} {a b : Int32} : aw g 38 570 L (.int b :: .int a :: r) σ Q = aw g 38 571 L (.int (a + b) :: r) σ Q := (aw_eq g 38 570 _ _ _ _).trans (by rw [tq38_570]; exact rfl)
theorem tq38_571 : tT g 38 571 = s_ald 38 572 27 := rfl
theorem A38_571 {L : AL} {r : List Value} {a : Nat} {i : Int32} : aw g 38 571 L (.int i :: .ref a :: r) σ Q = (hty σ a = some 27 ∧ ¬ i < 0 ∧ i.toNatClampNeg < hln σ a ∧ aw g 38 572 L (hv σ 27 a i.toNatClampNeg :: r) σ Q) := (aw_eq g 38 571 _ _ _ _).trans (by rw [tq38_571]; exact rfl)
theorem tq38_572 : tT g 38 572 = s_load vRf 38 573 3 := rfl
theorem A38_572 {l0 : Option Value} {l1 : Option Value} {l2 : Option Value} {l4 : Option Value} {l5 : Option Value} {l6 : Option Value} {l7 : Option Value} {l8 : Option Value} {x : Value} {r : List Value} : aw g 38 572 [l0, l1, l2, some (x), l4, l5, l6, l7, l8] r σ Q = (vRf x = true ∧ aw g 38 573 [l0, l1, l2, some (x), l4, l5, l6, l7, l8] (x :: r) σ Q) := (aw_eq g 38 572 _ _ _ _).trans (by rw [tq38_572]; exact h_load rfl)
theorem tq38_573 : tT g 38 573 = s_callk 38 576 45 [1, 0, 0, 1] 5 := rfl
theorem A38_573 {L : AL} {r : List Value} {w0 w1 w2 w3 : Value} : aw g 38 573 L (w3 :: w2 :: w1 :: w0 :: r) σ Q = ((vRf w0 && (vI w1 && (vI w2 && (vRf w3 && true)))) = true ∧ csum r ≤ 8 ∧ aw g 45 0 [some w0, some w1, some w2, some w3, none] [] σ (kt (aw g) 38 576 L r Q)) := (aw_eq g 38 573 _ _ _ _).trans (by rw [tq38_573]; exact rfl)
theorem tq38_576 : tT g 38 576 = s_store vI 38 578 6 := rfl
theorem A38_576 {l0 : Option Value} {l1 : Option Value} {l2 : Option Value} {l3 : Option Value} {l4 : Option Value} {l5 : Option Value} {l6 : Option Value} {l7 : Option Value} {l8 : Option Value} {x : Int32} {r : List Value} : aw g 38 576 [l0, l1, l2, l3, l4, l5, l6, l7, l8] (.int x :: r) σ Q = (oc l5 = true ∧ aw g 38 578 [l0, l1, l2, l3, l4, l5, some (.int x), l7, l8] r σ Q) := (aw_eq g 38 576 _ _ _ _).trans (by rw [tq38_576]; exact (h_store (o := oc l5) rfl rfl rfl).trans (propext ⟨fun z => z.2, fun z => ⟨rfl, z⟩⟩))
theorem tq38_578 : tT g 38 578 = s_load vRf 38 579 2 := rfl
theorem A38_578 {l0 : Option Value} {l1 : Option Value} {l3 : Option Value} {l4 : Option Value} {l5 : Option Value} {l6 : Option Value} {l7 : Option Value} {l8 : Option Value} {x : Value} {r : List Value} : aw g 38 578 [l0, l1, some (x), l3, l4, l5, l6, l7, l8] r σ Q = (vRf x = true ∧ aw g 38 579 [l0, l1, some (x), l3, l4, l5, l6, l7, l8] (x :: r) σ Q) := (aw_eq g 38 578 _ _ _ _).trans (by rw [tq38_578]; exact h_load rfl)
theorem tq38_579 : tT g 38 579 = s_load vRf 38 580 0 := rfl
theorem A38_579 {l1 : Option Value} {l2 : Option Value} {l3 : Option Value} {l4 : Option Value} {l5 : Option Value} {l6 : Option Value} {l7 : Option Value} {l8 : Option Value} {x : Value} {r : List Value} : aw g 38 579 [some (x), l1, l2, l3, l4, l5, l6, l7, l8] r σ Q = (vRf x = true ∧ aw g 38 580 [some (x), l1, l2, l3, l4, l5, l6, l7, l8] (x :: r) σ Q) := (aw_eq g 38 579 _ _ _ _).trans (by rw [tq38_579]; exact h_load rfl)
theorem tq38_580 : tT g 38 580 = s_load vI 38 582 5 := rfl
theorem A38_580 {l0 : Option Value} {l1 : Option Value} {l2 : Option Value} {l3 : Option Value} {l4 : Option Value} {l6 : Option Value} {l7 : Option Value} {l8 : Option Value} {x : Int32} {r : List Value} : aw g 38 580 [l0, l1, l2, l3, l4, some (.int x), l6, l7, l8] r σ Q = aw g 38 582 [l0, l1, l2, l3, l4, some (.int x), l6, l7, l8] (.int x :: r) σ Q := (aw_eq g 38 580 _ _ _ _).trans (by rw [tq38_580]; exact (h_load rfl).trans (propext ⟨fun z => z.2, fun z => ⟨rfl, z⟩⟩))
theorem tq38_582 : tT g 38 582 = s_const 38 583 (.int 1) := rfl
theorem A38_582 {L : AL} {r : List Value} : aw g 38 582 L r σ Q = aw g 38 583 L (.int 1 :: r) σ Q := (aw_eq g 38 582 _ _ _ _).trans (by rw [tq38_582]; exact rfl)
theorem tq38_583 : tT g 38 583 = s_bin 38 584 (fun a b => a + b) := rfl
theorem A38_583 {L : AL} {r : List Value} {a b : Int32} : aw g 38 583 L (.int b :: .int a :: r) σ Q = aw g 38 584 L (.int (a + b) :: r) σ Q := (aw_eq g 38 583 _ _ _ _).trans (by rw [tq38_583]; exact rfl)
theorem tq38_584 : tT g 38 584 = s_ald 38 585 27 := rfl
theorem A38_584 {L : AL} {r : List Value} {a : Nat} {i : Int32} : aw g 38 584 L (.int i :: .ref a :: r) σ Q = (hty σ a = some 27 ∧ ¬ i < 0 ∧ i.toNatClampNeg < hln σ a ∧ aw g 38 585 L (hv σ 27 a i.toNatClampNeg :: r) σ Q) := (aw_eq g 38 584 _ _ _ _).trans (by rw [tq38_584]; exact rfl)
theorem tq38_585 : tT g 38 585 = s_load vRf 38 586 0 := rfl
theorem A38_585 {l1 : Option Value} {l2 : Option Value} {l3 : Option Value} {l4 : Option Value} {l5 : Option Value} {l6 : Option Value} {l7 : Option Value} {l8 : Option Value} {x : Value} {r : List Value} : aw g 38 585 [some (x), l1, l2, l3, l4, l5, l6, l7, l8] r σ Q = (vRf x = true ∧ aw g 38 586 [some (x), l1, l2, l3, l4, l5, l6, l7, l8] (x :: r) σ Q) := (aw_eq g 38 585 _ _ _ _).trans (by rw [tq38_585]; exact h_load rfl)
theorem tq38_586 : tT g 38 586 = s_load vI 38 588 5 := rfl
theorem A38_586 {l0 : Option Value} {l1 : Option Value} {l2 : Option Value} {l3 : Option Value} {l4 : Option Value} {l6 : Option Value} {l7 : Option Value} {l8 : Option Value} {x : Int32} {r : List Value} : aw g 38 586 [l0, l1, l2, l3, l4, some (.int x), l6, l7, l8] r σ Q = aw g 38 588 [l0, l1, l2, l3, l4, some (.int x), l6, l7, l8] (.int x :: r) σ Q := (aw_eq g 38 586 _ _ _ _).trans (by rw [tq38_586]; exact (h_load rfl).trans (propext ⟨fun z => z.2, fun z => ⟨rfl, z⟩⟩))
theorem tq38_588 : tT g 38 588 = s_const 38 589 (.int 2) := rfl
theorem A38_588 {L : AL} {r : List Value} : aw g 38 588 L r σ Q = aw g 38 589 L (.int 2 :: r) σ Q := (aw_eq g 38 588 _ _ _ _).trans (by rw [tq38_588]; exact rfl)
theorem tq38_589 : tT g 38 589 = s_bin 38 590 (fun a b => a + b) := rfl
theorem A38_589 {L : AL} {r : List Value} {a b : Int32} : aw g 38 589 L (.int b :: .int a :: r) σ Q = aw g 38 590 L (.int (a + b) :: r) σ Q := (aw_eq g 38 589 _ _ _ _).trans (by rw [tq38_589]; exact rfl)
theorem tq38_590 : tT g 38 590 = s_ald 38 591 27 := rfl
theorem A38_590 {L : AL} {r : List Value} {a : Nat} {i : Int32} : aw g 38 590 L (.int i :: .ref a :: r) σ Q = (hty σ a = some 27 ∧ ¬ i < 0 ∧ i.toNatClampNeg < hln σ a ∧ aw g 38 591 L (hv σ 27 a i.toNatClampNeg :: r) σ Q) := (aw_eq g 38 590 _ _ _ _).trans (by rw [tq38_590]; exact rfl)
theorem tq38_591 : tT g 38 591 = s_callvk 38 594 150 3 [0, 0] 3 := rfl
theorem A38_591 {L : AL} {r : List Value} {a : Nat} {w0 w1 : Value} : aw g 38 591 L (w1 :: w0 :: .ref a :: r) σ Q = (hty σ a = some 3 ∧ (vI w0 && (vI w1 && true)) = true ∧ csum r ≤ 8 ∧ aw g 150 0 [some (.ref a), some w0, some w1] [] σ (kt (aw g) 38 594 L r Q)) := (aw_eq g 38 591 _ _ _ _).trans (by rw [tq38_591]; exact rfl)
theorem tq38_594 : tT g 38 594 = s_store vI 38 596 7 := rfl
theorem A38_594 {l0 : Option Value} {l1 : Option Value} {l2 : Option Value} {l3 : Option Value} {l4 : Option Value} {l5 : Option Value} {l6 : Option Value} {l7 : Option Value} {l8 : Option Value} {x : Int32} {r : List Value} : aw g 38 594 [l0, l1, l2, l3, l4, l5, l6, l7, l8] (.int x :: r) σ Q = (oc l6 = true ∧ aw g 38 596 [l0, l1, l2, l3, l4, l5, l6, some (.int x), l8] r σ Q) := (aw_eq g 38 594 _ _ _ _).trans (by rw [tq38_594]; exact (h_store (o := oc l6) rfl rfl rfl).trans (propext ⟨fun z => z.2, fun z => ⟨rfl, z⟩⟩))
theorem tq38_596 : tT g 38 596 = s_load vRf 38 597 2 := rfl
theorem A38_596 {l0 : Option Value} {l1 : Option Value} {l3 : Option Value} {l4 : Option Value} {l5 : Option Value} {l6 : Option Value} {l7 : Option Value} {l8 : Option Value} {x : Value} {r : List Value} : aw g 38 596 [l0, l1, some (x), l3, l4, l5, l6, l7, l8] r σ Q = (vRf x = true ∧ aw g 38 597 [l0, l1, some (x), l3, l4, l5, l6, l7, l8] (x :: r) σ Q) := (aw_eq g 38 596 _ _ _ _).trans (by rw [tq38_596]; exact h_load rfl)
theorem tq38_597 : tT g 38 597 = s_callvk 38 600 138 3 [] 1 := rfl
theorem A38_597 {L : AL} {r : List Value} {a : Nat} : aw g 38 597 L (.ref a :: r) σ Q = (hty σ a = some 3 ∧ true = true ∧ csum r ≤ 8 ∧ aw g 138 0 [some (.ref a)] [] σ (kt (aw g) 38 600 L r Q)) := (aw_eq g 38 597 _ _ _ _).trans (by rw [tq38_597]; exact rfl)
theorem tq38_600 : tT g 38 600 = s_load vI 38 602 6 := rfl
theorem A38_600 {l0 : Option Value} {l1 : Option Value} {l2 : Option Value} {l3 : Option Value} {l4 : Option Value} {l5 : Option Value} {l7 : Option Value} {l8 : Option Value} {x : Int32} {r : List Value} : aw g 38 600 [l0, l1, l2, l3, l4, l5, some (.int x), l7, l8] r σ Q = aw g 38 602 [l0, l1, l2, l3, l4, l5, some (.int x), l7, l8] (.int x :: r) σ Q := (aw_eq g 38 600 _ _ _ _).trans (by rw [tq38_600]; exact (h_load rfl).trans (propext ⟨fun z => z.2, fun z => ⟨rfl, z⟩⟩))
theorem tq38_602 : tT g 38 602 = s_icmp 38 605 607 (fun a b => a = b) := rfl
theorem A38_602 {L : AL} {r : List Value} {a b : Int32} : aw g 38 602 L (.int b :: .int a :: r) σ Q = ((a = b → aw g 38 607 L r σ Q) ∧ (¬ a = b → aw g 38 605 L r σ Q)) := (aw_eq g 38 602 _ _ _ _).trans (by rw [tq38_602]; exact rfl)
theorem tq38_605 : tT g 38 605 = s_const 38 606 (.int 0) := rfl
theorem A38_605 {L : AL} {r : List Value} : aw g 38 605 L r σ Q = aw g 38 606 L (.int 0 :: r) σ Q := (aw_eq g 38 605 _ _ _ _).trans (by rw [tq38_605]; exact rfl)
theorem tq38_606 : tT g 38 606 = s_ret vZ := rfl
theorem A38_606 {L : AL} {v : Value} : aw g 38 606 L [v] σ Q = (vZ v ∧ Q (.inl (some v)) σ) := (aw_eq g 38 606 _ _ _ _).trans (by rw [tq38_606]; exact rfl)
theorem tq38_607 : tT g 38 607 = s_load vI 38 609 6 := rfl
theorem A38_607 {l0 : Option Value} {l1 : Option Value} {l2 : Option Value} {l3 : Option Value} {l4 : Option Value} {l5 : Option Value} {l7 : Option Value} {l8 : Option Value} {x : Int32} {r : List Value} : aw g 38 607 [l0, l1, l2, l3, l4, l5, some (.int x), l7, l8] r σ Q = aw g 38 609 [l0, l1, l2, l3, l4, l5, some (.int x), l7, l8] (.int x :: r) σ Q := (aw_eq g 38 607 _ _ _ _).trans (by rw [tq38_607]; exact (h_load rfl).trans (propext ⟨fun z => z.2, fun z => ⟨rfl, z⟩⟩))
theorem tq38_609 : tT g 38 609 = s_if 38 624 612 (fun a => a = 0) := rfl
theorem A38_609 {L : AL} {r : List Value} {a : Int32} : aw g 38 609 L (.int a :: r) σ Q = ((a = 0 → aw g 38 612 L r σ Q) ∧ (¬ a = 0 → aw g 38 624 L r σ Q)) := (aw_eq g 38 609 _ _ _ _).trans (by rw [tq38_609]; exact rfl)
theorem tq38_612 : tT g 38 612 = s_load vRf 38 613 3 := rfl
theorem A38_612 {l0 : Option Value} {l1 : Option Value} {l2 : Option Value} {l4 : Option Value} {l5 : Option Value} {l6 : Option Value} {l7 : Option Value} {l8 : Option Value} {x : Value} {r : List Value} : aw g 38 612 [l0, l1, l2, some (x), l4, l5, l6, l7, l8] r σ Q = (vRf x = true ∧ aw g 38 613 [l0, l1, l2, some (x), l4, l5, l6, l7, l8] (x :: r) σ Q) := (aw_eq g 38 612 _ _ _ _).trans (by rw [tq38_612]; exact h_load rfl)
theorem tq38_613 : tT g 38 613 = s_const 38 614 (.int 0) := rfl
theorem A38_613 {L : AL} {r : List Value} : aw g 38 613 L r σ Q = aw g 38 614 L (.int 0 :: r) σ Q := (aw_eq g 38 613 _ _ _ _).trans (by rw [tq38_613]; exact rfl)
theorem tq38_614 : tT g 38 614 = s_ald 38 615 22 := rfl
theorem A38_614 {L : AL} {r : List Value} {a : Nat} {i : Int32} : aw g 38 614 L (.int i :: .ref a :: r) σ Q = (hty σ a = some 22 ∧ ¬ i < 0 ∧ i.toNatClampNeg < hln σ a ∧ aw g 38 615 L (hv σ 22 a i.toNatClampNeg :: r) σ Q) := (aw_eq g 38 614 _ _ _ _).trans (by rw [tq38_614]; exact rfl)
theorem tq38_615 : tT g 38 615 = s_load vI 38 617 7 := rfl
theorem A38_615 {l0 : Option Value} {l1 : Option Value} {l2 : Option Value} {l3 : Option Value} {l4 : Option Value} {l5 : Option Value} {l6 : Option Value} {l8 : Option Value} {x : Int32} {r : List Value} : aw g 38 615 [l0, l1, l2, l3, l4, l5, l6, some (.int x), l8] r σ Q = aw g 38 617 [l0, l1, l2, l3, l4, l5, l6, some (.int x), l8] (.int x :: r) σ Q := (aw_eq g 38 615 _ _ _ _).trans (by rw [tq38_615]; exact (h_load rfl).trans (propext ⟨fun z => z.2, fun z => ⟨rfl, z⟩⟩))
theorem tq38_617 : tT g 38 617 = s_i2 38 618 (fun a => .long a.toInt64) := rfl
theorem A38_617 {L : AL} {r : List Value} {a : Int32} : aw g 38 617 L (.int a :: r) σ Q = aw g 38 618 L (.long a.toInt64 :: r) σ Q := (aw_eq g 38 617 _ _ _ _).trans (by rw [tq38_617]; exact rfl)
theorem tq38_618 : tT g 38 618 = s_lbin 38 619 (fun a b => .int (lg_cmp a b)) := rfl
theorem A38_618 {L : AL} {r : List Value} {a b : Int64} : aw g 38 618 L (.long b :: .long a :: r) σ Q = aw g 38 619 L (.int (lg_cmp a b) :: r) σ Q := (aw_eq g 38 618 _ _ _ _).trans (by rw [tq38_618]; exact rfl)
theorem tq38_619 : tT g 38 619 = s_if 38 622 624 (fun a => a = 0) := rfl
theorem A38_619 {L : AL} {r : List Value} {a : Int32} : aw g 38 619 L (.int a :: r) σ Q = ((a = 0 → aw g 38 624 L r σ Q) ∧ (¬ a = 0 → aw g 38 622 L r σ Q)) := (aw_eq g 38 619 _ _ _ _).trans (by rw [tq38_619]; exact rfl)
theorem tq38_622 : tT g 38 622 = s_const 38 623 (.int 0) := rfl
theorem A38_622 {L : AL} {r : List Value} : aw g 38 622 L r σ Q = aw g 38 623 L (.int 0 :: r) σ Q := (aw_eq g 38 622 _ _ _ _).trans (by rw [tq38_622]; exact rfl)
theorem tq38_623 : tT g 38 623 = s_ret vZ := rfl
theorem A38_623 {L : AL} {v : Value} : aw g 38 623 L [v] σ Q = (vZ v ∧ Q (.inl (some v)) σ) := (aw_eq g 38 623 _ _ _ _).trans (by rw [tq38_623]; exact rfl)
theorem tq38_624 : tT g 38 624 = s_goto 38 1454 := rfl
theorem A38_624 {L : AL} {r : List Value} : aw g 38 624 L r σ Q = aw g 38 1454 L r σ Q := (aw_eq g 38 624 _ _ _ _).trans (by rw [tq38_624]; exact rfl)
theorem tq38_627 : tT g 38 627 = s_load vRf 38 628 1 := rfl
theorem A38_627 {l0 : Option Value} {l2 : Option Value} {l3 : Option Value} {l4 : Option Value} {l5 : Option Value} {l6 : Option Value} {l7 : Option Value} {l8 : Option Value} {x : Value} {r : List Value} : aw g 38 627 [l0, some (x), l2, l3, l4, l5, l6, l7, l8] r σ Q = (vRf x = true ∧ aw g 38 628 [l0, some (x), l2, l3, l4, l5, l6, l7, l8] (x :: r) σ Q) := (aw_eq g 38 627 _ _ _ _).trans (by rw [tq38_627]; exact h_load rfl)
theorem tq38_628 : tT g 38 628 = s_load vRf 38 629 0 := rfl
theorem A38_628 {l1 : Option Value} {l2 : Option Value} {l3 : Option Value} {l4 : Option Value} {l5 : Option Value} {l6 : Option Value} {l7 : Option Value} {l8 : Option Value} {x : Value} {r : List Value} : aw g 38 628 [some (x), l1, l2, l3, l4, l5, l6, l7, l8] r σ Q = (vRf x = true ∧ aw g 38 629 [some (x), l1, l2, l3, l4, l5, l6, l7, l8] (x :: r) σ Q) := (aw_eq g 38 628 _ _ _ _).trans (by rw [tq38_628]; exact h_load rfl)
theorem tq38_629 : tT g 38 629 = s_load vI 38 631 5 := rfl
theorem A38_629 {l0 : Option Value} {l1 : Option Value} {l2 : Option Value} {l3 : Option Value} {l4 : Option Value} {l6 : Option Value} {l7 : Option Value} {l8 : Option Value} {x : Int32} {r : List Value} : aw g 38 629 [l0, l1, l2, l3, l4, some (.int x), l6, l7, l8] r σ Q = aw g 38 631 [l0, l1, l2, l3, l4, some (.int x), l6, l7, l8] (.int x :: r) σ Q := (aw_eq g 38 629 _ _ _ _).trans (by rw [tq38_629]; exact (h_load rfl).trans (propext ⟨fun z => z.2, fun z => ⟨rfl, z⟩⟩))
theorem tq38_631 : tT g 38 631 = s_const 38 632 (.int 1) := rfl
theorem A38_631 {L : AL} {r : List Value} : aw g 38 631 L r σ Q = aw g 38 632 L (.int 1 :: r) σ Q := (aw_eq g 38 631 _ _ _ _).trans (by rw [tq38_631]; exact rfl)
theorem tq38_632 : tT g 38 632 = s_bin 38 633 (fun a b => a + b) := rfl
theorem A38_632 {L : AL} {r : List Value} {a b : Int32} : aw g 38 632 L (.int b :: .int a :: r) σ Q = aw g 38 633 L (.int (a + b) :: r) σ Q := (aw_eq g 38 632 _ _ _ _).trans (by rw [tq38_632]; exact rfl)
theorem tq38_633 : tT g 38 633 = s_ald 38 634 27 := rfl
theorem A38_633 {L : AL} {r : List Value} {a : Nat} {i : Int32} : aw g 38 633 L (.int i :: .ref a :: r) σ Q = (hty σ a = some 27 ∧ ¬ i < 0 ∧ i.toNatClampNeg < hln σ a ∧ aw g 38 634 L (hv σ 27 a i.toNatClampNeg :: r) σ Q) := (aw_eq g 38 633 _ _ _ _).trans (by rw [tq38_633]; exact rfl)
theorem tq38_634 : tT g 38 634 = s_load vRf 38 635 3 := rfl
theorem A38_634 {l0 : Option Value} {l1 : Option Value} {l2 : Option Value} {l4 : Option Value} {l5 : Option Value} {l6 : Option Value} {l7 : Option Value} {l8 : Option Value} {x : Value} {r : List Value} : aw g 38 634 [l0, l1, l2, some (x), l4, l5, l6, l7, l8] r σ Q = (vRf x = true ∧ aw g 38 635 [l0, l1, l2, some (x), l4, l5, l6, l7, l8] (x :: r) σ Q) := (aw_eq g 38 634 _ _ _ _).trans (by rw [tq38_634]; exact h_load rfl)
theorem tq38_635 : tT g 38 635 = s_callk 38 638 46 [1, 0, 1] 4 := rfl
theorem A38_635 {L : AL} {r : List Value} {w0 w1 w2 : Value} : aw g 38 635 L (w2 :: w1 :: w0 :: r) σ Q = ((vRf w0 && (vI w1 && (vRf w2 && true))) = true ∧ csum r ≤ 8 ∧ aw g 46 0 [some w0, some w1, some w2, none] [] σ (kt (aw g) 38 638 L r Q)) := (aw_eq g 38 635 _ _ _ _).trans (by rw [tq38_635]; exact rfl)
theorem tq38_638 : tT g 38 638 = s_store vI 38 640 6 := rfl
theorem A38_638 {l0 : Option Value} {l1 : Option Value} {l2 : Option Value} {l3 : Option Value} {l4 : Option Value} {l5 : Option Value} {l6 : Option Value} {l7 : Option Value} {l8 : Option Value} {x : Int32} {r : List Value} : aw g 38 638 [l0, l1, l2, l3, l4, l5, l6, l7, l8] (.int x :: r) σ Q = (oc l5 = true ∧ aw g 38 640 [l0, l1, l2, l3, l4, l5, some (.int x), l7, l8] r σ Q) := (aw_eq g 38 638 _ _ _ _).trans (by rw [tq38_638]; exact (h_store (o := oc l5) rfl rfl rfl).trans (propext ⟨fun z => z.2, fun z => ⟨rfl, z⟩⟩))
theorem tq38_640 : tT g 38 640 = s_load vRf 38 641 2 := rfl
theorem A38_640 {l0 : Option Value} {l1 : Option Value} {l3 : Option Value} {l4 : Option Value} {l5 : Option Value} {l6 : Option Value} {l7 : Option Value} {l8 : Option Value} {x : Value} {r : List Value} : aw g 38 640 [l0, l1, some (x), l3, l4, l5, l6, l7, l8] r σ Q = (vRf x = true ∧ aw g 38 641 [l0, l1, some (x), l3, l4, l5, l6, l7, l8] (x :: r) σ Q) := (aw_eq g 38 640 _ _ _ _).trans (by rw [tq38_640]; exact h_load rfl)
theorem tq38_641 : tT g 38 641 = s_load vRf 38 642 0 := rfl
theorem A38_641 {l1 : Option Value} {l2 : Option Value} {l3 : Option Value} {l4 : Option Value} {l5 : Option Value} {l6 : Option Value} {l7 : Option Value} {l8 : Option Value} {x : Value} {r : List Value} : aw g 38 641 [some (x), l1, l2, l3, l4, l5, l6, l7, l8] r σ Q = (vRf x = true ∧ aw g 38 642 [some (x), l1, l2, l3, l4, l5, l6, l7, l8] (x :: r) σ Q) := (aw_eq g 38 641 _ _ _ _).trans (by rw [tq38_641]; exact h_load rfl)
theorem tq38_642 : tT g 38 642 = s_load vI 38 644 5 := rfl
theorem A38_642 {l0 : Option Value} {l1 : Option Value} {l2 : Option Value} {l3 : Option Value} {l4 : Option Value} {l6 : Option Value} {l7 : Option Value} {l8 : Option Value} {x : Int32} {r : List Value} : aw g 38 642 [l0, l1, l2, l3, l4, some (.int x), l6, l7, l8] r σ Q = aw g 38 644 [l0, l1, l2, l3, l4, some (.int x), l6, l7, l8] (.int x :: r) σ Q := (aw_eq g 38 642 _ _ _ _).trans (by rw [tq38_642]; exact (h_load rfl).trans (propext ⟨fun z => z.2, fun z => ⟨rfl, z⟩⟩))
theorem tq38_644 : tT g 38 644 = s_const 38 645 (.int 1) := rfl
theorem A38_644 {L : AL} {r : List Value} : aw g 38 644 L r σ Q = aw g 38 645 L (.int 1 :: r) σ Q := (aw_eq g 38 644 _ _ _ _).trans (by rw [tq38_644]; exact rfl)
theorem tq38_645 : tT g 38 645 = s_bin 38 646 (fun a b => a + b) := rfl
theorem A38_645 {L : AL} {r : List Value} {a b : Int32} : aw g 38 645 L (.int b :: .int a :: r) σ Q = aw g 38 646 L (.int (a + b) :: r) σ Q := (aw_eq g 38 645 _ _ _ _).trans (by rw [tq38_645]; exact rfl)
theorem tq38_646 : tT g 38 646 = s_ald 38 647 27 := rfl
theorem A38_646 {L : AL} {r : List Value} {a : Nat} {i : Int32} : aw g 38 646 L (.int i :: .ref a :: r) σ Q = (hty σ a = some 27 ∧ ¬ i < 0 ∧ i.toNatClampNeg < hln σ a ∧ aw g 38 647 L (hv σ 27 a i.toNatClampNeg :: r) σ Q) := (aw_eq g 38 646 _ _ _ _).trans (by rw [tq38_646]; exact rfl)
theorem tq38_647 : tT g 38 647 = s_callvk 38 650 153 3 [0] 4 := rfl
theorem A38_647 {L : AL} {r : List Value} {a : Nat} {w0 : Value} : aw g 38 647 L (w0 :: .ref a :: r) σ Q = (hty σ a = some 3 ∧ (vI w0 && true) = true ∧ csum r ≤ 8 ∧ aw g 153 0 [some (.ref a), some w0, none, none] [] σ (kt (aw g) 38 650 L r Q)) := (aw_eq g 38 647 _ _ _ _).trans (by rw [tq38_647]; exact rfl)
theorem tq38_650 : tT g 38 650 = s_store vI 38 652 7 := rfl
theorem A38_650 {l0 : Option Value} {l1 : Option Value} {l2 : Option Value} {l3 : Option Value} {l4 : Option Value} {l5 : Option Value} {l6 : Option Value} {l7 : Option Value} {l8 : Option Value} {x : Int32} {r : List Value} : aw g 38 650 [l0, l1, l2, l3, l4, l5, l6, l7, l8] (.int x :: r) σ Q = (oc l6 = true ∧ aw g 38 652 [l0, l1, l2, l3, l4, l5, l6, some (.int x), l8] r σ Q) := (aw_eq g 38 650 _ _ _ _).trans (by rw [tq38_650]; exact (h_store (o := oc l6) rfl rfl rfl).trans (propext ⟨fun z => z.2, fun z => ⟨rfl, z⟩⟩))
theorem tq38_652 : tT g 38 652 = s_load vRf 38 653 2 := rfl
theorem A38_652 {l0 : Option Value} {l1 : Option Value} {l3 : Option Value} {l4 : Option Value} {l5 : Option Value} {l6 : Option Value} {l7 : Option Value} {l8 : Option Value} {x : Value} {r : List Value} : aw g 38 652 [l0, l1, some (x), l3, l4, l5, l6, l7, l8] r σ Q = (vRf x = true ∧ aw g 38 653 [l0, l1, some (x), l3, l4, l5, l6, l7, l8] (x :: r) σ Q) := (aw_eq g 38 652 _ _ _ _).trans (by rw [tq38_652]; exact h_load rfl)
theorem tq38_653 : tT g 38 653 = s_callvk 38 656 138 3 [] 1 := rfl
theorem A38_653 {L : AL} {r : List Value} {a : Nat} : aw g 38 653 L (.ref a :: r) σ Q = (hty σ a = some 3 ∧ true = true ∧ csum r ≤ 8 ∧ aw g 138 0 [some (.ref a)] [] σ (kt (aw g) 38 656 L r Q)) := (aw_eq g 38 653 _ _ _ _).trans (by rw [tq38_653]; exact rfl)
theorem tq38_656 : tT g 38 656 = s_load vI 38 658 6 := rfl
theorem A38_656 {l0 : Option Value} {l1 : Option Value} {l2 : Option Value} {l3 : Option Value} {l4 : Option Value} {l5 : Option Value} {l7 : Option Value} {l8 : Option Value} {x : Int32} {r : List Value} : aw g 38 656 [l0, l1, l2, l3, l4, l5, some (.int x), l7, l8] r σ Q = aw g 38 658 [l0, l1, l2, l3, l4, l5, some (.int x), l7, l8] (.int x :: r) σ Q := (aw_eq g 38 656 _ _ _ _).trans (by rw [tq38_656]; exact (h_load rfl).trans (propext ⟨fun z => z.2, fun z => ⟨rfl, z⟩⟩))
theorem tq38_658 : tT g 38 658 = s_icmp 38 661 663 (fun a b => a = b) := rfl
theorem A38_658 {L : AL} {r : List Value} {a b : Int32} : aw g 38 658 L (.int b :: .int a :: r) σ Q = ((a = b → aw g 38 663 L r σ Q) ∧ (¬ a = b → aw g 38 661 L r σ Q)) := (aw_eq g 38 658 _ _ _ _).trans (by rw [tq38_658]; exact rfl)
theorem tq38_661 : tT g 38 661 = s_const 38 662 (.int 0) := rfl
theorem A38_661 {L : AL} {r : List Value} : aw g 38 661 L r σ Q = aw g 38 662 L (.int 0 :: r) σ Q := (aw_eq g 38 661 _ _ _ _).trans (by rw [tq38_661]; exact rfl)
theorem tq38_662 : tT g 38 662 = s_ret vZ := rfl
theorem A38_662 {L : AL} {v : Value} : aw g 38 662 L [v] σ Q = (vZ v ∧ Q (.inl (some v)) σ) := (aw_eq g 38 662 _ _ _ _).trans (by rw [tq38_662]; exact rfl)
theorem tq38_663 : tT g 38 663 = s_load vI 38 665 6 := rfl
theorem A38_663 {l0 : Option Value} {l1 : Option Value} {l2 : Option Value} {l3 : Option Value} {l4 : Option Value} {l5 : Option Value} {l7 : Option Value} {l8 : Option Value} {x : Int32} {r : List Value} : aw g 38 663 [l0, l1, l2, l3, l4, l5, some (.int x), l7, l8] r σ Q = aw g 38 665 [l0, l1, l2, l3, l4, l5, some (.int x), l7, l8] (.int x :: r) σ Q := (aw_eq g 38 663 _ _ _ _).trans (by rw [tq38_663]; exact (h_load rfl).trans (propext ⟨fun z => z.2, fun z => ⟨rfl, z⟩⟩))
theorem tq38_665 : tT g 38 665 = s_if 38 680 668 (fun a => a = 0) := rfl
theorem A38_665 {L : AL} {r : List Value} {a : Int32} : aw g 38 665 L (.int a :: r) σ Q = ((a = 0 → aw g 38 668 L r σ Q) ∧ (¬ a = 0 → aw g 38 680 L r σ Q)) := (aw_eq g 38 665 _ _ _ _).trans (by rw [tq38_665]; exact rfl)
theorem tq38_668 : tT g 38 668 = s_load vRf 38 669 3 := rfl
theorem A38_668 {l0 : Option Value} {l1 : Option Value} {l2 : Option Value} {l4 : Option Value} {l5 : Option Value} {l6 : Option Value} {l7 : Option Value} {l8 : Option Value} {x : Value} {r : List Value} : aw g 38 668 [l0, l1, l2, some (x), l4, l5, l6, l7, l8] r σ Q = (vRf x = true ∧ aw g 38 669 [l0, l1, l2, some (x), l4, l5, l6, l7, l8] (x :: r) σ Q) := (aw_eq g 38 668 _ _ _ _).trans (by rw [tq38_668]; exact h_load rfl)
theorem tq38_669 : tT g 38 669 = s_const 38 670 (.int 0) := rfl
theorem A38_669 {L : AL} {r : List Value} : aw g 38 669 L r σ Q = aw g 38 670 L (.int 0 :: r) σ Q := (aw_eq g 38 669 _ _ _ _).trans (by rw [tq38_669]; exact rfl)
theorem tq38_670 : tT g 38 670 = s_ald 38 671 22 := rfl
theorem A38_670 {L : AL} {r : List Value} {a : Nat} {i : Int32} : aw g 38 670 L (.int i :: .ref a :: r) σ Q = (hty σ a = some 22 ∧ ¬ i < 0 ∧ i.toNatClampNeg < hln σ a ∧ aw g 38 671 L (hv σ 22 a i.toNatClampNeg :: r) σ Q) := (aw_eq g 38 670 _ _ _ _).trans (by rw [tq38_670]; exact rfl)
theorem tq38_671 : tT g 38 671 = s_load vI 38 673 7 := rfl
theorem A38_671 {l0 : Option Value} {l1 : Option Value} {l2 : Option Value} {l3 : Option Value} {l4 : Option Value} {l5 : Option Value} {l6 : Option Value} {l8 : Option Value} {x : Int32} {r : List Value} : aw g 38 671 [l0, l1, l2, l3, l4, l5, l6, some (.int x), l8] r σ Q = aw g 38 673 [l0, l1, l2, l3, l4, l5, l6, some (.int x), l8] (.int x :: r) σ Q := (aw_eq g 38 671 _ _ _ _).trans (by rw [tq38_671]; exact (h_load rfl).trans (propext ⟨fun z => z.2, fun z => ⟨rfl, z⟩⟩))
theorem tq38_673 : tT g 38 673 = s_i2 38 674 (fun a => .long a.toInt64) := rfl
theorem A38_673 {L : AL} {r : List Value} {a : Int32} : aw g 38 673 L (.int a :: r) σ Q = aw g 38 674 L (.long a.toInt64 :: r) σ Q := (aw_eq g 38 673 _ _ _ _).trans (by rw [tq38_673]; exact rfl)
theorem tq38_674 : tT g 38 674 = s_lbin 38 675 (fun a b => .int (lg_cmp a b)) := rfl
theorem A38_674 {L : AL} {r : List Value} {a b : Int64} : aw g 38 674 L (.long b :: .long a :: r) σ Q = aw g 38 675 L (.int (lg_cmp a b) :: r) σ Q := (aw_eq g 38 674 _ _ _ _).trans (by rw [tq38_674]; exact rfl)
theorem tq38_675 : tT g 38 675 = s_if 38 678 680 (fun a => a = 0) := rfl
theorem A38_675 {L : AL} {r : List Value} {a : Int32} : aw g 38 675 L (.int a :: r) σ Q = ((a = 0 → aw g 38 680 L r σ Q) ∧ (¬ a = 0 → aw g 38 678 L r σ Q)) := (aw_eq g 38 675 _ _ _ _).trans (by rw [tq38_675]; exact rfl)
theorem tq38_678 : tT g 38 678 = s_const 38 679 (.int 0) := rfl
theorem A38_678 {L : AL} {r : List Value} : aw g 38 678 L r σ Q = aw g 38 679 L (.int 0 :: r) σ Q := (aw_eq g 38 678 _ _ _ _).trans (by rw [tq38_678]; exact rfl)
theorem tq38_679 : tT g 38 679 = s_ret vZ := rfl
theorem A38_679 {L : AL} {v : Value} : aw g 38 679 L [v] σ Q = (vZ v ∧ Q (.inl (some v)) σ) := (aw_eq g 38 679 _ _ _ _).trans (by rw [tq38_679]; exact rfl)
theorem tq38_680 : tT g 38 680 = s_goto 38 1454 := rfl
theorem A38_680 {L : AL} {r : List Value} : aw g 38 680 L r σ Q = aw g 38 1454 L r σ Q := (aw_eq g 38 680 _ _ _ _).trans (by rw [tq38_680]; exact rfl)
theorem tq38_683 : tT g 38 683 = s_load vRf 38 684 1 := rfl
theorem A38_683 {l0 : Option Value} {l2 : Option Value} {l3 : Option Value} {l4 : Option Value} {l5 : Option Value} {l6 : Option Value} {l7 : Option Value} {l8 : Option Value} {x : Value} {r : List Value} : aw g 38 683 [l0, some (x), l2, l3, l4, l5, l6, l7, l8] r σ Q = (vRf x = true ∧ aw g 38 684 [l0, some (x), l2, l3, l4, l5, l6, l7, l8] (x :: r) σ Q) := (aw_eq g 38 683 _ _ _ _).trans (by rw [tq38_683]; exact h_load rfl)
theorem tq38_684 : tT g 38 684 = s_load vRf 38 685 0 := rfl
theorem A38_684 {l1 : Option Value} {l2 : Option Value} {l3 : Option Value} {l4 : Option Value} {l5 : Option Value} {l6 : Option Value} {l7 : Option Value} {l8 : Option Value} {x : Value} {r : List Value} : aw g 38 684 [some (x), l1, l2, l3, l4, l5, l6, l7, l8] r σ Q = (vRf x = true ∧ aw g 38 685 [some (x), l1, l2, l3, l4, l5, l6, l7, l8] (x :: r) σ Q) := (aw_eq g 38 684 _ _ _ _).trans (by rw [tq38_684]; exact h_load rfl)
theorem tq38_685 : tT g 38 685 = s_load vI 38 687 5 := rfl
theorem A38_685 {l0 : Option Value} {l1 : Option Value} {l2 : Option Value} {l3 : Option Value} {l4 : Option Value} {l6 : Option Value} {l7 : Option Value} {l8 : Option Value} {x : Int32} {r : List Value} : aw g 38 685 [l0, l1, l2, l3, l4, some (.int x), l6, l7, l8] r σ Q = aw g 38 687 [l0, l1, l2, l3, l4, some (.int x), l6, l7, l8] (.int x :: r) σ Q := (aw_eq g 38 685 _ _ _ _).trans (by rw [tq38_685]; exact (h_load rfl).trans (propext ⟨fun z => z.2, fun z => ⟨rfl, z⟩⟩))
theorem tq38_687 : tT g 38 687 = s_const 38 688 (.int 1) := rfl
theorem A38_687 {L : AL} {r : List Value} : aw g 38 687 L r σ Q = aw g 38 688 L (.int 1 :: r) σ Q := (aw_eq g 38 687 _ _ _ _).trans (by rw [tq38_687]; exact rfl)
theorem tq38_688 : tT g 38 688 = s_bin 38 689 (fun a b => a + b) := rfl
theorem A38_688 {L : AL} {r : List Value} {a b : Int32} : aw g 38 688 L (.int b :: .int a :: r) σ Q = aw g 38 689 L (.int (a + b) :: r) σ Q := (aw_eq g 38 688 _ _ _ _).trans (by rw [tq38_688]; exact rfl)
theorem tq38_689 : tT g 38 689 = s_ald 38 690 27 := rfl
theorem A38_689 {L : AL} {r : List Value} {a : Nat} {i : Int32} : aw g 38 689 L (.int i :: .ref a :: r) σ Q = (hty σ a = some 27 ∧ ¬ i < 0 ∧ i.toNatClampNeg < hln σ a ∧ aw g 38 690 L (hv σ 27 a i.toNatClampNeg :: r) σ Q) := (aw_eq g 38 689 _ _ _ _).trans (by rw [tq38_689]; exact rfl)
theorem tq38_690 : tT g 38 690 = s_load vRf 38 691 3 := rfl
theorem A38_690 {l0 : Option Value} {l1 : Option Value} {l2 : Option Value} {l4 : Option Value} {l5 : Option Value} {l6 : Option Value} {l7 : Option Value} {l8 : Option Value} {x : Value} {r : List Value} : aw g 38 690 [l0, l1, l2, some (x), l4, l5, l6, l7, l8] r σ Q = (vRf x = true ∧ aw g 38 691 [l0, l1, l2, some (x), l4, l5, l6, l7, l8] (x :: r) σ Q) := (aw_eq g 38 690 _ _ _ _).trans (by rw [tq38_690]; exact h_load rfl)
theorem tq38_691 : tT g 38 691 = s_callk 38 694 47 [1, 0, 1] 4 := rfl
theorem A38_691 {L : AL} {r : List Value} {w0 w1 w2 : Value} : aw g 38 691 L (w2 :: w1 :: w0 :: r) σ Q = ((vRf w0 && (vI w1 && (vRf w2 && true))) = true ∧ csum r ≤ 8 ∧ aw g 47 0 [some w0, some w1, some w2, none] [] σ (kt (aw g) 38 694 L r Q)) := (aw_eq g 38 691 _ _ _ _).trans (by rw [tq38_691]; exact rfl)
theorem tq38_694 : tT g 38 694 = s_store vI 38 696 6 := rfl
theorem A38_694 {l0 : Option Value} {l1 : Option Value} {l2 : Option Value} {l3 : Option Value} {l4 : Option Value} {l5 : Option Value} {l6 : Option Value} {l7 : Option Value} {l8 : Option Value} {x : Int32} {r : List Value} : aw g 38 694 [l0, l1, l2, l3, l4, l5, l6, l7, l8] (.int x :: r) σ Q = (oc l5 = true ∧ aw g 38 696 [l0, l1, l2, l3, l4, l5, some (.int x), l7, l8] r σ Q) := (aw_eq g 38 694 _ _ _ _).trans (by rw [tq38_694]; exact (h_store (o := oc l5) rfl rfl rfl).trans (propext ⟨fun z => z.2, fun z => ⟨rfl, z⟩⟩))
theorem tq38_696 : tT g 38 696 = s_load vRf 38 697 2 := rfl
theorem A38_696 {l0 : Option Value} {l1 : Option Value} {l3 : Option Value} {l4 : Option Value} {l5 : Option Value} {l6 : Option Value} {l7 : Option Value} {l8 : Option Value} {x : Value} {r : List Value} : aw g 38 696 [l0, l1, some (x), l3, l4, l5, l6, l7, l8] r σ Q = (vRf x = true ∧ aw g 38 697 [l0, l1, some (x), l3, l4, l5, l6, l7, l8] (x :: r) σ Q) := (aw_eq g 38 696 _ _ _ _).trans (by rw [tq38_696]; exact h_load rfl)
theorem tq38_697 : tT g 38 697 = s_load vRf 38 698 0 := rfl
theorem A38_697 {l1 : Option Value} {l2 : Option Value} {l3 : Option Value} {l4 : Option Value} {l5 : Option Value} {l6 : Option Value} {l7 : Option Value} {l8 : Option Value} {x : Value} {r : List Value} : aw g 38 697 [some (x), l1, l2, l3, l4, l5, l6, l7, l8] r σ Q = (vRf x = true ∧ aw g 38 698 [some (x), l1, l2, l3, l4, l5, l6, l7, l8] (x :: r) σ Q) := (aw_eq g 38 697 _ _ _ _).trans (by rw [tq38_697]; exact h_load rfl)
theorem tq38_698 : tT g 38 698 = s_load vI 38 700 5 := rfl
theorem A38_698 {l0 : Option Value} {l1 : Option Value} {l2 : Option Value} {l3 : Option Value} {l4 : Option Value} {l6 : Option Value} {l7 : Option Value} {l8 : Option Value} {x : Int32} {r : List Value} : aw g 38 698 [l0, l1, l2, l3, l4, some (.int x), l6, l7, l8] r σ Q = aw g 38 700 [l0, l1, l2, l3, l4, some (.int x), l6, l7, l8] (.int x :: r) σ Q := (aw_eq g 38 698 _ _ _ _).trans (by rw [tq38_698]; exact (h_load rfl).trans (propext ⟨fun z => z.2, fun z => ⟨rfl, z⟩⟩))
theorem tq38_700 : tT g 38 700 = s_const 38 701 (.int 1) := rfl
theorem A38_700 {L : AL} {r : List Value} : aw g 38 700 L r σ Q = aw g 38 701 L (.int 1 :: r) σ Q := (aw_eq g 38 700 _ _ _ _).trans (by rw [tq38_700]; exact rfl)
theorem tq38_701 : tT g 38 701 = s_bin 38 702 (fun a b => a + b) := rfl
theorem A38_701 {L : AL} {r : List Value} {a b : Int32} : aw g 38 701 L (.int b :: .int a :: r) σ Q = aw g 38 702 L (.int (a + b) :: r) σ Q := (aw_eq g 38 701 _ _ _ _).trans (by rw [tq38_701]; exact rfl)
theorem tq38_702 : tT g 38 702 = s_ald 38 703 27 := rfl
theorem A38_702 {L : AL} {r : List Value} {a : Nat} {i : Int32} : aw g 38 702 L (.int i :: .ref a :: r) σ Q = (hty σ a = some 27 ∧ ¬ i < 0 ∧ i.toNatClampNeg < hln σ a ∧ aw g 38 703 L (hv σ 27 a i.toNatClampNeg :: r) σ Q) := (aw_eq g 38 702 _ _ _ _).trans (by rw [tq38_702]; exact rfl)
theorem tq38_703 : tT g 38 703 = s_callvk 38 706 154 3 [0] 4 := rfl
theorem A38_703 {L : AL} {r : List Value} {a : Nat} {w0 : Value} : aw g 38 703 L (w0 :: .ref a :: r) σ Q = (hty σ a = some 3 ∧ (vI w0 && true) = true ∧ csum r ≤ 8 ∧ aw g 154 0 [some (.ref a), some w0, none, none] [] σ (kt (aw g) 38 706 L r Q)) := (aw_eq g 38 703 _ _ _ _).trans (by rw [tq38_703]; exact rfl)
theorem tq38_706 : tT g 38 706 = s_store vI 38 708 7 := rfl
theorem A38_706 {l0 : Option Value} {l1 : Option Value} {l2 : Option Value} {l3 : Option Value} {l4 : Option Value} {l5 : Option Value} {l6 : Option Value} {l7 : Option Value} {l8 : Option Value} {x : Int32} {r : List Value} : aw g 38 706 [l0, l1, l2, l3, l4, l5, l6, l7, l8] (.int x :: r) σ Q = (oc l6 = true ∧ aw g 38 708 [l0, l1, l2, l3, l4, l5, l6, some (.int x), l8] r σ Q) := (aw_eq g 38 706 _ _ _ _).trans (by rw [tq38_706]; exact (h_store (o := oc l6) rfl rfl rfl).trans (propext ⟨fun z => z.2, fun z => ⟨rfl, z⟩⟩))
theorem tq38_708 : tT g 38 708 = s_load vRf 38 709 2 := rfl
theorem A38_708 {l0 : Option Value} {l1 : Option Value} {l3 : Option Value} {l4 : Option Value} {l5 : Option Value} {l6 : Option Value} {l7 : Option Value} {l8 : Option Value} {x : Value} {r : List Value} : aw g 38 708 [l0, l1, some (x), l3, l4, l5, l6, l7, l8] r σ Q = (vRf x = true ∧ aw g 38 709 [l0, l1, some (x), l3, l4, l5, l6, l7, l8] (x :: r) σ Q) := (aw_eq g 38 708 _ _ _ _).trans (by rw [tq38_708]; exact h_load rfl)
theorem tq38_709 : tT g 38 709 = s_callvk 38 712 138 3 [] 1 := rfl
theorem A38_709 {L : AL} {r : List Value} {a : Nat} : aw g 38 709 L (.ref a :: r) σ Q = (hty σ a = some 3 ∧ true = true ∧ csum r ≤ 8 ∧ aw g 138 0 [some (.ref a)] [] σ (kt (aw g) 38 712 L r Q)) := (aw_eq g 38 709 _ _ _ _).trans (by rw [tq38_709]; exact rfl)
theorem tq38_712 : tT g 38 712 = s_load vI 38 714 6 := rfl
theorem A38_712 {l0 : Option Value} {l1 : Option Value} {l2 : Option Value} {l3 : Option Value} {l4 : Option Value} {l5 : Option Value} {l7 : Option Value} {l8 : Option Value} {x : Int32} {r : List Value} : aw g 38 712 [l0, l1, l2, l3, l4, l5, some (.int x), l7, l8] r σ Q = aw g 38 714 [l0, l1, l2, l3, l4, l5, some (.int x), l7, l8] (.int x :: r) σ Q := (aw_eq g 38 712 _ _ _ _).trans (by rw [tq38_712]; exact (h_load rfl).trans (propext ⟨fun z => z.2, fun z => ⟨rfl, z⟩⟩))
theorem tq38_714 : tT g 38 714 = s_icmp 38 717 719 (fun a b => a = b) := rfl
theorem A38_714 {L : AL} {r : List Value} {a b : Int32} : aw g 38 714 L (.int b :: .int a :: r) σ Q = ((a = b → aw g 38 719 L r σ Q) ∧ (¬ a = b → aw g 38 717 L r σ Q)) := (aw_eq g 38 714 _ _ _ _).trans (by rw [tq38_714]; exact rfl)
theorem tq38_717 : tT g 38 717 = s_const 38 718 (.int 0) := rfl
theorem A38_717 {L : AL} {r : List Value} : aw g 38 717 L r σ Q = aw g 38 718 L (.int 0 :: r) σ Q := (aw_eq g 38 717 _ _ _ _).trans (by rw [tq38_717]; exact rfl)
theorem tq38_718 : tT g 38 718 = s_ret vZ := rfl
theorem A38_718 {L : AL} {v : Value} : aw g 38 718 L [v] σ Q = (vZ v ∧ Q (.inl (some v)) σ) := (aw_eq g 38 718 _ _ _ _).trans (by rw [tq38_718]; exact rfl)
theorem tq38_719 : tT g 38 719 = s_load vI 38 721 6 := rfl
theorem A38_719 {l0 : Option Value} {l1 : Option Value} {l2 : Option Value} {l3 : Option Value} {l4 : Option Value} {l5 : Option Value} {l7 : Option Value} {l8 : Option Value} {x : Int32} {r : List Value} : aw g 38 719 [l0, l1, l2, l3, l4, l5, some (.int x), l7, l8] r σ Q = aw g 38 721 [l0, l1, l2, l3, l4, l5, some (.int x), l7, l8] (.int x :: r) σ Q := (aw_eq g 38 719 _ _ _ _).trans (by rw [tq38_719]; exact (h_load rfl).trans (propext ⟨fun z => z.2, fun z => ⟨rfl, z⟩⟩))
theorem tq38_721 : tT g 38 721 = s_if 38 736 724 (fun a => a = 0) := rfl
theorem A38_721 {L : AL} {r : List Value} {a : Int32} : aw g 38 721 L (.int a :: r) σ Q = ((a = 0 → aw g 38 724 L r σ Q) ∧ (¬ a = 0 → aw g 38 736 L r σ Q)) := (aw_eq g 38 721 _ _ _ _).trans (by rw [tq38_721]; exact rfl)
theorem tq38_724 : tT g 38 724 = s_load vRf 38 725 3 := rfl
theorem A38_724 {l0 : Option Value} {l1 : Option Value} {l2 : Option Value} {l4 : Option Value} {l5 : Option Value} {l6 : Option Value} {l7 : Option Value} {l8 : Option Value} {x : Value} {r : List Value} : aw g 38 724 [l0, l1, l2, some (x), l4, l5, l6, l7, l8] r σ Q = (vRf x = true ∧ aw g 38 725 [l0, l1, l2, some (x), l4, l5, l6, l7, l8] (x :: r) σ Q) := (aw_eq g 38 724 _ _ _ _).trans (by rw [tq38_724]; exact h_load rfl)
theorem tq38_725 : tT g 38 725 = s_const 38 726 (.int 0) := rfl
theorem A38_725 {L : AL} {r : List Value} : aw g 38 725 L r σ Q = aw g 38 726 L (.int 0 :: r) σ Q := (aw_eq g 38 725 _ _ _ _).trans (by rw [tq38_725]; exact rfl)
theorem tq38_726 : tT g 38 726 = s_ald 38 727 22 := rfl
theorem A38_726 {L : AL} {r : List Value} {a : Nat} {i : Int32} : aw g 38 726 L (.int i :: .ref a :: r) σ Q = (hty σ a = some 22 ∧ ¬ i < 0 ∧ i.toNatClampNeg < hln σ a ∧ aw g 38 727 L (hv σ 22 a i.toNatClampNeg :: r) σ Q) := (aw_eq g 38 726 _ _ _ _).trans (by rw [tq38_726]; exact rfl)
theorem tq38_727 : tT g 38 727 = s_load vI 38 729 7 := rfl
theorem A38_727 {l0 : Option Value} {l1 : Option Value} {l2 : Option Value} {l3 : Option Value} {l4 : Option Value} {l5 : Option Value} {l6 : Option Value} {l8 : Option Value} {x : Int32} {r : List Value} : aw g 38 727 [l0, l1, l2, l3, l4, l5, l6, some (.int x), l8] r σ Q = aw g 38 729 [l0, l1, l2, l3, l4, l5, l6, some (.int x), l8] (.int x :: r) σ Q := (aw_eq g 38 727 _ _ _ _).trans (by rw [tq38_727]; exact (h_load rfl).trans (propext ⟨fun z => z.2, fun z => ⟨rfl, z⟩⟩))
theorem tq38_729 : tT g 38 729 = s_i2 38 730 (fun a => .long a.toInt64) := rfl
theorem A38_729 {L : AL} {r : List Value} {a : Int32} : aw g 38 729 L (.int a :: r) σ Q = aw g 38 730 L (.long a.toInt64 :: r) σ Q := (aw_eq g 38 729 _ _ _ _).trans (by rw [tq38_729]; exact rfl)
theorem tq38_730 : tT g 38 730 = s_lbin 38 731 (fun a b => .int (lg_cmp a b)) := rfl
theorem A38_730 {L : AL} {r : List Value} {a b : Int64} : aw g 38 730 L (.long b :: .long a :: r) σ Q = aw g 38 731 L (.int (lg_cmp a b) :: r) σ Q := (aw_eq g 38 730 _ _ _ _).trans (by rw [tq38_730]; exact rfl)
theorem tq38_731 : tT g 38 731 = s_if 38 734 736 (fun a => a = 0) := rfl
theorem A38_731 {L : AL} {r : List Value} {a : Int32} : aw g 38 731 L (.int a :: r) σ Q = ((a = 0 → aw g 38 736 L r σ Q) ∧ (¬ a = 0 → aw g 38 734 L r σ Q)) := (aw_eq g 38 731 _ _ _ _).trans (by rw [tq38_731]; exact rfl)
theorem tq38_734 : tT g 38 734 = s_const 38 735 (.int 0) := rfl
theorem A38_734 {L : AL} {r : List Value} : aw g 38 734 L r σ Q = aw g 38 735 L (.int 0 :: r) σ Q := (aw_eq g 38 734 _ _ _ _).trans (by rw [tq38_734]; exact rfl)
theorem tq38_735 : tT g 38 735 = s_ret vZ := rfl
theorem A38_735 {L : AL} {v : Value} : aw g 38 735 L [v] σ Q = (vZ v ∧ Q (.inl (some v)) σ) := (aw_eq g 38 735 _ _ _ _).trans (by rw [tq38_735]; exact rfl)
theorem tq38_736 : tT g 38 736 = s_goto 38 1454 := rfl
theorem A38_736 {L : AL} {r : List Value} : aw g 38 736 L r σ Q = aw g 38 1454 L r σ Q := (aw_eq g 38 736 _ _ _ _).trans (by rw [tq38_736]; exact rfl)
theorem tq38_739 : tT g 38 739 = s_load vRf 38 740 1 := rfl
theorem A38_739 {l0 : Option Value} {l2 : Option Value} {l3 : Option Value} {l4 : Option Value} {l5 : Option Value} {l6 : Option Value} {l7 : Option Value} {l8 : Option Value} {x : Value} {r : List Value} : aw g 38 739 [l0, some (x), l2, l3, l4, l5, l6, l7, l8] r σ Q = (vRf x = true ∧ aw g 38 740 [l0, some (x), l2, l3, l4, l5, l6, l7, l8] (x :: r) σ Q) := (aw_eq g 38 739 _ _ _ _).trans (by rw [tq38_739]; exact h_load rfl)
theorem tq38_740 : tT g 38 740 = s_load vRf 38 741 0 := rfl
theorem A38_740 {l1 : Option Value} {l2 : Option Value} {l3 : Option Value} {l4 : Option Value} {l5 : Option Value} {l6 : Option Value} {l7 : Option Value} {l8 : Option Value} {x : Value} {r : List Value} : aw g 38 740 [some (x), l1, l2, l3, l4, l5, l6, l7, l8] r σ Q = (vRf x = true ∧ aw g 38 741 [some (x), l1, l2, l3, l4, l5, l6, l7, l8] (x :: r) σ Q) := (aw_eq g 38 740 _ _ _ _).trans (by rw [tq38_740]; exact h_load rfl)
theorem tq38_741 : tT g 38 741 = s_load vI 38 743 5 := rfl
theorem A38_741 {l0 : Option Value} {l1 : Option Value} {l2 : Option Value} {l3 : Option Value} {l4 : Option Value} {l6 : Option Value} {l7 : Option Value} {l8 : Option Value} {x : Int32} {r : List Value} : aw g 38 741 [l0, l1, l2, l3, l4, some (.int x), l6, l7, l8] r σ Q = aw g 38 743 [l0, l1, l2, l3, l4, some (.int x), l6, l7, l8] (.int x :: r) σ Q := (aw_eq g 38 741 _ _ _ _).trans (by rw [tq38_741]; exact (h_load rfl).trans (propext ⟨fun z => z.2, fun z => ⟨rfl, z⟩⟩))
theorem tq38_743 : tT g 38 743 = s_const 38 744 (.int 1) := rfl
theorem A38_743 {L : AL} {r : List Value} : aw g 38 743 L r σ Q = aw g 38 744 L (.int 1 :: r) σ Q := (aw_eq g 38 743 _ _ _ _).trans (by rw [tq38_743]; exact rfl)
theorem tq38_744 : tT g 38 744 = s_bin 38 745 (fun a b => a + b) := rfl
theorem A38_744 {L : AL} {r : List Value} {a b : Int32} : aw g 38 744 L (.int b :: .int a :: r) σ Q = aw g 38 745 L (.int (a + b) :: r) σ Q := (aw_eq g 38 744 _ _ _ _).trans (by rw [tq38_744]; exact rfl)
theorem tq38_745 : tT g 38 745 = s_ald 38 746 27 := rfl
theorem A38_745 {L : AL} {r : List Value} {a : Nat} {i : Int32} : aw g 38 745 L (.int i :: .ref a :: r) σ Q = (hty σ a = some 27 ∧ ¬ i < 0 ∧ i.toNatClampNeg < hln σ a ∧ aw g 38 746 L (hv σ 27 a i.toNatClampNeg :: r) σ Q) := (aw_eq g 38 745 _ _ _ _).trans (by rw [tq38_745]; exact rfl)
theorem tq38_746 : tT g 38 746 = s_load vRf 38 747 0 := rfl
theorem A38_746 {l1 : Option Value} {l2 : Option Value} {l3 : Option Value} {l4 : Option Value} {l5 : Option Value} {l6 : Option Value} {l7 : Option Value} {l8 : Option Value} {x : Value} {r : List Value} : aw g 38 746 [some (x), l1, l2, l3, l4, l5, l6, l7, l8] r σ Q = (vRf x = true ∧ aw g 38 747 [some (x), l1, l2, l3, l4, l5, l6, l7, l8] (x :: r) σ Q) := (aw_eq g 38 746 _ _ _ _).trans (by rw [tq38_746]; exact h_load rfl)
theorem tq38_747 : tT g 38 747 = s_load vI 38 749 5 := rfl
theorem A38_747 {l0 : Option Value} {l1 : Option Value} {l2 : Option Value} {l3 : Option Value} {l4 : Option Value} {l6 : Option Value} {l7 : Option Value} {l8 : Option Value} {x : Int32} {r : List Value} : aw g 38 747 [l0, l1, l2, l3, l4, some (.int x), l6, l7, l8] r σ Q = aw g 38 749 [l0, l1, l2, l3, l4, some (.int x), l6, l7, l8] (.int x :: r) σ Q := (aw_eq g 38 747 _ _ _ _).trans (by rw [tq38_747]; exact (h_load rfl).trans (propext ⟨fun z => z.2, fun z => ⟨rfl, z⟩⟩))
theorem tq38_749 : tT g 38 749 = s_const 38 750 (.int 2) := rfl
theorem A38_749 {L : AL} {r : List Value} : aw g 38 749 L r σ Q = aw g 38 750 L (.int 2 :: r) σ Q := (aw_eq g 38 749 _ _ _ _).trans (by rw [tq38_749]; exact rfl)
theorem tq38_750 : tT g 38 750 = s_bin 38 751 (fun a b => a + b) := rfl
theorem A38_750 {L : AL} {r : List Value} {a b : Int32} : aw g 38 750 L (.int b :: .int a :: r) σ Q = aw g 38 751 L (.int (a + b) :: r) σ Q := (aw_eq g 38 750 _ _ _ _).trans (by rw [tq38_750]; exact rfl)
theorem tq38_751 : tT g 38 751 = s_ald 38 752 27 := rfl
theorem A38_751 {L : AL} {r : List Value} {a : Nat} {i : Int32} : aw g 38 751 L (.int i :: .ref a :: r) σ Q = (hty σ a = some 27 ∧ ¬ i < 0 ∧ i.toNatClampNeg < hln σ a ∧ aw g 38 752 L (hv σ 27 a i.toNatClampNeg :: r) σ Q) := (aw_eq g 38 751 _ _ _ _).trans (by rw [tq38_751]; exact rfl)
theorem tq38_752 : tT g 38 752 = s_load vRf 38 753 3 := rfl
theorem A38_752 {l0 : Option Value} {l1 : Option Value} {l2 : Option Value} {l4 : Option Value} {l5 : Option Value} {l6 : Option Value} {l7 : Option Value} {l8 : Option Value} {x : Value} {r : List Value} : aw g 38 752 [l0, l1, l2, some (x), l4, l5, l6, l7, l8] r σ Q = (vRf x = true ∧ aw g 38 753 [l0, l1, l2, some (x), l4, l5, l6, l7, l8] (x :: r) σ Q) := (aw_eq g 38 752 _ _ _ _).trans (by rw [tq38_752]; exact h_load rfl)
theorem tq38_753 : tT g 38 753 = s_callk 38 756 48 [1, 0, 0, 1] 5 := rfl
theorem A38_753 {L : AL} {r : List Value} {w0 w1 w2 w3 : Value} : aw g 38 753 L (w3 :: w2 :: w1 :: w0 :: r) σ Q = ((vRf w0 && (vI w1 && (vI w2 && (vRf w3 && true)))) = true ∧ csum r ≤ 8 ∧ aw g 48 0 [some w0, some w1, some w2, some w3, none] [] σ (kt (aw g) 38 756 L r Q)) := (aw_eq g 38 753 _ _ _ _).trans (by rw [tq38_753]; exact rfl)
theorem tq38_756 : tT g 38 756 = s_store vI 38 758 6 := rfl
theorem A38_756 {l0 : Option Value} {l1 : Option Value} {l2 : Option Value} {l3 : Option Value} {l4 : Option Value} {l5 : Option Value} {l6 : Option Value} {l7 : Option Value} {l8 : Option Value} {x : Int32} {r : List Value} : aw g 38 756 [l0, l1, l2, l3, l4, l5, l6, l7, l8] (.int x :: r) σ Q = (oc l5 = true ∧ aw g 38 758 [l0, l1, l2, l3, l4, l5, some (.int x), l7, l8] r σ Q) := (aw_eq g 38 756 _ _ _ _).trans (by rw [tq38_756]; exact (h_store (o := oc l5) rfl rfl rfl).trans (propext ⟨fun z => z.2, fun z => ⟨rfl, z⟩⟩))
theorem tq38_758 : tT g 38 758 = s_load vRf 38 759 2 := rfl
theorem A38_758 {l0 : Option Value} {l1 : Option Value} {l3 : Option Value} {l4 : Option Value} {l5 : Option Value} {l6 : Option Value} {l7 : Option Value} {l8 : Option Value} {x : Value} {r : List Value} : aw g 38 758 [l0, l1, some (x), l3, l4, l5, l6, l7, l8] r σ Q = (vRf x = true ∧ aw g 38 759 [l0, l1, some (x), l3, l4, l5, l6, l7, l8] (x :: r) σ Q) := (aw_eq g 38 758 _ _ _ _).trans (by rw [tq38_758]; exact h_load rfl)
theorem tq38_759 : tT g 38 759 = s_load vRf 38 760 0 := rfl
theorem A38_759 {l1 : Option Value} {l2 : Option Value} {l3 : Option Value} {l4 : Option Value} {l5 : Option Value} {l6 : Option Value} {l7 : Option Value} {l8 : Option Value} {x : Value} {r : List Value} : aw g 38 759 [some (x), l1, l2, l3, l4, l5, l6, l7, l8] r σ Q = (vRf x = true ∧ aw g 38 760 [some (x), l1, l2, l3, l4, l5, l6, l7, l8] (x :: r) σ Q) := (aw_eq g 38 759 _ _ _ _).trans (by rw [tq38_759]; exact h_load rfl)
theorem tq38_760 : tT g 38 760 = s_load vI 38 762 5 := rfl
theorem A38_760 {l0 : Option Value} {l1 : Option Value} {l2 : Option Value} {l3 : Option Value} {l4 : Option Value} {l6 : Option Value} {l7 : Option Value} {l8 : Option Value} {x : Int32} {r : List Value} : aw g 38 760 [l0, l1, l2, l3, l4, some (.int x), l6, l7, l8] r σ Q = aw g 38 762 [l0, l1, l2, l3, l4, some (.int x), l6, l7, l8] (.int x :: r) σ Q := (aw_eq g 38 760 _ _ _ _).trans (by rw [tq38_760]; exact (h_load rfl).trans (propext ⟨fun z => z.2, fun z => ⟨rfl, z⟩⟩))
theorem tq38_762 : tT g 38 762 = s_const 38 763 (.int 1) := rfl
theorem A38_762 {L : AL} {r : List Value} : aw g 38 762 L r σ Q = aw g 38 763 L (.int 1 :: r) σ Q := (aw_eq g 38 762 _ _ _ _).trans (by rw [tq38_762]; exact rfl)
theorem tq38_763 : tT g 38 763 = s_bin 38 764 (fun a b => a + b) := rfl
theorem A38_763 {L : AL} {r : List Value} {a b : Int32} : aw g 38 763 L (.int b :: .int a :: r) σ Q = aw g 38 764 L (.int (a + b) :: r) σ Q := (aw_eq g 38 763 _ _ _ _).trans (by rw [tq38_763]; exact rfl)
theorem tq38_764 : tT g 38 764 = s_ald 38 765 27 := rfl
theorem A38_764 {L : AL} {r : List Value} {a : Nat} {i : Int32} : aw g 38 764 L (.int i :: .ref a :: r) σ Q = (hty σ a = some 27 ∧ ¬ i < 0 ∧ i.toNatClampNeg < hln σ a ∧ aw g 38 765 L (hv σ 27 a i.toNatClampNeg :: r) σ Q) := (aw_eq g 38 764 _ _ _ _).trans (by rw [tq38_764]; exact rfl)
theorem tq38_765 : tT g 38 765 = s_load vRf 38 766 0 := rfl
theorem A38_765 {l1 : Option Value} {l2 : Option Value} {l3 : Option Value} {l4 : Option Value} {l5 : Option Value} {l6 : Option Value} {l7 : Option Value} {l8 : Option Value} {x : Value} {r : List Value} : aw g 38 765 [some (x), l1, l2, l3, l4, l5, l6, l7, l8] r σ Q = (vRf x = true ∧ aw g 38 766 [some (x), l1, l2, l3, l4, l5, l6, l7, l8] (x :: r) σ Q) := (aw_eq g 38 765 _ _ _ _).trans (by rw [tq38_765]; exact h_load rfl)
theorem tq38_766 : tT g 38 766 = s_load vI 38 768 5 := rfl
theorem A38_766 {l0 : Option Value} {l1 : Option Value} {l2 : Option Value} {l3 : Option Value} {l4 : Option Value} {l6 : Option Value} {l7 : Option Value} {l8 : Option Value} {x : Int32} {r : List Value} : aw g 38 766 [l0, l1, l2, l3, l4, some (.int x), l6, l7, l8] r σ Q = aw g 38 768 [l0, l1, l2, l3, l4, some (.int x), l6, l7, l8] (.int x :: r) σ Q := (aw_eq g 38 766 _ _ _ _).trans (by rw [tq38_766]; exact (h_load rfl).trans (propext ⟨fun z => z.2, fun z => ⟨rfl, z⟩⟩))
theorem tq38_768 : tT g 38 768 = s_const 38 769 (.int 2) := rfl
theorem A38_768 {L : AL} {r : List Value} : aw g 38 768 L r σ Q = aw g 38 769 L (.int 2 :: r) σ Q := (aw_eq g 38 768 _ _ _ _).trans (by rw [tq38_768]; exact rfl)
theorem tq38_769 : tT g 38 769 = s_bin 38 770 (fun a b => a + b) := rfl
theorem A38_769 {L : AL} {r : List Value} {a b : Int32} : aw g 38 769 L (.int b :: .int a :: r) σ Q = aw g 38 770 L (.int (a + b) :: r) σ Q := (aw_eq g 38 769 _ _ _ _).trans (by rw [tq38_769]; exact rfl)
theorem tq38_770 : tT g 38 770 = s_ald 38 771 27 := rfl
theorem A38_770 {L : AL} {r : List Value} {a : Nat} {i : Int32} : aw g 38 770 L (.int i :: .ref a :: r) σ Q = (hty σ a = some 27 ∧ ¬ i < 0 ∧ i.toNatClampNeg < hln σ a ∧ aw g 38 771 L (hv σ 27 a i.toNatClampNeg :: r) σ Q) := (aw_eq g 38 770 _ _ _ _).trans (by rw [tq38_770]; exact rfl)
theorem tq38_771 : tT g 38 771 = s_callvk 38 774 156 3 [0, 0] 3 := rfl
theorem A38_771 {L : AL} {r : List Value} {a : Nat} {w0 w1 : Value} : aw g 38 771 L (w1 :: w0 :: .ref a :: r) σ Q = (hty σ a = some 3 ∧ (vI w0 && (vI w1 && true)) = true ∧ csum r ≤ 8 ∧ aw g 156 0 [some (.ref a), some w0, some w1] [] σ (kt (aw g) 38 774 L r Q)) := (aw_eq g 38 771 _ _ _ _).trans (by rw [tq38_771]; exact rfl)
theorem tq38_774 : tT g 38 774 = s_store vI 38 776 7 := rfl
theorem A38_774 {l0 : Option Value} {l1 : Option Value} {l2 : Option Value} {l3 : Option Value} {l4 : Option Value} {l5 : Option Value} {l6 : Option Value} {l7 : Option Value} {l8 : Option Value} {x : Int32} {r : List Value} : aw g 38 774 [l0, l1, l2, l3, l4, l5, l6, l7, l8] (.int x :: r) σ Q = (oc l6 = true ∧ aw g 38 776 [l0, l1, l2, l3, l4, l5, l6, some (.int x), l8] r σ Q) := (aw_eq g 38 774 _ _ _ _).trans (by rw [tq38_774]; exact (h_store (o := oc l6) rfl rfl rfl).trans (propext ⟨fun z => z.2, fun z => ⟨rfl, z⟩⟩))
theorem tq38_776 : tT g 38 776 = s_load vRf 38 777 2 := rfl
theorem A38_776 {l0 : Option Value} {l1 : Option Value} {l3 : Option Value} {l4 : Option Value} {l5 : Option Value} {l6 : Option Value} {l7 : Option Value} {l8 : Option Value} {x : Value} {r : List Value} : aw g 38 776 [l0, l1, some (x), l3, l4, l5, l6, l7, l8] r σ Q = (vRf x = true ∧ aw g 38 777 [l0, l1, some (x), l3, l4, l5, l6, l7, l8] (x :: r) σ Q) := (aw_eq g 38 776 _ _ _ _).trans (by rw [tq38_776]; exact h_load rfl)
theorem tq38_777 : tT g 38 777 = s_callvk 38 780 138 3 [] 1 := rfl
theorem A38_777 {L : AL} {r : List Value} {a : Nat} : aw g 38 777 L (.ref a :: r) σ Q = (hty σ a = some 3 ∧ true = true ∧ csum r ≤ 8 ∧ aw g 138 0 [some (.ref a)] [] σ (kt (aw g) 38 780 L r Q)) := (aw_eq g 38 777 _ _ _ _).trans (by rw [tq38_777]; exact rfl)
theorem tq38_780 : tT g 38 780 = s_load vI 38 782 6 := rfl
theorem A38_780 {l0 : Option Value} {l1 : Option Value} {l2 : Option Value} {l3 : Option Value} {l4 : Option Value} {l5 : Option Value} {l7 : Option Value} {l8 : Option Value} {x : Int32} {r : List Value} : aw g 38 780 [l0, l1, l2, l3, l4, l5, some (.int x), l7, l8] r σ Q = aw g 38 782 [l0, l1, l2, l3, l4, l5, some (.int x), l7, l8] (.int x :: r) σ Q := (aw_eq g 38 780 _ _ _ _).trans (by rw [tq38_780]; exact (h_load rfl).trans (propext ⟨fun z => z.2, fun z => ⟨rfl, z⟩⟩))
theorem tq38_782 : tT g 38 782 = s_icmp 38 785 787 (fun a b => a = b) := rfl
theorem A38_782 {L : AL} {r : List Value} {a b : Int32} : aw g 38 782 L (.int b :: .int a :: r) σ Q = ((a = b → aw g 38 787 L r σ Q) ∧ (¬ a = b → aw g 38 785 L r σ Q)) := (aw_eq g 38 782 _ _ _ _).trans (by rw [tq38_782]; exact rfl)
theorem tq38_785 : tT g 38 785 = s_const 38 786 (.int 0) := rfl
theorem A38_785 {L : AL} {r : List Value} : aw g 38 785 L r σ Q = aw g 38 786 L (.int 0 :: r) σ Q := (aw_eq g 38 785 _ _ _ _).trans (by rw [tq38_785]; exact rfl)
theorem tq38_786 : tT g 38 786 = s_ret vZ := rfl
theorem A38_786 {L : AL} {v : Value} : aw g 38 786 L [v] σ Q = (vZ v ∧ Q (.inl (some v)) σ) := (aw_eq g 38 786 _ _ _ _).trans (by rw [tq38_786]; exact rfl)
theorem tq38_787 : tT g 38 787 = s_load vI 38 789 6 := rfl
theorem A38_787 {l0 : Option Value} {l1 : Option Value} {l2 : Option Value} {l3 : Option Value} {l4 : Option Value} {l5 : Option Value} {l7 : Option Value} {l8 : Option Value} {x : Int32} {r : List Value} : aw g 38 787 [l0, l1, l2, l3, l4, l5, some (.int x), l7, l8] r σ Q = aw g 38 789 [l0, l1, l2, l3, l4, l5, some (.int x), l7, l8] (.int x :: r) σ Q := (aw_eq g 38 787 _ _ _ _).trans (by rw [tq38_787]; exact (h_load rfl).trans (propext ⟨fun z => z.2, fun z => ⟨rfl, z⟩⟩))
theorem tq38_789 : tT g 38 789 = s_if 38 804 792 (fun a => a = 0) := rfl
theorem A38_789 {L : AL} {r : List Value} {a : Int32} : aw g 38 789 L (.int a :: r) σ Q = ((a = 0 → aw g 38 792 L r σ Q) ∧ (¬ a = 0 → aw g 38 804 L r σ Q)) := (aw_eq g 38 789 _ _ _ _).trans (by rw [tq38_789]; exact rfl)
theorem tq38_792 : tT g 38 792 = s_load vRf 38 793 3 := rfl
theorem A38_792 {l0 : Option Value} {l1 : Option Value} {l2 : Option Value} {l4 : Option Value} {l5 : Option Value} {l6 : Option Value} {l7 : Option Value} {l8 : Option Value} {x : Value} {r : List Value} : aw g 38 792 [l0, l1, l2, some (x), l4, l5, l6, l7, l8] r σ Q = (vRf x = true ∧ aw g 38 793 [l0, l1, l2, some (x), l4, l5, l6, l7, l8] (x :: r) σ Q) := (aw_eq g 38 792 _ _ _ _).trans (by rw [tq38_792]; exact h_load rfl)
theorem tq38_793 : tT g 38 793 = s_const 38 794 (.int 0) := rfl
theorem A38_793 {L : AL} {r : List Value} : aw g 38 793 L r σ Q = aw g 38 794 L (.int 0 :: r) σ Q := (aw_eq g 38 793 _ _ _ _).trans (by rw [tq38_793]; exact rfl)
theorem tq38_794 : tT g 38 794 = s_ald 38 795 22 := rfl
theorem A38_794 {L : AL} {r : List Value} {a : Nat} {i : Int32} : aw g 38 794 L (.int i :: .ref a :: r) σ Q = (hty σ a = some 22 ∧ ¬ i < 0 ∧ i.toNatClampNeg < hln σ a ∧ aw g 38 795 L (hv σ 22 a i.toNatClampNeg :: r) σ Q) := (aw_eq g 38 794 _ _ _ _).trans (by rw [tq38_794]; exact rfl)
theorem tq38_795 : tT g 38 795 = s_load vI 38 797 7 := rfl
theorem A38_795 {l0 : Option Value} {l1 : Option Value} {l2 : Option Value} {l3 : Option Value} {l4 : Option Value} {l5 : Option Value} {l6 : Option Value} {l8 : Option Value} {x : Int32} {r : List Value} : aw g 38 795 [l0, l1, l2, l3, l4, l5, l6, some (.int x), l8] r σ Q = aw g 38 797 [l0, l1, l2, l3, l4, l5, l6, some (.int x), l8] (.int x :: r) σ Q := (aw_eq g 38 795 _ _ _ _).trans (by rw [tq38_795]; exact (h_load rfl).trans (propext ⟨fun z => z.2, fun z => ⟨rfl, z⟩⟩))
theorem tq38_797 : tT g 38 797 = s_i2 38 798 (fun a => .long a.toInt64) := rfl
theorem A38_797 {L : AL} {r : List Value} {a : Int32} : aw g 38 797 L (.int a :: r) σ Q = aw g 38 798 L (.long a.toInt64 :: r) σ Q := (aw_eq g 38 797 _ _ _ _).trans (by rw [tq38_797]; exact rfl)
theorem tq38_798 : tT g 38 798 = s_lbin 38 799 (fun a b => .int (lg_cmp a b)) := rfl
theorem A38_798 {L : AL} {r : List Value} {a b : Int64} : aw g 38 798 L (.long b :: .long a :: r) σ Q = aw g 38 799 L (.int (lg_cmp a b) :: r) σ Q := (aw_eq g 38 798 _ _ _ _).trans (by rw [tq38_798]; exact rfl)
theorem tq38_799 : tT g 38 799 = s_if 38 802 804 (fun a => a = 0) := rfl
theorem A38_799 {L : AL} {r : List Value} {a : Int32} : aw g 38 799 L (.int a :: r) σ Q = ((a = 0 → aw g 38 804 L r σ Q) ∧ (¬ a = 0 → aw g 38 802 L r σ Q)) := (aw_eq g 38 799 _ _ _ _).trans (by rw [tq38_799]; exact rfl)
theorem tq38_802 : tT g 38 802 = s_const 38 803 (.int 0) := rfl
theorem A38_802 {L : AL} {r : List Value} : aw g 38 802 L r σ Q = aw g 38 803 L (.int 0 :: r) σ Q := (aw_eq g 38 802 _ _ _ _).trans (by rw [tq38_802]; exact rfl)
theorem tq38_803 : tT g 38 803 = s_ret vZ := rfl
theorem A38_803 {L : AL} {v : Value} : aw g 38 803 L [v] σ Q = (vZ v ∧ Q (.inl (some v)) σ) := (aw_eq g 38 803 _ _ _ _).trans (by rw [tq38_803]; exact rfl)
theorem tq38_804 : tT g 38 804 = s_goto 38 1454 := rfl
theorem A38_804 {L : AL} {r : List Value} : aw g 38 804 L r σ Q = aw g 38 1454 L r σ Q := (aw_eq g 38 804 _ _ _ _).trans (by rw [tq38_804]; exact rfl)
theorem tq38_807 : tT g 38 807 = s_load vRf 38 808 1 := rfl
theorem A38_807 {l0 : Option Value} {l2 : Option Value} {l3 : Option Value} {l4 : Option Value} {l5 : Option Value} {l6 : Option Value} {l7 : Option Value} {l8 : Option Value} {x : Value} {r : List Value} : aw g 38 807 [l0, some (x), l2, l3, l4, l5, l6, l7, l8] r σ Q = (vRf x = true ∧ aw g 38 808 [l0, some (x), l2, l3, l4, l5, l6, l7, l8] (x :: r) σ Q) := (aw_eq g 38 807 _ _ _ _).trans (by rw [tq38_807]; exact h_load rfl)
theorem tq38_808 : tT g 38 808 = s_load vRf 38 809 0 := rfl
theorem A38_808 {l1 : Option Value} {l2 : Option Value} {l3 : Option Value} {l4 : Option Value} {l5 : Option Value} {l6 : Option Value} {l7 : Option Value} {l8 : Option Value} {x : Value} {r : List Value} : aw g 38 808 [some (x), l1, l2, l3, l4, l5, l6, l7, l8] r σ Q = (vRf x = true ∧ aw g 38 809 [some (x), l1, l2, l3, l4, l5, l6, l7, l8] (x :: r) σ Q) := (aw_eq g 38 808 _ _ _ _).trans (by rw [tq38_808]; exact h_load rfl)
theorem tq38_809 : tT g 38 809 = s_load vI 38 811 5 := rfl
theorem A38_809 {l0 : Option Value} {l1 : Option Value} {l2 : Option Value} {l3 : Option Value} {l4 : Option Value} {l6 : Option Value} {l7 : Option Value} {l8 : Option Value} {x : Int32} {r : List Value} : aw g 38 809 [l0, l1, l2, l3, l4, some (.int x), l6, l7, l8] r σ Q = aw g 38 811 [l0, l1, l2, l3, l4, some (.int x), l6, l7, l8] (.int x :: r) σ Q := (aw_eq g 38 809 _ _ _ _).trans (by rw [tq38_809]; exact (h_load rfl).trans (propext ⟨fun z => z.2, fun z => ⟨rfl, z⟩⟩))
theorem tq38_811 : tT g 38 811 = s_const 38 812 (.int 1) := rfl
theorem A38_811 {L : AL} {r : List Value} : aw g 38 811 L r σ Q = aw g 38 812 L (.int 1 :: r) σ Q := (aw_eq g 38 811 _ _ _ _).trans (by rw [tq38_811]; exact rfl)
theorem tq38_812 : tT g 38 812 = s_bin 38 813 (fun a b => a + b) := rfl
theorem A38_812 {L : AL} {r : List Value} {a b : Int32} : aw g 38 812 L (.int b :: .int a :: r) σ Q = aw g 38 813 L (.int (a + b) :: r) σ Q := (aw_eq g 38 812 _ _ _ _).trans (by rw [tq38_812]; exact rfl)
theorem tq38_813 : tT g 38 813 = s_ald 38 814 27 := rfl
theorem A38_813 {L : AL} {r : List Value} {a : Nat} {i : Int32} : aw g 38 813 L (.int i :: .ref a :: r) σ Q = (hty σ a = some 27 ∧ ¬ i < 0 ∧ i.toNatClampNeg < hln σ a ∧ aw g 38 814 L (hv σ 27 a i.toNatClampNeg :: r) σ Q) := (aw_eq g 38 813 _ _ _ _).trans (by rw [tq38_813]; exact rfl)
theorem tq38_814 : tT g 38 814 = s_load vRf 38 815 0 := rfl
theorem A38_814 {l1 : Option Value} {l2 : Option Value} {l3 : Option Value} {l4 : Option Value} {l5 : Option Value} {l6 : Option Value} {l7 : Option Value} {l8 : Option Value} {x : Value} {r : List Value} : aw g 38 814 [some (x), l1, l2, l3, l4, l5, l6, l7, l8] r σ Q = (vRf x = true ∧ aw g 38 815 [some (x), l1, l2, l3, l4, l5, l6, l7, l8] (x :: r) σ Q) := (aw_eq g 38 814 _ _ _ _).trans (by rw [tq38_814]; exact h_load rfl)
theorem tq38_815 : tT g 38 815 = s_load vI 38 817 5 := rfl
theorem A38_815 {l0 : Option Value} {l1 : Option Value} {l2 : Option Value} {l3 : Option Value} {l4 : Option Value} {l6 : Option Value} {l7 : Option Value} {l8 : Option Value} {x : Int32} {r : List Value} : aw g 38 815 [l0, l1, l2, l3, l4, some (.int x), l6, l7, l8] r σ Q = aw g 38 817 [l0, l1, l2, l3, l4, some (.int x), l6, l7, l8] (.int x :: r) σ Q := (aw_eq g 38 815 _ _ _ _).trans (by rw [tq38_815]; exact (h_load rfl).trans (propext ⟨fun z => z.2, fun z => ⟨rfl, z⟩⟩))
theorem tq38_817 : tT g 38 817 = s_const 38 818 (.int 2) := rfl
theorem A38_817 {L : AL} {r : List Value} : aw g 38 817 L r σ Q = aw g 38 818 L (.int 2 :: r) σ Q := (aw_eq g 38 817 _ _ _ _).trans (by rw [tq38_817]; exact rfl)
theorem tq38_818 : tT g 38 818 = s_bin 38 819 (fun a b => a + b) := rfl
theorem A38_818 {L : AL} {r : List Value} {a b : Int32} : aw g 38 818 L (.int b :: .int a :: r) σ Q = aw g 38 819 L (.int (a + b) :: r) σ Q := (aw_eq g 38 818 _ _ _ _).trans (by rw [tq38_818]; exact rfl)
theorem tq38_819 : tT g 38 819 = s_ald 38 820 27 := rfl
theorem A38_819 {L : AL} {r : List Value} {a : Nat} {i : Int32} : aw g 38 819 L (.int i :: .ref a :: r) σ Q = (hty σ a = some 27 ∧ ¬ i < 0 ∧ i.toNatClampNeg < hln σ a ∧ aw g 38 820 L (hv σ 27 a i.toNatClampNeg :: r) σ Q) := (aw_eq g 38 819 _ _ _ _).trans (by rw [tq38_819]; exact rfl)
theorem tq38_820 : tT g 38 820 = s_load vRf 38 821 3 := rfl
theorem A38_820 {l0 : Option Value} {l1 : Option Value} {l2 : Option Value} {l4 : Option Value} {l5 : Option Value} {l6 : Option Value} {l7 : Option Value} {l8 : Option Value} {x : Value} {r : List Value} : aw g 38 820 [l0, l1, l2, some (x), l4, l5, l6, l7, l8] r σ Q = (vRf x = true ∧ aw g 38 821 [l0, l1, l2, some (x), l4, l5, l6, l7, l8] (x :: r) σ Q) := (aw_eq g 38 820 _ _ _ _).trans (by rw [tq38_820]; exact h_load rfl)
theorem tq38_821 : tT g 38 821 = s_callk 38 824 49 [1, 0, 0, 1] 5 := rfl
theorem A38_821 {L : AL} {r : List Value} {w0 w1 w2 w3 : Value} : aw g 38 821 L (w3 :: w2 :: w1 :: w0 :: r) σ Q = ((vRf w0 && (vI w1 && (vI w2 && (vRf w3 && true)))) = true ∧ csum r ≤ 8 ∧ aw g 49 0 [some w0, some w1, some w2, some w3, none] [] σ (kt (aw g) 38 824 L r Q)) := (aw_eq g 38 821 _ _ _ _).trans (by rw [tq38_821]; exact rfl)
theorem tq38_824 : tT g 38 824 = s_store vI 38 826 6 := rfl
theorem A38_824 {l0 : Option Value} {l1 : Option Value} {l2 : Option Value} {l3 : Option Value} {l4 : Option Value} {l5 : Option Value} {l6 : Option Value} {l7 : Option Value} {l8 : Option Value} {x : Int32} {r : List Value} : aw g 38 824 [l0, l1, l2, l3, l4, l5, l6, l7, l8] (.int x :: r) σ Q = (oc l5 = true ∧ aw g 38 826 [l0, l1, l2, l3, l4, l5, some (.int x), l7, l8] r σ Q) := (aw_eq g 38 824 _ _ _ _).trans (by rw [tq38_824]; exact (h_store (o := oc l5) rfl rfl rfl).trans (propext ⟨fun z => z.2, fun z => ⟨rfl, z⟩⟩))
theorem tq38_826 : tT g 38 826 = s_load vRf 38 827 2 := rfl
theorem A38_826 {l0 : Option Value} {l1 : Option Value} {l3 : Option Value} {l4 : Option Value} {l5 : Option Value} {l6 : Option Value} {l7 : Option Value} {l8 : Option Value} {x : Value} {r : List Value} : aw g 38 826 [l0, l1, some (x), l3, l4, l5, l6, l7, l8] r σ Q = (vRf x = true ∧ aw g 38 827 [l0, l1, some (x), l3, l4, l5, l6, l7, l8] (x :: r) σ Q) := (aw_eq g 38 826 _ _ _ _).trans (by rw [tq38_826]; exact h_load rfl)
theorem tq38_827 : tT g 38 827 = s_load vRf 38 828 0 := rfl
theorem A38_827 {l1 : Option Value} {l2 : Option Value} {l3 : Option Value} {l4 : Option Value} {l5 : Option Value} {l6 : Option Value} {l7 : Option Value} {l8 : Option Value} {x : Value} {r : List Value} : aw g 38 827 [some (x), l1, l2, l3, l4, l5, l6, l7, l8] r σ Q = (vRf x = true ∧ aw g 38 828 [some (x), l1, l2, l3, l4, l5, l6, l7, l8] (x :: r) σ Q) := (aw_eq g 38 827 _ _ _ _).trans (by rw [tq38_827]; exact h_load rfl)
theorem tq38_828 : tT g 38 828 = s_load vI 38 830 5 := rfl
theorem A38_828 {l0 : Option Value} {l1 : Option Value} {l2 : Option Value} {l3 : Option Value} {l4 : Option Value} {l6 : Option Value} {l7 : Option Value} {l8 : Option Value} {x : Int32} {r : List Value} : aw g 38 828 [l0, l1, l2, l3, l4, some (.int x), l6, l7, l8] r σ Q = aw g 38 830 [l0, l1, l2, l3, l4, some (.int x), l6, l7, l8] (.int x :: r) σ Q := (aw_eq g 38 828 _ _ _ _).trans (by rw [tq38_828]; exact (h_load rfl).trans (propext ⟨fun z => z.2, fun z => ⟨rfl, z⟩⟩))
theorem tq38_830 : tT g 38 830 = s_const 38 831 (.int 1) := rfl
theorem A38_830 {L : AL} {r : List Value} : aw g 38 830 L r σ Q = aw g 38 831 L (.int 1 :: r) σ Q := (aw_eq g 38 830 _ _ _ _).trans (by rw [tq38_830]; exact rfl)
theorem tq38_831 : tT g 38 831 = s_bin 38 832 (fun a b => a + b) := rfl
theorem A38_831 {L : AL} {r : List Value} {a b : Int32} : aw g 38 831 L (.int b :: .int a :: r) σ Q = aw g 38 832 L (.int (a + b) :: r) σ Q := (aw_eq g 38 831 _ _ _ _).trans (by rw [tq38_831]; exact rfl)
theorem tq38_832 : tT g 38 832 = s_ald 38 833 27 := rfl
theorem A38_832 {L : AL} {r : List Value} {a : Nat} {i : Int32} : aw g 38 832 L (.int i :: .ref a :: r) σ Q = (hty σ a = some 27 ∧ ¬ i < 0 ∧ i.toNatClampNeg < hln σ a ∧ aw g 38 833 L (hv σ 27 a i.toNatClampNeg :: r) σ Q) := (aw_eq g 38 832 _ _ _ _).trans (by rw [tq38_832]; exact rfl)
theorem tq38_833 : tT g 38 833 = s_load vRf 38 834 0 := rfl
theorem A38_833 {l1 : Option Value} {l2 : Option Value} {l3 : Option Value} {l4 : Option Value} {l5 : Option Value} {l6 : Option Value} {l7 : Option Value} {l8 : Option Value} {x : Value} {r : List Value} : aw g 38 833 [some (x), l1, l2, l3, l4, l5, l6, l7, l8] r σ Q = (vRf x = true ∧ aw g 38 834 [some (x), l1, l2, l3, l4, l5, l6, l7, l8] (x :: r) σ Q) := (aw_eq g 38 833 _ _ _ _).trans (by rw [tq38_833]; exact h_load rfl)
theorem tq38_834 : tT g 38 834 = s_load vI 38 836 5 := rfl
theorem A38_834 {l0 : Option Value} {l1 : Option Value} {l2 : Option Value} {l3 : Option Value} {l4 : Option Value} {l6 : Option Value} {l7 : Option Value} {l8 : Option Value} {x : Int32} {r : List Value} : aw g 38 834 [l0, l1, l2, l3, l4, some (.int x), l6, l7, l8] r σ Q = aw g 38 836 [l0, l1, l2, l3, l4, some (.int x), l6, l7, l8] (.int x :: r) σ Q := (aw_eq g 38 834 _ _ _ _).trans (by rw [tq38_834]; exact (h_load rfl).trans (propext ⟨fun z => z.2, fun z => ⟨rfl, z⟩⟩))
theorem tq38_836 : tT g 38 836 = s_const 38 837 (.int 2) := rfl
theorem A38_836 {L : AL} {r : List Value} : aw g 38 836 L r σ Q = aw g 38 837 L (.int 2 :: r) σ Q := (aw_eq g 38 836 _ _ _ _).trans (by rw [tq38_836]; exact rfl)
theorem tq38_837 : tT g 38 837 = s_bin 38 838 (fun a b => a + b) := rfl
theorem A38_837 {L : AL} {r : List Value} {a b : Int32} : aw g 38 837 L (.int b :: .int a :: r) σ Q = aw g 38 838 L (.int (a + b) :: r) σ Q := (aw_eq g 38 837 _ _ _ _).trans (by rw [tq38_837]; exact rfl)
theorem tq38_838 : tT g 38 838 = s_ald 38 839 27 := rfl
theorem A38_838 {L : AL} {r : List Value} {a : Nat} {i : Int32} : aw g 38 838 L (.int i :: .ref a :: r) σ Q = (hty σ a = some 27 ∧ ¬ i < 0 ∧ i.toNatClampNeg < hln σ a ∧ aw g 38 839 L (hv σ 27 a i.toNatClampNeg :: r) σ Q) := (aw_eq g 38 838 _ _ _ _).trans (by rw [tq38_838]; exact rfl)
theorem tq38_839 : tT g 38 839 = s_callvk 38 842 158 3 [0, 0] 3 := rfl
theorem A38_839 {L : AL} {r : List Value} {a : Nat} {w0 w1 : Value} : aw g 38 839 L (w1 :: w0 :: .ref a :: r) σ Q = (hty σ a = some 3 ∧ (vI w0 && (vI w1 && true)) = true ∧ csum r ≤ 8 ∧ aw g 158 0 [some (.ref a), some w0, some w1] [] σ (kt (aw g) 38 842 L r Q)) := (aw_eq g 38 839 _ _ _ _).trans (by rw [tq38_839]; exact rfl)
theorem tq38_842 : tT g 38 842 = s_store vI 38 844 7 := rfl
theorem A38_842 {l0 : Option Value} {l1 : Option Value} {l2 : Option Value} {l3 : Option Value} {l4 : Option Value} {l5 : Option Value} {l6 : Option Value} {l7 : Option Value} {l8 : Option Value} {x : Int32} {r : List Value} : aw g 38 842 [l0, l1, l2, l3, l4, l5, l6, l7, l8] (.int x :: r) σ Q = (oc l6 = true ∧ aw g 38 844 [l0, l1, l2, l3, l4, l5, l6, some (.int x), l8] r σ Q) := (aw_eq g 38 842 _ _ _ _).trans (by rw [tq38_842]; exact (h_store (o := oc l6) rfl rfl rfl).trans (propext ⟨fun z => z.2, fun z => ⟨rfl, z⟩⟩))
theorem tq38_844 : tT g 38 844 = s_load vRf 38 845 2 := rfl
theorem A38_844 {l0 : Option Value} {l1 : Option Value} {l3 : Option Value} {l4 : Option Value} {l5 : Option Value} {l6 : Option Value} {l7 : Option Value} {l8 : Option Value} {x : Value} {r : List Value} : aw g 38 844 [l0, l1, some (x), l3, l4, l5, l6, l7, l8] r σ Q = (vRf x = true ∧ aw g 38 845 [l0, l1, some (x), l3, l4, l5, l6, l7, l8] (x :: r) σ Q) := (aw_eq g 38 844 _ _ _ _).trans (by rw [tq38_844]; exact h_load rfl)
theorem tq38_845 : tT g 38 845 = s_callvk 38 848 138 3 [] 1 := rfl
theorem A38_845 {L : AL} {r : List Value} {a : Nat} : aw g 38 845 L (.ref a :: r) σ Q = (hty σ a = some 3 ∧ true = true ∧ csum r ≤ 8 ∧ aw g 138 0 [some (.ref a)] [] σ (kt (aw g) 38 848 L r Q)) := (aw_eq g 38 845 _ _ _ _).trans (by rw [tq38_845]; exact rfl)
theorem tq38_848 : tT g 38 848 = s_load vI 38 850 6 := rfl
theorem A38_848 {l0 : Option Value} {l1 : Option Value} {l2 : Option Value} {l3 : Option Value} {l4 : Option Value} {l5 : Option Value} {l7 : Option Value} {l8 : Option Value} {x : Int32} {r : List Value} : aw g 38 848 [l0, l1, l2, l3, l4, l5, some (.int x), l7, l8] r σ Q = aw g 38 850 [l0, l1, l2, l3, l4, l5, some (.int x), l7, l8] (.int x :: r) σ Q := (aw_eq g 38 848 _ _ _ _).trans (by rw [tq38_848]; exact (h_load rfl).trans (propext ⟨fun z => z.2, fun z => ⟨rfl, z⟩⟩))
theorem tq38_850 : tT g 38 850 = s_icmp 38 853 855 (fun a b => a = b) := rfl
theorem A38_850 {L : AL} {r : List Value} {a b : Int32} : aw g 38 850 L (.int b :: .int a :: r) σ Q = ((a = b → aw g 38 855 L r σ Q) ∧ (¬ a = b → aw g 38 853 L r σ Q)) := (aw_eq g 38 850 _ _ _ _).trans (by rw [tq38_850]; exact rfl)
theorem tq38_853 : tT g 38 853 = s_const 38 854 (.int 0) := rfl
theorem A38_853 {L : AL} {r : List Value} : aw g 38 853 L r σ Q = aw g 38 854 L (.int 0 :: r) σ Q := (aw_eq g 38 853 _ _ _ _).trans (by rw [tq38_853]; exact rfl)
theorem tq38_854 : tT g 38 854 = s_ret vZ := rfl
theorem A38_854 {L : AL} {v : Value} : aw g 38 854 L [v] σ Q = (vZ v ∧ Q (.inl (some v)) σ) := (aw_eq g 38 854 _ _ _ _).trans (by rw [tq38_854]; exact rfl)
theorem tq38_855 : tT g 38 855 = s_load vI 38 857 6 := rfl
theorem A38_855 {l0 : Option Value} {l1 : Option Value} {l2 : Option Value} {l3 : Option Value} {l4 : Option Value} {l5 : Option Value} {l7 : Option Value} {l8 : Option Value} {x : Int32} {r : List Value} : aw g 38 855 [l0, l1, l2, l3, l4, l5, some (.int x), l7, l8] r σ Q = aw g 38 857 [l0, l1, l2, l3, l4, l5, some (.int x), l7, l8] (.int x :: r) σ Q := (aw_eq g 38 855 _ _ _ _).trans (by rw [tq38_855]; exact (h_load rfl).trans (propext ⟨fun z => z.2, fun z => ⟨rfl, z⟩⟩))
theorem tq38_857 : tT g 38 857 = s_if 38 872 860 (fun a => a = 0) := rfl
theorem A38_857 {L : AL} {r : List Value} {a : Int32} : aw g 38 857 L (.int a :: r) σ Q = ((a = 0 → aw g 38 860 L r σ Q) ∧ (¬ a = 0 → aw g 38 872 L r σ Q)) := (aw_eq g 38 857 _ _ _ _).trans (by rw [tq38_857]; exact rfl)
theorem tq38_860 : tT g 38 860 = s_load vRf 38 861 3 := rfl
theorem A38_860 {l0 : Option Value} {l1 : Option Value} {l2 : Option Value} {l4 : Option Value} {l5 : Option Value} {l6 : Option Value} {l7 : Option Value} {l8 : Option Value} {x : Value} {r : List Value} : aw g 38 860 [l0, l1, l2, some (x), l4, l5, l6, l7, l8] r σ Q = (vRf x = true ∧ aw g 38 861 [l0, l1, l2, some (x), l4, l5, l6, l7, l8] (x :: r) σ Q) := (aw_eq g 38 860 _ _ _ _).trans (by rw [tq38_860]; exact h_load rfl)
theorem tq38_861 : tT g 38 861 = s_const 38 862 (.int 0) := rfl
theorem A38_861 {L : AL} {r : List Value} : aw g 38 861 L r σ Q = aw g 38 862 L (.int 0 :: r) σ Q := (aw_eq g 38 861 _ _ _ _).trans (by rw [tq38_861]; exact rfl)
theorem tq38_862 : tT g 38 862 = s_ald 38 863 22 := rfl
theorem A38_862 {L : AL} {r : List Value} {a : Nat} {i : Int32} : aw g 38 862 L (.int i :: .ref a :: r) σ Q = (hty σ a = some 22 ∧ ¬ i < 0 ∧ i.toNatClampNeg < hln σ a ∧ aw g 38 863 L (hv σ 22 a i.toNatClampNeg :: r) σ Q) := (aw_eq g 38 862 _ _ _ _).trans (by rw [tq38_862]; exact rfl)
theorem tq38_863 : tT g 38 863 = s_load vI 38 865 7 := rfl
theorem A38_863 {l0 : Option Value} {l1 : Option Value} {l2 : Option Value} {l3 : Option Value} {l4 : Option Value} {l5 : Option Value} {l6 : Option Value} {l8 : Option Value} {x : Int32} {r : List Value} : aw g 38 863 [l0, l1, l2, l3, l4, l5, l6, some (.int x), l8] r σ Q = aw g 38 865 [l0, l1, l2, l3, l4, l5, l6, some (.int x), l8] (.int x :: r) σ Q := (aw_eq g 38 863 _ _ _ _).trans (by rw [tq38_863]; exact (h_load rfl).trans (propext ⟨fun z => z.2, fun z => ⟨rfl, z⟩⟩))
theorem tq38_865 : tT g 38 865 = s_i2 38 866 (fun a => .long a.toInt64) := rfl
theorem A38_865 {L : AL} {r : List Value} {a : Int32} : aw g 38 865 L (.int a :: r) σ Q = aw g 38 866 L (.long a.toInt64 :: r) σ Q := (aw_eq g 38 865 _ _ _ _).trans (by rw [tq38_865]; exact rfl)
theorem tq38_866 : tT g 38 866 = s_lbin 38 867 (fun a b => .int (lg_cmp a b)) := rfl
theorem A38_866 {L : AL} {r : List Value} {a b : Int64} : aw g 38 866 L (.long b :: .long a :: r) σ Q = aw g 38 867 L (.int (lg_cmp a b) :: r) σ Q := (aw_eq g 38 866 _ _ _ _).trans (by rw [tq38_866]; exact rfl)
theorem tq38_867 : tT g 38 867 = s_if 38 870 872 (fun a => a = 0) := rfl
theorem A38_867 {L : AL} {r : List Value} {a : Int32} : aw g 38 867 L (.int a :: r) σ Q = ((a = 0 → aw g 38 872 L r σ Q) ∧ (¬ a = 0 → aw g 38 870 L r σ Q)) := (aw_eq g 38 867 _ _ _ _).trans (by rw [tq38_867]; exact rfl)
theorem tq38_870 : tT g 38 870 = s_const 38 871 (.int 0) := rfl
theorem A38_870 {L : AL} {r : List Value} : aw g 38 870 L r σ Q = aw g 38 871 L (.int 0 :: r) σ Q := (aw_eq g 38 870 _ _ _ _).trans (by rw [tq38_870]; exact rfl)
theorem tq38_871 : tT g 38 871 = s_ret vZ := rfl
theorem A38_871 {L : AL} {v : Value} : aw g 38 871 L [v] σ Q = (vZ v ∧ Q (.inl (some v)) σ) := (aw_eq g 38 871 _ _ _ _).trans (by rw [tq38_871]; exact rfl)
theorem tq38_872 : tT g 38 872 = s_goto 38 1454 := rfl
theorem A38_872 {L : AL} {r : List Value} : aw g 38 872 L r σ Q = aw g 38 1454 L r σ Q := (aw_eq g 38 872 _ _ _ _).trans (by rw [tq38_872]; exact rfl)
theorem tq38_875 : tT g 38 875 = s_load vRf 38 876 1 := rfl
theorem A38_875 {l0 : Option Value} {l2 : Option Value} {l3 : Option Value} {l4 : Option Value} {l5 : Option Value} {l6 : Option Value} {l7 : Option Value} {l8 : Option Value} {x : Value} {r : List Value} : aw g 38 875 [l0, some (x), l2, l3, l4, l5, l6, l7, l8] r σ Q = (vRf x = true ∧ aw g 38 876 [l0, some (x), l2, l3, l4, l5, l6, l7, l8] (x :: r) σ Q) := (aw_eq g 38 875 _ _ _ _).trans (by rw [tq38_875]; exact h_load rfl)
theorem tq38_876 : tT g 38 876 = s_load vRf 38 877 0 := rfl
theorem A38_876 {l1 : Option Value} {l2 : Option Value} {l3 : Option Value} {l4 : Option Value} {l5 : Option Value} {l6 : Option Value} {l7 : Option Value} {l8 : Option Value} {x : Value} {r : List Value} : aw g 38 876 [some (x), l1, l2, l3, l4, l5, l6, l7, l8] r σ Q = (vRf x = true ∧ aw g 38 877 [some (x), l1, l2, l3, l4, l5, l6, l7, l8] (x :: r) σ Q) := (aw_eq g 38 876 _ _ _ _).trans (by rw [tq38_876]; exact h_load rfl)
theorem tq38_877 : tT g 38 877 = s_load vI 38 879 5 := rfl
theorem A38_877 {l0 : Option Value} {l1 : Option Value} {l2 : Option Value} {l3 : Option Value} {l4 : Option Value} {l6 : Option Value} {l7 : Option Value} {l8 : Option Value} {x : Int32} {r : List Value} : aw g 38 877 [l0, l1, l2, l3, l4, some (.int x), l6, l7, l8] r σ Q = aw g 38 879 [l0, l1, l2, l3, l4, some (.int x), l6, l7, l8] (.int x :: r) σ Q := (aw_eq g 38 877 _ _ _ _).trans (by rw [tq38_877]; exact (h_load rfl).trans (propext ⟨fun z => z.2, fun z => ⟨rfl, z⟩⟩))
theorem tq38_879 : tT g 38 879 = s_const 38 880 (.int 1) := rfl
theorem A38_879 {L : AL} {r : List Value} : aw g 38 879 L r σ Q = aw g 38 880 L (.int 1 :: r) σ Q := (aw_eq g 38 879 _ _ _ _).trans (by rw [tq38_879]; exact rfl)
theorem tq38_880 : tT g 38 880 = s_bin 38 881 (fun a b => a + b) := rfl
theorem A38_880 {L : AL} {r : List Value} {a b : Int32} : aw g 38 880 L (.int b :: .int a :: r) σ Q = aw g 38 881 L (.int (a + b) :: r) σ Q := (aw_eq g 38 880 _ _ _ _).trans (by rw [tq38_880]; exact rfl)
theorem tq38_881 : tT g 38 881 = s_ald 38 882 27 := rfl
theorem A38_881 {L : AL} {r : List Value} {a : Nat} {i : Int32} : aw g 38 881 L (.int i :: .ref a :: r) σ Q = (hty σ a = some 27 ∧ ¬ i < 0 ∧ i.toNatClampNeg < hln σ a ∧ aw g 38 882 L (hv σ 27 a i.toNatClampNeg :: r) σ Q) := (aw_eq g 38 881 _ _ _ _).trans (by rw [tq38_881]; exact rfl)
theorem tq38_882 : tT g 38 882 = s_load vRf 38 883 0 := rfl
theorem A38_882 {l1 : Option Value} {l2 : Option Value} {l3 : Option Value} {l4 : Option Value} {l5 : Option Value} {l6 : Option Value} {l7 : Option Value} {l8 : Option Value} {x : Value} {r : List Value} : aw g 38 882 [some (x), l1, l2, l3, l4, l5, l6, l7, l8] r σ Q = (vRf x = true ∧ aw g 38 883 [some (x), l1, l2, l3, l4, l5, l6, l7, l8] (x :: r) σ Q) := (aw_eq g 38 882 _ _ _ _).trans (by rw [tq38_882]; exact h_load rfl)
theorem tq38_883 : tT g 38 883 = s_load vI 38 885 5 := rfl
theorem A38_883 {l0 : Option Value} {l1 : Option Value} {l2 : Option Value} {l3 : Option Value} {l4 : Option Value} {l6 : Option Value} {l7 : Option Value} {l8 : Option Value} {x : Int32} {r : List Value} : aw g 38 883 [l0, l1, l2, l3, l4, some (.int x), l6, l7, l8] r σ Q = aw g 38 885 [l0, l1, l2, l3, l4, some (.int x), l6, l7, l8] (.int x :: r) σ Q := (aw_eq g 38 883 _ _ _ _).trans (by rw [tq38_883]; exact (h_load rfl).trans (propext ⟨fun z => z.2, fun z => ⟨rfl, z⟩⟩))
theorem tq38_885 : tT g 38 885 = s_const 38 886 (.int 2) := rfl
theorem A38_885 {L : AL} {r : List Value} : aw g 38 885 L r σ Q = aw g 38 886 L (.int 2 :: r) σ Q := (aw_eq g 38 885 _ _ _ _).trans (by rw [tq38_885]; exact rfl)
theorem tq38_886 : tT g 38 886 = s_bin 38 887 (fun a b => a + b) := rfl
theorem A38_886 {L : AL} {r : List Value} {a b : Int32} : aw g 38 886 L (.int b :: .int a :: r) σ Q = aw g 38 887 L (.int (a + b) :: r) σ Q := (aw_eq g 38 886 _ _ _ _).trans (by rw [tq38_886]; exact rfl)
theorem tq38_887 : tT g 38 887 = s_ald 38 888 27 := rfl
theorem A38_887 {L : AL} {r : List Value} {a : Nat} {i : Int32} : aw g 38 887 L (.int i :: .ref a :: r) σ Q = (hty σ a = some 27 ∧ ¬ i < 0 ∧ i.toNatClampNeg < hln σ a ∧ aw g 38 888 L (hv σ 27 a i.toNatClampNeg :: r) σ Q) := (aw_eq g 38 887 _ _ _ _).trans (by rw [tq38_887]; exact rfl)
theorem tq38_888 : tT g 38 888 = s_load vRf 38 889 0 := rfl
theorem A38_888 {l1 : Option Value} {l2 : Option Value} {l3 : Option Value} {l4 : Option Value} {l5 : Option Value} {l6 : Option Value} {l7 : Option Value} {l8 : Option Value} {x : Value} {r : List Value} : aw g 38 888 [some (x), l1, l2, l3, l4, l5, l6, l7, l8] r σ Q = (vRf x = true ∧ aw g 38 889 [some (x), l1, l2, l3, l4, l5, l6, l7, l8] (x :: r) σ Q) := (aw_eq g 38 888 _ _ _ _).trans (by rw [tq38_888]; exact h_load rfl)
theorem tq38_889 : tT g 38 889 = s_load vI 38 891 5 := rfl
theorem A38_889 {l0 : Option Value} {l1 : Option Value} {l2 : Option Value} {l3 : Option Value} {l4 : Option Value} {l6 : Option Value} {l7 : Option Value} {l8 : Option Value} {x : Int32} {r : List Value} : aw g 38 889 [l0, l1, l2, l3, l4, some (.int x), l6, l7, l8] r σ Q = aw g 38 891 [l0, l1, l2, l3, l4, some (.int x), l6, l7, l8] (.int x :: r) σ Q := (aw_eq g 38 889 _ _ _ _).trans (by rw [tq38_889]; exact (h_load rfl).trans (propext ⟨fun z => z.2, fun z => ⟨rfl, z⟩⟩))
theorem tq38_891 : tT g 38 891 = s_const 38 892 (.int 3) := rfl
theorem A38_891 {L : AL} {r : List Value} : aw g 38 891 L r σ Q = aw g 38 892 L (.int 3 :: r) σ Q := (aw_eq g 38 891 _ _ _ _).trans (by rw [tq38_891]; exact rfl)
theorem tq38_892 : tT g 38 892 = s_bin 38 893 (fun a b => a + b) := rfl
theorem A38_892 {L : AL} {r : List Value} {a b : Int32} : aw g 38 892 L (.int b :: .int a :: r) σ Q = aw g 38 893 L (.int (a + b) :: r) σ Q := (aw_eq g 38 892 _ _ _ _).trans (by rw [tq38_892]; exact rfl)
theorem tq38_893 : tT g 38 893 = s_ald 38 894 27 := rfl
theorem A38_893 {L : AL} {r : List Value} {a : Nat} {i : Int32} : aw g 38 893 L (.int i :: .ref a :: r) σ Q = (hty σ a = some 27 ∧ ¬ i < 0 ∧ i.toNatClampNeg < hln σ a ∧ aw g 38 894 L (hv σ 27 a i.toNatClampNeg :: r) σ Q) := (aw_eq g 38 893 _ _ _ _).trans (by rw [tq38_893]; exact rfl)
theorem tq38_894 : tT g 38 894 = s_load vRf 38 895 3 := rfl
theorem A38_894 {l0 : Option Value} {l1 : Option Value} {l2 : Option Value} {l4 : Option Value} {l5 : Option Value} {l6 : Option Value} {l7 : Option Value} {l8 : Option Value} {x : Value} {r : List Value} : aw g 38 894 [l0, l1, l2, some (x), l4, l5, l6, l7, l8] r σ Q = (vRf x = true ∧ aw g 38 895 [l0, l1, l2, some (x), l4, l5, l6, l7, l8] (x :: r) σ Q) := (aw_eq g 38 894 _ _ _ _).trans (by rw [tq38_894]; exact h_load rfl)
theorem tq38_895 : tT g 38 895 = s_callk 38 898 50 [1, 0, 0, 0, 1] 6 := rfl
theorem A38_895 {L : AL} {r : List Value} {w0 w1 w2 w3 w4 : Value} : aw g 38 895 L (w4 :: w3 :: w2 :: w1 :: w0 :: r) σ Q = ((vRf w0 && (vI w1 && (vI w2 && (vI w3 && (vRf w4 && true))))) = true ∧ csum r ≤ 8 ∧ aw g 50 0 [some w0, some w1, some w2, some w3, some w4, none] [] σ (kt (aw g) 38 898 L r Q)) := (aw_eq g 38 895 _ _ _ _).trans (by rw [tq38_895]; exact rfl)
theorem tq38_898 : tT g 38 898 = s_store vI 38 900 6 := rfl
theorem A38_898 {l0 : Option Value} {l1 : Option Value} {l2 : Option Value} {l3 : Option Value} {l4 : Option Value} {l5 : Option Value} {l6 : Option Value} {l7 : Option Value} {l8 : Option Value} {x : Int32} {r : List Value} : aw g 38 898 [l0, l1, l2, l3, l4, l5, l6, l7, l8] (.int x :: r) σ Q = (oc l5 = true ∧ aw g 38 900 [l0, l1, l2, l3, l4, l5, some (.int x), l7, l8] r σ Q) := (aw_eq g 38 898 _ _ _ _).trans (by rw [tq38_898]; exact (h_store (o := oc l5) rfl rfl rfl).trans (propext ⟨fun z => z.2, fun z => ⟨rfl, z⟩⟩))
theorem tq38_900 : tT g 38 900 = s_load vRf 38 901 2 := rfl
theorem A38_900 {l0 : Option Value} {l1 : Option Value} {l3 : Option Value} {l4 : Option Value} {l5 : Option Value} {l6 : Option Value} {l7 : Option Value} {l8 : Option Value} {x : Value} {r : List Value} : aw g 38 900 [l0, l1, some (x), l3, l4, l5, l6, l7, l8] r σ Q = (vRf x = true ∧ aw g 38 901 [l0, l1, some (x), l3, l4, l5, l6, l7, l8] (x :: r) σ Q) := (aw_eq g 38 900 _ _ _ _).trans (by rw [tq38_900]; exact h_load rfl)
theorem tq38_901 : tT g 38 901 = s_load vRf 38 902 0 := rfl
theorem A38_901 {l1 : Option Value} {l2 : Option Value} {l3 : Option Value} {l4 : Option Value} {l5 : Option Value} {l6 : Option Value} {l7 : Option Value} {l8 : Option Value} {x : Value} {r : List Value} : aw g 38 901 [some (x), l1, l2, l3, l4, l5, l6, l7, l8] r σ Q = (vRf x = true ∧ aw g 38 902 [some (x), l1, l2, l3, l4, l5, l6, l7, l8] (x :: r) σ Q) := (aw_eq g 38 901 _ _ _ _).trans (by rw [tq38_901]; exact h_load rfl)
theorem tq38_902 : tT g 38 902 = s_load vI 38 904 5 := rfl
theorem A38_902 {l0 : Option Value} {l1 : Option Value} {l2 : Option Value} {l3 : Option Value} {l4 : Option Value} {l6 : Option Value} {l7 : Option Value} {l8 : Option Value} {x : Int32} {r : List Value} : aw g 38 902 [l0, l1, l2, l3, l4, some (.int x), l6, l7, l8] r σ Q = aw g 38 904 [l0, l1, l2, l3, l4, some (.int x), l6, l7, l8] (.int x :: r) σ Q := (aw_eq g 38 902 _ _ _ _).trans (by rw [tq38_902]; exact (h_load rfl).trans (propext ⟨fun z => z.2, fun z => ⟨rfl, z⟩⟩))
theorem tq38_904 : tT g 38 904 = s_const 38 905 (.int 1) := rfl
theorem A38_904 {L : AL} {r : List Value} : aw g 38 904 L r σ Q = aw g 38 905 L (.int 1 :: r) σ Q := (aw_eq g 38 904 _ _ _ _).trans (by rw [tq38_904]; exact rfl)
theorem tq38_905 : tT g 38 905 = s_bin 38 906 (fun a b => a + b) := rfl
theorem A38_905 {L : AL} {r : List Value} {a b : Int32} : aw g 38 905 L (.int b :: .int a :: r) σ Q = aw g 38 906 L (.int (a + b) :: r) σ Q := (aw_eq g 38 905 _ _ _ _).trans (by rw [tq38_905]; exact rfl)
theorem tq38_906 : tT g 38 906 = s_ald 38 907 27 := rfl
theorem A38_906 {L : AL} {r : List Value} {a : Nat} {i : Int32} : aw g 38 906 L (.int i :: .ref a :: r) σ Q = (hty σ a = some 27 ∧ ¬ i < 0 ∧ i.toNatClampNeg < hln σ a ∧ aw g 38 907 L (hv σ 27 a i.toNatClampNeg :: r) σ Q) := (aw_eq g 38 906 _ _ _ _).trans (by rw [tq38_906]; exact rfl)
theorem tq38_907 : tT g 38 907 = s_load vRf 38 908 0 := rfl
theorem A38_907 {l1 : Option Value} {l2 : Option Value} {l3 : Option Value} {l4 : Option Value} {l5 : Option Value} {l6 : Option Value} {l7 : Option Value} {l8 : Option Value} {x : Value} {r : List Value} : aw g 38 907 [some (x), l1, l2, l3, l4, l5, l6, l7, l8] r σ Q = (vRf x = true ∧ aw g 38 908 [some (x), l1, l2, l3, l4, l5, l6, l7, l8] (x :: r) σ Q) := (aw_eq g 38 907 _ _ _ _).trans (by rw [tq38_907]; exact h_load rfl)
theorem tq38_908 : tT g 38 908 = s_load vI 38 910 5 := rfl
theorem A38_908 {l0 : Option Value} {l1 : Option Value} {l2 : Option Value} {l3 : Option Value} {l4 : Option Value} {l6 : Option Value} {l7 : Option Value} {l8 : Option Value} {x : Int32} {r : List Value} : aw g 38 908 [l0, l1, l2, l3, l4, some (.int x), l6, l7, l8] r σ Q = aw g 38 910 [l0, l1, l2, l3, l4, some (.int x), l6, l7, l8] (.int x :: r) σ Q := (aw_eq g 38 908 _ _ _ _).trans (by rw [tq38_908]; exact (h_load rfl).trans (propext ⟨fun z => z.2, fun z => ⟨rfl, z⟩⟩))
theorem tq38_910 : tT g 38 910 = s_const 38 911 (.int 2) := rfl
theorem A38_910 {L : AL} {r : List Value} : aw g 38 910 L r σ Q = aw g 38 911 L (.int 2 :: r) σ Q := (aw_eq g 38 910 _ _ _ _).trans (by rw [tq38_910]; exact rfl)
theorem tq38_911 : tT g 38 911 = s_bin 38 912 (fun a b => a + b) := rfl
theorem A38_911 {L : AL} {r : List Value} {a b : Int32} : aw g 38 911 L (.int b :: .int a :: r) σ Q = aw g 38 912 L (.int (a + b) :: r) σ Q := (aw_eq g 38 911 _ _ _ _).trans (by rw [tq38_911]; exact rfl)
theorem tq38_912 : tT g 38 912 = s_ald 38 913 27 := rfl
theorem A38_912 {L : AL} {r : List Value} {a : Nat} {i : Int32} : aw g 38 912 L (.int i :: .ref a :: r) σ Q = (hty σ a = some 27 ∧ ¬ i < 0 ∧ i.toNatClampNeg < hln σ a ∧ aw g 38 913 L (hv σ 27 a i.toNatClampNeg :: r) σ Q) := (aw_eq g 38 912 _ _ _ _).trans (by rw [tq38_912]; exact rfl)
theorem tq38_913 : tT g 38 913 = s_load vRf 38 914 0 := rfl
theorem A38_913 {l1 : Option Value} {l2 : Option Value} {l3 : Option Value} {l4 : Option Value} {l5 : Option Value} {l6 : Option Value} {l7 : Option Value} {l8 : Option Value} {x : Value} {r : List Value} : aw g 38 913 [some (x), l1, l2, l3, l4, l5, l6, l7, l8] r σ Q = (vRf x = true ∧ aw g 38 914 [some (x), l1, l2, l3, l4, l5, l6, l7, l8] (x :: r) σ Q) := (aw_eq g 38 913 _ _ _ _).trans (by rw [tq38_913]; exact h_load rfl)
theorem tq38_914 : tT g 38 914 = s_load vI 38 916 5 := rfl
theorem A38_914 {l0 : Option Value} {l1 : Option Value} {l2 : Option Value} {l3 : Option Value} {l4 : Option Value} {l6 : Option Value} {l7 : Option Value} {l8 : Option Value} {x : Int32} {r : List Value} : aw g 38 914 [l0, l1, l2, l3, l4, some (.int x), l6, l7, l8] r σ Q = aw g 38 916 [l0, l1, l2, l3, l4, some (.int x), l6, l7, l8] (.int x :: r) σ Q := (aw_eq g 38 914 _ _ _ _).trans (by rw [tq38_914]; exact (h_load rfl).trans (propext ⟨fun z => z.2, fun z => ⟨rfl, z⟩⟩))
theorem tq38_916 : tT g 38 916 = s_const 38 917 (.int 3) := rfl
theorem A38_916 {L : AL} {r : List Value} : aw g 38 916 L r σ Q = aw g 38 917 L (.int 3 :: r) σ Q := (aw_eq g 38 916 _ _ _ _).trans (by rw [tq38_916]; exact rfl)
theorem tq38_917 : tT g 38 917 = s_bin 38 918 (fun a b => a + b) := rfl
theorem A38_917 {L : AL} {r : List Value} {a b : Int32} : aw g 38 917 L (.int b :: .int a :: r) σ Q = aw g 38 918 L (.int (a + b) :: r) σ Q := (aw_eq g 38 917 _ _ _ _).trans (by rw [tq38_917]; exact rfl)
theorem tq38_918 : tT g 38 918 = s_ald 38 919 27 := rfl
theorem A38_918 {L : AL} {r : List Value} {a : Nat} {i : Int32} : aw g 38 918 L (.int i :: .ref a :: r) σ Q = (hty σ a = some 27 ∧ ¬ i < 0 ∧ i.toNatClampNeg < hln σ a ∧ aw g 38 919 L (hv σ 27 a i.toNatClampNeg :: r) σ Q) := (aw_eq g 38 918 _ _ _ _).trans (by rw [tq38_918]; exact rfl)
theorem tq38_919 : tT g 38 919 = s_callvk 38 922 159 3 [0, 0, 0] 4 := rfl
theorem A38_919 {L : AL} {r : List Value} {a : Nat} {w0 w1 w2 : Value} : aw g 38 919 L (w2 :: w1 :: w0 :: .ref a :: r) σ Q = (hty σ a = some 3 ∧ (vI w0 && (vI w1 && (vI w2 && true))) = true ∧ csum r ≤ 8 ∧ aw g 159 0 [some (.ref a), some w0, some w1, some w2] [] σ (kt (aw g) 38 922 L r Q)) := (aw_eq g 38 919 _ _ _ _).trans (by rw [tq38_919]; exact rfl)
theorem tq38_922 : tT g 38 922 = s_store vI 38 924 7 := rfl
theorem A38_922 {l0 : Option Value} {l1 : Option Value} {l2 : Option Value} {l3 : Option Value} {l4 : Option Value} {l5 : Option Value} {l6 : Option Value} {l7 : Option Value} {l8 : Option Value} {x : Int32} {r : List Value} : aw g 38 922 [l0, l1, l2, l3, l4, l5, l6, l7, l8] (.int x :: r) σ Q = (oc l6 = true ∧ aw g 38 924 [l0, l1, l2, l3, l4, l5, l6, some (.int x), l8] r σ Q) := (aw_eq g 38 922 _ _ _ _).trans (by rw [tq38_922]; exact (h_store (o := oc l6) rfl rfl rfl).trans (propext ⟨fun z => z.2, fun z => ⟨rfl, z⟩⟩))
theorem tq38_924 : tT g 38 924 = s_load vRf 38 925 2 := rfl
theorem A38_924 {l0 : Option Value} {l1 : Option Value} {l3 : Option Value} {l4 : Option Value} {l5 : Option Value} {l6 : Option Value} {l7 : Option Value} {l8 : Option Value} {x : Value} {r : List Value} : aw g 38 924 [l0, l1, some (x), l3, l4, l5, l6, l7, l8] r σ Q = (vRf x = true ∧ aw g 38 925 [l0, l1, some (x), l3, l4, l5, l6, l7, l8] (x :: r) σ Q) := (aw_eq g 38 924 _ _ _ _).trans (by rw [tq38_924]; exact h_load rfl)
theorem tq38_925 : tT g 38 925 = s_callvk 38 928 138 3 [] 1 := rfl
theorem A38_925 {L : AL} {r : List Value} {a : Nat} : aw g 38 925 L (.ref a :: r) σ Q = (hty σ a = some 3 ∧ true = true ∧ csum r ≤ 8 ∧ aw g 138 0 [some (.ref a)] [] σ (kt (aw g) 38 928 L r Q)) := (aw_eq g 38 925 _ _ _ _).trans (by rw [tq38_925]; exact rfl)
theorem tq38_928 : tT g 38 928 = s_load vI 38 930 6 := rfl
theorem A38_928 {l0 : Option Value} {l1 : Option Value} {l2 : Option Value} {l3 : Option Value} {l4 : Option Value} {l5 : Option Value} {l7 : Option Value} {l8 : Option Value} {x : Int32} {r : List Value} : aw g 38 928 [l0, l1, l2, l3, l4, l5, some (.int x), l7, l8] r σ Q = aw g 38 930 [l0, l1, l2, l3, l4, l5, some (.int x), l7, l8] (.int x :: r) σ Q := (aw_eq g 38 928 _ _ _ _).trans (by rw [tq38_928]; exact (h_load rfl).trans (propext ⟨fun z => z.2, fun z => ⟨rfl, z⟩⟩))
theorem tq38_930 : tT g 38 930 = s_icmp 38 933 935 (fun a b => a = b) := rfl
theorem A38_930 {L : AL} {r : List Value} {a b : Int32} : aw g 38 930 L (.int b :: .int a :: r) σ Q = ((a = b → aw g 38 935 L r σ Q) ∧ (¬ a = b → aw g 38 933 L r σ Q)) := (aw_eq g 38 930 _ _ _ _).trans (by rw [tq38_930]; exact rfl)
theorem tq38_933 : tT g 38 933 = s_const 38 934 (.int 0) := rfl
theorem A38_933 {L : AL} {r : List Value} : aw g 38 933 L r σ Q = aw g 38 934 L (.int 0 :: r) σ Q := (aw_eq g 38 933 _ _ _ _).trans (by rw [tq38_933]; exact rfl)
theorem tq38_934 : tT g 38 934 = s_ret vZ := rfl
theorem A38_934 {L : AL} {v : Value} : aw g 38 934 L [v] σ Q = (vZ v ∧ Q (.inl (some v)) σ) := (aw_eq g 38 934 _ _ _ _).trans (by rw [tq38_934]; exact rfl)
theorem tq38_935 : tT g 38 935 = s_load vI 38 937 6 := rfl
theorem A38_935 {l0 : Option Value} {l1 : Option Value} {l2 : Option Value} {l3 : Option Value} {l4 : Option Value} {l5 : Option Value} {l7 : Option Value} {l8 : Option Value} {x : Int32} {r : List Value} : aw g 38 935 [l0, l1, l2, l3, l4, l5, some (.int x), l7, l8] r σ Q = aw g 38 937 [l0, l1, l2, l3, l4, l5, some (.int x), l7, l8] (.int x :: r) σ Q := (aw_eq g 38 935 _ _ _ _).trans (by rw [tq38_935]; exact (h_load rfl).trans (propext ⟨fun z => z.2, fun z => ⟨rfl, z⟩⟩))
theorem tq38_937 : tT g 38 937 = s_if 38 952 940 (fun a => a = 0) := rfl
theorem A38_937 {L : AL} {r : List Value} {a : Int32} : aw g 38 937 L (.int a :: r) σ Q = ((a = 0 → aw g 38 940 L r σ Q) ∧ (¬ a = 0 → aw g 38 952 L r σ Q)) := (aw_eq g 38 937 _ _ _ _).trans (by rw [tq38_937]; exact rfl)
theorem tq38_940 : tT g 38 940 = s_load vRf 38 941 3 := rfl
theorem A38_940 {l0 : Option Value} {l1 : Option Value} {l2 : Option Value} {l4 : Option Value} {l5 : Option Value} {l6 : Option Value} {l7 : Option Value} {l8 : Option Value} {x : Value} {r : List Value} : aw g 38 940 [l0, l1, l2, some (x), l4, l5, l6, l7, l8] r σ Q = (vRf x = true ∧ aw g 38 941 [l0, l1, l2, some (x), l4, l5, l6, l7, l8] (x :: r) σ Q) := (aw_eq g 38 940 _ _ _ _).trans (by rw [tq38_940]; exact h_load rfl)
theorem tq38_941 : tT g 38 941 = s_const 38 942 (.int 0) := rfl
theorem A38_941 {L : AL} {r : List Value} : aw g 38 941 L r σ Q = aw g 38 942 L (.int 0 :: r) σ Q := (aw_eq g 38 941 _ _ _ _).trans (by rw [tq38_941]; exact rfl)
theorem tq38_942 : tT g 38 942 = s_ald 38 943 22 := rfl
theorem A38_942 {L : AL} {r : List Value} {a : Nat} {i : Int32} : aw g 38 942 L (.int i :: .ref a :: r) σ Q = (hty σ a = some 22 ∧ ¬ i < 0 ∧ i.toNatClampNeg < hln σ a ∧ aw g 38 943 L (hv σ 22 a i.toNatClampNeg :: r) σ Q) := (aw_eq g 38 942 _ _ _ _).trans (by rw [tq38_942]; exact rfl)
theorem tq38_943 : tT g 38 943 = s_load vI 38 945 7 := rfl
theorem A38_943 {l0 : Option Value} {l1 : Option Value} {l2 : Option Value} {l3 : Option Value} {l4 : Option Value} {l5 : Option Value} {l6 : Option Value} {l8 : Option Value} {x : Int32} {r : List Value} : aw g 38 943 [l0, l1, l2, l3, l4, l5, l6, some (.int x), l8] r σ Q = aw g 38 945 [l0, l1, l2, l3, l4, l5, l6, some (.int x), l8] (.int x :: r) σ Q := (aw_eq g 38 943 _ _ _ _).trans (by rw [tq38_943]; exact (h_load rfl).trans (propext ⟨fun z => z.2, fun z => ⟨rfl, z⟩⟩))
theorem tq38_945 : tT g 38 945 = s_i2 38 946 (fun a => .long a.toInt64) := rfl
theorem A38_945 {L : AL} {r : List Value} {a : Int32} : aw g 38 945 L (.int a :: r) σ Q = aw g 38 946 L (.long a.toInt64 :: r) σ Q := (aw_eq g 38 945 _ _ _ _).trans (by rw [tq38_945]; exact rfl)
theorem tq38_946 : tT g 38 946 = s_lbin 38 947 (fun a b => .int (lg_cmp a b)) := rfl
theorem A38_946 {L : AL} {r : List Value} {a b : Int64} : aw g 38 946 L (.long b :: .long a :: r) σ Q = aw g 38 947 L (.int (lg_cmp a b) :: r) σ Q := (aw_eq g 38 946 _ _ _ _).trans (by rw [tq38_946]; exact rfl)
theorem tq38_947 : tT g 38 947 = s_if 38 950 952 (fun a => a = 0) := rfl
theorem A38_947 {L : AL} {r : List Value} {a : Int32} : aw g 38 947 L (.int a :: r) σ Q = ((a = 0 → aw g 38 952 L r σ Q) ∧ (¬ a = 0 → aw g 38 950 L r σ Q)) := (aw_eq g 38 947 _ _ _ _).trans (by rw [tq38_947]; exact rfl)
theorem tq38_950 : tT g 38 950 = s_const 38 951 (.int 0) := rfl
theorem A38_950 {L : AL} {r : List Value} : aw g 38 950 L r σ Q = aw g 38 951 L (.int 0 :: r) σ Q := (aw_eq g 38 950 _ _ _ _).trans (by rw [tq38_950]; exact rfl)
theorem tq38_951 : tT g 38 951 = s_ret vZ := rfl
theorem A38_951 {L : AL} {v : Value} : aw g 38 951 L [v] σ Q = (vZ v ∧ Q (.inl (some v)) σ) := (aw_eq g 38 951 _ _ _ _).trans (by rw [tq38_951]; exact rfl)
theorem tq38_952 : tT g 38 952 = s_goto 38 1454 := rfl
theorem A38_952 {L : AL} {r : List Value} : aw g 38 952 L r σ Q = aw g 38 1454 L r σ Q := (aw_eq g 38 952 _ _ _ _).trans (by rw [tq38_952]; exact rfl)
theorem tq38_955 : tT g 38 955 = s_load vRf 38 956 1 := rfl
theorem A38_955 {l0 : Option Value} {l2 : Option Value} {l3 : Option Value} {l4 : Option Value} {l5 : Option Value} {l6 : Option Value} {l7 : Option Value} {l8 : Option Value} {x : Value} {r : List Value} : aw g 38 955 [l0, some (x), l2, l3, l4, l5, l6, l7, l8] r σ Q = (vRf x = true ∧ aw g 38 956 [l0, some (x), l2, l3, l4, l5, l6, l7, l8] (x :: r) σ Q) := (aw_eq g 38 955 _ _ _ _).trans (by rw [tq38_955]; exact h_load rfl)
theorem tq38_956 : tT g 38 956 = s_load vRf 38 957 0 := rfl
theorem A38_956 {l1 : Option Value} {l2 : Option Value} {l3 : Option Value} {l4 : Option Value} {l5 : Option Value} {l6 : Option Value} {l7 : Option Value} {l8 : Option Value} {x : Value} {r : List Value} : aw g 38 956 [some (x), l1, l2, l3, l4, l5, l6, l7, l8] r σ Q = (vRf x = true ∧ aw g 38 957 [some (x), l1, l2, l3, l4, l5, l6, l7, l8] (x :: r) σ Q) := (aw_eq g 38 956 _ _ _ _).trans (by rw [tq38_956]; exact h_load rfl)
theorem tq38_957 : tT g 38 957 = s_load vI 38 959 5 := rfl
theorem A38_957 {l0 : Option Value} {l1 : Option Value} {l2 : Option Value} {l3 : Option Value} {l4 : Option Value} {l6 : Option Value} {l7 : Option Value} {l8 : Option Value} {x : Int32} {r : List Value} : aw g 38 957 [l0, l1, l2, l3, l4, some (.int x), l6, l7, l8] r σ Q = aw g 38 959 [l0, l1, l2, l3, l4, some (.int x), l6, l7, l8] (.int x :: r) σ Q := (aw_eq g 38 957 _ _ _ _).trans (by rw [tq38_957]; exact (h_load rfl).trans (propext ⟨fun z => z.2, fun z => ⟨rfl, z⟩⟩))
theorem tq38_959 : tT g 38 959 = s_const 38 960 (.int 1) := rfl
theorem A38_959 {L : AL} {r : List Value} : aw g 38 959 L r σ Q = aw g 38 960 L (.int 1 :: r) σ Q := (aw_eq g 38 959 _ _ _ _).trans (by rw [tq38_959]; exact rfl)
theorem tq38_960 : tT g 38 960 = s_bin 38 961 (fun a b => a + b) := rfl
theorem A38_960 {L : AL} {r : List Value} {a b : Int32} : aw g 38 960 L (.int b :: .int a :: r) σ Q = aw g 38 961 L (.int (a + b) :: r) σ Q := (aw_eq g 38 960 _ _ _ _).trans (by rw [tq38_960]; exact rfl)
theorem tq38_961 : tT g 38 961 = s_ald 38 962 27 := rfl
theorem A38_961 {L : AL} {r : List Value} {a : Nat} {i : Int32} : aw g 38 961 L (.int i :: .ref a :: r) σ Q = (hty σ a = some 27 ∧ ¬ i < 0 ∧ i.toNatClampNeg < hln σ a ∧ aw g 38 962 L (hv σ 27 a i.toNatClampNeg :: r) σ Q) := (aw_eq g 38 961 _ _ _ _).trans (by rw [tq38_961]; exact rfl)
theorem tq38_962 : tT g 38 962 = s_load vRf 38 963 0 := rfl
theorem A38_962 {l1 : Option Value} {l2 : Option Value} {l3 : Option Value} {l4 : Option Value} {l5 : Option Value} {l6 : Option Value} {l7 : Option Value} {l8 : Option Value} {x : Value} {r : List Value} : aw g 38 962 [some (x), l1, l2, l3, l4, l5, l6, l7, l8] r σ Q = (vRf x = true ∧ aw g 38 963 [some (x), l1, l2, l3, l4, l5, l6, l7, l8] (x :: r) σ Q) := (aw_eq g 38 962 _ _ _ _).trans (by rw [tq38_962]; exact h_load rfl)
theorem tq38_963 : tT g 38 963 = s_load vI 38 965 5 := rfl
theorem A38_963 {l0 : Option Value} {l1 : Option Value} {l2 : Option Value} {l3 : Option Value} {l4 : Option Value} {l6 : Option Value} {l7 : Option Value} {l8 : Option Value} {x : Int32} {r : List Value} : aw g 38 963 [l0, l1, l2, l3, l4, some (.int x), l6, l7, l8] r σ Q = aw g 38 965 [l0, l1, l2, l3, l4, some (.int x), l6, l7, l8] (.int x :: r) σ Q := (aw_eq g 38 963 _ _ _ _).trans (by rw [tq38_963]; exact (h_load rfl).trans (propext ⟨fun z => z.2, fun z => ⟨rfl, z⟩⟩))
theorem tq38_965 : tT g 38 965 = s_const 38 966 (.int 2) := rfl
theorem A38_965 {L : AL} {r : List Value} : aw g 38 965 L r σ Q = aw g 38 966 L (.int 2 :: r) σ Q := (aw_eq g 38 965 _ _ _ _).trans (by rw [tq38_965]; exact rfl)
theorem tq38_966 : tT g 38 966 = s_bin 38 967 (fun a b => a + b) := rfl
theorem A38_966 {L : AL} {r : List Value} {a b : Int32} : aw g 38 966 L (.int b :: .int a :: r) σ Q = aw g 38 967 L (.int (a + b) :: r) σ Q := (aw_eq g 38 966 _ _ _ _).trans (by rw [tq38_966]; exact rfl)
theorem tq38_967 : tT g 38 967 = s_ald 38 968 27 := rfl
theorem A38_967 {L : AL} {r : List Value} {a : Nat} {i : Int32} : aw g 38 967 L (.int i :: .ref a :: r) σ Q = (hty σ a = some 27 ∧ ¬ i < 0 ∧ i.toNatClampNeg < hln σ a ∧ aw g 38 968 L (hv σ 27 a i.toNatClampNeg :: r) σ Q) := (aw_eq g 38 967 _ _ _ _).trans (by rw [tq38_967]; exact rfl)
theorem tq38_968 : tT g 38 968 = s_load vRf 38 969 3 := rfl
theorem A38_968 {l0 : Option Value} {l1 : Option Value} {l2 : Option Value} {l4 : Option Value} {l5 : Option Value} {l6 : Option Value} {l7 : Option Value} {l8 : Option Value} {x : Value} {r : List Value} : aw g 38 968 [l0, l1, l2, some (x), l4, l5, l6, l7, l8] r σ Q = (vRf x = true ∧ aw g 38 969 [l0, l1, l2, some (x), l4, l5, l6, l7, l8] (x :: r) σ Q) := (aw_eq g 38 968 _ _ _ _).trans (by rw [tq38_968]; exact h_load rfl)
theorem tq38_969 : tT g 38 969 = s_callk 38 972 51 [1, 0, 0, 1] 5 := rfl
theorem A38_969 {L : AL} {r : List Value} {w0 w1 w2 w3 : Value} : aw g 38 969 L (w3 :: w2 :: w1 :: w0 :: r) σ Q = ((vRf w0 && (vI w1 && (vI w2 && (vRf w3 && true)))) = true ∧ csum r ≤ 8 ∧ aw g 51 0 [some w0, some w1, some w2, some w3, none] [] σ (kt (aw g) 38 972 L r Q)) := (aw_eq g 38 969 _ _ _ _).trans (by rw [tq38_969]; exact rfl)
theorem tq38_972 : tT g 38 972 = s_store vI 38 974 6 := rfl
theorem A38_972 {l0 : Option Value} {l1 : Option Value} {l2 : Option Value} {l3 : Option Value} {l4 : Option Value} {l5 : Option Value} {l6 : Option Value} {l7 : Option Value} {l8 : Option Value} {x : Int32} {r : List Value} : aw g 38 972 [l0, l1, l2, l3, l4, l5, l6, l7, l8] (.int x :: r) σ Q = (oc l5 = true ∧ aw g 38 974 [l0, l1, l2, l3, l4, l5, some (.int x), l7, l8] r σ Q) := (aw_eq g 38 972 _ _ _ _).trans (by rw [tq38_972]; exact (h_store (o := oc l5) rfl rfl rfl).trans (propext ⟨fun z => z.2, fun z => ⟨rfl, z⟩⟩))
theorem tq38_974 : tT g 38 974 = s_load vRf 38 975 2 := rfl
theorem A38_974 {l0 : Option Value} {l1 : Option Value} {l3 : Option Value} {l4 : Option Value} {l5 : Option Value} {l6 : Option Value} {l7 : Option Value} {l8 : Option Value} {x : Value} {r : List Value} : aw g 38 974 [l0, l1, some (x), l3, l4, l5, l6, l7, l8] r σ Q = (vRf x = true ∧ aw g 38 975 [l0, l1, some (x), l3, l4, l5, l6, l7, l8] (x :: r) σ Q) := (aw_eq g 38 974 _ _ _ _).trans (by rw [tq38_974]; exact h_load rfl)
theorem tq38_975 : tT g 38 975 = s_load vRf 38 976 0 := rfl
theorem A38_975 {l1 : Option Value} {l2 : Option Value} {l3 : Option Value} {l4 : Option Value} {l5 : Option Value} {l6 : Option Value} {l7 : Option Value} {l8 : Option Value} {x : Value} {r : List Value} : aw g 38 975 [some (x), l1, l2, l3, l4, l5, l6, l7, l8] r σ Q = (vRf x = true ∧ aw g 38 976 [some (x), l1, l2, l3, l4, l5, l6, l7, l8] (x :: r) σ Q) := (aw_eq g 38 975 _ _ _ _).trans (by rw [tq38_975]; exact h_load rfl)
theorem tq38_976 : tT g 38 976 = s_load vI 38 978 5 := rfl
theorem A38_976 {l0 : Option Value} {l1 : Option Value} {l2 : Option Value} {l3 : Option Value} {l4 : Option Value} {l6 : Option Value} {l7 : Option Value} {l8 : Option Value} {x : Int32} {r : List Value} : aw g 38 976 [l0, l1, l2, l3, l4, some (.int x), l6, l7, l8] r σ Q = aw g 38 978 [l0, l1, l2, l3, l4, some (.int x), l6, l7, l8] (.int x :: r) σ Q := (aw_eq g 38 976 _ _ _ _).trans (by rw [tq38_976]; exact (h_load rfl).trans (propext ⟨fun z => z.2, fun z => ⟨rfl, z⟩⟩))
theorem tq38_978 : tT g 38 978 = s_const 38 979 (.int 1) := rfl
theorem A38_978 {L : AL} {r : List Value} : aw g 38 978 L r σ Q = aw g 38 979 L (.int 1 :: r) σ Q := (aw_eq g 38 978 _ _ _ _).trans (by rw [tq38_978]; exact rfl)
theorem tq38_979 : tT g 38 979 = s_bin 38 980 (fun a b => a + b) := rfl
theorem A38_979 {L : AL} {r : List Value} {a b : Int32} : aw g 38 979 L (.int b :: .int a :: r) σ Q = aw g 38 980 L (.int (a + b) :: r) σ Q := (aw_eq g 38 979 _ _ _ _).trans (by rw [tq38_979]; exact rfl)
theorem tq38_980 : tT g 38 980 = s_ald 38 981 27 := rfl
theorem A38_980 {L : AL} {r : List Value} {a : Nat} {i : Int32} : aw g 38 980 L (.int i :: .ref a :: r) σ Q = (hty σ a = some 27 ∧ ¬ i < 0 ∧ i.toNatClampNeg < hln σ a ∧ aw g 38 981 L (hv σ 27 a i.toNatClampNeg :: r) σ Q) := (aw_eq g 38 980 _ _ _ _).trans (by rw [tq38_980]; exact rfl)
theorem tq38_981 : tT g 38 981 = s_load vRf 38 982 0 := rfl
theorem A38_981 {l1 : Option Value} {l2 : Option Value} {l3 : Option Value} {l4 : Option Value} {l5 : Option Value} {l6 : Option Value} {l7 : Option Value} {l8 : Option Value} {x : Value} {r : List Value} : aw g 38 981 [some (x), l1, l2, l3, l4, l5, l6, l7, l8] r σ Q = (vRf x = true ∧ aw g 38 982 [some (x), l1, l2, l3, l4, l5, l6, l7, l8] (x :: r) σ Q) := (aw_eq g 38 981 _ _ _ _).trans (by rw [tq38_981]; exact h_load rfl)
theorem tq38_982 : tT g 38 982 = s_load vI 38 984 5 := rfl
theorem A38_982 {l0 : Option Value} {l1 : Option Value} {l2 : Option Value} {l3 : Option Value} {l4 : Option Value} {l6 : Option Value} {l7 : Option Value} {l8 : Option Value} {x : Int32} {r : List Value} : aw g 38 982 [l0, l1, l2, l3, l4, some (.int x), l6, l7, l8] r σ Q = aw g 38 984 [l0, l1, l2, l3, l4, some (.int x), l6, l7, l8] (.int x :: r) σ Q := (aw_eq g 38 982 _ _ _ _).trans (by rw [tq38_982]; exact (h_load rfl).trans (propext ⟨fun z => z.2, fun z => ⟨rfl, z⟩⟩))
theorem tq38_984 : tT g 38 984 = s_const 38 985 (.int 2) := rfl
theorem A38_984 {L : AL} {r : List Value} : aw g 38 984 L r σ Q = aw g 38 985 L (.int 2 :: r) σ Q := (aw_eq g 38 984 _ _ _ _).trans (by rw [tq38_984]; exact rfl)
theorem tq38_985 : tT g 38 985 = s_bin 38 986 (fun a b => a + b) := rfl
theorem A38_985 {L : AL} {r : List Value} {a b : Int32} : aw g 38 985 L (.int b :: .int a :: r) σ Q = aw g 38 986 L (.int (a + b) :: r) σ Q := (aw_eq g 38 985 _ _ _ _).trans (by rw [tq38_985]; exact rfl)
theorem tq38_986 : tT g 38 986 = s_ald 38 987 27 := rfl
theorem A38_986 {L : AL} {r : List Value} {a : Nat} {i : Int32} : aw g 38 986 L (.int i :: .ref a :: r) σ Q = (hty σ a = some 27 ∧ ¬ i < 0 ∧ i.toNatClampNeg < hln σ a ∧ aw g 38 987 L (hv σ 27 a i.toNatClampNeg :: r) σ Q) := (aw_eq g 38 986 _ _ _ _).trans (by rw [tq38_986]; exact rfl)
theorem tq38_987 : tT g 38 987 = s_callvk 38 990 162 3 [0, 0] 3 := rfl
theorem A38_987 {L : AL} {r : List Value} {a : Nat} {w0 w1 : Value} : aw g 38 987 L (w1 :: w0 :: .ref a :: r) σ Q = (hty σ a = some 3 ∧ (vI w0 && (vI w1 && true)) = true ∧ csum r ≤ 8 ∧ aw g 162 0 [some (.ref a), some w0, some w1] [] σ (kt (aw g) 38 990 L r Q)) := (aw_eq g 38 987 _ _ _ _).trans (by rw [tq38_987]; exact rfl)
theorem tq38_990 : tT g 38 990 = s_store vI 38 992 7 := rfl
theorem A38_990 {l0 : Option Value} {l1 : Option Value} {l2 : Option Value} {l3 : Option Value} {l4 : Option Value} {l5 : Option Value} {l6 : Option Value} {l7 : Option Value} {l8 : Option Value} {x : Int32} {r : List Value} : aw g 38 990 [l0, l1, l2, l3, l4, l5, l6, l7, l8] (.int x :: r) σ Q = (oc l6 = true ∧ aw g 38 992 [l0, l1, l2, l3, l4, l5, l6, some (.int x), l8] r σ Q) := (aw_eq g 38 990 _ _ _ _).trans (by rw [tq38_990]; exact (h_store (o := oc l6) rfl rfl rfl).trans (propext ⟨fun z => z.2, fun z => ⟨rfl, z⟩⟩))
theorem tq38_992 : tT g 38 992 = s_load vRf 38 993 2 := rfl
theorem A38_992 {l0 : Option Value} {l1 : Option Value} {l3 : Option Value} {l4 : Option Value} {l5 : Option Value} {l6 : Option Value} {l7 : Option Value} {l8 : Option Value} {x : Value} {r : List Value} : aw g 38 992 [l0, l1, some (x), l3, l4, l5, l6, l7, l8] r σ Q = (vRf x = true ∧ aw g 38 993 [l0, l1, some (x), l3, l4, l5, l6, l7, l8] (x :: r) σ Q) := (aw_eq g 38 992 _ _ _ _).trans (by rw [tq38_992]; exact h_load rfl)
theorem tq38_993 : tT g 38 993 = s_callvk 38 996 138 3 [] 1 := rfl
theorem A38_993 {L : AL} {r : List Value} {a : Nat} : aw g 38 993 L (.ref a :: r) σ Q = (hty σ a = some 3 ∧ true = true ∧ csum r ≤ 8 ∧ aw g 138 0 [some (.ref a)] [] σ (kt (aw g) 38 996 L r Q)) := (aw_eq g 38 993 _ _ _ _).trans (by rw [tq38_993]; exact rfl)
theorem tq38_996 : tT g 38 996 = s_load vI 38 998 6 := rfl
theorem A38_996 {l0 : Option Value} {l1 : Option Value} {l2 : Option Value} {l3 : Option Value} {l4 : Option Value} {l5 : Option Value} {l7 : Option Value} {l8 : Option Value} {x : Int32} {r : List Value} : aw g 38 996 [l0, l1, l2, l3, l4, l5, some (.int x), l7, l8] r σ Q = aw g 38 998 [l0, l1, l2, l3, l4, l5, some (.int x), l7, l8] (.int x :: r) σ Q := (aw_eq g 38 996 _ _ _ _).trans (by rw [tq38_996]; exact (h_load rfl).trans (propext ⟨fun z => z.2, fun z => ⟨rfl, z⟩⟩))
theorem tq38_998 : tT g 38 998 = s_icmp 38 1001 1003 (fun a b => a = b) := rfl
theorem A38_998 {L : AL} {r : List Value} {a b : Int32} : aw g 38 998 L (.int b :: .int a :: r) σ Q = ((a = b → aw g 38 1003 L r σ Q) ∧ (¬ a = b → aw g 38 1001 L r σ Q)) := (aw_eq g 38 998 _ _ _ _).trans (by rw [tq38_998]; exact rfl)
theorem tq38_1001 : tT g 38 1001 = s_const 38 1002 (.int 0) := rfl
theorem A38_1001 {L : AL} {r : List Value} : aw g 38 1001 L r σ Q = aw g 38 1002 L (.int 0 :: r) σ Q := (aw_eq g 38 1001 _ _ _ _).trans (by rw [tq38_1001]; exact rfl)
theorem tq38_1002 : tT g 38 1002 = s_ret vZ := rfl
theorem A38_1002 {L : AL} {v : Value} : aw g 38 1002 L [v] σ Q = (vZ v ∧ Q (.inl (some v)) σ) := (aw_eq g 38 1002 _ _ _ _).trans (by rw [tq38_1002]; exact rfl)
theorem tq38_1003 : tT g 38 1003 = s_load vI 38 1005 6 := rfl
theorem A38_1003 {l0 : Option Value} {l1 : Option Value} {l2 : Option Value} {l3 : Option Value} {l4 : Option Value} {l5 : Option Value} {l7 : Option Value} {l8 : Option Value} {x : Int32} {r : List Value} : aw g 38 1003 [l0, l1, l2, l3, l4, l5, some (.int x), l7, l8] r σ Q = aw g 38 1005 [l0, l1, l2, l3, l4, l5, some (.int x), l7, l8] (.int x :: r) σ Q := (aw_eq g 38 1003 _ _ _ _).trans (by rw [tq38_1003]; exact (h_load rfl).trans (propext ⟨fun z => z.2, fun z => ⟨rfl, z⟩⟩))
theorem tq38_1005 : tT g 38 1005 = s_if 38 1020 1008 (fun a => a = 0) := rfl
theorem A38_1005 {L : AL} {r : List Value} {a : Int32} : aw g 38 1005 L (.int a :: r) σ Q = ((a = 0 → aw g 38 1008 L r σ Q) ∧ (¬ a = 0 → aw g 38 1020 L r σ Q)) := (aw_eq g 38 1005 _ _ _ _).trans (by rw [tq38_1005]; exact rfl)
theorem tq38_1008 : tT g 38 1008 = s_load vRf 38 1009 3 := rfl
theorem A38_1008 {l0 : Option Value} {l1 : Option Value} {l2 : Option Value} {l4 : Option Value} {l5 : Option Value} {l6 : Option Value} {l7 : Option Value} {l8 : Option Value} {x : Value} {r : List Value} : aw g 38 1008 [l0, l1, l2, some (x), l4, l5, l6, l7, l8] r σ Q = (vRf x = true ∧ aw g 38 1009 [l0, l1, l2, some (x), l4, l5, l6, l7, l8] (x :: r) σ Q) := (aw_eq g 38 1008 _ _ _ _).trans (by rw [tq38_1008]; exact h_load rfl)
theorem tq38_1009 : tT g 38 1009 = s_const 38 1010 (.int 0) := rfl
theorem A38_1009 {L : AL} {r : List Value} : aw g 38 1009 L r σ Q = aw g 38 1010 L (.int 0 :: r) σ Q := (aw_eq g 38 1009 _ _ _ _).trans (by rw [tq38_1009]; exact rfl)
theorem tq38_1010 : tT g 38 1010 = s_ald 38 1011 22 := rfl
theorem A38_1010 {L : AL} {r : List Value} {a : Nat} {i : Int32} : aw g 38 1010 L (.int i :: .ref a :: r) σ Q = (hty σ a = some 22 ∧ ¬ i < 0 ∧ i.toNatClampNeg < hln σ a ∧ aw g 38 1011 L (hv σ 22 a i.toNatClampNeg :: r) σ Q) := (aw_eq g 38 1010 _ _ _ _).trans (by rw [tq38_1010]; exact rfl)
theorem tq38_1011 : tT g 38 1011 = s_load vI 38 1013 7 := rfl
theorem A38_1011 {l0 : Option Value} {l1 : Option Value} {l2 : Option Value} {l3 : Option Value} {l4 : Option Value} {l5 : Option Value} {l6 : Option Value} {l8 : Option Value} {x : Int32} {r : List Value} : aw g 38 1011 [l0, l1, l2, l3, l4, l5, l6, some (.int x), l8] r σ Q = aw g 38 1013 [l0, l1, l2, l3, l4, l5, l6, some (.int x), l8] (.int x :: r) σ Q := (aw_eq g 38 1011 _ _ _ _).trans (by rw [tq38_1011]; exact (h_load rfl).trans (propext ⟨fun z => z.2, fun z => ⟨rfl, z⟩⟩))
theorem tq38_1013 : tT g 38 1013 = s_i2 38 1014 (fun a => .long a.toInt64) := rfl
theorem A38_1013 {L : AL} {r : List Value} {a : Int32} : aw g 38 1013 L (.int a :: r) σ Q = aw g 38 1014 L (.long a.toInt64 :: r) σ Q := (aw_eq g 38 1013 _ _ _ _).trans (by rw [tq38_1013]; exact rfl)
theorem tq38_1014 : tT g 38 1014 = s_lbin 38 1015 (fun a b => .int (lg_cmp a b)) := rfl
theorem A38_1014 {L : AL} {r : List Value} {a b : Int64} : aw g 38 1014 L (.long b :: .long a :: r) σ Q = aw g 38 1015 L (.int (lg_cmp a b) :: r) σ Q := (aw_eq g 38 1014 _ _ _ _).trans (by rw [tq38_1014]; exact rfl)
theorem tq38_1015 : tT g 38 1015 = s_if 38 1018 1020 (fun a => a = 0) := rfl
theorem A38_1015 {L : AL} {r : List Value} {a : Int32} : aw g 38 1015 L (.int a :: r) σ Q = ((a = 0 → aw g 38 1020 L r σ Q) ∧ (¬ a = 0 → aw g 38 1018 L r σ Q)) := (aw_eq g 38 1015 _ _ _ _).trans (by rw [tq38_1015]; exact rfl)
theorem tq38_1018 : tT g 38 1018 = s_const 38 1019 (.int 0) := rfl
theorem A38_1018 {L : AL} {r : List Value} : aw g 38 1018 L r σ Q = aw g 38 1019 L (.int 0 :: r) σ Q := (aw_eq g 38 1018 _ _ _ _).trans (by rw [tq38_1018]; exact rfl)
theorem tq38_1019 : tT g 38 1019 = s_ret vZ := rfl
theorem A38_1019 {L : AL} {v : Value} : aw g 38 1019 L [v] σ Q = (vZ v ∧ Q (.inl (some v)) σ) := (aw_eq g 38 1019 _ _ _ _).trans (by rw [tq38_1019]; exact rfl)
theorem tq38_1020 : tT g 38 1020 = s_goto 38 1454 := rfl
theorem A38_1020 {L : AL} {r : List Value} : aw g 38 1020 L r σ Q = aw g 38 1454 L r σ Q := (aw_eq g 38 1020 _ _ _ _).trans (by rw [tq38_1020]; exact rfl)
theorem tq38_1023 : tT g 38 1023 = s_load vRf 38 1024 1 := rfl
theorem A38_1023 {l0 : Option Value} {l2 : Option Value} {l3 : Option Value} {l4 : Option Value} {l5 : Option Value} {l6 : Option Value} {l7 : Option Value} {l8 : Option Value} {x : Value} {r : List Value} : aw g 38 1023 [l0, some (x), l2, l3, l4, l5, l6, l7, l8] r σ Q = (vRf x = true ∧ aw g 38 1024 [l0, some (x), l2, l3, l4, l5, l6, l7, l8] (x :: r) σ Q) := (aw_eq g 38 1023 _ _ _ _).trans (by rw [tq38_1023]; exact h_load rfl)
theorem tq38_1024 : tT g 38 1024 = s_load vRf 38 1025 0 := rfl
theorem A38_1024 {l1 : Option Value} {l2 : Option Value} {l3 : Option Value} {l4 : Option Value} {l5 : Option Value} {l6 : Option Value} {l7 : Option Value} {l8 : Option Value} {x : Value} {r : List Value} : aw g 38 1024 [some (x), l1, l2, l3, l4, l5, l6, l7, l8] r σ Q = (vRf x = true ∧ aw g 38 1025 [some (x), l1, l2, l3, l4, l5, l6, l7, l8] (x :: r) σ Q) := (aw_eq g 38 1024 _ _ _ _).trans (by rw [tq38_1024]; exact h_load rfl)
theorem tq38_1025 : tT g 38 1025 = s_load vI 38 1027 5 := rfl
theorem A38_1025 {l0 : Option Value} {l1 : Option Value} {l2 : Option Value} {l3 : Option Value} {l4 : Option Value} {l6 : Option Value} {l7 : Option Value} {l8 : Option Value} {x : Int32} {r : List Value} : aw g 38 1025 [l0, l1, l2, l3, l4, some (.int x), l6, l7, l8] r σ Q = aw g 38 1027 [l0, l1, l2, l3, l4, some (.int x), l6, l7, l8] (.int x :: r) σ Q := (aw_eq g 38 1025 _ _ _ _).trans (by rw [tq38_1025]; exact (h_load rfl).trans (propext ⟨fun z => z.2, fun z => ⟨rfl, z⟩⟩))
theorem tq38_1027 : tT g 38 1027 = s_const 38 1028 (.int 1) := rfl
theorem A38_1027 {L : AL} {r : List Value} : aw g 38 1027 L r σ Q = aw g 38 1028 L (.int 1 :: r) σ Q := (aw_eq g 38 1027 _ _ _ _).trans (by rw [tq38_1027]; exact rfl)
theorem tq38_1028 : tT g 38 1028 = s_bin 38 1029 (fun a b => a + b) := rfl
theorem A38_1028 {L : AL} {r : List Value} {a b : Int32} : aw g 38 1028 L (.int b :: .int a :: r) σ Q = aw g 38 1029 L (.int (a + b) :: r) σ Q := (aw_eq g 38 1028 _ _ _ _).trans (by rw [tq38_1028]; exact rfl)
theorem tq38_1029 : tT g 38 1029 = s_ald 38 1030 27 := rfl
theorem A38_1029 {L : AL} {r : List Value} {a : Nat} {i : Int32} : aw g 38 1029 L (.int i :: .ref a :: r) σ Q = (hty σ a = some 27 ∧ ¬ i < 0 ∧ i.toNatClampNeg < hln σ a ∧ aw g 38 1030 L (hv σ 27 a i.toNatClampNeg :: r) σ Q) := (aw_eq g 38 1029 _ _ _ _).trans (by rw [tq38_1029]; exact rfl)
theorem tq38_1030 : tT g 38 1030 = s_load vRf 38 1031 0 := rfl
theorem A38_1030 {l1 : Option Value} {l2 : Option Value} {l3 : Option Value} {l4 : Option Value} {l5 : Option Value} {l6 : Option Value} {l7 : Option Value} {l8 : Option Value} {x : Value} {r : List Value} : aw g 38 1030 [some (x), l1, l2, l3, l4, l5, l6, l7, l8] r σ Q = (vRf x = true ∧ aw g 38 1031 [some (x), l1, l2, l3, l4, l5, l6, l7, l8] (x :: r) σ Q) := (aw_eq g 38 1030 _ _ _ _).trans (by rw [tq38_1030]; exact h_load rfl)
theorem tq38_1031 : tT g 38 1031 = s_load vI 38 1033 5 := rfl
theorem A38_1031 {l0 : Option Value} {l1 : Option Value} {l2 : Option Value} {l3 : Option Value} {l4 : Option Value} {l6 : Option Value} {l7 : Option Value} {l8 : Option Value} {x : Int32} {r : List Value} : aw g 38 1031 [l0, l1, l2, l3, l4, some (.int x), l6, l7, l8] r σ Q = aw g 38 1033 [l0, l1, l2, l3, l4, some (.int x), l6, l7, l8] (.int x :: r) σ Q := (aw_eq g 38 1031 _ _ _ _).trans (by rw [tq38_1031]; exact (h_load rfl).trans (propext ⟨fun z => z.2, fun z => ⟨rfl, z⟩⟩))
theorem tq38_1033 : tT g 38 1033 = s_const 38 1034 (.int 2) := rfl
theorem A38_1033 {L : AL} {r : List Value} : aw g 38 1033 L r σ Q = aw g 38 1034 L (.int 2 :: r) σ Q := (aw_eq g 38 1033 _ _ _ _).trans (by rw [tq38_1033]; exact rfl)
theorem tq38_1034 : tT g 38 1034 = s_bin 38 1035 (fun a b => a + b) := rfl
theorem A38_1034 {L : AL} {r : List Value} {a b : Int32} : aw g 38 1034 L (.int b :: .int a :: r) σ Q = aw g 38 1035 L (.int (a + b) :: r) σ Q := (aw_eq g 38 1034 _ _ _ _).trans (by rw [tq38_1034]; exact rfl)
theorem tq38_1035 : tT g 38 1035 = s_ald 38 1036 27 := rfl
theorem A38_1035 {L : AL} {r : List Value} {a : Nat} {i : Int32} : aw g 38 1035 L (.int i :: .ref a :: r) σ Q = (hty σ a = some 27 ∧ ¬ i < 0 ∧ i.toNatClampNeg < hln σ a ∧ aw g 38 1036 L (hv σ 27 a i.toNatClampNeg :: r) σ Q) := (aw_eq g 38 1035 _ _ _ _).trans (by rw [tq38_1035]; exact rfl)
theorem tq38_1036 : tT g 38 1036 = s_load vRf 38 1037 3 := rfl
theorem A38_1036 {l0 : Option Value} {l1 : Option Value} {l2 : Option Value} {l4 : Option Value} {l5 : Option Value} {l6 : Option Value} {l7 : Option Value} {l8 : Option Value} {x : Value} {r : List Value} : aw g 38 1036 [l0, l1, l2, some (x), l4, l5, l6, l7, l8] r σ Q = (vRf x = true ∧ aw g 38 1037 [l0, l1, l2, some (x), l4, l5, l6, l7, l8] (x :: r) σ Q) := (aw_eq g 38 1036 _ _ _ _).trans (by rw [tq38_1036]; exact h_load rfl)
theorem tq38_1037 : tT g 38 1037 = s_callk 38 1040 52 [1, 0, 0, 1] 5 := rfl
theorem A38_1037 {L : AL} {r : List Value} {w0 w1 w2 w3 : Value} : aw g 38 1037 L (w3 :: w2 :: w1 :: w0 :: r) σ Q = ((vRf w0 && (vI w1 && (vI w2 && (vRf w3 && true)))) = true ∧ csum r ≤ 8 ∧ aw g 52 0 [some w0, some w1, some w2, some w3, none] [] σ (kt (aw g) 38 1040 L r Q)) := (aw_eq g 38 1037 _ _ _ _).trans (by rw [tq38_1037]; exact rfl)
theorem tq38_1040 : tT g 38 1040 = s_store vI 38 1042 6 := rfl
theorem A38_1040 {l0 : Option Value} {l1 : Option Value} {l2 : Option Value} {l3 : Option Value} {l4 : Option Value} {l5 : Option Value} {l6 : Option Value} {l7 : Option Value} {l8 : Option Value} {x : Int32} {r : List Value} : aw g 38 1040 [l0, l1, l2, l3, l4, l5, l6, l7, l8] (.int x :: r) σ Q = (oc l5 = true ∧ aw g 38 1042 [l0, l1, l2, l3, l4, l5, some (.int x), l7, l8] r σ Q) := (aw_eq g 38 1040 _ _ _ _).trans (by rw [tq38_1040]; exact (h_store (o := oc l5) rfl rfl rfl).trans (propext ⟨fun z => z.2, fun z => ⟨rfl, z⟩⟩))
theorem tq38_1042 : tT g 38 1042 = s_load vRf 38 1043 2 := rfl
theorem A38_1042 {l0 : Option Value} {l1 : Option Value} {l3 : Option Value} {l4 : Option Value} {l5 : Option Value} {l6 : Option Value} {l7 : Option Value} {l8 : Option Value} {x : Value} {r : List Value} : aw g 38 1042 [l0, l1, some (x), l3, l4, l5, l6, l7, l8] r σ Q = (vRf x = true ∧ aw g 38 1043 [l0, l1, some (x), l3, l4, l5, l6, l7, l8] (x :: r) σ Q) := (aw_eq g 38 1042 _ _ _ _).trans (by rw [tq38_1042]; exact h_load rfl)
theorem tq38_1043 : tT g 38 1043 = s_load vRf 38 1044 0 := rfl
theorem A38_1043 {l1 : Option Value} {l2 : Option Value} {l3 : Option Value} {l4 : Option Value} {l5 : Option Value} {l6 : Option Value} {l7 : Option Value} {l8 : Option Value} {x : Value} {r : List Value} : aw g 38 1043 [some (x), l1, l2, l3, l4, l5, l6, l7, l8] r σ Q = (vRf x = true ∧ aw g 38 1044 [some (x), l1, l2, l3, l4, l5, l6, l7, l8] (x :: r) σ Q) := (aw_eq g 38 1043 _ _ _ _).trans (by rw [tq38_1043]; exact h_load rfl)
theorem tq38_1044 : tT g 38 1044 = s_load vI 38 1046 5 := rfl
theorem A38_1044 {l0 : Option Value} {l1 : Option Value} {l2 : Option Value} {l3 : Option Value} {l4 : Option Value} {l6 : Option Value} {l7 : Option Value} {l8 : Option Value} {x : Int32} {r : List Value} : aw g 38 1044 [l0, l1, l2, l3, l4, some (.int x), l6, l7, l8] r σ Q = aw g 38 1046 [l0, l1, l2, l3, l4, some (.int x), l6, l7, l8] (.int x :: r) σ Q := (aw_eq g 38 1044 _ _ _ _).trans (by rw [tq38_1044]; exact (h_load rfl).trans (propext ⟨fun z => z.2, fun z => ⟨rfl, z⟩⟩))
theorem tq38_1046 : tT g 38 1046 = s_const 38 1047 (.int 1) := rfl
theorem A38_1046 {L : AL} {r : List Value} : aw g 38 1046 L r σ Q = aw g 38 1047 L (.int 1 :: r) σ Q := (aw_eq g 38 1046 _ _ _ _).trans (by rw [tq38_1046]; exact rfl)
theorem tq38_1047 : tT g 38 1047 = s_bin 38 1048 (fun a b => a + b) := rfl
theorem A38_1047 {L : AL} {r : List Value} {a b : Int32} : aw g 38 1047 L (.int b :: .int a :: r) σ Q = aw g 38 1048 L (.int (a + b) :: r) σ Q := (aw_eq g 38 1047 _ _ _ _).trans (by rw [tq38_1047]; exact rfl)
theorem tq38_1048 : tT g 38 1048 = s_ald 38 1049 27 := rfl
theorem A38_1048 {L : AL} {r : List Value} {a : Nat} {i : Int32} : aw g 38 1048 L (.int i :: .ref a :: r) σ Q = (hty σ a = some 27 ∧ ¬ i < 0 ∧ i.toNatClampNeg < hln σ a ∧ aw g 38 1049 L (hv σ 27 a i.toNatClampNeg :: r) σ Q) := (aw_eq g 38 1048 _ _ _ _).trans (by rw [tq38_1048]; exact rfl)
theorem tq38_1049 : tT g 38 1049 = s_load vRf 38 1050 0 := rfl
theorem A38_1049 {l1 : Option Value} {l2 : Option Value} {l3 : Option Value} {l4 : Option Value} {l5 : Option Value} {l6 : Option Value} {l7 : Option Value} {l8 : Option Value} {x : Value} {r : List Value} : aw g 38 1049 [some (x), l1, l2, l3, l4, l5, l6, l7, l8] r σ Q = (vRf x = true ∧ aw g 38 1050 [some (x), l1, l2, l3, l4, l5, l6, l7, l8] (x :: r) σ Q) := (aw_eq g 38 1049 _ _ _ _).trans (by rw [tq38_1049]; exact h_load rfl)
theorem tq38_1050 : tT g 38 1050 = s_load vI 38 1052 5 := rfl
theorem A38_1050 {l0 : Option Value} {l1 : Option Value} {l2 : Option Value} {l3 : Option Value} {l4 : Option Value} {l6 : Option Value} {l7 : Option Value} {l8 : Option Value} {x : Int32} {r : List Value} : aw g 38 1050 [l0, l1, l2, l3, l4, some (.int x), l6, l7, l8] r σ Q = aw g 38 1052 [l0, l1, l2, l3, l4, some (.int x), l6, l7, l8] (.int x :: r) σ Q := (aw_eq g 38 1050 _ _ _ _).trans (by rw [tq38_1050]; exact (h_load rfl).trans (propext ⟨fun z => z.2, fun z => ⟨rfl, z⟩⟩))
theorem tq38_1052 : tT g 38 1052 = s_const 38 1053 (.int 2) := rfl
theorem A38_1052 {L : AL} {r : List Value} : aw g 38 1052 L r σ Q = aw g 38 1053 L (.int 2 :: r) σ Q := (aw_eq g 38 1052 _ _ _ _).trans (by rw [tq38_1052]; exact rfl)
theorem tq38_1053 : tT g 38 1053 = s_bin 38 1054 (fun a b => a + b) := rfl
theorem A38_1053 {L : AL} {r : List Value} {a b : Int32} : aw g 38 1053 L (.int b :: .int a :: r) σ Q = aw g 38 1054 L (.int (a + b) :: r) σ Q := (aw_eq g 38 1053 _ _ _ _).trans (by rw [tq38_1053]; exact rfl)
theorem tq38_1054 : tT g 38 1054 = s_ald 38 1055 27 := rfl
theorem A38_1054 {L : AL} {r : List Value} {a : Nat} {i : Int32} : aw g 38 1054 L (.int i :: .ref a :: r) σ Q = (hty σ a = some 27 ∧ ¬ i < 0 ∧ i.toNatClampNeg < hln σ a ∧ aw g 38 1055 L (hv σ 27 a i.toNatClampNeg :: r) σ Q) := (aw_eq g 38 1054 _ _ _ _).trans (by rw [tq38_1054]; exact rfl)
theorem tq38_1055 : tT g 38 1055 = s_callvk 38 1058 164 3 [0, 0] 3 := rfl
theorem A38_1055 {L : AL} {r : List Value} {a : Nat} {w0 w1 : Value} : aw g 38 1055 L (w1 :: w0 :: .ref a :: r) σ Q = (hty σ a = some 3 ∧ (vI w0 && (vI w1 && true)) = true ∧ csum r ≤ 8 ∧ aw g 164 0 [some (.ref a), some w0, some w1] [] σ (kt (aw g) 38 1058 L r Q)) := (aw_eq g 38 1055 _ _ _ _).trans (by rw [tq38_1055]; exact rfl)
theorem tq38_1058 : tT g 38 1058 = s_store vI 38 1060 7 := rfl
theorem A38_1058 {l0 : Option Value} {l1 : Option Value} {l2 : Option Value} {l3 : Option Value} {l4 : Option Value} {l5 : Option Value} {l6 : Option Value} {l7 : Option Value} {l8 : Option Value} {x : Int32} {r : List Value} : aw g 38 1058 [l0, l1, l2, l3, l4, l5, l6, l7, l8] (.int x :: r) σ Q = (oc l6 = true ∧ aw g 38 1060 [l0, l1, l2, l3, l4, l5, l6, some (.int x), l8] r σ Q) := (aw_eq g 38 1058 _ _ _ _).trans (by rw [tq38_1058]; exact (h_store (o := oc l6) rfl rfl rfl).trans (propext ⟨fun z => z.2, fun z => ⟨rfl, z⟩⟩))
theorem tq38_1060 : tT g 38 1060 = s_load vRf 38 1061 2 := rfl
theorem A38_1060 {l0 : Option Value} {l1 : Option Value} {l3 : Option Value} {l4 : Option Value} {l5 : Option Value} {l6 : Option Value} {l7 : Option Value} {l8 : Option Value} {x : Value} {r : List Value} : aw g 38 1060 [l0, l1, some (x), l3, l4, l5, l6, l7, l8] r σ Q = (vRf x = true ∧ aw g 38 1061 [l0, l1, some (x), l3, l4, l5, l6, l7, l8] (x :: r) σ Q) := (aw_eq g 38 1060 _ _ _ _).trans (by rw [tq38_1060]; exact h_load rfl)
theorem tq38_1061 : tT g 38 1061 = s_callvk 38 1064 138 3 [] 1 := rfl
theorem A38_1061 {L : AL} {r : List Value} {a : Nat} : aw g 38 1061 L (.ref a :: r) σ Q = (hty σ a = some 3 ∧ true = true ∧ csum r ≤ 8 ∧ aw g 138 0 [some (.ref a)] [] σ (kt (aw g) 38 1064 L r Q)) := (aw_eq g 38 1061 _ _ _ _).trans (by rw [tq38_1061]; exact rfl)
theorem tq38_1064 : tT g 38 1064 = s_load vI 38 1066 6 := rfl
theorem A38_1064 {l0 : Option Value} {l1 : Option Value} {l2 : Option Value} {l3 : Option Value} {l4 : Option Value} {l5 : Option Value} {l7 : Option Value} {l8 : Option Value} {x : Int32} {r : List Value} : aw g 38 1064 [l0, l1, l2, l3, l4, l5, some (.int x), l7, l8] r σ Q = aw g 38 1066 [l0, l1, l2, l3, l4, l5, some (.int x), l7, l8] (.int x :: r) σ Q := (aw_eq g 38 1064 _ _ _ _).trans (by rw [tq38_1064]; exact (h_load rfl).trans (propext ⟨fun z => z.2, fun z => ⟨rfl, z⟩⟩))
theorem tq38_1066 : tT g 38 1066 = s_icmp 38 1069 1071 (fun a b => a = b) := rfl
theorem A38_1066 {L : AL} {r : List Value} {a b : Int32} : aw g 38 1066 L (.int b :: .int a :: r) σ Q = ((a = b → aw g 38 1071 L r σ Q) ∧ (¬ a = b → aw g 38 1069 L r σ Q)) := (aw_eq g 38 1066 _ _ _ _).trans (by rw [tq38_1066]; exact rfl)
theorem tq38_1069 : tT g 38 1069 = s_const 38 1070 (.int 0) := rfl
theorem A38_1069 {L : AL} {r : List Value} : aw g 38 1069 L r σ Q = aw g 38 1070 L (.int 0 :: r) σ Q := (aw_eq g 38 1069 _ _ _ _).trans (by rw [tq38_1069]; exact rfl)
theorem tq38_1070 : tT g 38 1070 = s_ret vZ := rfl
theorem A38_1070 {L : AL} {v : Value} : aw g 38 1070 L [v] σ Q = (vZ v ∧ Q (.inl (some v)) σ) := (aw_eq g 38 1070 _ _ _ _).trans (by rw [tq38_1070]; exact rfl)
theorem tq38_1071 : tT g 38 1071 = s_load vI 38 1073 6 := rfl
theorem A38_1071 {l0 : Option Value} {l1 : Option Value} {l2 : Option Value} {l3 : Option Value} {l4 : Option Value} {l5 : Option Value} {l7 : Option Value} {l8 : Option Value} {x : Int32} {r : List Value} : aw g 38 1071 [l0, l1, l2, l3, l4, l5, some (.int x), l7, l8] r σ Q = aw g 38 1073 [l0, l1, l2, l3, l4, l5, some (.int x), l7, l8] (.int x :: r) σ Q := (aw_eq g 38 1071 _ _ _ _).trans (by rw [tq38_1071]; exact (h_load rfl).trans (propext ⟨fun z => z.2, fun z => ⟨rfl, z⟩⟩))
theorem tq38_1073 : tT g 38 1073 = s_if 38 1088 1076 (fun a => a = 0) := rfl
theorem A38_1073 {L : AL} {r : List Value} {a : Int32} : aw g 38 1073 L (.int a :: r) σ Q = ((a = 0 → aw g 38 1076 L r σ Q) ∧ (¬ a = 0 → aw g 38 1088 L r σ Q)) := (aw_eq g 38 1073 _ _ _ _).trans (by rw [tq38_1073]; exact rfl)
theorem tq38_1076 : tT g 38 1076 = s_load vRf 38 1077 3 := rfl
theorem A38_1076 {l0 : Option Value} {l1 : Option Value} {l2 : Option Value} {l4 : Option Value} {l5 : Option Value} {l6 : Option Value} {l7 : Option Value} {l8 : Option Value} {x : Value} {r : List Value} : aw g 38 1076 [l0, l1, l2, some (x), l4, l5, l6, l7, l8] r σ Q = (vRf x = true ∧ aw g 38 1077 [l0, l1, l2, some (x), l4, l5, l6, l7, l8] (x :: r) σ Q) := (aw_eq g 38 1076 _ _ _ _).trans (by rw [tq38_1076]; exact h_load rfl)
theorem tq38_1077 : tT g 38 1077 = s_const 38 1078 (.int 0) := rfl
theorem A38_1077 {L : AL} {r : List Value} : aw g 38 1077 L r σ Q = aw g 38 1078 L (.int 0 :: r) σ Q := (aw_eq g 38 1077 _ _ _ _).trans (by rw [tq38_1077]; exact rfl)
theorem tq38_1078 : tT g 38 1078 = s_ald 38 1079 22 := rfl
theorem A38_1078 {L : AL} {r : List Value} {a : Nat} {i : Int32} : aw g 38 1078 L (.int i :: .ref a :: r) σ Q = (hty σ a = some 22 ∧ ¬ i < 0 ∧ i.toNatClampNeg < hln σ a ∧ aw g 38 1079 L (hv σ 22 a i.toNatClampNeg :: r) σ Q) := (aw_eq g 38 1078 _ _ _ _).trans (by rw [tq38_1078]; exact rfl)
theorem tq38_1079 : tT g 38 1079 = s_load vI 38 1081 7 := rfl
theorem A38_1079 {l0 : Option Value} {l1 : Option Value} {l2 : Option Value} {l3 : Option Value} {l4 : Option Value} {l5 : Option Value} {l6 : Option Value} {l8 : Option Value} {x : Int32} {r : List Value} : aw g 38 1079 [l0, l1, l2, l3, l4, l5, l6, some (.int x), l8] r σ Q = aw g 38 1081 [l0, l1, l2, l3, l4, l5, l6, some (.int x), l8] (.int x :: r) σ Q := (aw_eq g 38 1079 _ _ _ _).trans (by rw [tq38_1079]; exact (h_load rfl).trans (propext ⟨fun z => z.2, fun z => ⟨rfl, z⟩⟩))
theorem tq38_1081 : tT g 38 1081 = s_i2 38 1082 (fun a => .long a.toInt64) := rfl
theorem A38_1081 {L : AL} {r : List Value} {a : Int32} : aw g 38 1081 L (.int a :: r) σ Q = aw g 38 1082 L (.long a.toInt64 :: r) σ Q := (aw_eq g 38 1081 _ _ _ _).trans (by rw [tq38_1081]; exact rfl)
theorem tq38_1082 : tT g 38 1082 = s_lbin 38 1083 (fun a b => .int (lg_cmp a b)) := rfl
theorem A38_1082 {L : AL} {r : List Value} {a b : Int64} : aw g 38 1082 L (.long b :: .long a :: r) σ Q = aw g 38 1083 L (.int (lg_cmp a b) :: r) σ Q := (aw_eq g 38 1082 _ _ _ _).trans (by rw [tq38_1082]; exact rfl)
theorem tq38_1083 : tT g 38 1083 = s_if 38 1086 1088 (fun a => a = 0) := rfl
theorem A38_1083 {L : AL} {r : List Value} {a : Int32} : aw g 38 1083 L (.int a :: r) σ Q = ((a = 0 → aw g 38 1088 L r σ Q) ∧ (¬ a = 0 → aw g 38 1086 L r σ Q)) := (aw_eq g 38 1083 _ _ _ _).trans (by rw [tq38_1083]; exact rfl)
theorem tq38_1086 : tT g 38 1086 = s_const 38 1087 (.int 0) := rfl
theorem A38_1086 {L : AL} {r : List Value} : aw g 38 1086 L r σ Q = aw g 38 1087 L (.int 0 :: r) σ Q := (aw_eq g 38 1086 _ _ _ _).trans (by rw [tq38_1086]; exact rfl)
theorem tq38_1087 : tT g 38 1087 = s_ret vZ := rfl
theorem A38_1087 {L : AL} {v : Value} : aw g 38 1087 L [v] σ Q = (vZ v ∧ Q (.inl (some v)) σ) := (aw_eq g 38 1087 _ _ _ _).trans (by rw [tq38_1087]; exact rfl)
theorem tq38_1088 : tT g 38 1088 = s_goto 38 1454 := rfl
theorem A38_1088 {L : AL} {r : List Value} : aw g 38 1088 L r σ Q = aw g 38 1454 L r σ Q := (aw_eq g 38 1088 _ _ _ _).trans (by rw [tq38_1088]; exact rfl)
theorem tq38_1091 : tT g 38 1091 = s_load vRf 38 1092 1 := rfl
theorem A38_1091 {l0 : Option Value} {l2 : Option Value} {l3 : Option Value} {l4 : Option Value} {l5 : Option Value} {l6 : Option Value} {l7 : Option Value} {l8 : Option Value} {x : Value} {r : List Value} : aw g 38 1091 [l0, some (x), l2, l3, l4, l5, l6, l7, l8] r σ Q = (vRf x = true ∧ aw g 38 1092 [l0, some (x), l2, l3, l4, l5, l6, l7, l8] (x :: r) σ Q) := (aw_eq g 38 1091 _ _ _ _).trans (by rw [tq38_1091]; exact h_load rfl)
theorem tq38_1092 : tT g 38 1092 = s_load vRf 38 1093 0 := rfl
theorem A38_1092 {l1 : Option Value} {l2 : Option Value} {l3 : Option Value} {l4 : Option Value} {l5 : Option Value} {l6 : Option Value} {l7 : Option Value} {l8 : Option Value} {x : Value} {r : List Value} : aw g 38 1092 [some (x), l1, l2, l3, l4, l5, l6, l7, l8] r σ Q = (vRf x = true ∧ aw g 38 1093 [some (x), l1, l2, l3, l4, l5, l6, l7, l8] (x :: r) σ Q) := (aw_eq g 38 1092 _ _ _ _).trans (by rw [tq38_1092]; exact h_load rfl)
theorem tq38_1093 : tT g 38 1093 = s_load vI 38 1095 5 := rfl
theorem A38_1093 {l0 : Option Value} {l1 : Option Value} {l2 : Option Value} {l3 : Option Value} {l4 : Option Value} {l6 : Option Value} {l7 : Option Value} {l8 : Option Value} {x : Int32} {r : List Value} : aw g 38 1093 [l0, l1, l2, l3, l4, some (.int x), l6, l7, l8] r σ Q = aw g 38 1095 [l0, l1, l2, l3, l4, some (.int x), l6, l7, l8] (.int x :: r) σ Q := (aw_eq g 38 1093 _ _ _ _).trans (by rw [tq38_1093]; exact (h_load rfl).trans (propext ⟨fun z => z.2, fun z => ⟨rfl, z⟩⟩))
theorem tq38_1095 : tT g 38 1095 = s_const 38 1096 (.int 1) := rfl
theorem A38_1095 {L : AL} {r : List Value} : aw g 38 1095 L r σ Q = aw g 38 1096 L (.int 1 :: r) σ Q := (aw_eq g 38 1095 _ _ _ _).trans (by rw [tq38_1095]; exact rfl)
theorem tq38_1096 : tT g 38 1096 = s_bin 38 1097 (fun a b => a + b) := rfl
theorem A38_1096 {L : AL} {r : List Value} {a b : Int32} : aw g 38 1096 L (.int b :: .int a :: r) σ Q = aw g 38 1097 L (.int (a + b) :: r) σ Q := (aw_eq g 38 1096 _ _ _ _).trans (by rw [tq38_1096]; exact rfl)
theorem tq38_1097 : tT g 38 1097 = s_ald 38 1098 27 := rfl
theorem A38_1097 {L : AL} {r : List Value} {a : Nat} {i : Int32} : aw g 38 1097 L (.int i :: .ref a :: r) σ Q = (hty σ a = some 27 ∧ ¬ i < 0 ∧ i.toNatClampNeg < hln σ a ∧ aw g 38 1098 L (hv σ 27 a i.toNatClampNeg :: r) σ Q) := (aw_eq g 38 1097 _ _ _ _).trans (by rw [tq38_1097]; exact rfl)
theorem tq38_1098 : tT g 38 1098 = s_load vRf 38 1099 3 := rfl
theorem A38_1098 {l0 : Option Value} {l1 : Option Value} {l2 : Option Value} {l4 : Option Value} {l5 : Option Value} {l6 : Option Value} {l7 : Option Value} {l8 : Option Value} {x : Value} {r : List Value} : aw g 38 1098 [l0, l1, l2, some (x), l4, l5, l6, l7, l8] r σ Q = (vRf x = true ∧ aw g 38 1099 [l0, l1, l2, some (x), l4, l5, l6, l7, l8] (x :: r) σ Q) := (aw_eq g 38 1098 _ _ _ _).trans (by rw [tq38_1098]; exact h_load rfl)
theorem tq38_1099 : tT g 38 1099 = s_callk 38 1102 53 [1, 0, 1] 4 := rfl
theorem A38_1099 {L : AL} {r : List Value} {w0 w1 w2 : Value} : aw g 38 1099 L (w2 :: w1 :: w0 :: r) σ Q = ((vRf w0 && (vI w1 && (vRf w2 && true))) = true ∧ csum r ≤ 8 ∧ aw g 53 0 [some w0, some w1, some w2, none] [] σ (kt (aw g) 38 1102 L r Q)) := (aw_eq g 38 1099 _ _ _ _).trans (by rw [tq38_1099]; exact rfl)
theorem tq38_1102 : tT g 38 1102 = s_store vI 38 1104 6 := rfl
theorem A38_1102 {l0 : Option Value} {l1 : Option Value} {l2 : Option Value} {l3 : Option Value} {l4 : Option Value} {l5 : Option Value} {l6 : Option Value} {l7 : Option Value} {l8 : Option Value} {x : Int32} {r : List Value} : aw g 38 1102 [l0, l1, l2, l3, l4, l5, l6, l7, l8] (.int x :: r) σ Q = (oc l5 = true ∧ aw g 38 1104 [l0, l1, l2, l3, l4, l5, some (.int x), l7, l8] r σ Q) := (aw_eq g 38 1102 _ _ _ _).trans (by rw [tq38_1102]; exact (h_store (o := oc l5) rfl rfl rfl).trans (propext ⟨fun z => z.2, fun z => ⟨rfl, z⟩⟩))
theorem tq38_1104 : tT g 38 1104 = s_load vRf 38 1105 2 := rfl
theorem A38_1104 {l0 : Option Value} {l1 : Option Value} {l3 : Option Value} {l4 : Option Value} {l5 : Option Value} {l6 : Option Value} {l7 : Option Value} {l8 : Option Value} {x : Value} {r : List Value} : aw g 38 1104 [l0, l1, some (x), l3, l4, l5, l6, l7, l8] r σ Q = (vRf x = true ∧ aw g 38 1105 [l0, l1, some (x), l3, l4, l5, l6, l7, l8] (x :: r) σ Q) := (aw_eq g 38 1104 _ _ _ _).trans (by rw [tq38_1104]; exact h_load rfl)
theorem tq38_1105 : tT g 38 1105 = s_load vRf 38 1106 0 := rfl
theorem A38_1105 {l1 : Option Value} {l2 : Option Value} {l3 : Option Value} {l4 : Option Value} {l5 : Option Value} {l6 : Option Value} {l7 : Option Value} {l8 : Option Value} {x : Value} {r : List Value} : aw g 38 1105 [some (x), l1, l2, l3, l4, l5, l6, l7, l8] r σ Q = (vRf x = true ∧ aw g 38 1106 [some (x), l1, l2, l3, l4, l5, l6, l7, l8] (x :: r) σ Q) := (aw_eq g 38 1105 _ _ _ _).trans (by rw [tq38_1105]; exact h_load rfl)
theorem tq38_1106 : tT g 38 1106 = s_load vI 38 1108 5 := rfl
theorem A38_1106 {l0 : Option Value} {l1 : Option Value} {l2 : Option Value} {l3 : Option Value} {l4 : Option Value} {l6 : Option Value} {l7 : Option Value} {l8 : Option Value} {x : Int32} {r : List Value} : aw g 38 1106 [l0, l1, l2, l3, l4, some (.int x), l6, l7, l8] r σ Q = aw g 38 1108 [l0, l1, l2, l3, l4, some (.int x), l6, l7, l8] (.int x :: r) σ Q := (aw_eq g 38 1106 _ _ _ _).trans (by rw [tq38_1106]; exact (h_load rfl).trans (propext ⟨fun z => z.2, fun z => ⟨rfl, z⟩⟩))
theorem tq38_1108 : tT g 38 1108 = s_const 38 1109 (.int 1) := rfl
theorem A38_1108 {L : AL} {r : List Value} : aw g 38 1108 L r σ Q = aw g 38 1109 L (.int 1 :: r) σ Q := (aw_eq g 38 1108 _ _ _ _).trans (by rw [tq38_1108]; exact rfl)
theorem tq38_1109 : tT g 38 1109 = s_bin 38 1110 (fun a b => a + b) := rfl
theorem A38_1109 {L : AL} {r : List Value} {a b : Int32} : aw g 38 1109 L (.int b :: .int a :: r) σ Q = aw g 38 1110 L (.int (a + b) :: r) σ Q := (aw_eq g 38 1109 _ _ _ _).trans (by rw [tq38_1109]; exact rfl)
theorem tq38_1110 : tT g 38 1110 = s_ald 38 1111 27 := rfl
theorem A38_1110 {L : AL} {r : List Value} {a : Nat} {i : Int32} : aw g 38 1110 L (.int i :: .ref a :: r) σ Q = (hty σ a = some 27 ∧ ¬ i < 0 ∧ i.toNatClampNeg < hln σ a ∧ aw g 38 1111 L (hv σ 27 a i.toNatClampNeg :: r) σ Q) := (aw_eq g 38 1110 _ _ _ _).trans (by rw [tq38_1110]; exact rfl)
theorem tq38_1111 : tT g 38 1111 = s_callvk 38 1114 166 3 [0] 2 := rfl
theorem A38_1111 {L : AL} {r : List Value} {a : Nat} {w0 : Value} : aw g 38 1111 L (w0 :: .ref a :: r) σ Q = (hty σ a = some 3 ∧ (vI w0 && true) = true ∧ csum r ≤ 8 ∧ aw g 166 0 [some (.ref a), some w0] [] σ (kt (aw g) 38 1114 L r Q)) := (aw_eq g 38 1111 _ _ _ _).trans (by rw [tq38_1111]; exact rfl)
theorem tq38_1114 : tT g 38 1114 = s_store vI 38 1116 7 := rfl
theorem A38_1114 {l0 : Option Value} {l1 : Option Value} {l2 : Option Value} {l3 : Option Value} {l4 : Option Value} {l5 : Option Value} {l6 : Option Value} {l7 : Option Value} {l8 : Option Value} {x : Int32} {r : List Value} : aw g 38 1114 [l0, l1, l2, l3, l4, l5, l6, l7, l8] (.int x :: r) σ Q = (oc l6 = true ∧ aw g 38 1116 [l0, l1, l2, l3, l4, l5, l6, some (.int x), l8] r σ Q) := (aw_eq g 38 1114 _ _ _ _).trans (by rw [tq38_1114]; exact (h_store (o := oc l6) rfl rfl rfl).trans (propext ⟨fun z => z.2, fun z => ⟨rfl, z⟩⟩))
theorem tq38_1116 : tT g 38 1116 = s_load vRf 38 1117 2 := rfl
theorem A38_1116 {l0 : Option Value} {l1 : Option Value} {l3 : Option Value} {l4 : Option Value} {l5 : Option Value} {l6 : Option Value} {l7 : Option Value} {l8 : Option Value} {x : Value} {r : List Value} : aw g 38 1116 [l0, l1, some (x), l3, l4, l5, l6, l7, l8] r σ Q = (vRf x = true ∧ aw g 38 1117 [l0, l1, some (x), l3, l4, l5, l6, l7, l8] (x :: r) σ Q) := (aw_eq g 38 1116 _ _ _ _).trans (by rw [tq38_1116]; exact h_load rfl)
theorem tq38_1117 : tT g 38 1117 = s_callvk 38 1120 138 3 [] 1 := rfl
theorem A38_1117 {L : AL} {r : List Value} {a : Nat} : aw g 38 1117 L (.ref a :: r) σ Q = (hty σ a = some 3 ∧ true = true ∧ csum r ≤ 8 ∧ aw g 138 0 [some (.ref a)] [] σ (kt (aw g) 38 1120 L r Q)) := (aw_eq g 38 1117 _ _ _ _).trans (by rw [tq38_1117]; exact rfl)
theorem tq38_1120 : tT g 38 1120 = s_load vI 38 1122 6 := rfl
theorem A38_1120 {l0 : Option Value} {l1 : Option Value} {l2 : Option Value} {l3 : Option Value} {l4 : Option Value} {l5 : Option Value} {l7 : Option Value} {l8 : Option Value} {x : Int32} {r : List Value} : aw g 38 1120 [l0, l1, l2, l3, l4, l5, some (.int x), l7, l8] r σ Q = aw g 38 1122 [l0, l1, l2, l3, l4, l5, some (.int x), l7, l8] (.int x :: r) σ Q := (aw_eq g 38 1120 _ _ _ _).trans (by rw [tq38_1120]; exact (h_load rfl).trans (propext ⟨fun z => z.2, fun z => ⟨rfl, z⟩⟩))
theorem tq38_1122 : tT g 38 1122 = s_icmp 38 1125 1127 (fun a b => a = b) := rfl
theorem A38_1122 {L : AL} {r : List Value} {a b : Int32} : aw g 38 1122 L (.int b :: .int a :: r) σ Q = ((a = b → aw g 38 1127 L r σ Q) ∧ (¬ a = b → aw g 38 1125 L r σ Q)) := (aw_eq g 38 1122 _ _ _ _).trans (by rw [tq38_1122]; exact rfl)
theorem tq38_1125 : tT g 38 1125 = s_const 38 1126 (.int 0) := rfl
theorem A38_1125 {L : AL} {r : List Value} : aw g 38 1125 L r σ Q = aw g 38 1126 L (.int 0 :: r) σ Q := (aw_eq g 38 1125 _ _ _ _).trans (by rw [tq38_1125]; exact rfl)
theorem tq38_1126 : tT g 38 1126 = s_ret vZ := rfl
theorem A38_1126 {L : AL} {v : Value} : aw g 38 1126 L [v] σ Q = (vZ v ∧ Q (.inl (some v)) σ) := (aw_eq g 38 1126 _ _ _ _).trans (by rw [tq38_1126]; exact rfl)
theorem tq38_1127 : tT g 38 1127 = s_load vI 38 1129 6 := rfl
theorem A38_1127 {l0 : Option Value} {l1 : Option Value} {l2 : Option Value} {l3 : Option Value} {l4 : Option Value} {l5 : Option Value} {l7 : Option Value} {l8 : Option Value} {x : Int32} {r : List Value} : aw g 38 1127 [l0, l1, l2, l3, l4, l5, some (.int x), l7, l8] r σ Q = aw g 38 1129 [l0, l1, l2, l3, l4, l5, some (.int x), l7, l8] (.int x :: r) σ Q := (aw_eq g 38 1127 _ _ _ _).trans (by rw [tq38_1127]; exact (h_load rfl).trans (propext ⟨fun z => z.2, fun z => ⟨rfl, z⟩⟩))
theorem tq38_1129 : tT g 38 1129 = s_if 38 1144 1132 (fun a => a = 0) := rfl
theorem A38_1129 {L : AL} {r : List Value} {a : Int32} : aw g 38 1129 L (.int a :: r) σ Q = ((a = 0 → aw g 38 1132 L r σ Q) ∧ (¬ a = 0 → aw g 38 1144 L r σ Q)) := (aw_eq g 38 1129 _ _ _ _).trans (by rw [tq38_1129]; exact rfl)
theorem tq38_1132 : tT g 38 1132 = s_load vRf 38 1133 3 := rfl
theorem A38_1132 {l0 : Option Value} {l1 : Option Value} {l2 : Option Value} {l4 : Option Value} {l5 : Option Value} {l6 : Option Value} {l7 : Option Value} {l8 : Option Value} {x : Value} {r : List Value} : aw g 38 1132 [l0, l1, l2, some (x), l4, l5, l6, l7, l8] r σ Q = (vRf x = true ∧ aw g 38 1133 [l0, l1, l2, some (x), l4, l5, l6, l7, l8] (x :: r) σ Q) := (aw_eq g 38 1132 _ _ _ _).trans (by rw [tq38_1132]; exact h_load rfl)
theorem tq38_1133 : tT g 38 1133 = s_const 38 1134 (.int 0) := rfl
theorem A38_1133 {L : AL} {r : List Value} : aw g 38 1133 L r σ Q = aw g 38 1134 L (.int 0 :: r) σ Q := (aw_eq g 38 1133 _ _ _ _).trans (by rw [tq38_1133]; exact rfl)
theorem tq38_1134 : tT g 38 1134 = s_ald 38 1135 22 := rfl
theorem A38_1134 {L : AL} {r : List Value} {a : Nat} {i : Int32} : aw g 38 1134 L (.int i :: .ref a :: r) σ Q = (hty σ a = some 22 ∧ ¬ i < 0 ∧ i.toNatClampNeg < hln σ a ∧ aw g 38 1135 L (hv σ 22 a i.toNatClampNeg :: r) σ Q) := (aw_eq g 38 1134 _ _ _ _).trans (by rw [tq38_1134]; exact rfl)
theorem tq38_1135 : tT g 38 1135 = s_load vI 38 1137 7 := rfl
theorem A38_1135 {l0 : Option Value} {l1 : Option Value} {l2 : Option Value} {l3 : Option Value} {l4 : Option Value} {l5 : Option Value} {l6 : Option Value} {l8 : Option Value} {x : Int32} {r : List Value} : aw g 38 1135 [l0, l1, l2, l3, l4, l5, l6, some (.int x), l8] r σ Q = aw g 38 1137 [l0, l1, l2, l3, l4, l5, l6, some (.int x), l8] (.int x :: r) σ Q := (aw_eq g 38 1135 _ _ _ _).trans (by rw [tq38_1135]; exact (h_load rfl).trans (propext ⟨fun z => z.2, fun z => ⟨rfl, z⟩⟩))
theorem tq38_1137 : tT g 38 1137 = s_i2 38 1138 (fun a => .long a.toInt64) := rfl
theorem A38_1137 {L : AL} {r : List Value} {a : Int32} : aw g 38 1137 L (.int a :: r) σ Q = aw g 38 1138 L (.long a.toInt64 :: r) σ Q := (aw_eq g 38 1137 _ _ _ _).trans (by rw [tq38_1137]; exact rfl)
theorem tq38_1138 : tT g 38 1138 = s_lbin 38 1139 (fun a b => .int (lg_cmp a b)) := rfl
theorem A38_1138 {L : AL} {r : List Value} {a b : Int64} : aw g 38 1138 L (.long b :: .long a :: r) σ Q = aw g 38 1139 L (.int (lg_cmp a b) :: r) σ Q := (aw_eq g 38 1138 _ _ _ _).trans (by rw [tq38_1138]; exact rfl)
theorem tq38_1139 : tT g 38 1139 = s_if 38 1142 1144 (fun a => a = 0) := rfl
theorem A38_1139 {L : AL} {r : List Value} {a : Int32} : aw g 38 1139 L (.int a :: r) σ Q = ((a = 0 → aw g 38 1144 L r σ Q) ∧ (¬ a = 0 → aw g 38 1142 L r σ Q)) := (aw_eq g 38 1139 _ _ _ _).trans (by rw [tq38_1139]; exact rfl)
theorem tq38_1142 : tT g 38 1142 = s_const 38 1143 (.int 0) := rfl
theorem A38_1142 {L : AL} {r : List Value} : aw g 38 1142 L r σ Q = aw g 38 1143 L (.int 0 :: r) σ Q := (aw_eq g 38 1142 _ _ _ _).trans (by rw [tq38_1142]; exact rfl)
theorem tq38_1143 : tT g 38 1143 = s_ret vZ := rfl
theorem A38_1143 {L : AL} {v : Value} : aw g 38 1143 L [v] σ Q = (vZ v ∧ Q (.inl (some v)) σ) := (aw_eq g 38 1143 _ _ _ _).trans (by rw [tq38_1143]; exact rfl)
theorem tq38_1144 : tT g 38 1144 = s_goto 38 1454 := rfl
theorem A38_1144 {L : AL} {r : List Value} : aw g 38 1144 L r σ Q = aw g 38 1454 L r σ Q := (aw_eq g 38 1144 _ _ _ _).trans (by rw [tq38_1144]; exact rfl)
theorem tq38_1147 : tT g 38 1147 = s_load vRf 38 1148 1 := rfl
theorem A38_1147 {l0 : Option Value} {l2 : Option Value} {l3 : Option Value} {l4 : Option Value} {l5 : Option Value} {l6 : Option Value} {l7 : Option Value} {l8 : Option Value} {x : Value} {r : List Value} : aw g 38 1147 [l0, some (x), l2, l3, l4, l5, l6, l7, l8] r σ Q = (vRf x = true ∧ aw g 38 1148 [l0, some (x), l2, l3, l4, l5, l6, l7, l8] (x :: r) σ Q) := (aw_eq g 38 1147 _ _ _ _).trans (by rw [tq38_1147]; exact h_load rfl)
theorem tq38_1148 : tT g 38 1148 = s_load vRf 38 1149 0 := rfl
theorem A38_1148 {l1 : Option Value} {l2 : Option Value} {l3 : Option Value} {l4 : Option Value} {l5 : Option Value} {l6 : Option Value} {l7 : Option Value} {l8 : Option Value} {x : Value} {r : List Value} : aw g 38 1148 [some (x), l1, l2, l3, l4, l5, l6, l7, l8] r σ Q = (vRf x = true ∧ aw g 38 1149 [some (x), l1, l2, l3, l4, l5, l6, l7, l8] (x :: r) σ Q) := (aw_eq g 38 1148 _ _ _ _).trans (by rw [tq38_1148]; exact h_load rfl)
theorem tq38_1149 : tT g 38 1149 = s_load vI 38 1151 5 := rfl
theorem A38_1149 {l0 : Option Value} {l1 : Option Value} {l2 : Option Value} {l3 : Option Value} {l4 : Option Value} {l6 : Option Value} {l7 : Option Value} {l8 : Option Value} {x : Int32} {r : List Value} : aw g 38 1149 [l0, l1, l2, l3, l4, some (.int x), l6, l7, l8] r σ Q = aw g 38 1151 [l0, l1, l2, l3, l4, some (.int x), l6, l7, l8] (.int x :: r) σ Q := (aw_eq g 38 1149 _ _ _ _).trans (by rw [tq38_1149]; exact (h_load rfl).trans (propext ⟨fun z => z.2, fun z => ⟨rfl, z⟩⟩))
theorem tq38_1151 : tT g 38 1151 = s_const 38 1152 (.int 1) := rfl
theorem A38_1151 {L : AL} {r : List Value} : aw g 38 1151 L r σ Q = aw g 38 1152 L (.int 1 :: r) σ Q := (aw_eq g 38 1151 _ _ _ _).trans (by rw [tq38_1151]; exact rfl)
theorem tq38_1152 : tT g 38 1152 = s_bin 38 1153 (fun a b => a + b) := rfl
theorem A38_1152 {L : AL} {r : List Value} {a b : Int32} : aw g 38 1152 L (.int b :: .int a :: r) σ Q = aw g 38 1153 L (.int (a + b) :: r) σ Q := (aw_eq g 38 1152 _ _ _ _).trans (by rw [tq38_1152]; exact rfl)
theorem tq38_1153 : tT g 38 1153 = s_ald 38 1154 27 := rfl
theorem A38_1153 {L : AL} {r : List Value} {a : Nat} {i : Int32} : aw g 38 1153 L (.int i :: .ref a :: r) σ Q = (hty σ a = some 27 ∧ ¬ i < 0 ∧ i.toNatClampNeg < hln σ a ∧ aw g 38 1154 L (hv σ 27 a i.toNatClampNeg :: r) σ Q) := (aw_eq g 38 1153 _ _ _ _).trans (by rw [tq38_1153]; exact rfl)
theorem tq38_1154 : tT g 38 1154 = s_load vRf 38 1156 4 := rfl
theorem A38_1154 {l0 : Option Value} {l1 : Option Value} {l2 : Option Value} {l3 : Option Value} {l5 : Option Value} {l6 : Option Value} {l7 : Option Value} {l8 : Option Value} {x : Value} {r : List Value} : aw g 38 1154 [l0, l1, l2, l3, some (x), l5, l6, l7, l8] r σ Q = (vRf x = true ∧ aw g 38 1156 [l0, l1, l2, l3, some (x), l5, l6, l7, l8] (x :: r) σ Q) := (aw_eq g 38 1154 _ _ _ _).trans (by rw [tq38_1154]; exact h_load rfl)
theorem tq38_1156 : tT g 38 1156 = s_callk 38 1159 54 [1, 0, 1] 4 := rfl
theorem A38_1156 {L : AL} {r : List Value} {w0 w1 w2 : Value} : aw g 38 1156 L (w2 :: w1 :: w0 :: r) σ Q = ((vRf w0 && (vI w1 && (vRf w2 && true))) = true ∧ csum r ≤ 8 ∧ aw g 54 0 [some w0, some w1, some w2, none] [] σ (kt (aw g) 38 1159 L r Q)) := (aw_eq g 38 1156 _ _ _ _).trans (by rw [tq38_1156]; exact rfl)
theorem tq38_1159 : tT g 38 1159 = s_store vI 38 1161 6 := rfl
theorem A38_1159 {l0 : Option Value} {l1 : Option Value} {l2 : Option Value} {l3 : Option Value} {l4 : Option Value} {l5 : Option Value} {l6 : Option Value} {l7 : Option Value} {l8 : Option Value} {x : Int32} {r : List Value} : aw g 38 1159 [l0, l1, l2, l3, l4, l5, l6, l7, l8] (.int x :: r) σ Q = (oc l5 = true ∧ aw g 38 1161 [l0, l1, l2, l3, l4, l5, some (.int x), l7, l8] r σ Q) := (aw_eq g 38 1159 _ _ _ _).trans (by rw [tq38_1159]; exact (h_store (o := oc l5) rfl rfl rfl).trans (propext ⟨fun z => z.2, fun z => ⟨rfl, z⟩⟩))
theorem tq38_1161 : tT g 38 1161 = s_load vRf 38 1162 2 := rfl
theorem A38_1161 {l0 : Option Value} {l1 : Option Value} {l3 : Option Value} {l4 : Option Value} {l5 : Option Value} {l6 : Option Value} {l7 : Option Value} {l8 : Option Value} {x : Value} {r : List Value} : aw g 38 1161 [l0, l1, some (x), l3, l4, l5, l6, l7, l8] r σ Q = (vRf x = true ∧ aw g 38 1162 [l0, l1, some (x), l3, l4, l5, l6, l7, l8] (x :: r) σ Q) := (aw_eq g 38 1161 _ _ _ _).trans (by rw [tq38_1161]; exact h_load rfl)
theorem tq38_1162 : tT g 38 1162 = s_load vRf 38 1163 0 := rfl
theorem A38_1162 {l1 : Option Value} {l2 : Option Value} {l3 : Option Value} {l4 : Option Value} {l5 : Option Value} {l6 : Option Value} {l7 : Option Value} {l8 : Option Value} {x : Value} {r : List Value} : aw g 38 1162 [some (x), l1, l2, l3, l4, l5, l6, l7, l8] r σ Q = (vRf x = true ∧ aw g 38 1163 [some (x), l1, l2, l3, l4, l5, l6, l7, l8] (x :: r) σ Q) := (aw_eq g 38 1162 _ _ _ _).trans (by rw [tq38_1162]; exact h_load rfl)
theorem tq38_1163 : tT g 38 1163 = s_load vI 38 1165 5 := rfl
theorem A38_1163 {l0 : Option Value} {l1 : Option Value} {l2 : Option Value} {l3 : Option Value} {l4 : Option Value} {l6 : Option Value} {l7 : Option Value} {l8 : Option Value} {x : Int32} {r : List Value} : aw g 38 1163 [l0, l1, l2, l3, l4, some (.int x), l6, l7, l8] r σ Q = aw g 38 1165 [l0, l1, l2, l3, l4, some (.int x), l6, l7, l8] (.int x :: r) σ Q := (aw_eq g 38 1163 _ _ _ _).trans (by rw [tq38_1163]; exact (h_load rfl).trans (propext ⟨fun z => z.2, fun z => ⟨rfl, z⟩⟩))
theorem tq38_1165 : tT g 38 1165 = s_const 38 1166 (.int 1) := rfl
theorem A38_1165 {L : AL} {r : List Value} : aw g 38 1165 L r σ Q = aw g 38 1166 L (.int 1 :: r) σ Q := (aw_eq g 38 1165 _ _ _ _).trans (by rw [tq38_1165]; exact rfl)
theorem tq38_1166 : tT g 38 1166 = s_bin 38 1167 (fun a b => a + b) := rfl
theorem A38_1166 {L : AL} {r : List Value} {a b : Int32} : aw g 38 1166 L (.int b :: .int a :: r) σ Q = aw g 38 1167 L (.int (a + b) :: r) σ Q := (aw_eq g 38 1166 _ _ _ _).trans (by rw [tq38_1166]; exact rfl)
theorem tq38_1167 : tT g 38 1167 = s_ald 38 1168 27 := rfl
theorem A38_1167 {L : AL} {r : List Value} {a : Nat} {i : Int32} : aw g 38 1167 L (.int i :: .ref a :: r) σ Q = (hty σ a = some 27 ∧ ¬ i < 0 ∧ i.toNatClampNeg < hln σ a ∧ aw g 38 1168 L (hv σ 27 a i.toNatClampNeg :: r) σ Q) := (aw_eq g 38 1167 _ _ _ _).trans (by rw [tq38_1167]; exact rfl)
theorem tq38_1168 : tT g 38 1168 = s_callvk 38 1171 168 3 [0] 3 := rfl
theorem A38_1168 {L : AL} {r : List Value} {a : Nat} {w0 : Value} : aw g 38 1168 L (w0 :: .ref a :: r) σ Q = (hty σ a = some 3 ∧ (vI w0 && true) = true ∧ csum r ≤ 8 ∧ aw g 168 0 [some (.ref a), some w0, none] [] σ (kt (aw g) 38 1171 L r Q)) := (aw_eq g 38 1168 _ _ _ _).trans (by rw [tq38_1168]; exact rfl)
theorem tq38_1171 : tT g 38 1171 = s_store2 vD 38 1173 7 := rfl
theorem A38_1171 {l0 : Option Value} {l1 : Option Value} {l2 : Option Value} {l3 : Option Value} {l4 : Option Value} {l5 : Option Value} {l6 : Option Value} {l7 : Option Value} {l8 : Option Value} {x : UInt64} {r : List Value} : aw g 38 1171 [l0, l1, l2, l3, l4, l5, l6, l7, l8] (.double x :: r) σ Q = (oc l6 = true ∧ aw g 38 1173 [l0, l1, l2, l3, l4, l5, l6, some (.double x), none] r σ Q) := (aw_eq g 38 1171 _ _ _ _).trans (by rw [tq38_1171]; exact (h_store2 (o := oc l6) rfl rfl rfl).trans (propext ⟨fun z => z.2, fun z => ⟨rfl, z⟩⟩))
theorem tq38_1173 : tT g 38 1173 = s_load vRf 38 1174 2 := rfl
theorem A38_1173 {l0 : Option Value} {l1 : Option Value} {l3 : Option Value} {l4 : Option Value} {l5 : Option Value} {l6 : Option Value} {l7 : Option Value} {l8 : Option Value} {x : Value} {r : List Value} : aw g 38 1173 [l0, l1, some (x), l3, l4, l5, l6, l7, l8] r σ Q = (vRf x = true ∧ aw g 38 1174 [l0, l1, some (x), l3, l4, l5, l6, l7, l8] (x :: r) σ Q) := (aw_eq g 38 1173 _ _ _ _).trans (by rw [tq38_1173]; exact h_load rfl)
theorem tq38_1174 : tT g 38 1174 = s_callvk 38 1177 138 3 [] 1 := rfl
theorem A38_1174 {L : AL} {r : List Value} {a : Nat} : aw g 38 1174 L (.ref a :: r) σ Q = (hty σ a = some 3 ∧ true = true ∧ csum r ≤ 8 ∧ aw g 138 0 [some (.ref a)] [] σ (kt (aw g) 38 1177 L r Q)) := (aw_eq g 38 1174 _ _ _ _).trans (by rw [tq38_1174]; exact rfl)
theorem tq38_1177 : tT g 38 1177 = s_load vI 38 1179 6 := rfl
theorem A38_1177 {l0 : Option Value} {l1 : Option Value} {l2 : Option Value} {l3 : Option Value} {l4 : Option Value} {l5 : Option Value} {l7 : Option Value} {l8 : Option Value} {x : Int32} {r : List Value} : aw g 38 1177 [l0, l1, l2, l3, l4, l5, some (.int x), l7, l8] r σ Q = aw g 38 1179 [l0, l1, l2, l3, l4, l5, some (.int x), l7, l8] (.int x :: r) σ Q := (aw_eq g 38 1177 _ _ _ _).trans (by rw [tq38_1177]; exact (h_load rfl).trans (propext ⟨fun z => z.2, fun z => ⟨rfl, z⟩⟩))
theorem tq38_1179 : tT g 38 1179 = s_icmp 38 1182 1184 (fun a b => a = b) := rfl
theorem A38_1179 {L : AL} {r : List Value} {a b : Int32} : aw g 38 1179 L (.int b :: .int a :: r) σ Q = ((a = b → aw g 38 1184 L r σ Q) ∧ (¬ a = b → aw g 38 1182 L r σ Q)) := (aw_eq g 38 1179 _ _ _ _).trans (by rw [tq38_1179]; exact rfl)
theorem tq38_1182 : tT g 38 1182 = s_const 38 1183 (.int 0) := rfl
theorem A38_1182 {L : AL} {r : List Value} : aw g 38 1182 L r σ Q = aw g 38 1183 L (.int 0 :: r) σ Q := (aw_eq g 38 1182 _ _ _ _).trans (by rw [tq38_1182]; exact rfl)
theorem tq38_1183 : tT g 38 1183 = s_ret vZ := rfl
theorem A38_1183 {L : AL} {v : Value} : aw g 38 1183 L [v] σ Q = (vZ v ∧ Q (.inl (some v)) σ) := (aw_eq g 38 1183 _ _ _ _).trans (by rw [tq38_1183]; exact rfl)
theorem tq38_1184 : tT g 38 1184 = s_load vI 38 1186 6 := rfl
theorem A38_1184 {l0 : Option Value} {l1 : Option Value} {l2 : Option Value} {l3 : Option Value} {l4 : Option Value} {l5 : Option Value} {l7 : Option Value} {l8 : Option Value} {x : Int32} {r : List Value} : aw g 38 1184 [l0, l1, l2, l3, l4, l5, some (.int x), l7, l8] r σ Q = aw g 38 1186 [l0, l1, l2, l3, l4, l5, some (.int x), l7, l8] (.int x :: r) σ Q := (aw_eq g 38 1184 _ _ _ _).trans (by rw [tq38_1184]; exact (h_load rfl).trans (propext ⟨fun z => z.2, fun z => ⟨rfl, z⟩⟩))
theorem tq38_1186 : tT g 38 1186 = s_if 38 1221 1189 (fun a => a = 0) := rfl
theorem A38_1186 {L : AL} {r : List Value} {a : Int32} : aw g 38 1186 L (.int a :: r) σ Q = ((a = 0 → aw g 38 1189 L r σ Q) ∧ (¬ a = 0 → aw g 38 1221 L r σ Q)) := (aw_eq g 38 1186 _ _ _ _).trans (by rw [tq38_1186]; exact rfl)
theorem tq38_1189 : tT g 38 1189 = s_load vRf 38 1191 4 := rfl
theorem A38_1189 {l0 : Option Value} {l1 : Option Value} {l2 : Option Value} {l3 : Option Value} {l5 : Option Value} {l6 : Option Value} {l7 : Option Value} {l8 : Option Value} {x : Value} {r : List Value} : aw g 38 1189 [l0, l1, l2, l3, some (x), l5, l6, l7, l8] r σ Q = (vRf x = true ∧ aw g 38 1191 [l0, l1, l2, l3, some (x), l5, l6, l7, l8] (x :: r) σ Q) := (aw_eq g 38 1189 _ _ _ _).trans (by rw [tq38_1189]; exact h_load rfl)
theorem tq38_1191 : tT g 38 1191 = s_const 38 1192 (.int 0) := rfl
theorem A38_1191 {L : AL} {r : List Value} : aw g 38 1191 L r σ Q = aw g 38 1192 L (.int 0 :: r) σ Q := (aw_eq g 38 1191 _ _ _ _).trans (by rw [tq38_1191]; exact rfl)
theorem tq38_1192 : tT g 38 1192 = s_ald 38 1193 23 := rfl
theorem A38_1192 {L : AL} {r : List Value} {a : Nat} {i : Int32} : aw g 38 1192 L (.int i :: .ref a :: r) σ Q = (hty σ a = some 23 ∧ ¬ i < 0 ∧ i.toNatClampNeg < hln σ a ∧ aw g 38 1193 L (hv σ 23 a i.toNatClampNeg :: r) σ Q) := (aw_eq g 38 1192 _ _ _ _).trans (by rw [tq38_1192]; exact rfl)
theorem tq38_1193 : tT g 38 1193 = s_load vD 38 1195 7 := rfl
theorem A38_1193 {l0 : Option Value} {l1 : Option Value} {l2 : Option Value} {l3 : Option Value} {l4 : Option Value} {l5 : Option Value} {l6 : Option Value} {l8 : Option Value} {x : UInt64} {r : List Value} : aw g 38 1193 [l0, l1, l2, l3, l4, l5, l6, some (.double x), l8] r σ Q = aw g 38 1195 [l0, l1, l2, l3, l4, l5, l6, some (.double x), l8] (.double x :: r) σ Q := (aw_eq g 38 1193 _ _ _ _).trans (by rw [tq38_1193]; exact (h_load rfl).trans (propext ⟨fun z => z.2, fun z => ⟨rfl, z⟩⟩))
theorem tq38_1195 : tT g 38 1195 = s_dbin 38 1196 (fun a b => .int (Op.cmpValue (FP.dcmp a b) .l)) := rfl
theorem A38_1195 {L : AL} {r : List Value} {a b : UInt64} : aw g 38 1195 L (.double b :: .double a :: r) σ Q = aw g 38 1196 L (.int (Op.cmpValue (FP.dcmp a b) .l) :: r) σ Q := (aw_eq g 38 1195 _ _ _ _).trans (by rw [tq38_1195]; exact rfl)
theorem tq38_1196 : tT g 38 1196 = s_if 38 1199 1221 (fun a => a = 0) := rfl
theorem A38_1196 {L : AL} {r : List Value} {a : Int32} : aw g 38 1196 L (.int a :: r) σ Q = ((a = 0 → aw g 38 1221 L r σ Q) ∧ (¬ a = 0 → aw g 38 1199 L r σ Q)) := (aw_eq g 38 1196 _ _ _ _).trans (by rw [tq38_1196]; exact rfl)
theorem tq38_1199 : tT g 38 1199 = s_load vRf 38 1201 4 := rfl
theorem A38_1199 {l0 : Option Value} {l1 : Option Value} {l2 : Option Value} {l3 : Option Value} {l5 : Option Value} {l6 : Option Value} {l7 : Option Value} {l8 : Option Value} {x : Value} {r : List Value} : aw g 38 1199 [l0, l1, l2, l3, some (x), l5, l6, l7, l8] r σ Q = (vRf x = true ∧ aw g 38 1201 [l0, l1, l2, l3, some (x), l5, l6, l7, l8] (x :: r) σ Q) := (aw_eq g 38 1199 _ _ _ _).trans (by rw [tq38_1199]; exact h_load rfl)
theorem tq38_1201 : tT g 38 1201 = s_const 38 1202 (.int 0) := rfl
theorem A38_1201 {L : AL} {r : List Value} : aw g 38 1201 L r σ Q = aw g 38 1202 L (.int 0 :: r) σ Q := (aw_eq g 38 1201 _ _ _ _).trans (by rw [tq38_1201]; exact rfl)
theorem tq38_1202 : tT g 38 1202 = s_ald 38 1203 23 := rfl
theorem A38_1202 {L : AL} {r : List Value} {a : Nat} {i : Int32} : aw g 38 1202 L (.int i :: .ref a :: r) σ Q = (hty σ a = some 23 ∧ ¬ i < 0 ∧ i.toNatClampNeg < hln σ a ∧ aw g 38 1203 L (hv σ 23 a i.toNatClampNeg :: r) σ Q) := (aw_eq g 38 1202 _ _ _ _).trans (by rw [tq38_1202]; exact rfl)
theorem tq38_1203 : tT g 38 1203 = s_load vRf 38 1205 4 := rfl
theorem A38_1203 {l0 : Option Value} {l1 : Option Value} {l2 : Option Value} {l3 : Option Value} {l5 : Option Value} {l6 : Option Value} {l7 : Option Value} {l8 : Option Value} {x : Value} {r : List Value} : aw g 38 1203 [l0, l1, l2, l3, some (x), l5, l6, l7, l8] r σ Q = (vRf x = true ∧ aw g 38 1205 [l0, l1, l2, l3, some (x), l5, l6, l7, l8] (x :: r) σ Q) := (aw_eq g 38 1203 _ _ _ _).trans (by rw [tq38_1203]; exact h_load rfl)
theorem tq38_1205 : tT g 38 1205 = s_const 38 1206 (.int 0) := rfl
theorem A38_1205 {L : AL} {r : List Value} : aw g 38 1205 L r σ Q = aw g 38 1206 L (.int 0 :: r) σ Q := (aw_eq g 38 1205 _ _ _ _).trans (by rw [tq38_1205]; exact rfl)
theorem tq38_1206 : tT g 38 1206 = s_ald 38 1207 23 := rfl
theorem A38_1206 {L : AL} {r : List Value} {a : Nat} {i : Int32} : aw g 38 1206 L (.int i :: .ref a :: r) σ Q = (hty σ a = some 23 ∧ ¬ i < 0 ∧ i.toNatClampNeg < hln σ a ∧ aw g 38 1207 L (hv σ 23 a i.toNatClampNeg :: r) σ Q) := (aw_eq g 38 1206 _ _ _ _).trans (by rw [tq38_1206]; exact rfl)
theorem tq38_1207 : tT g 38 1207 = s_dbin 38 1208 (fun a b => .int (Op.cmpValue (FP.dcmp a b) .l)) := rfl
theorem A38_1207 {L : AL} {r : List Value} {a b : UInt64} : aw g 38 1207 L (.double b :: .double a :: r) σ Q = aw g 38 1208 L (.int (Op.cmpValue (FP.dcmp a b) .l) :: r) σ Q := (aw_eq g 38 1207 _ _ _ _).trans (by rw [tq38_1207]; exact rfl)
theorem tq38_1208 : tT g 38 1208 = s_if 38 1211 1219 (fun a => a = 0) := rfl
theorem A38_1208 {L : AL} {r : List Value} {a : Int32} : aw g 38 1208 L (.int a :: r) σ Q = ((a = 0 → aw g 38 1219 L r σ Q) ∧ (¬ a = 0 → aw g 38 1211 L r σ Q)) := (aw_eq g 38 1208 _ _ _ _).trans (by rw [tq38_1208]; exact rfl)
theorem tq38_1211 : tT g 38 1211 = s_load vD 38 1213 7 := rfl
theorem A38_1211 {l0 : Option Value} {l1 : Option Value} {l2 : Option Value} {l3 : Option Value} {l4 : Option Value} {l5 : Option Value} {l6 : Option Value} {l8 : Option Value} {x : UInt64} {r : List Value} : aw g 38 1211 [l0, l1, l2, l3, l4, l5, l6, some (.double x), l8] r σ Q = aw g 38 1213 [l0, l1, l2, l3, l4, l5, l6, some (.double x), l8] (.double x :: r) σ Q := (aw_eq g 38 1211 _ _ _ _).trans (by rw [tq38_1211]; exact (h_load rfl).trans (propext ⟨fun z => z.2, fun z => ⟨rfl, z⟩⟩))
theorem tq38_1213 : tT g 38 1213 = s_load vD 38 1215 7 := rfl
theorem A38_1213 {l0 : Option Value} {l1 : Option Value} {l2 : Option Value} {l3 : Option Value} {l4 : Option Value} {l5 : Option Value} {l6 : Option Value} {l8 : Option Value} {x : UInt64} {r : List Value} : aw g 38 1213 [l0, l1, l2, l3, l4, l5, l6, some (.double x), l8] r σ Q = aw g 38 1215 [l0, l1, l2, l3, l4, l5, l6, some (.double x), l8] (.double x :: r) σ Q := (aw_eq g 38 1213 _ _ _ _).trans (by rw [tq38_1213]; exact (h_load rfl).trans (propext ⟨fun z => z.2, fun z => ⟨rfl, z⟩⟩))
theorem tq38_1215 : tT g 38 1215 = s_dbin 38 1216 (fun a b => .int (Op.cmpValue (FP.dcmp a b) .l)) := rfl
theorem A38_1215 {L : AL} {r : List Value} {a b : UInt64} : aw g 38 1215 L (.double b :: .double a :: r) σ Q = aw g 38 1216 L (.int (Op.cmpValue (FP.dcmp a b) .l) :: r) σ Q := (aw_eq g 38 1215 _ _ _ _).trans (by rw [tq38_1215]; exact rfl)
theorem tq38_1216 : tT g 38 1216 = s_if 38 1221 1219 (fun a => a = 0) := rfl
theorem A38_1216 {L : AL} {r : List Value} {a : Int32} : aw g 38 1216 L (.int a :: r) σ Q = ((a = 0 → aw g 38 1219 L r σ Q) ∧ (¬ a = 0 → aw g 38 1221 L r σ Q)) := (aw_eq g 38 1216 _ _ _ _).trans (by rw [tq38_1216]; exact rfl)
theorem tq38_1219 : tT g 38 1219 = s_const 38 1220 (.int 0) := rfl
theorem A38_1219 {L : AL} {r : List Value} : aw g 38 1219 L r σ Q = aw g 38 1220 L (.int 0 :: r) σ Q := (aw_eq g 38 1219 _ _ _ _).trans (by rw [tq38_1219]; exact rfl)
theorem tq38_1220 : tT g 38 1220 = s_ret vZ := rfl
theorem A38_1220 {L : AL} {v : Value} : aw g 38 1220 L [v] σ Q = (vZ v ∧ Q (.inl (some v)) σ) := (aw_eq g 38 1220 _ _ _ _).trans (by rw [tq38_1220]; exact rfl)
theorem tq38_1221 : tT g 38 1221 = s_goto 38 1454 := rfl
theorem A38_1221 {L : AL} {r : List Value} : aw g 38 1221 L r σ Q = aw g 38 1454 L r σ Q := (aw_eq g 38 1221 _ _ _ _).trans (by rw [tq38_1221]; exact rfl)
theorem tq38_1224 : tT g 38 1224 = s_load vRf 38 1225 1 := rfl
theorem A38_1224 {l0 : Option Value} {l2 : Option Value} {l3 : Option Value} {l4 : Option Value} {l5 : Option Value} {l6 : Option Value} {l7 : Option Value} {l8 : Option Value} {x : Value} {r : List Value} : aw g 38 1224 [l0, some (x), l2, l3, l4, l5, l6, l7, l8] r σ Q = (vRf x = true ∧ aw g 38 1225 [l0, some (x), l2, l3, l4, l5, l6, l7, l8] (x :: r) σ Q) := (aw_eq g 38 1224 _ _ _ _).trans (by rw [tq38_1224]; exact h_load rfl)
theorem tq38_1225 : tT g 38 1225 = s_load vRf 38 1226 0 := rfl
theorem A38_1225 {l1 : Option Value} {l2 : Option Value} {l3 : Option Value} {l4 : Option Value} {l5 : Option Value} {l6 : Option Value} {l7 : Option Value} {l8 : Option Value} {x : Value} {r : List Value} : aw g 38 1225 [some (x), l1, l2, l3, l4, l5, l6, l7, l8] r σ Q = (vRf x = true ∧ aw g 38 1226 [some (x), l1, l2, l3, l4, l5, l6, l7, l8] (x :: r) σ Q) := (aw_eq g 38 1225 _ _ _ _).trans (by rw [tq38_1225]; exact h_load rfl)
theorem tq38_1226 : tT g 38 1226 = s_load vI 38 1228 5 := rfl
theorem A38_1226 {l0 : Option Value} {l1 : Option Value} {l2 : Option Value} {l3 : Option Value} {l4 : Option Value} {l6 : Option Value} {l7 : Option Value} {l8 : Option Value} {x : Int32} {r : List Value} : aw g 38 1226 [l0, l1, l2, l3, l4, some (.int x), l6, l7, l8] r σ Q = aw g 38 1228 [l0, l1, l2, l3, l4, some (.int x), l6, l7, l8] (.int x :: r) σ Q := (aw_eq g 38 1226 _ _ _ _).trans (by rw [tq38_1226]; exact (h_load rfl).trans (propext ⟨fun z => z.2, fun z => ⟨rfl, z⟩⟩))
theorem tq38_1228 : tT g 38 1228 = s_const 38 1229 (.int 1) := rfl
theorem A38_1228 {L : AL} {r : List Value} : aw g 38 1228 L r σ Q = aw g 38 1229 L (.int 1 :: r) σ Q := (aw_eq g 38 1228 _ _ _ _).trans (by rw [tq38_1228]; exact rfl)
theorem tq38_1229 : tT g 38 1229 = s_bin 38 1230 (fun a b => a + b) := rfl
theorem A38_1229 {L : AL} {r : List Value} {a b : Int32} : aw g 38 1229 L (.int b :: .int a :: r) σ Q = aw g 38 1230 L (.int (a + b) :: r) σ Q := (aw_eq g 38 1229 _ _ _ _).trans (by rw [tq38_1229]; exact rfl)
theorem tq38_1230 : tT g 38 1230 = s_ald 38 1231 27 := rfl
theorem A38_1230 {L : AL} {r : List Value} {a : Nat} {i : Int32} : aw g 38 1230 L (.int i :: .ref a :: r) σ Q = (hty σ a = some 27 ∧ ¬ i < 0 ∧ i.toNatClampNeg < hln σ a ∧ aw g 38 1231 L (hv σ 27 a i.toNatClampNeg :: r) σ Q) := (aw_eq g 38 1230 _ _ _ _).trans (by rw [tq38_1230]; exact rfl)
theorem tq38_1231 : tT g 38 1231 = s_load vRf 38 1232 0 := rfl
theorem A38_1231 {l1 : Option Value} {l2 : Option Value} {l3 : Option Value} {l4 : Option Value} {l5 : Option Value} {l6 : Option Value} {l7 : Option Value} {l8 : Option Value} {x : Value} {r : List Value} : aw g 38 1231 [some (x), l1, l2, l3, l4, l5, l6, l7, l8] r σ Q = (vRf x = true ∧ aw g 38 1232 [some (x), l1, l2, l3, l4, l5, l6, l7, l8] (x :: r) σ Q) := (aw_eq g 38 1231 _ _ _ _).trans (by rw [tq38_1231]; exact h_load rfl)
theorem tq38_1232 : tT g 38 1232 = s_load vI 38 1234 5 := rfl
theorem A38_1232 {l0 : Option Value} {l1 : Option Value} {l2 : Option Value} {l3 : Option Value} {l4 : Option Value} {l6 : Option Value} {l7 : Option Value} {l8 : Option Value} {x : Int32} {r : List Value} : aw g 38 1232 [l0, l1, l2, l3, l4, some (.int x), l6, l7, l8] r σ Q = aw g 38 1234 [l0, l1, l2, l3, l4, some (.int x), l6, l7, l8] (.int x :: r) σ Q := (aw_eq g 38 1232 _ _ _ _).trans (by rw [tq38_1232]; exact (h_load rfl).trans (propext ⟨fun z => z.2, fun z => ⟨rfl, z⟩⟩))
theorem tq38_1234 : tT g 38 1234 = s_const 38 1235 (.int 2) := rfl
theorem A38_1234 {L : AL} {r : List Value} : aw g 38 1234 L r σ Q = aw g 38 1235 L (.int 2 :: r) σ Q := (aw_eq g 38 1234 _ _ _ _).trans (by rw [tq38_1234]; exact rfl)
theorem tq38_1235 : tT g 38 1235 = s_bin 38 1236 (fun a b => a + b) := rfl
theorem A38_1235 {L : AL} {r : List Value} {a b : Int32} : aw g 38 1235 L (.int b :: .int a :: r) σ Q = aw g 38 1236 L (.int (a + b) :: r) σ Q := (aw_eq g 38 1235 _ _ _ _).trans (by rw [tq38_1235]; exact rfl)
theorem tq38_1236 : tT g 38 1236 = s_ald 38 1237 27 := rfl
theorem A38_1236 {L : AL} {r : List Value} {a : Nat} {i : Int32} : aw g 38 1236 L (.int i :: .ref a :: r) σ Q = (hty σ a = some 27 ∧ ¬ i < 0 ∧ i.toNatClampNeg < hln σ a ∧ aw g 38 1237 L (hv σ 27 a i.toNatClampNeg :: r) σ Q) := (aw_eq g 38 1236 _ _ _ _).trans (by rw [tq38_1236]; exact rfl)
theorem tq38_1237 : tT g 38 1237 = s_load vRf 38 1238 0 := rfl
theorem A38_1237 {l1 : Option Value} {l2 : Option Value} {l3 : Option Value} {l4 : Option Value} {l5 : Option Value} {l6 : Option Value} {l7 : Option Value} {l8 : Option Value} {x : Value} {r : List Value} : aw g 38 1237 [some (x), l1, l2, l3, l4, l5, l6, l7, l8] r σ Q = (vRf x = true ∧ aw g 38 1238 [some (x), l1, l2, l3, l4, l5, l6, l7, l8] (x :: r) σ Q) := (aw_eq g 38 1237 _ _ _ _).trans (by rw [tq38_1237]; exact h_load rfl)
theorem tq38_1238 : tT g 38 1238 = s_load vI 38 1240 5 := rfl
theorem A38_1238 {l0 : Option Value} {l1 : Option Value} {l2 : Option Value} {l3 : Option Value} {l4 : Option Value} {l6 : Option Value} {l7 : Option Value} {l8 : Option Value} {x : Int32} {r : List Value} : aw g 38 1238 [l0, l1, l2, l3, l4, some (.int x), l6, l7, l8] r σ Q = aw g 38 1240 [l0, l1, l2, l3, l4, some (.int x), l6, l7, l8] (.int x :: r) σ Q := (aw_eq g 38 1238 _ _ _ _).trans (by rw [tq38_1238]; exact (h_load rfl).trans (propext ⟨fun z => z.2, fun z => ⟨rfl, z⟩⟩))
theorem tq38_1240 : tT g 38 1240 = s_const 38 1241 (.int 3) := rfl
theorem A38_1240 {L : AL} {r : List Value} : aw g 38 1240 L r σ Q = aw g 38 1241 L (.int 3 :: r) σ Q := (aw_eq g 38 1240 _ _ _ _).trans (by rw [tq38_1240]; exact rfl)
theorem tq38_1241 : tT g 38 1241 = s_bin 38 1242 (fun a b => a + b) := rfl
theorem A38_1241 {L : AL} {r : List Value} {a b : Int32} : aw g 38 1241 L (.int b :: .int a :: r) σ Q = aw g 38 1242 L (.int (a + b) :: r) σ Q := (aw_eq g 38 1241 _ _ _ _).trans (by rw [tq38_1241]; exact rfl)
theorem tq38_1242 : tT g 38 1242 = s_ald 38 1243 27 := rfl
theorem A38_1242 {L : AL} {r : List Value} {a : Nat} {i : Int32} : aw g 38 1242 L (.int i :: .ref a :: r) σ Q = (hty σ a = some 27 ∧ ¬ i < 0 ∧ i.toNatClampNeg < hln σ a ∧ aw g 38 1243 L (hv σ 27 a i.toNatClampNeg :: r) σ Q) := (aw_eq g 38 1242 _ _ _ _).trans (by rw [tq38_1242]; exact rfl)
theorem tq38_1243 : tT g 38 1243 = s_load vRf 38 1244 3 := rfl
theorem A38_1243 {l0 : Option Value} {l1 : Option Value} {l2 : Option Value} {l4 : Option Value} {l5 : Option Value} {l6 : Option Value} {l7 : Option Value} {l8 : Option Value} {x : Value} {r : List Value} : aw g 38 1243 [l0, l1, l2, some (x), l4, l5, l6, l7, l8] r σ Q = (vRf x = true ∧ aw g 38 1244 [l0, l1, l2, some (x), l4, l5, l6, l7, l8] (x :: r) σ Q) := (aw_eq g 38 1243 _ _ _ _).trans (by rw [tq38_1243]; exact h_load rfl)
theorem tq38_1244 : tT g 38 1244 = s_callk 38 1247 55 [1, 0, 0, 0, 1] 6 := rfl
theorem A38_1244 {L : AL} {r : List Value} {w0 w1 w2 w3 w4 : Value} : aw g 38 1244 L (w4 :: w3 :: w2 :: w1 :: w0 :: r) σ Q = ((vRf w0 && (vI w1 && (vI w2 && (vI w3 && (vRf w4 && true))))) = true ∧ csum r ≤ 8 ∧ aw g 55 0 [some w0, some w1, some w2, some w3, some w4, none] [] σ (kt (aw g) 38 1247 L r Q)) := (aw_eq g 38 1244 _ _ _ _).trans (by rw [tq38_1244]; exact rfl)
theorem tq38_1247 : tT g 38 1247 = s_store vI 38 1249 6 := rfl
theorem A38_1247 {l0 : Option Value} {l1 : Option Value} {l2 : Option Value} {l3 : Option Value} {l4 : Option Value} {l5 : Option Value} {l6 : Option Value} {l7 : Option Value} {l8 : Option Value} {x : Int32} {r : List Value} : aw g 38 1247 [l0, l1, l2, l3, l4, l5, l6, l7, l8] (.int x :: r) σ Q = (oc l5 = true ∧ aw g 38 1249 [l0, l1, l2, l3, l4, l5, some (.int x), l7, l8] r σ Q) := (aw_eq g 38 1247 _ _ _ _).trans (by rw [tq38_1247]; exact (h_store (o := oc l5) rfl rfl rfl).trans (propext ⟨fun z => z.2, fun z => ⟨rfl, z⟩⟩))
theorem tq38_1249 : tT g 38 1249 = s_load vRf 38 1250 2 := rfl
theorem A38_1249 {l0 : Option Value} {l1 : Option Value} {l3 : Option Value} {l4 : Option Value} {l5 : Option Value} {l6 : Option Value} {l7 : Option Value} {l8 : Option Value} {x : Value} {r : List Value} : aw g 38 1249 [l0, l1, some (x), l3, l4, l5, l6, l7, l8] r σ Q = (vRf x = true ∧ aw g 38 1250 [l0, l1, some (x), l3, l4, l5, l6, l7, l8] (x :: r) σ Q) := (aw_eq g 38 1249 _ _ _ _).trans (by rw [tq38_1249]; exact h_load rfl)
theorem tq38_1250 : tT g 38 1250 = s_load vRf 38 1251 0 := rfl
theorem A38_1250 {l1 : Option Value} {l2 : Option Value} {l3 : Option Value} {l4 : Option Value} {l5 : Option Value} {l6 : Option Value} {l7 : Option Value} {l8 : Option Value} {x : Value} {r : List Value} : aw g 38 1250 [some (x), l1, l2, l3, l4, l5, l6, l7, l8] r σ Q = (vRf x = true ∧ aw g 38 1251 [some (x), l1, l2, l3, l4, l5, l6, l7, l8] (x :: r) σ Q) := (aw_eq g 38 1250 _ _ _ _).trans (by rw [tq38_1250]; exact h_load rfl)
theorem tq38_1251 : tT g 38 1251 = s_load vI 38 1253 5 := rfl
theorem A38_1251 {l0 : Option Value} {l1 : Option Value} {l2 : Option Value} {l3 : Option Value} {l4 : Option Value} {l6 : Option Value} {l7 : Option Value} {l8 : Option Value} {x : Int32} {r : List Value} : aw g 38 1251 [l0, l1, l2, l3, l4, some (.int x), l6, l7, l8] r σ Q = aw g 38 1253 [l0, l1, l2, l3, l4, some (.int x), l6, l7, l8] (.int x :: r) σ Q := (aw_eq g 38 1251 _ _ _ _).trans (by rw [tq38_1251]; exact (h_load rfl).trans (propext ⟨fun z => z.2, fun z => ⟨rfl, z⟩⟩))
theorem tq38_1253 : tT g 38 1253 = s_const 38 1254 (.int 1) := rfl
theorem A38_1253 {L : AL} {r : List Value} : aw g 38 1253 L r σ Q = aw g 38 1254 L (.int 1 :: r) σ Q := (aw_eq g 38 1253 _ _ _ _).trans (by rw [tq38_1253]; exact rfl)
theorem tq38_1254 : tT g 38 1254 = s_bin 38 1255 (fun a b => a + b) := rfl
theorem A38_1254 {L : AL} {r : List Value} {a b : Int32} : aw g 38 1254 L (.int b :: .int a :: r) σ Q = aw g 38 1255 L (.int (a + b) :: r) σ Q := (aw_eq g 38 1254 _ _ _ _).trans (by rw [tq38_1254]; exact rfl)
theorem tq38_1255 : tT g 38 1255 = s_ald 38 1256 27 := rfl
theorem A38_1255 {L : AL} {r : List Value} {a : Nat} {i : Int32} : aw g 38 1255 L (.int i :: .ref a :: r) σ Q = (hty σ a = some 27 ∧ ¬ i < 0 ∧ i.toNatClampNeg < hln σ a ∧ aw g 38 1256 L (hv σ 27 a i.toNatClampNeg :: r) σ Q) := (aw_eq g 38 1255 _ _ _ _).trans (by rw [tq38_1255]; exact rfl)
theorem tq38_1256 : tT g 38 1256 = s_load vRf 38 1257 0 := rfl
theorem A38_1256 {l1 : Option Value} {l2 : Option Value} {l3 : Option Value} {l4 : Option Value} {l5 : Option Value} {l6 : Option Value} {l7 : Option Value} {l8 : Option Value} {x : Value} {r : List Value} : aw g 38 1256 [some (x), l1, l2, l3, l4, l5, l6, l7, l8] r σ Q = (vRf x = true ∧ aw g 38 1257 [some (x), l1, l2, l3, l4, l5, l6, l7, l8] (x :: r) σ Q) := (aw_eq g 38 1256 _ _ _ _).trans (by rw [tq38_1256]; exact h_load rfl)
theorem tq38_1257 : tT g 38 1257 = s_load vI 38 1259 5 := rfl
theorem A38_1257 {l0 : Option Value} {l1 : Option Value} {l2 : Option Value} {l3 : Option Value} {l4 : Option Value} {l6 : Option Value} {l7 : Option Value} {l8 : Option Value} {x : Int32} {r : List Value} : aw g 38 1257 [l0, l1, l2, l3, l4, some (.int x), l6, l7, l8] r σ Q = aw g 38 1259 [l0, l1, l2, l3, l4, some (.int x), l6, l7, l8] (.int x :: r) σ Q := (aw_eq g 38 1257 _ _ _ _).trans (by rw [tq38_1257]; exact (h_load rfl).trans (propext ⟨fun z => z.2, fun z => ⟨rfl, z⟩⟩))
theorem tq38_1259 : tT g 38 1259 = s_const 38 1260 (.int 2) := rfl
theorem A38_1259 {L : AL} {r : List Value} : aw g 38 1259 L r σ Q = aw g 38 1260 L (.int 2 :: r) σ Q := (aw_eq g 38 1259 _ _ _ _).trans (by rw [tq38_1259]; exact rfl)
theorem tq38_1260 : tT g 38 1260 = s_bin 38 1261 (fun a b => a + b) := rfl
theorem A38_1260 {L : AL} {r : List Value} {a b : Int32} : aw g 38 1260 L (.int b :: .int a :: r) σ Q = aw g 38 1261 L (.int (a + b) :: r) σ Q := (aw_eq g 38 1260 _ _ _ _).trans (by rw [tq38_1260]; exact rfl)
theorem tq38_1261 : tT g 38 1261 = s_ald 38 1262 27 := rfl
theorem A38_1261 {L : AL} {r : List Value} {a : Nat} {i : Int32} : aw g 38 1261 L (.int i :: .ref a :: r) σ Q = (hty σ a = some 27 ∧ ¬ i < 0 ∧ i.toNatClampNeg < hln σ a ∧ aw g 38 1262 L (hv σ 27 a i.toNatClampNeg :: r) σ Q) := (aw_eq g 38 1261 _ _ _ _).trans (by rw [tq38_1261]; exact rfl)
theorem tq38_1262 : tT g 38 1262 = s_load vRf 38 1263 0 := rfl
theorem A38_1262 {l1 : Option Value} {l2 : Option Value} {l3 : Option Value} {l4 : Option Value} {l5 : Option Value} {l6 : Option Value} {l7 : Option Value} {l8 : Option Value} {x : Value} {r : List Value} : aw g 38 1262 [some (x), l1, l2, l3, l4, l5, l6, l7, l8] r σ Q = (vRf x = true ∧ aw g 38 1263 [some (x), l1, l2, l3, l4, l5, l6, l7, l8] (x :: r) σ Q) := (aw_eq g 38 1262 _ _ _ _).trans (by rw [tq38_1262]; exact h_load rfl)
theorem tq38_1263 : tT g 38 1263 = s_load vI 38 1265 5 := rfl
theorem A38_1263 {l0 : Option Value} {l1 : Option Value} {l2 : Option Value} {l3 : Option Value} {l4 : Option Value} {l6 : Option Value} {l7 : Option Value} {l8 : Option Value} {x : Int32} {r : List Value} : aw g 38 1263 [l0, l1, l2, l3, l4, some (.int x), l6, l7, l8] r σ Q = aw g 38 1265 [l0, l1, l2, l3, l4, some (.int x), l6, l7, l8] (.int x :: r) σ Q := (aw_eq g 38 1263 _ _ _ _).trans (by rw [tq38_1263]; exact (h_load rfl).trans (propext ⟨fun z => z.2, fun z => ⟨rfl, z⟩⟩))
theorem tq38_1265 : tT g 38 1265 = s_const 38 1266 (.int 3) := rfl
theorem A38_1265 {L : AL} {r : List Value} : aw g 38 1265 L r σ Q = aw g 38 1266 L (.int 3 :: r) σ Q := (aw_eq g 38 1265 _ _ _ _).trans (by rw [tq38_1265]; exact rfl)
theorem tq38_1266 : tT g 38 1266 = s_bin 38 1267 (fun a b => a + b) := rfl
theorem A38_1266 {L : AL} {r : List Value} {a b : Int32} : aw g 38 1266 L (.int b :: .int a :: r) σ Q = aw g 38 1267 L (.int (a + b) :: r) σ Q := (aw_eq g 38 1266 _ _ _ _).trans (by rw [tq38_1266]; exact rfl)
theorem tq38_1267 : tT g 38 1267 = s_ald 38 1268 27 := rfl
theorem A38_1267 {L : AL} {r : List Value} {a : Nat} {i : Int32} : aw g 38 1267 L (.int i :: .ref a :: r) σ Q = (hty σ a = some 27 ∧ ¬ i < 0 ∧ i.toNatClampNeg < hln σ a ∧ aw g 38 1268 L (hv σ 27 a i.toNatClampNeg :: r) σ Q) := (aw_eq g 38 1267 _ _ _ _).trans (by rw [tq38_1267]; exact rfl)
theorem tq38_1268 : tT g 38 1268 = s_callvk 38 1271 169 3 [0, 0, 0] 4 := rfl
theorem A38_1268 {L : AL} {r : List Value} {a : Nat} {w0 w1 w2 : Value} : aw g 38 1268 L (w2 :: w1 :: w0 :: .ref a :: r) σ Q = (hty σ a = some 3 ∧ (vI w0 && (vI w1 && (vI w2 && true))) = true ∧ csum r ≤ 8 ∧ aw g 169 0 [some (.ref a), some w0, some w1, some w2] [] σ (kt (aw g) 38 1271 L r Q)) := (aw_eq g 38 1268 _ _ _ _).trans (by rw [tq38_1268]; exact rfl)
theorem tq38_1271 : tT g 38 1271 = s_store vI 38 1273 7 := rfl
theorem A38_1271 {l0 : Option Value} {l1 : Option Value} {l2 : Option Value} {l3 : Option Value} {l4 : Option Value} {l5 : Option Value} {l6 : Option Value} {l7 : Option Value} {l8 : Option Value} {x : Int32} {r : List Value} : aw g 38 1271 [l0, l1, l2, l3, l4, l5, l6, l7, l8] (.int x :: r) σ Q = (oc l6 = true ∧ aw g 38 1273 [l0, l1, l2, l3, l4, l5, l6, some (.int x), l8] r σ Q) := (aw_eq g 38 1271 _ _ _ _).trans (by rw [tq38_1271]; exact (h_store (o := oc l6) rfl rfl rfl).trans (propext ⟨fun z => z.2, fun z => ⟨rfl, z⟩⟩))
theorem tq38_1273 : tT g 38 1273 = s_load vRf 38 1274 2 := rfl
theorem A38_1273 {l0 : Option Value} {l1 : Option Value} {l3 : Option Value} {l4 : Option Value} {l5 : Option Value} {l6 : Option Value} {l7 : Option Value} {l8 : Option Value} {x : Value} {r : List Value} : aw g 38 1273 [l0, l1, some (x), l3, l4, l5, l6, l7, l8] r σ Q = (vRf x = true ∧ aw g 38 1274 [l0, l1, some (x), l3, l4, l5, l6, l7, l8] (x :: r) σ Q) := (aw_eq g 38 1273 _ _ _ _).trans (by rw [tq38_1273]; exact h_load rfl)
theorem tq38_1274 : tT g 38 1274 = s_callvk 38 1277 138 3 [] 1 := rfl
theorem A38_1274 {L : AL} {r : List Value} {a : Nat} : aw g 38 1274 L (.ref a :: r) σ Q = (hty σ a = some 3 ∧ true = true ∧ csum r ≤ 8 ∧ aw g 138 0 [some (.ref a)] [] σ (kt (aw g) 38 1277 L r Q)) := (aw_eq g 38 1274 _ _ _ _).trans (by rw [tq38_1274]; exact rfl)
theorem tq38_1277 : tT g 38 1277 = s_load vI 38 1279 6 := rfl
theorem A38_1277 {l0 : Option Value} {l1 : Option Value} {l2 : Option Value} {l3 : Option Value} {l4 : Option Value} {l5 : Option Value} {l7 : Option Value} {l8 : Option Value} {x : Int32} {r : List Value} : aw g 38 1277 [l0, l1, l2, l3, l4, l5, some (.int x), l7, l8] r σ Q = aw g 38 1279 [l0, l1, l2, l3, l4, l5, some (.int x), l7, l8] (.int x :: r) σ Q := (aw_eq g 38 1277 _ _ _ _).trans (by rw [tq38_1277]; exact (h_load rfl).trans (propext ⟨fun z => z.2, fun z => ⟨rfl, z⟩⟩))
theorem tq38_1279 : tT g 38 1279 = s_icmp 38 1282 1284 (fun a b => a = b) := rfl
theorem A38_1279 {L : AL} {r : List Value} {a b : Int32} : aw g 38 1279 L (.int b :: .int a :: r) σ Q = ((a = b → aw g 38 1284 L r σ Q) ∧ (¬ a = b → aw g 38 1282 L r σ Q)) := (aw_eq g 38 1279 _ _ _ _).trans (by rw [tq38_1279]; exact rfl)
theorem tq38_1282 : tT g 38 1282 = s_const 38 1283 (.int 0) := rfl
theorem A38_1282 {L : AL} {r : List Value} : aw g 38 1282 L r σ Q = aw g 38 1283 L (.int 0 :: r) σ Q := (aw_eq g 38 1282 _ _ _ _).trans (by rw [tq38_1282]; exact rfl)
theorem tq38_1283 : tT g 38 1283 = s_ret vZ := rfl
theorem A38_1283 {L : AL} {v : Value} : aw g 38 1283 L [v] σ Q = (vZ v ∧ Q (.inl (some v)) σ) := (aw_eq g 38 1283 _ _ _ _).trans (by rw [tq38_1283]; exact rfl)
theorem tq38_1284 : tT g 38 1284 = s_load vI 38 1286 6 := rfl
theorem A38_1284 {l0 : Option Value} {l1 : Option Value} {l2 : Option Value} {l3 : Option Value} {l4 : Option Value} {l5 : Option Value} {l7 : Option Value} {l8 : Option Value} {x : Int32} {r : List Value} : aw g 38 1284 [l0, l1, l2, l3, l4, l5, some (.int x), l7, l8] r σ Q = aw g 38 1286 [l0, l1, l2, l3, l4, l5, some (.int x), l7, l8] (.int x :: r) σ Q := (aw_eq g 38 1284 _ _ _ _).trans (by rw [tq38_1284]; exact (h_load rfl).trans (propext ⟨fun z => z.2, fun z => ⟨rfl, z⟩⟩))
theorem tq38_1286 : tT g 38 1286 = s_if 38 1301 1289 (fun a => a = 0) := rfl
theorem A38_1286 {L : AL} {r : List Value} {a : Int32} : aw g 38 1286 L (.int a :: r) σ Q = ((a = 0 → aw g 38 1289 L r σ Q) ∧ (¬ a = 0 → aw g 38 1301 L r σ Q)) := (aw_eq g 38 1286 _ _ _ _).trans (by rw [tq38_1286]; exact rfl)
theorem tq38_1289 : tT g 38 1289 = s_load vRf 38 1290 3 := rfl
theorem A38_1289 {l0 : Option Value} {l1 : Option Value} {l2 : Option Value} {l4 : Option Value} {l5 : Option Value} {l6 : Option Value} {l7 : Option Value} {l8 : Option Value} {x : Value} {r : List Value} : aw g 38 1289 [l0, l1, l2, some (x), l4, l5, l6, l7, l8] r σ Q = (vRf x = true ∧ aw g 38 1290 [l0, l1, l2, some (x), l4, l5, l6, l7, l8] (x :: r) σ Q) := (aw_eq g 38 1289 _ _ _ _).trans (by rw [tq38_1289]; exact h_load rfl)
theorem tq38_1290 : tT g 38 1290 = s_const 38 1291 (.int 0) := rfl
theorem A38_1290 {L : AL} {r : List Value} : aw g 38 1290 L r σ Q = aw g 38 1291 L (.int 0 :: r) σ Q := (aw_eq g 38 1290 _ _ _ _).trans (by rw [tq38_1290]; exact rfl)
theorem tq38_1291 : tT g 38 1291 = s_ald 38 1292 22 := rfl
theorem A38_1291 {L : AL} {r : List Value} {a : Nat} {i : Int32} : aw g 38 1291 L (.int i :: .ref a :: r) σ Q = (hty σ a = some 22 ∧ ¬ i < 0 ∧ i.toNatClampNeg < hln σ a ∧ aw g 38 1292 L (hv σ 22 a i.toNatClampNeg :: r) σ Q) := (aw_eq g 38 1291 _ _ _ _).trans (by rw [tq38_1291]; exact rfl)
theorem tq38_1292 : tT g 38 1292 = s_load vI 38 1294 7 := rfl
theorem A38_1292 {l0 : Option Value} {l1 : Option Value} {l2 : Option Value} {l3 : Option Value} {l4 : Option Value} {l5 : Option Value} {l6 : Option Value} {l8 : Option Value} {x : Int32} {r : List Value} : aw g 38 1292 [l0, l1, l2, l3, l4, l5, l6, some (.int x), l8] r σ Q = aw g 38 1294 [l0, l1, l2, l3, l4, l5, l6, some (.int x), l8] (.int x :: r) σ Q := (aw_eq g 38 1292 _ _ _ _).trans (by rw [tq38_1292]; exact (h_load rfl).trans (propext ⟨fun z => z.2, fun z => ⟨rfl, z⟩⟩))
theorem tq38_1294 : tT g 38 1294 = s_i2 38 1295 (fun a => .long a.toInt64) := rfl
theorem A38_1294 {L : AL} {r : List Value} {a : Int32} : aw g 38 1294 L (.int a :: r) σ Q = aw g 38 1295 L (.long a.toInt64 :: r) σ Q := (aw_eq g 38 1294 _ _ _ _).trans (by rw [tq38_1294]; exact rfl)
theorem tq38_1295 : tT g 38 1295 = s_lbin 38 1296 (fun a b => .int (lg_cmp a b)) := rfl
theorem A38_1295 {L : AL} {r : List Value} {a b : Int64} : aw g 38 1295 L (.long b :: .long a :: r) σ Q = aw g 38 1296 L (.int (lg_cmp a b) :: r) σ Q := (aw_eq g 38 1295 _ _ _ _).trans (by rw [tq38_1295]; exact rfl)
theorem tq38_1296 : tT g 38 1296 = s_if 38 1299 1301 (fun a => a = 0) := rfl
theorem A38_1296 {L : AL} {r : List Value} {a : Int32} : aw g 38 1296 L (.int a :: r) σ Q = ((a = 0 → aw g 38 1301 L r σ Q) ∧ (¬ a = 0 → aw g 38 1299 L r σ Q)) := (aw_eq g 38 1296 _ _ _ _).trans (by rw [tq38_1296]; exact rfl)
theorem tq38_1299 : tT g 38 1299 = s_const 38 1300 (.int 0) := rfl
theorem A38_1299 {L : AL} {r : List Value} : aw g 38 1299 L r σ Q = aw g 38 1300 L (.int 0 :: r) σ Q := (aw_eq g 38 1299 _ _ _ _).trans (by rw [tq38_1299]; exact rfl)
theorem tq38_1300 : tT g 38 1300 = s_ret vZ := rfl
theorem A38_1300 {L : AL} {v : Value} : aw g 38 1300 L [v] σ Q = (vZ v ∧ Q (.inl (some v)) σ) := (aw_eq g 38 1300 _ _ _ _).trans (by rw [tq38_1300]; exact rfl)
theorem tq38_1301 : tT g 38 1301 = s_goto 38 1454 := rfl
theorem A38_1301 {L : AL} {r : List Value} : aw g 38 1301 L r σ Q = aw g 38 1454 L r σ Q := (aw_eq g 38 1301 _ _ _ _).trans (by rw [tq38_1301]; exact rfl)
theorem tq38_1304 : tT g 38 1304 = s_load vRf 38 1305 1 := rfl
theorem A38_1304 {l0 : Option Value} {l2 : Option Value} {l3 : Option Value} {l4 : Option Value} {l5 : Option Value} {l6 : Option Value} {l7 : Option Value} {l8 : Option Value} {x : Value} {r : List Value} : aw g 38 1304 [l0, some (x), l2, l3, l4, l5, l6, l7, l8] r σ Q = (vRf x = true ∧ aw g 38 1305 [l0, some (x), l2, l3, l4, l5, l6, l7, l8] (x :: r) σ Q) := (aw_eq g 38 1304 _ _ _ _).trans (by rw [tq38_1304]; exact h_load rfl)
theorem tq38_1305 : tT g 38 1305 = s_load vRf 38 1306 0 := rfl
theorem A38_1305 {l1 : Option Value} {l2 : Option Value} {l3 : Option Value} {l4 : Option Value} {l5 : Option Value} {l6 : Option Value} {l7 : Option Value} {l8 : Option Value} {x : Value} {r : List Value} : aw g 38 1305 [some (x), l1, l2, l3, l4, l5, l6, l7, l8] r σ Q = (vRf x = true ∧ aw g 38 1306 [some (x), l1, l2, l3, l4, l5, l6, l7, l8] (x :: r) σ Q) := (aw_eq g 38 1305 _ _ _ _).trans (by rw [tq38_1305]; exact h_load rfl)
theorem tq38_1306 : tT g 38 1306 = s_load vI 38 1308 5 := rfl
theorem A38_1306 {l0 : Option Value} {l1 : Option Value} {l2 : Option Value} {l3 : Option Value} {l4 : Option Value} {l6 : Option Value} {l7 : Option Value} {l8 : Option Value} {x : Int32} {r : List Value} : aw g 38 1306 [l0, l1, l2, l3, l4, some (.int x), l6, l7, l8] r σ Q = aw g 38 1308 [l0, l1, l2, l3, l4, some (.int x), l6, l7, l8] (.int x :: r) σ Q := (aw_eq g 38 1306 _ _ _ _).trans (by rw [tq38_1306]; exact (h_load rfl).trans (propext ⟨fun z => z.2, fun z => ⟨rfl, z⟩⟩))
theorem tq38_1308 : tT g 38 1308 = s_const 38 1309 (.int 1) := rfl
theorem A38_1308 {L : AL} {r : List Value} : aw g 38 1308 L r σ Q = aw g 38 1309 L (.int 1 :: r) σ Q := (aw_eq g 38 1308 _ _ _ _).trans (by rw [tq38_1308]; exact rfl)
theorem tq38_1309 : tT g 38 1309 = s_bin 38 1310 (fun a b => a + b) := rfl
theorem A38_1309 {L : AL} {r : List Value} {a b : Int32} : aw g 38 1309 L (.int b :: .int a :: r) σ Q = aw g 38 1310 L (.int (a + b) :: r) σ Q := (aw_eq g 38 1309 _ _ _ _).trans (by rw [tq38_1309]; exact rfl)
theorem tq38_1310 : tT g 38 1310 = s_ald 38 1311 27 := rfl
theorem A38_1310 {L : AL} {r : List Value} {a : Nat} {i : Int32} : aw g 38 1310 L (.int i :: .ref a :: r) σ Q = (hty σ a = some 27 ∧ ¬ i < 0 ∧ i.toNatClampNeg < hln σ a ∧ aw g 38 1311 L (hv σ 27 a i.toNatClampNeg :: r) σ Q) := (aw_eq g 38 1310 _ _ _ _).trans (by rw [tq38_1310]; exact rfl)
theorem tq38_1311 : tT g 38 1311 = s_load vRf 38 1312 0 := rfl
theorem A38_1311 {l1 : Option Value} {l2 : Option Value} {l3 : Option Value} {l4 : Option Value} {l5 : Option Value} {l6 : Option Value} {l7 : Option Value} {l8 : Option Value} {x : Value} {r : List Value} : aw g 38 1311 [some (x), l1, l2, l3, l4, l5, l6, l7, l8] r σ Q = (vRf x = true ∧ aw g 38 1312 [some (x), l1, l2, l3, l4, l5, l6, l7, l8] (x :: r) σ Q) := (aw_eq g 38 1311 _ _ _ _).trans (by rw [tq38_1311]; exact h_load rfl)
theorem tq38_1312 : tT g 38 1312 = s_load vI 38 1314 5 := rfl
theorem A38_1312 {l0 : Option Value} {l1 : Option Value} {l2 : Option Value} {l3 : Option Value} {l4 : Option Value} {l6 : Option Value} {l7 : Option Value} {l8 : Option Value} {x : Int32} {r : List Value} : aw g 38 1312 [l0, l1, l2, l3, l4, some (.int x), l6, l7, l8] r σ Q = aw g 38 1314 [l0, l1, l2, l3, l4, some (.int x), l6, l7, l8] (.int x :: r) σ Q := (aw_eq g 38 1312 _ _ _ _).trans (by rw [tq38_1312]; exact (h_load rfl).trans (propext ⟨fun z => z.2, fun z => ⟨rfl, z⟩⟩))
theorem tq38_1314 : tT g 38 1314 = s_const 38 1315 (.int 2) := rfl
theorem A38_1314 {L : AL} {r : List Value} : aw g 38 1314 L r σ Q = aw g 38 1315 L (.int 2 :: r) σ Q := (aw_eq g 38 1314 _ _ _ _).trans (by rw [tq38_1314]; exact rfl)
theorem tq38_1315 : tT g 38 1315 = s_bin 38 1316 (fun a b => a + b) := rfl
theorem A38_1315 {L : AL} {r : List Value} {a b : Int32} : aw g 38 1315 L (.int b :: .int a :: r) σ Q = aw g 38 1316 L (.int (a + b) :: r) σ Q := (aw_eq g 38 1315 _ _ _ _).trans (by rw [tq38_1315]; exact rfl)
theorem tq38_1316 : tT g 38 1316 = s_ald 38 1317 27 := rfl
theorem A38_1316 {L : AL} {r : List Value} {a : Nat} {i : Int32} : aw g 38 1316 L (.int i :: .ref a :: r) σ Q = (hty σ a = some 27 ∧ ¬ i < 0 ∧ i.toNatClampNeg < hln σ a ∧ aw g 38 1317 L (hv σ 27 a i.toNatClampNeg :: r) σ Q) := (aw_eq g 38 1316 _ _ _ _).trans (by rw [tq38_1316]; exact rfl)
theorem tq38_1317 : tT g 38 1317 = s_load vRf 38 1318 3 := rfl
theorem A38_1317 {l0 : Option Value} {l1 : Option Value} {l2 : Option Value} {l4 : Option Value} {l5 : Option Value} {l6 : Option Value} {l7 : Option Value} {l8 : Option Value} {x : Value} {r : List Value} : aw g 38 1317 [l0, l1, l2, some (x), l4, l5, l6, l7, l8] r σ Q = (vRf x = true ∧ aw g 38 1318 [l0, l1, l2, some (x), l4, l5, l6, l7, l8] (x :: r) σ Q) := (aw_eq g 38 1317 _ _ _ _).trans (by rw [tq38_1317]; exact h_load rfl)
theorem tq38_1318 : tT g 38 1318 = s_callk 38 1321 56 [1, 0, 0, 1] 5 := rfl
theorem A38_1318 {L : AL} {r : List Value} {w0 w1 w2 w3 : Value} : aw g 38 1318 L (w3 :: w2 :: w1 :: w0 :: r) σ Q = ((vRf w0 && (vI w1 && (vI w2 && (vRf w3 && true)))) = true ∧ csum r ≤ 8 ∧ aw g 56 0 [some w0, some w1, some w2, some w3, none] [] σ (kt (aw g) 38 1321 L r Q)) := (aw_eq g 38 1318 _ _ _ _).trans (by rw [tq38_1318]; exact rfl)
theorem tq38_1321 : tT g 38 1321 = s_store vI 38 1323 6 := rfl
theorem A38_1321 {l0 : Option Value} {l1 : Option Value} {l2 : Option Value} {l3 : Option Value} {l4 : Option Value} {l5 : Option Value} {l6 : Option Value} {l7 : Option Value} {l8 : Option Value} {x : Int32} {r : List Value} : aw g 38 1321 [l0, l1, l2, l3, l4, l5, l6, l7, l8] (.int x :: r) σ Q = (oc l5 = true ∧ aw g 38 1323 [l0, l1, l2, l3, l4, l5, some (.int x), l7, l8] r σ Q) := (aw_eq g 38 1321 _ _ _ _).trans (by rw [tq38_1321]; exact (h_store (o := oc l5) rfl rfl rfl).trans (propext ⟨fun z => z.2, fun z => ⟨rfl, z⟩⟩))
theorem tq38_1323 : tT g 38 1323 = s_load vRf 38 1324 2 := rfl
theorem A38_1323 {l0 : Option Value} {l1 : Option Value} {l3 : Option Value} {l4 : Option Value} {l5 : Option Value} {l6 : Option Value} {l7 : Option Value} {l8 : Option Value} {x : Value} {r : List Value} : aw g 38 1323 [l0, l1, some (x), l3, l4, l5, l6, l7, l8] r σ Q = (vRf x = true ∧ aw g 38 1324 [l0, l1, some (x), l3, l4, l5, l6, l7, l8] (x :: r) σ Q) := (aw_eq g 38 1323 _ _ _ _).trans (by rw [tq38_1323]; exact h_load rfl)
theorem tq38_1324 : tT g 38 1324 = s_load vRf 38 1325 0 := rfl
theorem A38_1324 {l1 : Option Value} {l2 : Option Value} {l3 : Option Value} {l4 : Option Value} {l5 : Option Value} {l6 : Option Value} {l7 : Option Value} {l8 : Option Value} {x : Value} {r : List Value} : aw g 38 1324 [some (x), l1, l2, l3, l4, l5, l6, l7, l8] r σ Q = (vRf x = true ∧ aw g 38 1325 [some (x), l1, l2, l3, l4, l5, l6, l7, l8] (x :: r) σ Q) := (aw_eq g 38 1324 _ _ _ _).trans (by rw [tq38_1324]; exact h_load rfl)
theorem tq38_1325 : tT g 38 1325 = s_load vI 38 1327 5 := rfl
theorem A38_1325 {l0 : Option Value} {l1 : Option Value} {l2 : Option Value} {l3 : Option Value} {l4 : Option Value} {l6 : Option Value} {l7 : Option Value} {l8 : Option Value} {x : Int32} {r : List Value} : aw g 38 1325 [l0, l1, l2, l3, l4, some (.int x), l6, l7, l8] r σ Q = aw g 38 1327 [l0, l1, l2, l3, l4, some (.int x), l6, l7, l8] (.int x :: r) σ Q := (aw_eq g 38 1325 _ _ _ _).trans (by rw [tq38_1325]; exact (h_load rfl).trans (propext ⟨fun z => z.2, fun z => ⟨rfl, z⟩⟩))
theorem tq38_1327 : tT g 38 1327 = s_const 38 1328 (.int 1) := rfl
theorem A38_1327 {L : AL} {r : List Value} : aw g 38 1327 L r σ Q = aw g 38 1328 L (.int 1 :: r) σ Q := (aw_eq g 38 1327 _ _ _ _).trans (by rw [tq38_1327]; exact rfl)
theorem tq38_1328 : tT g 38 1328 = s_bin 38 1329 (fun a b => a + b) := rfl
theorem A38_1328 {L : AL} {r : List Value} {a b : Int32} : aw g 38 1328 L (.int b :: .int a :: r) σ Q = aw g 38 1329 L (.int (a + b) :: r) σ Q := (aw_eq g 38 1328 _ _ _ _).trans (by rw [tq38_1328]; exact rfl)
theorem tq38_1329 : tT g 38 1329 = s_ald 38 1330 27 := rfl
theorem A38_1329 {L : AL} {r : List Value} {a : Nat} {i : Int32} : aw g 38 1329 L (.int i :: .ref a :: r) σ Q = (hty σ a = some 27 ∧ ¬ i < 0 ∧ i.toNatClampNeg < hln σ a ∧ aw g 38 1330 L (hv σ 27 a i.toNatClampNeg :: r) σ Q) := (aw_eq g 38 1329 _ _ _ _).trans (by rw [tq38_1329]; exact rfl)
theorem tq38_1330 : tT g 38 1330 = s_load vRf 38 1331 0 := rfl
theorem A38_1330 {l1 : Option Value} {l2 : Option Value} {l3 : Option Value} {l4 : Option Value} {l5 : Option Value} {l6 : Option Value} {l7 : Option Value} {l8 : Option Value} {x : Value} {r : List Value} : aw g 38 1330 [some (x), l1, l2, l3, l4, l5, l6, l7, l8] r σ Q = (vRf x = true ∧ aw g 38 1331 [some (x), l1, l2, l3, l4, l5, l6, l7, l8] (x :: r) σ Q) := (aw_eq g 38 1330 _ _ _ _).trans (by rw [tq38_1330]; exact h_load rfl)
theorem tq38_1331 : tT g 38 1331 = s_load vI 38 1333 5 := rfl
theorem A38_1331 {l0 : Option Value} {l1 : Option Value} {l2 : Option Value} {l3 : Option Value} {l4 : Option Value} {l6 : Option Value} {l7 : Option Value} {l8 : Option Value} {x : Int32} {r : List Value} : aw g 38 1331 [l0, l1, l2, l3, l4, some (.int x), l6, l7, l8] r σ Q = aw g 38 1333 [l0, l1, l2, l3, l4, some (.int x), l6, l7, l8] (.int x :: r) σ Q := (aw_eq g 38 1331 _ _ _ _).trans (by rw [tq38_1331]; exact (h_load rfl).trans (propext ⟨fun z => z.2, fun z => ⟨rfl, z⟩⟩))
theorem tq38_1333 : tT g 38 1333 = s_const 38 1334 (.int 2) := rfl
theorem A38_1333 {L : AL} {r : List Value} : aw g 38 1333 L r σ Q = aw g 38 1334 L (.int 2 :: r) σ Q := (aw_eq g 38 1333 _ _ _ _).trans (by rw [tq38_1333]; exact rfl)
theorem tq38_1334 : tT g 38 1334 = s_bin 38 1335 (fun a b => a + b) := rfl
theorem A38_1334 {L : AL} {r : List Value} {a b : Int32} : aw g 38 1334 L (.int b :: .int a :: r) σ Q = aw g 38 1335 L (.int (a + b) :: r) σ Q := (aw_eq g 38 1334 _ _ _ _).trans (by rw [tq38_1334]; exact rfl)
theorem tq38_1335 : tT g 38 1335 = s_ald 38 1336 27 := rfl
theorem A38_1335 {L : AL} {r : List Value} {a : Nat} {i : Int32} : aw g 38 1335 L (.int i :: .ref a :: r) σ Q = (hty σ a = some 27 ∧ ¬ i < 0 ∧ i.toNatClampNeg < hln σ a ∧ aw g 38 1336 L (hv σ 27 a i.toNatClampNeg :: r) σ Q) := (aw_eq g 38 1335 _ _ _ _).trans (by rw [tq38_1335]; exact rfl)
theorem tq38_1336 : tT g 38 1336 = s_callvk 38 1339 170 3 [0, 0] 3 := rfl
theorem A38_1336 {L : AL} {r : List Value} {a : Nat} {w0 w1 : Value} : aw g 38 1336 L (w1 :: w0 :: .ref a :: r) σ Q = (hty σ a = some 3 ∧ (vI w0 && (vI w1 && true)) = true ∧ csum r ≤ 8 ∧ aw g 170 0 [some (.ref a), some w0, some w1] [] σ (kt (aw g) 38 1339 L r Q)) := (aw_eq g 38 1336 _ _ _ _).trans (by rw [tq38_1336]; exact rfl)
theorem tq38_1339 : tT g 38 1339 = s_store vI 38 1341 7 := rfl
theorem A38_1339 {l0 : Option Value} {l1 : Option Value} {l2 : Option Value} {l3 : Option Value} {l4 : Option Value} {l5 : Option Value} {l6 : Option Value} {l7 : Option Value} {l8 : Option Value} {x : Int32} {r : List Value} : aw g 38 1339 [l0, l1, l2, l3, l4, l5, l6, l7, l8] (.int x :: r) σ Q = (oc l6 = true ∧ aw g 38 1341 [l0, l1, l2, l3, l4, l5, l6, some (.int x), l8] r σ Q) := (aw_eq g 38 1339 _ _ _ _).trans (by rw [tq38_1339]; exact (h_store (o := oc l6) rfl rfl rfl).trans (propext ⟨fun z => z.2, fun z => ⟨rfl, z⟩⟩))
theorem tq38_1341 : tT g 38 1341 = s_load vRf 38 1342 2 := rfl
theorem A38_1341 {l0 : Option Value} {l1 : Option Value} {l3 : Option Value} {l4 : Option Value} {l5 : Option Value} {l6 : Option Value} {l7 : Option Value} {l8 : Option Value} {x : Value} {r : List Value} : aw g 38 1341 [l0, l1, some (x), l3, l4, l5, l6, l7, l8] r σ Q = (vRf x = true ∧ aw g 38 1342 [l0, l1, some (x), l3, l4, l5, l6, l7, l8] (x :: r) σ Q) := (aw_eq g 38 1341 _ _ _ _).trans (by rw [tq38_1341]; exact h_load rfl)
theorem tq38_1342 : tT g 38 1342 = s_callvk 38 1345 138 3 [] 1 := rfl
theorem A38_1342 {L : AL} {r : List Value} {a : Nat} : aw g 38 1342 L (.ref a :: r) σ Q = (hty σ a = some 3 ∧ true = true ∧ csum r ≤ 8 ∧ aw g 138 0 [some (.ref a)] [] σ (kt (aw g) 38 1345 L r Q)) := (aw_eq g 38 1342 _ _ _ _).trans (by rw [tq38_1342]; exact rfl)
theorem tq38_1345 : tT g 38 1345 = s_load vI 38 1347 6 := rfl
theorem A38_1345 {l0 : Option Value} {l1 : Option Value} {l2 : Option Value} {l3 : Option Value} {l4 : Option Value} {l5 : Option Value} {l7 : Option Value} {l8 : Option Value} {x : Int32} {r : List Value} : aw g 38 1345 [l0, l1, l2, l3, l4, l5, some (.int x), l7, l8] r σ Q = aw g 38 1347 [l0, l1, l2, l3, l4, l5, some (.int x), l7, l8] (.int x :: r) σ Q := (aw_eq g 38 1345 _ _ _ _).trans (by rw [tq38_1345]; exact (h_load rfl).trans (propext ⟨fun z => z.2, fun z => ⟨rfl, z⟩⟩))
theorem tq38_1347 : tT g 38 1347 = s_icmp 38 1350 1352 (fun a b => a = b) := rfl
theorem A38_1347 {L : AL} {r : List Value} {a b : Int32} : aw g 38 1347 L (.int b :: .int a :: r) σ Q = ((a = b → aw g 38 1352 L r σ Q) ∧ (¬ a = b → aw g 38 1350 L r σ Q)) := (aw_eq g 38 1347 _ _ _ _).trans (by rw [tq38_1347]; exact rfl)
theorem tq38_1350 : tT g 38 1350 = s_const 38 1351 (.int 0) := rfl
theorem A38_1350 {L : AL} {r : List Value} : aw g 38 1350 L r σ Q = aw g 38 1351 L (.int 0 :: r) σ Q := (aw_eq g 38 1350 _ _ _ _).trans (by rw [tq38_1350]; exact rfl)
theorem tq38_1351 : tT g 38 1351 = s_ret vZ := rfl
theorem A38_1351 {L : AL} {v : Value} : aw g 38 1351 L [v] σ Q = (vZ v ∧ Q (.inl (some v)) σ) := (aw_eq g 38 1351 _ _ _ _).trans (by rw [tq38_1351]; exact rfl)
theorem tq38_1352 : tT g 38 1352 = s_load vI 38 1354 6 := rfl
theorem A38_1352 {l0 : Option Value} {l1 : Option Value} {l2 : Option Value} {l3 : Option Value} {l4 : Option Value} {l5 : Option Value} {l7 : Option Value} {l8 : Option Value} {x : Int32} {r : List Value} : aw g 38 1352 [l0, l1, l2, l3, l4, l5, some (.int x), l7, l8] r σ Q = aw g 38 1354 [l0, l1, l2, l3, l4, l5, some (.int x), l7, l8] (.int x :: r) σ Q := (aw_eq g 38 1352 _ _ _ _).trans (by rw [tq38_1352]; exact (h_load rfl).trans (propext ⟨fun z => z.2, fun z => ⟨rfl, z⟩⟩))
theorem tq38_1354 : tT g 38 1354 = s_if 38 1369 1357 (fun a => a = 0) := rfl
theorem A38_1354 {L : AL} {r : List Value} {a : Int32} : aw g 38 1354 L (.int a :: r) σ Q = ((a = 0 → aw g 38 1357 L r σ Q) ∧ (¬ a = 0 → aw g 38 1369 L r σ Q)) := (aw_eq g 38 1354 _ _ _ _).trans (by rw [tq38_1354]; exact rfl)
theorem tq38_1357 : tT g 38 1357 = s_load vRf 38 1358 3 := rfl
theorem A38_1357 {l0 : Option Value} {l1 : Option Value} {l2 : Option Value} {l4 : Option Value} {l5 : Option Value} {l6 : Option Value} {l7 : Option Value} {l8 : Option Value} {x : Value} {r : List Value} : aw g 38 1357 [l0, l1, l2, some (x), l4, l5, l6, l7, l8] r σ Q = (vRf x = true ∧ aw g 38 1358 [l0, l1, l2, some (x), l4, l5, l6, l7, l8] (x :: r) σ Q) := (aw_eq g 38 1357 _ _ _ _).trans (by rw [tq38_1357]; exact h_load rfl)
theorem tq38_1358 : tT g 38 1358 = s_const 38 1359 (.int 0) := rfl
theorem A38_1358 {L : AL} {r : List Value} : aw g 38 1358 L r σ Q = aw g 38 1359 L (.int 0 :: r) σ Q := (aw_eq g 38 1358 _ _ _ _).trans (by rw [tq38_1358]; exact rfl)
theorem tq38_1359 : tT g 38 1359 = s_ald 38 1360 22 := rfl
theorem A38_1359 {L : AL} {r : List Value} {a : Nat} {i : Int32} : aw g 38 1359 L (.int i :: .ref a :: r) σ Q = (hty σ a = some 22 ∧ ¬ i < 0 ∧ i.toNatClampNeg < hln σ a ∧ aw g 38 1360 L (hv σ 22 a i.toNatClampNeg :: r) σ Q) := (aw_eq g 38 1359 _ _ _ _).trans (by rw [tq38_1359]; exact rfl)
theorem tq38_1360 : tT g 38 1360 = s_load vI 38 1362 7 := rfl
theorem A38_1360 {l0 : Option Value} {l1 : Option Value} {l2 : Option Value} {l3 : Option Value} {l4 : Option Value} {l5 : Option Value} {l6 : Option Value} {l8 : Option Value} {x : Int32} {r : List Value} : aw g 38 1360 [l0, l1, l2, l3, l4, l5, l6, some (.int x), l8] r σ Q = aw g 38 1362 [l0, l1, l2, l3, l4, l5, l6, some (.int x), l8] (.int x :: r) σ Q := (aw_eq g 38 1360 _ _ _ _).trans (by rw [tq38_1360]; exact (h_load rfl).trans (propext ⟨fun z => z.2, fun z => ⟨rfl, z⟩⟩))
theorem tq38_1362 : tT g 38 1362 = s_i2 38 1363 (fun a => .long a.toInt64) := rfl
theorem A38_1362 {L : AL} {r : List Value} {a : Int32} : aw g 38 1362 L (.int a :: r) σ Q = aw g 38 1363 L (.long a.toInt64 :: r) σ Q := (aw_eq g 38 1362 _ _ _ _).trans (by rw [tq38_1362]; exact rfl)
theorem tq38_1363 : tT g 38 1363 = s_lbin 38 1364 (fun a b => .int (lg_cmp a b)) := rfl
theorem A38_1363 {L : AL} {r : List Value} {a b : Int64} : aw g 38 1363 L (.long b :: .long a :: r) σ Q = aw g 38 1364 L (.int (lg_cmp a b) :: r) σ Q := (aw_eq g 38 1363 _ _ _ _).trans (by rw [tq38_1363]; exact rfl)
theorem tq38_1364 : tT g 38 1364 = s_if 38 1367 1369 (fun a => a = 0) := rfl
theorem A38_1364 {L : AL} {r : List Value} {a : Int32} : aw g 38 1364 L (.int a :: r) σ Q = ((a = 0 → aw g 38 1369 L r σ Q) ∧ (¬ a = 0 → aw g 38 1367 L r σ Q)) := (aw_eq g 38 1364 _ _ _ _).trans (by rw [tq38_1364]; exact rfl)
theorem tq38_1367 : tT g 38 1367 = s_const 38 1368 (.int 0) := rfl
theorem A38_1367 {L : AL} {r : List Value} : aw g 38 1367 L r σ Q = aw g 38 1368 L (.int 0 :: r) σ Q := (aw_eq g 38 1367 _ _ _ _).trans (by rw [tq38_1367]; exact rfl)
theorem tq38_1368 : tT g 38 1368 = s_ret vZ := rfl
theorem A38_1368 {L : AL} {v : Value} : aw g 38 1368 L [v] σ Q = (vZ v ∧ Q (.inl (some v)) σ) := (aw_eq g 38 1368 _ _ _ _).trans (by rw [tq38_1368]; exact rfl)
theorem tq38_1369 : tT g 38 1369 = s_goto 38 1454 := rfl
theorem A38_1369 {L : AL} {r : List Value} : aw g 38 1369 L r σ Q = aw g 38 1454 L r σ Q := (aw_eq g 38 1369 _ _ _ _).trans (by rw [tq38_1369]; exact rfl)
theorem tq38_1372 : tT g 38 1372 = s_load vRf 38 1373 1 := rfl
theorem A38_1372 {l0 : Option Value} {l2 : Option Value} {l3 : Option Value} {l4 : Option Value} {l5 : Option Value} {l6 : Option Value} {l7 : Option Value} {l8 : Option Value} {x : Value} {r : List Value} : aw g 38 1372 [l0, some (x), l2, l3, l4, l5, l6, l7, l8] r σ Q = (vRf x = true ∧ aw g 38 1373 [l0, some (x), l2, l3, l4, l5, l6, l7, l8] (x :: r) σ Q) := (aw_eq g 38 1372 _ _ _ _).trans (by rw [tq38_1372]; exact h_load rfl)
theorem tq38_1373 : tT g 38 1373 = s_load vRf 38 1374 0 := rfl
theorem A38_1373 {l1 : Option Value} {l2 : Option Value} {l3 : Option Value} {l4 : Option Value} {l5 : Option Value} {l6 : Option Value} {l7 : Option Value} {l8 : Option Value} {x : Value} {r : List Value} : aw g 38 1373 [some (x), l1, l2, l3, l4, l5, l6, l7, l8] r σ Q = (vRf x = true ∧ aw g 38 1374 [some (x), l1, l2, l3, l4, l5, l6, l7, l8] (x :: r) σ Q) := (aw_eq g 38 1373 _ _ _ _).trans (by rw [tq38_1373]; exact h_load rfl)
theorem tq38_1374 : tT g 38 1374 = s_load vI 38 1376 5 := rfl
theorem A38_1374 {l0 : Option Value} {l1 : Option Value} {l2 : Option Value} {l3 : Option Value} {l4 : Option Value} {l6 : Option Value} {l7 : Option Value} {l8 : Option Value} {x : Int32} {r : List Value} : aw g 38 1374 [l0, l1, l2, l3, l4, some (.int x), l6, l7, l8] r σ Q = aw g 38 1376 [l0, l1, l2, l3, l4, some (.int x), l6, l7, l8] (.int x :: r) σ Q := (aw_eq g 38 1374 _ _ _ _).trans (by rw [tq38_1374]; exact (h_load rfl).trans (propext ⟨fun z => z.2, fun z => ⟨rfl, z⟩⟩))
theorem tq38_1376 : tT g 38 1376 = s_const 38 1377 (.int 1) := rfl
theorem A38_1376 {L : AL} {r : List Value} : aw g 38 1376 L r σ Q = aw g 38 1377 L (.int 1 :: r) σ Q := (aw_eq g 38 1376 _ _ _ _).trans (by rw [tq38_1376]; exact rfl)
theorem tq38_1377 : tT g 38 1377 = s_bin 38 1378 (fun a b => a + b) := rfl
theorem A38_1377 {L : AL} {r : List Value} {a b : Int32} : aw g 38 1377 L (.int b :: .int a :: r) σ Q = aw g 38 1378 L (.int (a + b) :: r) σ Q := (aw_eq g 38 1377 _ _ _ _).trans (by rw [tq38_1377]; exact rfl)
theorem tq38_1378 : tT g 38 1378 = s_ald 38 1379 27 := rfl
theorem A38_1378 {L : AL} {r : List Value} {a : Nat} {i : Int32} : aw g 38 1378 L (.int i :: .ref a :: r) σ Q = (hty σ a = some 27 ∧ ¬ i < 0 ∧ i.toNatClampNeg < hln σ a ∧ aw g 38 1379 L (hv σ 27 a i.toNatClampNeg :: r) σ Q) := (aw_eq g 38 1378 _ _ _ _).trans (by rw [tq38_1378]; exact rfl)
theorem tq38_1379 : tT g 38 1379 = s_load vRf 38 1380 0 := rfl
theorem A38_1379 {l1 : Option Value} {l2 : Option Value} {l3 : Option Value} {l4 : Option Value} {l5 : Option Value} {l6 : Option Value} {l7 : Option Value} {l8 : Option Value} {x : Value} {r : List Value} : aw g 38 1379 [some (x), l1, l2, l3, l4, l5, l6, l7, l8] r σ Q = (vRf x = true ∧ aw g 38 1380 [some (x), l1, l2, l3, l4, l5, l6, l7, l8] (x :: r) σ Q) := (aw_eq g 38 1379 _ _ _ _).trans (by rw [tq38_1379]; exact h_load rfl)
theorem tq38_1380 : tT g 38 1380 = s_load vI 38 1382 5 := rfl
theorem A38_1380 {l0 : Option Value} {l1 : Option Value} {l2 : Option Value} {l3 : Option Value} {l4 : Option Value} {l6 : Option Value} {l7 : Option Value} {l8 : Option Value} {x : Int32} {r : List Value} : aw g 38 1380 [l0, l1, l2, l3, l4, some (.int x), l6, l7, l8] r σ Q = aw g 38 1382 [l0, l1, l2, l3, l4, some (.int x), l6, l7, l8] (.int x :: r) σ Q := (aw_eq g 38 1380 _ _ _ _).trans (by rw [tq38_1380]; exact (h_load rfl).trans (propext ⟨fun z => z.2, fun z => ⟨rfl, z⟩⟩))
theorem tq38_1382 : tT g 38 1382 = s_const 38 1383 (.int 2) := rfl
theorem A38_1382 {L : AL} {r : List Value} : aw g 38 1382 L r σ Q = aw g 38 1383 L (.int 2 :: r) σ Q := (aw_eq g 38 1382 _ _ _ _).trans (by rw [tq38_1382]; exact rfl)
theorem tq38_1383 : tT g 38 1383 = s_bin 38 1384 (fun a b => a + b) := rfl
theorem A38_1383 {L : AL} {r : List Value} {a b : Int32} : aw g 38 1383 L (.int b :: .int a :: r) σ Q = aw g 38 1384 L (.int (a + b) :: r) σ Q := (aw_eq g 38 1383 _ _ _ _).trans (by rw [tq38_1383]; exact rfl)
theorem tq38_1384 : tT g 38 1384 = s_ald 38 1385 27 := rfl
theorem A38_1384 {L : AL} {r : List Value} {a : Nat} {i : Int32} : aw g 38 1384 L (.int i :: .ref a :: r) σ Q = (hty σ a = some 27 ∧ ¬ i < 0 ∧ i.toNatClampNeg < hln σ a ∧ aw g 38 1385 L (hv σ 27 a i.toNatClampNeg :: r) σ Q) := (aw_eq g 38 1384 _ _ _ _).trans (by rw [tq38_1384]; exact rfl)
theorem tq38_1385 : tT g 38 1385 = s_load vRf 38 1386 3 := rfl
theorem A38_1385 {l0 : Option Value} {l1 : Option Value} {l2 : Option Value} {l4 : Option Value} {l5 : Option Value} {l6 : Option Value} {l7 : Option Value} {l8 : Option Value} {x : Value} {r : List Value} : aw g 38 1385 [l0, l1, l2, some (x), l4, l5, l6, l7, l8] r σ Q = (vRf x = true ∧ aw g 38 1386 [l0, l1, l2, some (x), l4, l5, l6, l7, l8] (x :: r) σ Q) := (aw_eq g 38 1385 _ _ _ _).trans (by rw [tq38_1385]; exact h_load rfl)
theorem tq38_1386 : tT g 38 1386 = s_callk 38 1389 57 [1, 0, 0, 1] 5 := rfl
theorem A38_1386 {L : AL} {r : List Value} {w0 w1 w2 w3 : Value} : aw g 38 1386 L (w3 :: w2 :: w1 :: w0 :: r) σ Q = ((vRf w0 && (vI w1 && (vI w2 && (vRf w3 && true)))) = true ∧ csum r ≤ 8 ∧ aw g 57 0 [some w0, some w1, some w2, some w3, none] [] σ (kt (aw g) 38 1389 L r Q)) := (aw_eq g 38 1386 _ _ _ _).trans (by rw [tq38_1386]; exact rfl)
theorem tq38_1389 : tT g 38 1389 = s_store vI 38 1391 6 := rfl
theorem A38_1389 {l0 : Option Value} {l1 : Option Value} {l2 : Option Value} {l3 : Option Value} {l4 : Option Value} {l5 : Option Value} {l6 : Option Value} {l7 : Option Value} {l8 : Option Value} {x : Int32} {r : List Value} : aw g 38 1389 [l0, l1, l2, l3, l4, l5, l6, l7, l8] (.int x :: r) σ Q = (oc l5 = true ∧ aw g 38 1391 [l0, l1, l2, l3, l4, l5, some (.int x), l7, l8] r σ Q) := (aw_eq g 38 1389 _ _ _ _).trans (by rw [tq38_1389]; exact (h_store (o := oc l5) rfl rfl rfl).trans (propext ⟨fun z => z.2, fun z => ⟨rfl, z⟩⟩))
theorem tq38_1391 : tT g 38 1391 = s_load vRf 38 1392 2 := rfl
theorem A38_1391 {l0 : Option Value} {l1 : Option Value} {l3 : Option Value} {l4 : Option Value} {l5 : Option Value} {l6 : Option Value} {l7 : Option Value} {l8 : Option Value} {x : Value} {r : List Value} : aw g 38 1391 [l0, l1, some (x), l3, l4, l5, l6, l7, l8] r σ Q = (vRf x = true ∧ aw g 38 1392 [l0, l1, some (x), l3, l4, l5, l6, l7, l8] (x :: r) σ Q) := (aw_eq g 38 1391 _ _ _ _).trans (by rw [tq38_1391]; exact h_load rfl)
theorem tq38_1392 : tT g 38 1392 = s_load vRf 38 1393 0 := rfl
theorem A38_1392 {l1 : Option Value} {l2 : Option Value} {l3 : Option Value} {l4 : Option Value} {l5 : Option Value} {l6 : Option Value} {l7 : Option Value} {l8 : Option Value} {x : Value} {r : List Value} : aw g 38 1392 [some (x), l1, l2, l3, l4, l5, l6, l7, l8] r σ Q = (vRf x = true ∧ aw g 38 1393 [some (x), l1, l2, l3, l4, l5, l6, l7, l8] (x :: r) σ Q) := (aw_eq g 38 1392 _ _ _ _).trans (by rw [tq38_1392]; exact h_load rfl)
theorem tq38_1393 : tT g 38 1393 = s_load vI 38 1395 5 := rfl
theorem A38_1393 {l0 : Option Value} {l1 : Option Value} {l2 : Option Value} {l3 : Option Value} {l4 : Option Value} {l6 : Option Value} {l7 : Option Value} {l8 : Option Value} {x : Int32} {r : List Value} : aw g 38 1393 [l0, l1, l2, l3, l4, some (.int x), l6, l7, l8] r σ Q = aw g 38 1395 [l0, l1, l2, l3, l4, some (.int x), l6, l7, l8] (.int x :: r) σ Q := (aw_eq g 38 1393 _ _ _ _).trans (by rw [tq38_1393]; exact (h_load rfl).trans (propext ⟨fun z => z.2, fun z => ⟨rfl, z⟩⟩))
theorem tq38_1395 : tT g 38 1395 = s_const 38 1396 (.int 1) := rfl
theorem A38_1395 {L : AL} {r : List Value} : aw g 38 1395 L r σ Q = aw g 38 1396 L (.int 1 :: r) σ Q := (aw_eq g 38 1395 _ _ _ _).trans (by rw [tq38_1395]; exact rfl)
theorem tq38_1396 : tT g 38 1396 = s_bin 38 1397 (fun a b => a + b) := rfl
theorem A38_1396 {L : AL} {r : List Value} {a b : Int32} : aw g 38 1396 L (.int b :: .int a :: r) σ Q = aw g 38 1397 L (.int (a + b) :: r) σ Q := (aw_eq g 38 1396 _ _ _ _).trans (by rw [tq38_1396]; exact rfl)
theorem tq38_1397 : tT g 38 1397 = s_ald 38 1398 27 := rfl
theorem A38_1397 {L : AL} {r : List Value} {a : Nat} {i : Int32} : aw g 38 1397 L (.int i :: .ref a :: r) σ Q = (hty σ a = some 27 ∧ ¬ i < 0 ∧ i.toNatClampNeg < hln σ a ∧ aw g 38 1398 L (hv σ 27 a i.toNatClampNeg :: r) σ Q) := (aw_eq g 38 1397 _ _ _ _).trans (by rw [tq38_1397]; exact rfl)
theorem tq38_1398 : tT g 38 1398 = s_load vRf 38 1399 0 := rfl
theorem A38_1398 {l1 : Option Value} {l2 : Option Value} {l3 : Option Value} {l4 : Option Value} {l5 : Option Value} {l6 : Option Value} {l7 : Option Value} {l8 : Option Value} {x : Value} {r : List Value} : aw g 38 1398 [some (x), l1, l2, l3, l4, l5, l6, l7, l8] r σ Q = (vRf x = true ∧ aw g 38 1399 [some (x), l1, l2, l3, l4, l5, l6, l7, l8] (x :: r) σ Q) := (aw_eq g 38 1398 _ _ _ _).trans (by rw [tq38_1398]; exact h_load rfl)
theorem tq38_1399 : tT g 38 1399 = s_load vI 38 1401 5 := rfl
theorem A38_1399 {l0 : Option Value} {l1 : Option Value} {l2 : Option Value} {l3 : Option Value} {l4 : Option Value} {l6 : Option Value} {l7 : Option Value} {l8 : Option Value} {x : Int32} {r : List Value} : aw g 38 1399 [l0, l1, l2, l3, l4, some (.int x), l6, l7, l8] r σ Q = aw g 38 1401 [l0, l1, l2, l3, l4, some (.int x), l6, l7, l8] (.int x :: r) σ Q := (aw_eq g 38 1399 _ _ _ _).trans (by rw [tq38_1399]; exact (h_load rfl).trans (propext ⟨fun z => z.2, fun z => ⟨rfl, z⟩⟩))
theorem tq38_1401 : tT g 38 1401 = s_const 38 1402 (.int 2) := rfl
theorem A38_1401 {L : AL} {r : List Value} : aw g 38 1401 L r σ Q = aw g 38 1402 L (.int 2 :: r) σ Q := (aw_eq g 38 1401 _ _ _ _).trans (by rw [tq38_1401]; exact rfl)
theorem tq38_1402 : tT g 38 1402 = s_bin 38 1403 (fun a b => a + b) := rfl
theorem A38_1402 {L : AL} {r : List Value} {a b : Int32} : aw g 38 1402 L (.int b :: .int a :: r) σ Q = aw g 38 1403 L (.int (a + b) :: r) σ Q := (aw_eq g 38 1402 _ _ _ _).trans (by rw [tq38_1402]; exact rfl)
theorem tq38_1403 : tT g 38 1403 = s_ald 38 1404 27 := rfl
theorem A38_1403 {L : AL} {r : List Value} {a : Nat} {i : Int32} : aw g 38 1403 L (.int i :: .ref a :: r) σ Q = (hty σ a = some 27 ∧ ¬ i < 0 ∧ i.toNatClampNeg < hln σ a ∧ aw g 38 1404 L (hv σ 27 a i.toNatClampNeg :: r) σ Q) := (aw_eq g 38 1403 _ _ _ _).trans (by rw [tq38_1403]; exact rfl)
theorem tq38_1404 : tT g 38 1404 = s_callvk 38 1407 172 3 [0, 0] 3 := rfl
theorem A38_1404 {L : AL} {r : List Value} {a : Nat} {w0 w1 : Value} : aw g 38 1404 L (w1 :: w0 :: .ref a :: r) σ Q = (hty σ a = some 3 ∧ (vI w0 && (vI w1 && true)) = true ∧ csum r ≤ 8 ∧ aw g 172 0 [some (.ref a), some w0, some w1] [] σ (kt (aw g) 38 1407 L r Q)) := (aw_eq g 38 1404 _ _ _ _).trans (by rw [tq38_1404]; exact rfl)
theorem tq38_1407 : tT g 38 1407 = s_store vI 38 1409 7 := rfl
theorem A38_1407 {l0 : Option Value} {l1 : Option Value} {l2 : Option Value} {l3 : Option Value} {l4 : Option Value} {l5 : Option Value} {l6 : Option Value} {l7 : Option Value} {l8 : Option Value} {x : Int32} {r : List Value} : aw g 38 1407 [l0, l1, l2, l3, l4, l5, l6, l7, l8] (.int x :: r) σ Q = (oc l6 = true ∧ aw g 38 1409 [l0, l1, l2, l3, l4, l5, l6, some (.int x), l8] r σ Q) := (aw_eq g 38 1407 _ _ _ _).trans (by rw [tq38_1407]; exact (h_store (o := oc l6) rfl rfl rfl).trans (propext ⟨fun z => z.2, fun z => ⟨rfl, z⟩⟩))
theorem tq38_1409 : tT g 38 1409 = s_load vRf 38 1410 2 := rfl
theorem A38_1409 {l0 : Option Value} {l1 : Option Value} {l3 : Option Value} {l4 : Option Value} {l5 : Option Value} {l6 : Option Value} {l7 : Option Value} {l8 : Option Value} {x : Value} {r : List Value} : aw g 38 1409 [l0, l1, some (x), l3, l4, l5, l6, l7, l8] r σ Q = (vRf x = true ∧ aw g 38 1410 [l0, l1, some (x), l3, l4, l5, l6, l7, l8] (x :: r) σ Q) := (aw_eq g 38 1409 _ _ _ _).trans (by rw [tq38_1409]; exact h_load rfl)
theorem tq38_1410 : tT g 38 1410 = s_callvk 38 1413 138 3 [] 1 := rfl
theorem A38_1410 {L : AL} {r : List Value} {a : Nat} : aw g 38 1410 L (.ref a :: r) σ Q = (hty σ a = some 3 ∧ true = true ∧ csum r ≤ 8 ∧ aw g 138 0 [some (.ref a)] [] σ (kt (aw g) 38 1413 L r Q)) := (aw_eq g 38 1410 _ _ _ _).trans (by rw [tq38_1410]; exact rfl)
theorem tq38_1413 : tT g 38 1413 = s_load vI 38 1415 6 := rfl
theorem A38_1413 {l0 : Option Value} {l1 : Option Value} {l2 : Option Value} {l3 : Option Value} {l4 : Option Value} {l5 : Option Value} {l7 : Option Value} {l8 : Option Value} {x : Int32} {r : List Value} : aw g 38 1413 [l0, l1, l2, l3, l4, l5, some (.int x), l7, l8] r σ Q = aw g 38 1415 [l0, l1, l2, l3, l4, l5, some (.int x), l7, l8] (.int x :: r) σ Q := (aw_eq g 38 1413 _ _ _ _).trans (by rw [tq38_1413]; exact (h_load rfl).trans (propext ⟨fun z => z.2, fun z => ⟨rfl, z⟩⟩))
theorem tq38_1415 : tT g 38 1415 = s_icmp 38 1418 1420 (fun a b => a = b) := rfl
theorem A38_1415 {L : AL} {r : List Value} {a b : Int32} : aw g 38 1415 L (.int b :: .int a :: r) σ Q = ((a = b → aw g 38 1420 L r σ Q) ∧ (¬ a = b → aw g 38 1418 L r σ Q)) := (aw_eq g 38 1415 _ _ _ _).trans (by rw [tq38_1415]; exact rfl)
theorem tq38_1418 : tT g 38 1418 = s_const 38 1419 (.int 0) := rfl
theorem A38_1418 {L : AL} {r : List Value} : aw g 38 1418 L r σ Q = aw g 38 1419 L (.int 0 :: r) σ Q := (aw_eq g 38 1418 _ _ _ _).trans (by rw [tq38_1418]; exact rfl)
theorem tq38_1419 : tT g 38 1419 = s_ret vZ := rfl
theorem A38_1419 {L : AL} {v : Value} : aw g 38 1419 L [v] σ Q = (vZ v ∧ Q (.inl (some v)) σ) := (aw_eq g 38 1419 _ _ _ _).trans (by rw [tq38_1419]; exact rfl)
theorem tq38_1420 : tT g 38 1420 = s_load vI 38 1422 6 := rfl
theorem A38_1420 {l0 : Option Value} {l1 : Option Value} {l2 : Option Value} {l3 : Option Value} {l4 : Option Value} {l5 : Option Value} {l7 : Option Value} {l8 : Option Value} {x : Int32} {r : List Value} : aw g 38 1420 [l0, l1, l2, l3, l4, l5, some (.int x), l7, l8] r σ Q = aw g 38 1422 [l0, l1, l2, l3, l4, l5, some (.int x), l7, l8] (.int x :: r) σ Q := (aw_eq g 38 1420 _ _ _ _).trans (by rw [tq38_1420]; exact (h_load rfl).trans (propext ⟨fun z => z.2, fun z => ⟨rfl, z⟩⟩))
theorem tq38_1422 : tT g 38 1422 = s_if 38 1437 1425 (fun a => a = 0) := rfl
theorem A38_1422 {L : AL} {r : List Value} {a : Int32} : aw g 38 1422 L (.int a :: r) σ Q = ((a = 0 → aw g 38 1425 L r σ Q) ∧ (¬ a = 0 → aw g 38 1437 L r σ Q)) := (aw_eq g 38 1422 _ _ _ _).trans (by rw [tq38_1422]; exact rfl)
theorem tq38_1425 : tT g 38 1425 = s_load vRf 38 1426 3 := rfl
theorem A38_1425 {l0 : Option Value} {l1 : Option Value} {l2 : Option Value} {l4 : Option Value} {l5 : Option Value} {l6 : Option Value} {l7 : Option Value} {l8 : Option Value} {x : Value} {r : List Value} : aw g 38 1425 [l0, l1, l2, some (x), l4, l5, l6, l7, l8] r σ Q = (vRf x = true ∧ aw g 38 1426 [l0, l1, l2, some (x), l4, l5, l6, l7, l8] (x :: r) σ Q) := (aw_eq g 38 1425 _ _ _ _).trans (by rw [tq38_1425]; exact h_load rfl)
theorem tq38_1426 : tT g 38 1426 = s_const 38 1427 (.int 0) := rfl
theorem A38_1426 {L : AL} {r : List Value} : aw g 38 1426 L r σ Q = aw g 38 1427 L (.int 0 :: r) σ Q := (aw_eq g 38 1426 _ _ _ _).trans (by rw [tq38_1426]; exact rfl)
theorem tq38_1427 : tT g 38 1427 = s_ald 38 1428 22 := rfl
theorem A38_1427 {L : AL} {r : List Value} {a : Nat} {i : Int32} : aw g 38 1427 L (.int i :: .ref a :: r) σ Q = (hty σ a = some 22 ∧ ¬ i < 0 ∧ i.toNatClampNeg < hln σ a ∧ aw g 38 1428 L (hv σ 22 a i.toNatClampNeg :: r) σ Q) := (aw_eq g 38 1427 _ _ _ _).trans (by rw [tq38_1427]; exact rfl)
theorem tq38_1428 : tT g 38 1428 = s_load vI 38 1430 7 := rfl
theorem A38_1428 {l0 : Option Value} {l1 : Option Value} {l2 : Option Value} {l3 : Option Value} {l4 : Option Value} {l5 : Option Value} {l6 : Option Value} {l8 : Option Value} {x : Int32} {r : List Value} : aw g 38 1428 [l0, l1, l2, l3, l4, l5, l6, some (.int x), l8] r σ Q = aw g 38 1430 [l0, l1, l2, l3, l4, l5, l6, some (.int x), l8] (.int x :: r) σ Q := (aw_eq g 38 1428 _ _ _ _).trans (by rw [tq38_1428]; exact (h_load rfl).trans (propext ⟨fun z => z.2, fun z => ⟨rfl, z⟩⟩))
theorem tq38_1430 : tT g 38 1430 = s_i2 38 1431 (fun a => .long a.toInt64) := rfl
theorem A38_1430 {L : AL} {r : List Value} {a : Int32} : aw g 38 1430 L (.int a :: r) σ Q = aw g 38 1431 L (.long a.toInt64 :: r) σ Q := (aw_eq g 38 1430 _ _ _ _).trans (by rw [tq38_1430]; exact rfl)
theorem tq38_1431 : tT g 38 1431 = s_lbin 38 1432 (fun a b => .int (lg_cmp a b)) := rfl
theorem A38_1431 {L : AL} {r : List Value} {a b : Int64} : aw g 38 1431 L (.long b :: .long a :: r) σ Q = aw g 38 1432 L (.int (lg_cmp a b) :: r) σ Q := (aw_eq g 38 1431 _ _ _ _).trans (by rw [tq38_1431]; exact rfl)
theorem tq38_1432 : tT g 38 1432 = s_if 38 1435 1437 (fun a => a = 0) := rfl
theorem A38_1432 {L : AL} {r : List Value} {a : Int32} : aw g 38 1432 L (.int a :: r) σ Q = ((a = 0 → aw g 38 1437 L r σ Q) ∧ (¬ a = 0 → aw g 38 1435 L r σ Q)) := (aw_eq g 38 1432 _ _ _ _).trans (by rw [tq38_1432]; exact rfl)
theorem tq38_1435 : tT g 38 1435 = s_const 38 1436 (.int 0) := rfl
theorem A38_1435 {L : AL} {r : List Value} : aw g 38 1435 L r σ Q = aw g 38 1436 L (.int 0 :: r) σ Q := (aw_eq g 38 1435 _ _ _ _).trans (by rw [tq38_1435]; exact rfl)
theorem tq38_1436 : tT g 38 1436 = s_ret vZ := rfl
theorem A38_1436 {L : AL} {v : Value} : aw g 38 1436 L [v] σ Q = (vZ v ∧ Q (.inl (some v)) σ) := (aw_eq g 38 1436 _ _ _ _).trans (by rw [tq38_1436]; exact rfl)
theorem tq38_1437 : tT g 38 1437 = s_goto 38 1454 := rfl
theorem A38_1437 {L : AL} {r : List Value} : aw g 38 1437 L r σ Q = aw g 38 1454 L r σ Q := (aw_eq g 38 1437 _ _ _ _).trans (by rw [tq38_1437]; exact rfl)
theorem tq38_1440 : tT g 38 1440 = s_load vRf 38 1441 1 := rfl
theorem A38_1440 {l0 : Option Value} {l2 : Option Value} {l3 : Option Value} {l4 : Option Value} {l5 : Option Value} {l6 : Option Value} {l7 : Option Value} {l8 : Option Value} {x : Value} {r : List Value} : aw g 38 1440 [l0, some (x), l2, l3, l4, l5, l6, l7, l8] r σ Q = (vRf x = true ∧ aw g 38 1441 [l0, some (x), l2, l3, l4, l5, l6, l7, l8] (x :: r) σ Q) := (aw_eq g 38 1440 _ _ _ _).trans (by rw [tq38_1440]; exact h_load rfl)
theorem tq38_1441 : tT g 38 1441 = s_callvk 38 1444 59 0 [] 6 := rfl
theorem A38_1441 {L : AL} {r : List Value} {a : Nat} : aw g 38 1441 L (.ref a :: r) σ Q = (hty σ a = some 0 ∧ true = true ∧ csum r ≤ 8 ∧ aw g 59 0 [some (.ref a), none, none, none, none, none] [] σ (kt (aw g) 38 1444 L r Q)) := (aw_eq g 38 1441 _ _ _ _).trans (by rw [tq38_1441]; exact rfl)
theorem tq38_1444 : tT g 38 1444 = s_load vRf 38 1445 2 := rfl
theorem A38_1444 {l0 : Option Value} {l1 : Option Value} {l3 : Option Value} {l4 : Option Value} {l5 : Option Value} {l6 : Option Value} {l7 : Option Value} {l8 : Option Value} {x : Value} {r : List Value} : aw g 38 1444 [l0, l1, some (x), l3, l4, l5, l6, l7, l8] r σ Q = (vRf x = true ∧ aw g 38 1445 [l0, l1, some (x), l3, l4, l5, l6, l7, l8] (x :: r) σ Q) := (aw_eq g 38 1444 _ _ _ _).trans (by rw [tq38_1444]; exact h_load rfl)
theorem tq38_1445 : tT g 38 1445 = s_callvk 38 1448 174 3 [] 3 := rfl
theorem A38_1445 {L : AL} {r : List Value} {a : Nat} : aw g 38 1445 L (.ref a :: r) σ Q = (hty σ a = some 3 ∧ true = true ∧ csum r ≤ 8 ∧ aw g 174 0 [some (.ref a), none, none] [] σ (kt (aw g) 38 1448 L r Q)) := (aw_eq g 38 1445 _ _ _ _).trans (by rw [tq38_1445]; exact rfl)
theorem tq38_1448 : tT g 38 1448 = s_lbin 38 1449 (fun a b => .int (lg_cmp a b)) := rfl
theorem A38_1448 {L : AL} {r : List Value} {a b : Int64} : aw g 38 1448 L (.long b :: .long a :: r) σ Q = aw g 38 1449 L (.int (lg_cmp a b) :: r) σ Q := (aw_eq g 38 1448 _ _ _ _).trans (by rw [tq38_1448]; exact rfl)
theorem tq38_1449 : tT g 38 1449 = s_if 38 1452 1454 (fun a => a = 0) := rfl
theorem A38_1449 {L : AL} {r : List Value} {a : Int32} : aw g 38 1449 L (.int a :: r) σ Q = ((a = 0 → aw g 38 1454 L r σ Q) ∧ (¬ a = 0 → aw g 38 1452 L r σ Q)) := (aw_eq g 38 1449 _ _ _ _).trans (by rw [tq38_1449]; exact rfl)
theorem tq38_1452 : tT g 38 1452 = s_const 38 1453 (.int 0) := rfl
theorem A38_1452 {L : AL} {r : List Value} : aw g 38 1452 L r σ Q = aw g 38 1453 L (.int 0 :: r) σ Q := (aw_eq g 38 1452 _ _ _ _).trans (by rw [tq38_1452]; exact rfl)
theorem tq38_1453 : tT g 38 1453 = s_ret vZ := rfl
theorem A38_1453 {L : AL} {v : Value} : aw g 38 1453 L [v] σ Q = (vZ v ∧ Q (.inl (some v)) σ) := (aw_eq g 38 1453 _ _ _ _).trans (by rw [tq38_1453]; exact rfl)
theorem tq38_1454 : tT g 38 1454 = s_iinc 38 1457 5 4 := rfl
theorem A38_1454 {l0 : Option Value} {l1 : Option Value} {l2 : Option Value} {l3 : Option Value} {l4 : Option Value} {l6 : Option Value} {l7 : Option Value} {l8 : Option Value} {x : Int32} {r : List Value} : aw g 38 1454 [l0, l1, l2, l3, l4, some (.int x), l6, l7, l8] r σ Q = (oc l4 = true ∧ aw g 38 1457 [l0, l1, l2, l3, l4, some (.int (x + 4)), l6, l7, l8] r σ Q) := (aw_eq g 38 1454 _ _ _ _).trans (by rw [tq38_1454]; exact (h_iinc (o := oc l4) rfl rfl rfl))
theorem tq38_1457 : tT g 38 1457 = s_goto 38 28 := rfl
theorem A38_1457 {L : AL} {r : List Value} : aw g 38 1457 L r σ Q = aw g 38 28 L r σ Q := (aw_eq g 38 1457 _ _ _ _).trans (by rw [tq38_1457]; exact rfl)
theorem tq38_1460 : tT g 38 1460 = s_const 38 1461 (.int 1) := rfl
theorem A38_1460 {L : AL} {r : List Value} : aw g 38 1460 L r σ Q = aw g 38 1461 L (.int 1 :: r) σ Q := (aw_eq g 38 1460 _ _ _ _).trans (by rw [tq38_1460]; exact rfl)
theorem tq38_1461 : tT g 38 1461 = s_ret vZ := rfl
theorem A38_1461 {L : AL} {v : Value} : aw g 38 1461 L [v] σ Q = (vZ v ∧ Q (.inl (some v)) σ) := (aw_eq g 38 1461 _ _ _ _).trans (by rw [tq38_1461]; exact rfl)
theorem tq39_0 : tT g 39 0 = s_load vRf 39 1 2 := rfl
theorem A39_0 {l0 : Option Value} {l1 : Option Value} {l3 : Option Value} {x : Value} {r : List Value} : aw g 39 0 [l0, l1, some (x), l3] r σ Q = (vRf x = true ∧ aw g 39 1 [l0, l1, some (x), l3] (x :: r) σ Q) := (aw_eq g 39 0 _ _ _ _).trans (by rw [tq39_0]; exact h_load rfl)
theorem tq39_1 : tT g 39 1 = s_const 39 2 (.int 0) := rfl
theorem A39_1 {L : AL} {r : List Value} : aw g 39 1 L r σ Q = aw g 39 2 L (.int 0 :: r) σ Q := (aw_eq g 39 1 _ _ _ _).trans (by rw [tq39_1]; exact rfl)
theorem tq39_2 : tT g 39 2 = s_load vRf 39 3 0 := rfl
theorem A39_2 {l1 : Option Value} {l2 : Option Value} {l3 : Option Value} {x : Value} {r : List Value} : aw g 39 2 [some (x), l1, l2, l3] r σ Q = (vRf x = true ∧ aw g 39 3 [some (x), l1, l2, l3] (x :: r) σ Q) := (aw_eq g 39 2 _ _ _ _).trans (by rw [tq39_2]; exact h_load rfl)
theorem tq39_3 : tT g 39 3 = s_load vI 39 4 1 := rfl
theorem A39_3 {l0 : Option Value} {l2 : Option Value} {l3 : Option Value} {x : Int32} {r : List Value} : aw g 39 3 [l0, some (.int x), l2, l3] r σ Q = aw g 39 4 [l0, some (.int x), l2, l3] (.int x :: r) σ Q := (aw_eq g 39 3 _ _ _ _).trans (by rw [tq39_3]; exact (h_load rfl).trans (propext ⟨fun z => z.2, fun z => ⟨rfl, z⟩⟩))
theorem tq39_4 : tT g 39 4 = s_callhk (fun k => match k with | 0 => some 12 | 1 => some 15 | _ => none) 39 7 75 0 [0] 2 := rfl
theorem A39_4 {L : AL} {r : List Value} {a : Nat} {w0 : Value} : aw g 39 4 L (w0 :: .ref a :: r) σ Q = (hty σ a = some 0 ∧ (vI w0 && true) = true ∧ csum r ≤ 8 ∧ aw g 75 0 [some (.ref a), some w0] [] σ (kth (fun k => match k with | 0 => some 12 | 1 => some 15 | _ => none) (aw g) 39 7 L r Q)) := (aw_eq g 39 4 _ _ _ _).trans (by rw [tq39_4]; exact rfl)
theorem tq39_7 : tT g 39 7 = s_i2 39 8 (fun a => .long a.toInt64) := rfl
theorem A39_7 {L : AL} {r : List Value} {a : Int32} : aw g 39 7 L (.int a :: r) σ Q = aw g 39 8 L (.long a.toInt64 :: r) σ Q := (aw_eq g 39 7 _ _ _ _).trans (by rw [tq39_7]; exact rfl)
theorem tq39_8 : tT g 39 8 = s_ast g (fun _ v => vL v = true) 39 9 22 := rfl
theorem A39_8 {L : AL} {r : List Value} {a : Nat} {i : Int32} {v : Value} : aw g 39 8 L (v :: .int i :: .ref a :: r) σ Q = (hty σ a = some 22 ∧ gB g ≤ a ∧ ¬ i < 0 ∧ i.toNatClampNeg < hln σ a ∧ vL v = true ∧ aw g 39 9 L r (hput σ 22 a i.toNatClampNeg v) Q) := (aw_eq g 39 8 _ _ _ _).trans (by rw [tq39_8]; exact rfl)
theorem tq39_9 : tT g 39 9 = s_goto 39 18 := rfl
theorem A39_9 {L : AL} {r : List Value} : aw g 39 9 L r σ Q = aw g 39 18 L r σ Q := (aw_eq g 39 9 _ _ _ _).trans (by rw [tq39_9]; exact rfl)
theorem tq39_12 : tT g 39 12 = s_store vRf 39 13 3 := rfl
theorem A39_12 {l0 : Option Value} {l1 : Option Value} {l2 : Option Value} {l3 : Option Value} {x : Value} {r : List Value} : aw g 39 12 [l0, l1, l2, l3] (x :: r) σ Q = (vRf x = true ∧ oc l2 = true ∧ aw g 39 13 [l0, l1, l2, some (x)] r σ Q) := (aw_eq g 39 12 _ _ _ _).trans (by rw [tq39_12]; exact (h_store (o := oc l2) rfl rfl rfl))
theorem tq39_13 : tT g 39 13 = s_const 39 14 (.int 1) := rfl
theorem A39_13 {L : AL} {r : List Value} : aw g 39 13 L r σ Q = aw g 39 14 L (.int 1 :: r) σ Q := (aw_eq g 39 13 _ _ _ _).trans (by rw [tq39_13]; exact rfl)
theorem tq39_14 : tT g 39 14 = s_ret pI := rfl
theorem A39_14 {L : AL} {v : Value} : aw g 39 14 L [v] σ Q = (pI v ∧ Q (.inl (some v)) σ) := (aw_eq g 39 14 _ _ _ _).trans (by rw [tq39_14]; exact rfl)
theorem tq39_15 : tT g 39 15 = s_store vRf 39 16 3 := rfl
theorem A39_15 {l0 : Option Value} {l1 : Option Value} {l2 : Option Value} {l3 : Option Value} {x : Value} {r : List Value} : aw g 39 15 [l0, l1, l2, l3] (x :: r) σ Q = (vRf x = true ∧ oc l2 = true ∧ aw g 39 16 [l0, l1, l2, some (x)] r σ Q) := (aw_eq g 39 15 _ _ _ _).trans (by rw [tq39_15]; exact (h_store (o := oc l2) rfl rfl rfl))
theorem tq39_16 : tT g 39 16 = s_const 39 17 (.int 2) := rfl
theorem A39_16 {L : AL} {r : List Value} : aw g 39 16 L r σ Q = aw g 39 17 L (.int 2 :: r) σ Q := (aw_eq g 39 16 _ _ _ _).trans (by rw [tq39_16]; exact rfl)
theorem tq39_17 : tT g 39 17 = s_ret pI := rfl
theorem A39_17 {L : AL} {v : Value} : aw g 39 17 L [v] σ Q = (pI v ∧ Q (.inl (some v)) σ) := (aw_eq g 39 17 _ _ _ _).trans (by rw [tq39_17]; exact rfl)
theorem tq39_18 : tT g 39 18 = s_const 39 19 (.int 0) := rfl
theorem A39_18 {L : AL} {r : List Value} : aw g 39 18 L r σ Q = aw g 39 19 L (.int 0 :: r) σ Q := (aw_eq g 39 18 _ _ _ _).trans (by rw [tq39_18]; exact rfl)
theorem tq39_19 : tT g 39 19 = s_ret pI := rfl
theorem A39_19 {L : AL} {v : Value} : aw g 39 19 L [v] σ Q = (pI v ∧ Q (.inl (some v)) σ) := (aw_eq g 39 19 _ _ _ _).trans (by rw [tq39_19]; exact rfl)
theorem tq40_0 : tT g 40 0 = s_load vRf 40 2 4 := rfl
theorem A40_0 {l0 : Option Value} {l1 : Option Value} {l2 : Option Value} {l3 : Option Value} {l5 : Option Value} {x : Value} {r : List Value} : aw g 40 0 [l0, l1, l2, l3, some (x), l5] r σ Q = (vRf x = true ∧ aw g 40 2 [l0, l1, l2, l3, some (x), l5] (x :: r) σ Q) := (aw_eq g 40 0 _ _ _ _).trans (by rw [tq40_0]; exact h_load rfl)
theorem tq40_2 : tT g 40 2 = s_const 40 3 (.int 0) := rfl
theorem A40_2 {L : AL} {r : List Value} : aw g 40 2 L r σ Q = aw g 40 3 L (.int 0 :: r) σ Q := (aw_eq g 40 2 _ _ _ _).trans (by rw [tq40_2]; exact rfl)
theorem tq40_3 : tT g 40 3 = s_load vRf 40 4 0 := rfl
theorem A40_3 {l1 : Option Value} {l2 : Option Value} {l3 : Option Value} {l4 : Option Value} {l5 : Option Value} {x : Value} {r : List Value} : aw g 40 3 [some (x), l1, l2, l3, l4, l5] r σ Q = (vRf x = true ∧ aw g 40 4 [some (x), l1, l2, l3, l4, l5] (x :: r) σ Q) := (aw_eq g 40 3 _ _ _ _).trans (by rw [tq40_3]; exact h_load rfl)
theorem tq40_4 : tT g 40 4 = s_load vI 40 5 1 := rfl
theorem A40_4 {l0 : Option Value} {l2 : Option Value} {l3 : Option Value} {l4 : Option Value} {l5 : Option Value} {x : Int32} {r : List Value} : aw g 40 4 [l0, some (.int x), l2, l3, l4, l5] r σ Q = aw g 40 5 [l0, some (.int x), l2, l3, l4, l5] (.int x :: r) σ Q := (aw_eq g 40 4 _ _ _ _).trans (by rw [tq40_4]; exact (h_load rfl).trans (propext ⟨fun z => z.2, fun z => ⟨rfl, z⟩⟩))
theorem tq40_5 : tT g 40 5 = s_load vI 40 6 2 := rfl
theorem A40_5 {l0 : Option Value} {l1 : Option Value} {l3 : Option Value} {l4 : Option Value} {l5 : Option Value} {x : Int32} {r : List Value} : aw g 40 5 [l0, l1, some (.int x), l3, l4, l5] r σ Q = aw g 40 6 [l0, l1, some (.int x), l3, l4, l5] (.int x :: r) σ Q := (aw_eq g 40 5 _ _ _ _).trans (by rw [tq40_5]; exact (h_load rfl).trans (propext ⟨fun z => z.2, fun z => ⟨rfl, z⟩⟩))
theorem tq40_6 : tT g 40 6 = s_load vI 40 7 3 := rfl
theorem A40_6 {l0 : Option Value} {l1 : Option Value} {l2 : Option Value} {l4 : Option Value} {l5 : Option Value} {x : Int32} {r : List Value} : aw g 40 6 [l0, l1, l2, some (.int x), l4, l5] r σ Q = aw g 40 7 [l0, l1, l2, some (.int x), l4, l5] (.int x :: r) σ Q := (aw_eq g 40 6 _ _ _ _).trans (by rw [tq40_6]; exact (h_load rfl).trans (propext ⟨fun z => z.2, fun z => ⟨rfl, z⟩⟩))
theorem tq40_7 : tT g 40 7 = s_callhk (fun k => match k with | 2 => some 15 | 0 => some 19 | 1 => some 23 | _ => none) 40 10 80 0 [0, 0, 0] 5 := rfl
theorem A40_7 {L : AL} {r : List Value} {a : Nat} {w0 w1 w2 : Value} : aw g 40 7 L (w2 :: w1 :: w0 :: .ref a :: r) σ Q = (hty σ a = some 0 ∧ (vI w0 && (vI w1 && (vI w2 && true))) = true ∧ csum r ≤ 8 ∧ aw g 80 0 [some (.ref a), some w0, some w1, some w2, none] [] σ (kth (fun k => match k with | 2 => some 15 | 0 => some 19 | 1 => some 23 | _ => none) (aw g) 40 10 L r Q)) := (aw_eq g 40 7 _ _ _ _).trans (by rw [tq40_7]; exact rfl)
theorem tq40_10 : tT g 40 10 = s_i2 40 11 (fun a => .long a.toInt64) := rfl
theorem A40_10 {L : AL} {r : List Value} {a : Int32} : aw g 40 10 L (.int a :: r) σ Q = aw g 40 11 L (.long a.toInt64 :: r) σ Q := (aw_eq g 40 10 _ _ _ _).trans (by rw [tq40_10]; exact rfl)
theorem tq40_11 : tT g 40 11 = s_ast g (fun _ v => vL v = true) 40 12 22 := rfl
theorem A40_11 {L : AL} {r : List Value} {a : Nat} {i : Int32} {v : Value} : aw g 40 11 L (v :: .int i :: .ref a :: r) σ Q = (hty σ a = some 22 ∧ gB g ≤ a ∧ ¬ i < 0 ∧ i.toNatClampNeg < hln σ a ∧ vL v = true ∧ aw g 40 12 L r (hput σ 22 a i.toNatClampNeg v) Q) := (aw_eq g 40 11 _ _ _ _).trans (by rw [tq40_11]; exact rfl)
theorem tq40_12 : tT g 40 12 = s_goto 40 27 := rfl
theorem A40_12 {L : AL} {r : List Value} : aw g 40 12 L r σ Q = aw g 40 27 L r σ Q := (aw_eq g 40 12 _ _ _ _).trans (by rw [tq40_12]; exact rfl)
theorem tq40_15 : tT g 40 15 = s_store vRf 40 17 5 := rfl
theorem A40_15 {l0 : Option Value} {l1 : Option Value} {l2 : Option Value} {l3 : Option Value} {l4 : Option Value} {l5 : Option Value} {x : Value} {r : List Value} : aw g 40 15 [l0, l1, l2, l3, l4, l5] (x :: r) σ Q = (vRf x = true ∧ oc l4 = true ∧ aw g 40 17 [l0, l1, l2, l3, l4, some (x)] r σ Q) := (aw_eq g 40 15 _ _ _ _).trans (by rw [tq40_15]; exact (h_store (o := oc l4) rfl rfl rfl))
theorem tq40_17 : tT g 40 17 = s_const 40 18 (.int 1) := rfl
theorem A40_17 {L : AL} {r : List Value} : aw g 40 17 L r σ Q = aw g 40 18 L (.int 1 :: r) σ Q := (aw_eq g 40 17 _ _ _ _).trans (by rw [tq40_17]; exact rfl)
theorem tq40_18 : tT g 40 18 = s_ret pI := rfl
theorem A40_18 {L : AL} {v : Value} : aw g 40 18 L [v] σ Q = (pI v ∧ Q (.inl (some v)) σ) := (aw_eq g 40 18 _ _ _ _).trans (by rw [tq40_18]; exact rfl)
theorem tq40_19 : tT g 40 19 = s_store vRf 40 21 5 := rfl
theorem A40_19 {l0 : Option Value} {l1 : Option Value} {l2 : Option Value} {l3 : Option Value} {l4 : Option Value} {l5 : Option Value} {x : Value} {r : List Value} : aw g 40 19 [l0, l1, l2, l3, l4, l5] (x :: r) σ Q = (vRf x = true ∧ oc l4 = true ∧ aw g 40 21 [l0, l1, l2, l3, l4, some (x)] r σ Q) := (aw_eq g 40 19 _ _ _ _).trans (by rw [tq40_19]; exact (h_store (o := oc l4) rfl rfl rfl))
theorem tq40_21 : tT g 40 21 = s_const 40 22 (.int 2) := rfl
theorem A40_21 {L : AL} {r : List Value} : aw g 40 21 L r σ Q = aw g 40 22 L (.int 2 :: r) σ Q := (aw_eq g 40 21 _ _ _ _).trans (by rw [tq40_21]; exact rfl)
theorem tq40_22 : tT g 40 22 = s_ret pI := rfl
theorem A40_22 {L : AL} {v : Value} : aw g 40 22 L [v] σ Q = (pI v ∧ Q (.inl (some v)) σ) := (aw_eq g 40 22 _ _ _ _).trans (by rw [tq40_22]; exact rfl)
theorem tq40_23 : tT g 40 23 = s_store vRf 40 25 5 := rfl
theorem A40_23 {l0 : Option Value} {l1 : Option Value} {l2 : Option Value} {l3 : Option Value} {l4 : Option Value} {l5 : Option Value} {x : Value} {r : List Value} : aw g 40 23 [l0, l1, l2, l3, l4, l5] (x :: r) σ Q = (vRf x = true ∧ oc l4 = true ∧ aw g 40 25 [l0, l1, l2, l3, l4, some (x)] r σ Q) := (aw_eq g 40 23 _ _ _ _).trans (by rw [tq40_23]; exact (h_store (o := oc l4) rfl rfl rfl))
theorem tq40_25 : tT g 40 25 = s_const 40 26 (.int 3) := rfl
theorem A40_25 {L : AL} {r : List Value} : aw g 40 25 L r σ Q = aw g 40 26 L (.int 3 :: r) σ Q := (aw_eq g 40 25 _ _ _ _).trans (by rw [tq40_25]; exact rfl)
theorem tq40_26 : tT g 40 26 = s_ret pI := rfl
theorem A40_26 {L : AL} {v : Value} : aw g 40 26 L [v] σ Q = (pI v ∧ Q (.inl (some v)) σ) := (aw_eq g 40 26 _ _ _ _).trans (by rw [tq40_26]; exact rfl)
theorem tq40_27 : tT g 40 27 = s_const 40 28 (.int 0) := rfl
theorem A40_27 {L : AL} {r : List Value} : aw g 40 27 L r σ Q = aw g 40 28 L (.int 0 :: r) σ Q := (aw_eq g 40 27 _ _ _ _).trans (by rw [tq40_27]; exact rfl)
theorem tq40_28 : tT g 40 28 = s_ret pI := rfl
theorem A40_28 {L : AL} {v : Value} : aw g 40 28 L [v] σ Q = (pI v ∧ Q (.inl (some v)) σ) := (aw_eq g 40 28 _ _ _ _).trans (by rw [tq40_28]; exact rfl)
theorem tq41_0 : tT g 41 0 = s_load vRf 41 1 3 := rfl
theorem A41_0 {l0 : Option Value} {l1 : Option Value} {l2 : Option Value} {l4 : Option Value} {x : Value} {r : List Value} : aw g 41 0 [l0, l1, l2, some (x), l4] r σ Q = (vRf x = true ∧ aw g 41 1 [l0, l1, l2, some (x), l4] (x :: r) σ Q) := (aw_eq g 41 0 _ _ _ _).trans (by rw [tq41_0]; exact h_load rfl)
theorem tq41_1 : tT g 41 1 = s_const 41 2 (.int 0) := rfl
theorem A41_1 {L : AL} {r : List Value} : aw g 41 1 L r σ Q = aw g 41 2 L (.int 0 :: r) σ Q := (aw_eq g 41 1 _ _ _ _).trans (by rw [tq41_1]; exact rfl)
theorem tq41_2 : tT g 41 2 = s_load vRf 41 3 0 := rfl
theorem A41_2 {l1 : Option Value} {l2 : Option Value} {l3 : Option Value} {l4 : Option Value} {x : Value} {r : List Value} : aw g 41 2 [some (x), l1, l2, l3, l4] r σ Q = (vRf x = true ∧ aw g 41 3 [some (x), l1, l2, l3, l4] (x :: r) σ Q) := (aw_eq g 41 2 _ _ _ _).trans (by rw [tq41_2]; exact h_load rfl)
theorem tq41_3 : tT g 41 3 = s_load vI 41 4 1 := rfl
theorem A41_3 {l0 : Option Value} {l2 : Option Value} {l3 : Option Value} {l4 : Option Value} {x : Int32} {r : List Value} : aw g 41 3 [l0, some (.int x), l2, l3, l4] r σ Q = aw g 41 4 [l0, some (.int x), l2, l3, l4] (.int x :: r) σ Q := (aw_eq g 41 3 _ _ _ _).trans (by rw [tq41_3]; exact (h_load rfl).trans (propext ⟨fun z => z.2, fun z => ⟨rfl, z⟩⟩))
theorem tq41_4 : tT g 41 4 = s_load vI 41 5 2 := rfl
theorem A41_4 {l0 : Option Value} {l1 : Option Value} {l3 : Option Value} {l4 : Option Value} {x : Int32} {r : List Value} : aw g 41 4 [l0, l1, some (.int x), l3, l4] r σ Q = aw g 41 5 [l0, l1, some (.int x), l3, l4] (.int x :: r) σ Q := (aw_eq g 41 4 _ _ _ _).trans (by rw [tq41_4]; exact (h_load rfl).trans (propext ⟨fun z => z.2, fun z => ⟨rfl, z⟩⟩))
theorem tq41_5 : tT g 41 5 = s_callhk (fun k => match k with | 2 => some 13 | 0 => some 17 | _ => none) 41 8 84 0 [0, 0] 5 := rfl
theorem A41_5 {L : AL} {r : List Value} {a : Nat} {w0 w1 : Value} : aw g 41 5 L (w1 :: w0 :: .ref a :: r) σ Q = (hty σ a = some 0 ∧ (vI w0 && (vI w1 && true)) = true ∧ csum r ≤ 8 ∧ aw g 84 0 [some (.ref a), some w0, some w1, none, none] [] σ (kth (fun k => match k with | 2 => some 13 | 0 => some 17 | _ => none) (aw g) 41 8 L r Q)) := (aw_eq g 41 5 _ _ _ _).trans (by rw [tq41_5]; exact rfl)
theorem tq41_8 : tT g 41 8 = s_i2 41 9 (fun a => .long a.toInt64) := rfl
theorem A41_8 {L : AL} {r : List Value} {a : Int32} : aw g 41 8 L (.int a :: r) σ Q = aw g 41 9 L (.long a.toInt64 :: r) σ Q := (aw_eq g 41 8 _ _ _ _).trans (by rw [tq41_8]; exact rfl)
theorem tq41_9 : tT g 41 9 = s_ast g (fun _ v => vL v = true) 41 10 22 := rfl
theorem A41_9 {L : AL} {r : List Value} {a : Nat} {i : Int32} {v : Value} : aw g 41 9 L (v :: .int i :: .ref a :: r) σ Q = (hty σ a = some 22 ∧ gB g ≤ a ∧ ¬ i < 0 ∧ i.toNatClampNeg < hln σ a ∧ vL v = true ∧ aw g 41 10 L r (hput σ 22 a i.toNatClampNeg v) Q) := (aw_eq g 41 9 _ _ _ _).trans (by rw [tq41_9]; exact rfl)
theorem tq41_10 : tT g 41 10 = s_goto 41 21 := rfl
theorem A41_10 {L : AL} {r : List Value} : aw g 41 10 L r σ Q = aw g 41 21 L r σ Q := (aw_eq g 41 10 _ _ _ _).trans (by rw [tq41_10]; exact rfl)
theorem tq41_13 : tT g 41 13 = s_store vRf 41 15 4 := rfl
theorem A41_13 {l0 : Option Value} {l1 : Option Value} {l2 : Option Value} {l3 : Option Value} {l4 : Option Value} {x : Value} {r : List Value} : aw g 41 13 [l0, l1, l2, l3, l4] (x :: r) σ Q = (vRf x = true ∧ oc l3 = true ∧ aw g 41 15 [l0, l1, l2, l3, some (x)] r σ Q) := (aw_eq g 41 13 _ _ _ _).trans (by rw [tq41_13]; exact (h_store (o := oc l3) rfl rfl rfl))
theorem tq41_15 : tT g 41 15 = s_const 41 16 (.int 1) := rfl
theorem A41_15 {L : AL} {r : List Value} : aw g 41 15 L r σ Q = aw g 41 16 L (.int 1 :: r) σ Q := (aw_eq g 41 15 _ _ _ _).trans (by rw [tq41_15]; exact rfl)
theorem tq41_16 : tT g 41 16 = s_ret pI := rfl
theorem A41_16 {L : AL} {v : Value} : aw g 41 16 L [v] σ Q = (pI v ∧ Q (.inl (some v)) σ) := (aw_eq g 41 16 _ _ _ _).trans (by rw [tq41_16]; exact rfl)
theorem tq41_17 : tT g 41 17 = s_store vRf 41 19 4 := rfl
theorem A41_17 {l0 : Option Value} {l1 : Option Value} {l2 : Option Value} {l3 : Option Value} {l4 : Option Value} {x : Value} {r : List Value} : aw g 41 17 [l0, l1, l2, l3, l4] (x :: r) σ Q = (vRf x = true ∧ oc l3 = true ∧ aw g 41 19 [l0, l1, l2, l3, some (x)] r σ Q) := (aw_eq g 41 17 _ _ _ _).trans (by rw [tq41_17]; exact (h_store (o := oc l3) rfl rfl rfl))
theorem tq41_19 : tT g 41 19 = s_const 41 20 (.int 2) := rfl
theorem A41_19 {L : AL} {r : List Value} : aw g 41 19 L r σ Q = aw g 41 20 L (.int 2 :: r) σ Q := (aw_eq g 41 19 _ _ _ _).trans (by rw [tq41_19]; exact rfl)
theorem tq41_20 : tT g 41 20 = s_ret pI := rfl
theorem A41_20 {L : AL} {v : Value} : aw g 41 20 L [v] σ Q = (pI v ∧ Q (.inl (some v)) σ) := (aw_eq g 41 20 _ _ _ _).trans (by rw [tq41_20]; exact rfl)
theorem tq41_21 : tT g 41 21 = s_const 41 22 (.int 0) := rfl
theorem A41_21 {L : AL} {r : List Value} : aw g 41 21 L r σ Q = aw g 41 22 L (.int 0 :: r) σ Q := (aw_eq g 41 21 _ _ _ _).trans (by rw [tq41_21]; exact rfl)
theorem tq41_22 : tT g 41 22 = s_ret pI := rfl
theorem A41_22 {L : AL} {v : Value} : aw g 41 22 L [v] σ Q = (pI v ∧ Q (.inl (some v)) σ) := (aw_eq g 41 22 _ _ _ _).trans (by rw [tq41_22]; exact rfl)
theorem tq42_0 : tT g 42 0 = s_load vRf 42 1 3 := rfl
theorem A42_0 {l0 : Option Value} {l1 : Option Value} {l2 : Option Value} {l4 : Option Value} {x : Value} {r : List Value} : aw g 42 0 [l0, l1, l2, some (x), l4] r σ Q = (vRf x = true ∧ aw g 42 1 [l0, l1, l2, some (x), l4] (x :: r) σ Q) := (aw_eq g 42 0 _ _ _ _).trans (by rw [tq42_0]; exact h_load rfl)
theorem tq42_1 : tT g 42 1 = s_const 42 2 (.int 0) := rfl
theorem A42_1 {L : AL} {r : List Value} : aw g 42 1 L r σ Q = aw g 42 2 L (.int 0 :: r) σ Q := (aw_eq g 42 1 _ _ _ _).trans (by rw [tq42_1]; exact rfl)
theorem tq42_2 : tT g 42 2 = s_load vRf 42 3 0 := rfl
theorem A42_2 {l1 : Option Value} {l2 : Option Value} {l3 : Option Value} {l4 : Option Value} {x : Value} {r : List Value} : aw g 42 2 [some (x), l1, l2, l3, l4] r σ Q = (vRf x = true ∧ aw g 42 3 [some (x), l1, l2, l3, l4] (x :: r) σ Q) := (aw_eq g 42 2 _ _ _ _).trans (by rw [tq42_2]; exact h_load rfl)
theorem tq42_3 : tT g 42 3 = s_load vI 42 4 1 := rfl
theorem A42_3 {l0 : Option Value} {l2 : Option Value} {l3 : Option Value} {l4 : Option Value} {x : Int32} {r : List Value} : aw g 42 3 [l0, some (.int x), l2, l3, l4] r σ Q = aw g 42 4 [l0, some (.int x), l2, l3, l4] (.int x :: r) σ Q := (aw_eq g 42 3 _ _ _ _).trans (by rw [tq42_3]; exact (h_load rfl).trans (propext ⟨fun z => z.2, fun z => ⟨rfl, z⟩⟩))
theorem tq42_4 : tT g 42 4 = s_load vI 42 5 2 := rfl
theorem A42_4 {l0 : Option Value} {l1 : Option Value} {l3 : Option Value} {l4 : Option Value} {x : Int32} {r : List Value} : aw g 42 4 [l0, l1, some (.int x), l3, l4] r σ Q = aw g 42 5 [l0, l1, some (.int x), l3, l4] (.int x :: r) σ Q := (aw_eq g 42 4 _ _ _ _).trans (by rw [tq42_4]; exact (h_load rfl).trans (propext ⟨fun z => z.2, fun z => ⟨rfl, z⟩⟩))
theorem tq42_5 : tT g 42 5 = s_callhk (fun k => match k with | 2 => some 20 | 1 => some 24 | _ => none) 42 8 85 0 [0, 0] 5 := rfl
theorem A42_5 {L : AL} {r : List Value} {a : Nat} {w0 w1 : Value} : aw g 42 5 L (w1 :: w0 :: .ref a :: r) σ Q = (hty σ a = some 0 ∧ (vI w0 && (vI w1 && true)) = true ∧ csum r ≤ 8 ∧ aw g 85 0 [some (.ref a), some w0, some w1, none, none] [] σ (kth (fun k => match k with | 2 => some 20 | 1 => some 24 | _ => none) (aw g) 42 8 L r Q)) := (aw_eq g 42 5 _ _ _ _).trans (by rw [tq42_5]; exact rfl)
theorem tq42_8 : tT g 42 8 = s_if 42 11 15 (fun a => a = 0) := rfl
theorem A42_8 {L : AL} {r : List Value} {a : Int32} : aw g 42 8 L (.int a :: r) σ Q = ((a = 0 → aw g 42 15 L r σ Q) ∧ (¬ a = 0 → aw g 42 11 L r σ Q)) := (aw_eq g 42 8 _ _ _ _).trans (by rw [tq42_8]; exact rfl)
theorem tq42_11 : tT g 42 11 = s_const 42 12 (.long 1) := rfl
theorem A42_11 {L : AL} {r : List Value} : aw g 42 11 L r σ Q = aw g 42 12 L (.long 1 :: r) σ Q := (aw_eq g 42 11 _ _ _ _).trans (by rw [tq42_11]; exact rfl)
theorem tq42_12 : tT g 42 12 = s_goto 42 16 := rfl
theorem A42_12 {L : AL} {r : List Value} : aw g 42 12 L r σ Q = aw g 42 16 L r σ Q := (aw_eq g 42 12 _ _ _ _).trans (by rw [tq42_12]; exact rfl)
theorem tq42_15 : tT g 42 15 = s_const 42 16 (.long 0) := rfl
theorem A42_15 {L : AL} {r : List Value} : aw g 42 15 L r σ Q = aw g 42 16 L (.long 0 :: r) σ Q := (aw_eq g 42 15 _ _ _ _).trans (by rw [tq42_15]; exact rfl)
theorem tq42_16 : tT g 42 16 = s_ast g (fun _ v => vL v = true) 42 17 22 := rfl
theorem A42_16 {L : AL} {r : List Value} {a : Nat} {i : Int32} {v : Value} : aw g 42 16 L (v :: .int i :: .ref a :: r) σ Q = (hty σ a = some 22 ∧ gB g ≤ a ∧ ¬ i < 0 ∧ i.toNatClampNeg < hln σ a ∧ vL v = true ∧ aw g 42 17 L r (hput σ 22 a i.toNatClampNeg v) Q) := (aw_eq g 42 16 _ _ _ _).trans (by rw [tq42_16]; exact rfl)
theorem tq42_17 : tT g 42 17 = s_goto 42 28 := rfl
theorem A42_17 {L : AL} {r : List Value} : aw g 42 17 L r σ Q = aw g 42 28 L r σ Q := (aw_eq g 42 17 _ _ _ _).trans (by rw [tq42_17]; exact rfl)
theorem tq42_20 : tT g 42 20 = s_store vRf 42 22 4 := rfl
theorem A42_20 {l0 : Option Value} {l1 : Option Value} {l2 : Option Value} {l3 : Option Value} {l4 : Option Value} {x : Value} {r : List Value} : aw g 42 20 [l0, l1, l2, l3, l4] (x :: r) σ Q = (vRf x = true ∧ oc l3 = true ∧ aw g 42 22 [l0, l1, l2, l3, some (x)] r σ Q) := (aw_eq g 42 20 _ _ _ _).trans (by rw [tq42_20]; exact (h_store (o := oc l3) rfl rfl rfl))
theorem tq42_22 : tT g 42 22 = s_const 42 23 (.int 1) := rfl
theorem A42_22 {L : AL} {r : List Value} : aw g 42 22 L r σ Q = aw g 42 23 L (.int 1 :: r) σ Q := (aw_eq g 42 22 _ _ _ _).trans (by rw [tq42_22]; exact rfl)
theorem tq42_23 : tT g 42 23 = s_ret pI := rfl
theorem A42_23 {L : AL} {v : Value} : aw g 42 23 L [v] σ Q = (pI v ∧ Q (.inl (some v)) σ) := (aw_eq g 42 23 _ _ _ _).trans (by rw [tq42_23]; exact rfl)
theorem tq42_24 : tT g 42 24 = s_store vRf 42 26 4 := rfl
theorem A42_24 {l0 : Option Value} {l1 : Option Value} {l2 : Option Value} {l3 : Option Value} {l4 : Option Value} {x : Value} {r : List Value} : aw g 42 24 [l0, l1, l2, l3, l4] (x :: r) σ Q = (vRf x = true ∧ oc l3 = true ∧ aw g 42 26 [l0, l1, l2, l3, some (x)] r σ Q) := (aw_eq g 42 24 _ _ _ _).trans (by rw [tq42_24]; exact (h_store (o := oc l3) rfl rfl rfl))
theorem tq42_26 : tT g 42 26 = s_const 42 27 (.int 2) := rfl
theorem A42_26 {L : AL} {r : List Value} : aw g 42 26 L r σ Q = aw g 42 27 L (.int 2 :: r) σ Q := (aw_eq g 42 26 _ _ _ _).trans (by rw [tq42_26]; exact rfl)
theorem tq42_27 : tT g 42 27 = s_ret pI := rfl
theorem A42_27 {L : AL} {v : Value} : aw g 42 27 L [v] σ Q = (pI v ∧ Q (.inl (some v)) σ) := (aw_eq g 42 27 _ _ _ _).trans (by rw [tq42_27]; exact rfl)
theorem tq42_28 : tT g 42 28 = s_const 42 29 (.int 0) := rfl
theorem A42_28 {L : AL} {r : List Value} : aw g 42 28 L r σ Q = aw g 42 29 L (.int 0 :: r) σ Q := (aw_eq g 42 28 _ _ _ _).trans (by rw [tq42_28]; exact rfl)
theorem tq42_29 : tT g 42 29 = s_ret pI := rfl
theorem A42_29 {L : AL} {v : Value} : aw g 42 29 L [v] σ Q = (pI v ∧ Q (.inl (some v)) σ) := (aw_eq g 42 29 _ _ _ _).trans (by rw [tq42_29]; exact rfl)
theorem tq43_0 : tT g 43 0 = s_load vRf 43 1 2 := rfl
theorem A43_0 {l0 : Option Value} {l1 : Option Value} {l3 : Option Value} {x : Value} {r : List Value} : aw g 43 0 [l0, l1, some (x), l3] r σ Q = (vRf x = true ∧ aw g 43 1 [l0, l1, some (x), l3] (x :: r) σ Q) := (aw_eq g 43 0 _ _ _ _).trans (by rw [tq43_0]; exact h_load rfl)
theorem tq43_1 : tT g 43 1 = s_const 43 2 (.int 0) := rfl
theorem A43_1 {L : AL} {r : List Value} : aw g 43 1 L r σ Q = aw g 43 2 L (.int 0 :: r) σ Q := (aw_eq g 43 1 _ _ _ _).trans (by rw [tq43_1]; exact rfl)
theorem tq43_2 : tT g 43 2 = s_load vRf 43 3 0 := rfl
theorem A43_2 {l1 : Option Value} {l2 : Option Value} {l3 : Option Value} {x : Value} {r : List Value} : aw g 43 2 [some (x), l1, l2, l3] r σ Q = (vRf x = true ∧ aw g 43 3 [some (x), l1, l2, l3] (x :: r) σ Q) := (aw_eq g 43 2 _ _ _ _).trans (by rw [tq43_2]; exact h_load rfl)
theorem tq43_3 : tT g 43 3 = s_load vI 43 4 1 := rfl
theorem A43_3 {l0 : Option Value} {l2 : Option Value} {l3 : Option Value} {x : Int32} {r : List Value} : aw g 43 3 [l0, some (.int x), l2, l3] r σ Q = aw g 43 4 [l0, some (.int x), l2, l3] (.int x :: r) σ Q := (aw_eq g 43 3 _ _ _ _).trans (by rw [tq43_3]; exact (h_load rfl).trans (propext ⟨fun z => z.2, fun z => ⟨rfl, z⟩⟩))
theorem tq43_4 : tT g 43 4 = s_callhk (fun k => match k with | 0 => some 12 | _ => none) 43 7 86 0 [0] 2 := rfl
theorem A43_4 {L : AL} {r : List Value} {a : Nat} {w0 : Value} : aw g 43 4 L (w0 :: .ref a :: r) σ Q = (hty σ a = some 0 ∧ (vI w0 && true) = true ∧ csum r ≤ 8 ∧ aw g 86 0 [some (.ref a), some w0] [] σ (kth (fun k => match k with | 0 => some 12 | _ => none) (aw g) 43 7 L r Q)) := (aw_eq g 43 4 _ _ _ _).trans (by rw [tq43_4]; exact rfl)
theorem tq43_7 : tT g 43 7 = s_i2 43 8 (fun a => .long a.toInt64) := rfl
theorem A43_7 {L : AL} {r : List Value} {a : Int32} : aw g 43 7 L (.int a :: r) σ Q = aw g 43 8 L (.long a.toInt64 :: r) σ Q := (aw_eq g 43 7 _ _ _ _).trans (by rw [tq43_7]; exact rfl)
theorem tq43_8 : tT g 43 8 = s_ast g (fun _ v => vL v = true) 43 9 22 := rfl
theorem A43_8 {L : AL} {r : List Value} {a : Nat} {i : Int32} {v : Value} : aw g 43 8 L (v :: .int i :: .ref a :: r) σ Q = (hty σ a = some 22 ∧ gB g ≤ a ∧ ¬ i < 0 ∧ i.toNatClampNeg < hln σ a ∧ vL v = true ∧ aw g 43 9 L r (hput σ 22 a i.toNatClampNeg v) Q) := (aw_eq g 43 8 _ _ _ _).trans (by rw [tq43_8]; exact rfl)
theorem tq43_9 : tT g 43 9 = s_goto 43 15 := rfl
theorem A43_9 {L : AL} {r : List Value} : aw g 43 9 L r σ Q = aw g 43 15 L r σ Q := (aw_eq g 43 9 _ _ _ _).trans (by rw [tq43_9]; exact rfl)
theorem tq43_12 : tT g 43 12 = s_store vRf 43 13 3 := rfl
theorem A43_12 {l0 : Option Value} {l1 : Option Value} {l2 : Option Value} {l3 : Option Value} {x : Value} {r : List Value} : aw g 43 12 [l0, l1, l2, l3] (x :: r) σ Q = (vRf x = true ∧ oc l2 = true ∧ aw g 43 13 [l0, l1, l2, some (x)] r σ Q) := (aw_eq g 43 12 _ _ _ _).trans (by rw [tq43_12]; exact (h_store (o := oc l2) rfl rfl rfl))
theorem tq43_13 : tT g 43 13 = s_const 43 14 (.int 1) := rfl
theorem A43_13 {L : AL} {r : List Value} : aw g 43 13 L r σ Q = aw g 43 14 L (.int 1 :: r) σ Q := (aw_eq g 43 13 _ _ _ _).trans (by rw [tq43_13]; exact rfl)
theorem tq43_14 : tT g 43 14 = s_ret pI := rfl
theorem A43_14 {L : AL} {v : Value} : aw g 43 14 L [v] σ Q = (pI v ∧ Q (.inl (some v)) σ) := (aw_eq g 43 14 _ _ _ _).trans (by rw [tq43_14]; exact rfl)
theorem tq43_15 : tT g 43 15 = s_const 43 16 (.int 0) := rfl
theorem A43_15 {L : AL} {r : List Value} : aw g 43 15 L r σ Q = aw g 43 16 L (.int 0 :: r) σ Q := (aw_eq g 43 15 _ _ _ _).trans (by rw [tq43_15]; exact rfl)
theorem tq43_16 : tT g 43 16 = s_ret pI := rfl
theorem A43_16 {L : AL} {v : Value} : aw g 43 16 L [v] σ Q = (pI v ∧ Q (.inl (some v)) σ) := (aw_eq g 43 16 _ _ _ _).trans (by rw [tq43_16]; exact rfl)
theorem tq44_0 : tT g 44 0 = s_load vRf 44 1 3 := rfl
theorem A44_0 {l0 : Option Value} {l1 : Option Value} {l2 : Option Value} {l4 : Option Value} {x : Value} {r : List Value} : aw g 44 0 [l0, l1, l2, some (x), l4] r σ Q = (vRf x = true ∧ aw g 44 1 [l0, l1, l2, some (x), l4] (x :: r) σ Q) := (aw_eq g 44 0 _ _ _ _).trans (by rw [tq44_0]; exact h_load rfl)
theorem tq44_1 : tT g 44 1 = s_const 44 2 (.int 0) := rfl
theorem A44_1 {L : AL} {r : List Value} : aw g 44 1 L r σ Q = aw g 44 2 L (.int 0 :: r) σ Q := (aw_eq g 44 1 _ _ _ _).trans (by rw [tq44_1]; exact rfl)
theorem tq44_2 : tT g 44 2 = s_load vRf 44 3 0 := rfl
theorem A44_2 {l1 : Option Value} {l2 : Option Value} {l3 : Option Value} {l4 : Option Value} {x : Value} {r : List Value} : aw g 44 2 [some (x), l1, l2, l3, l4] r σ Q = (vRf x = true ∧ aw g 44 3 [some (x), l1, l2, l3, l4] (x :: r) σ Q) := (aw_eq g 44 2 _ _ _ _).trans (by rw [tq44_2]; exact h_load rfl)
theorem tq44_3 : tT g 44 3 = s_load vI 44 4 1 := rfl
theorem A44_3 {l0 : Option Value} {l2 : Option Value} {l3 : Option Value} {l4 : Option Value} {x : Int32} {r : List Value} : aw g 44 3 [l0, some (.int x), l2, l3, l4] r σ Q = aw g 44 4 [l0, some (.int x), l2, l3, l4] (.int x :: r) σ Q := (aw_eq g 44 3 _ _ _ _).trans (by rw [tq44_3]; exact (h_load rfl).trans (propext ⟨fun z => z.2, fun z => ⟨rfl, z⟩⟩))
theorem tq44_4 : tT g 44 4 = s_load vI 44 5 2 := rfl
theorem A44_4 {l0 : Option Value} {l1 : Option Value} {l3 : Option Value} {l4 : Option Value} {x : Int32} {r : List Value} : aw g 44 4 [l0, l1, some (.int x), l3, l4] r σ Q = aw g 44 5 [l0, l1, some (.int x), l3, l4] (.int x :: r) σ Q := (aw_eq g 44 4 _ _ _ _).trans (by rw [tq44_4]; exact (h_load rfl).trans (propext ⟨fun z => z.2, fun z => ⟨rfl, z⟩⟩))
theorem tq44_5 : tT g 44 5 = s_callhk (fun k => match k with | 2 => some 13 | 0 => some 17 | 1 => some 21 | _ => none) 44 8 87 0 [0, 0] 4 := rfl
theorem A44_5 {L : AL} {r : List Value} {a : Nat} {w0 w1 : Value} : aw g 44 5 L (w1 :: w0 :: .ref a :: r) σ Q = (hty σ a = some 0 ∧ (vI w0 && (vI w1 && true)) = true ∧ csum r ≤ 8 ∧ aw g 87 0 [some (.ref a), some w0, some w1, none] [] σ (kth (fun k => match k with | 2 => some 13 | 0 => some 17 | 1 => some 21 | _ => none) (aw g) 44 8 L r Q)) := (aw_eq g 44 5 _ _ _ _).trans (by rw [tq44_5]; exact rfl)
theorem tq44_8 : tT g 44 8 = s_i2 44 9 (fun a => .long a.toInt64) := rfl
theorem A44_8 {L : AL} {r : List Value} {a : Int32} : aw g 44 8 L (.int a :: r) σ Q = aw g 44 9 L (.long a.toInt64 :: r) σ Q := (aw_eq g 44 8 _ _ _ _).trans (by rw [tq44_8]; exact rfl)
theorem tq44_9 : tT g 44 9 = s_ast g (fun _ v => vL v = true) 44 10 22 := rfl
theorem A44_9 {L : AL} {r : List Value} {a : Nat} {i : Int32} {v : Value} : aw g 44 9 L (v :: .int i :: .ref a :: r) σ Q = (hty σ a = some 22 ∧ gB g ≤ a ∧ ¬ i < 0 ∧ i.toNatClampNeg < hln σ a ∧ vL v = true ∧ aw g 44 10 L r (hput σ 22 a i.toNatClampNeg v) Q) := (aw_eq g 44 9 _ _ _ _).trans (by rw [tq44_9]; exact rfl)
theorem tq44_10 : tT g 44 10 = s_goto 44 25 := rfl
theorem A44_10 {L : AL} {r : List Value} : aw g 44 10 L r σ Q = aw g 44 25 L r σ Q := (aw_eq g 44 10 _ _ _ _).trans (by rw [tq44_10]; exact rfl)
theorem tq44_13 : tT g 44 13 = s_store vRf 44 15 4 := rfl
theorem A44_13 {l0 : Option Value} {l1 : Option Value} {l2 : Option Value} {l3 : Option Value} {l4 : Option Value} {x : Value} {r : List Value} : aw g 44 13 [l0, l1, l2, l3, l4] (x :: r) σ Q = (vRf x = true ∧ oc l3 = true ∧ aw g 44 15 [l0, l1, l2, l3, some (x)] r σ Q) := (aw_eq g 44 13 _ _ _ _).trans (by rw [tq44_13]; exact (h_store (o := oc l3) rfl rfl rfl))
theorem tq44_15 : tT g 44 15 = s_const 44 16 (.int 1) := rfl
theorem A44_15 {L : AL} {r : List Value} : aw g 44 15 L r σ Q = aw g 44 16 L (.int 1 :: r) σ Q := (aw_eq g 44 15 _ _ _ _).trans (by rw [tq44_15]; exact rfl)
theorem tq44_16 : tT g 44 16 = s_ret pI := rfl
theorem A44_16 {L : AL} {v : Value} : aw g 44 16 L [v] σ Q = (pI v ∧ Q (.inl (some v)) σ) := (aw_eq g 44 16 _ _ _ _).trans (by rw [tq44_16]; exact rfl)
theorem tq44_17 : tT g 44 17 = s_store vRf 44 19 4 := rfl
theorem A44_17 {l0 : Option Value} {l1 : Option Value} {l2 : Option Value} {l3 : Option Value} {l4 : Option Value} {x : Value} {r : List Value} : aw g 44 17 [l0, l1, l2, l3, l4] (x :: r) σ Q = (vRf x = true ∧ oc l3 = true ∧ aw g 44 19 [l0, l1, l2, l3, some (x)] r σ Q) := (aw_eq g 44 17 _ _ _ _).trans (by rw [tq44_17]; exact (h_store (o := oc l3) rfl rfl rfl))
theorem tq44_19 : tT g 44 19 = s_const 44 20 (.int 2) := rfl
theorem A44_19 {L : AL} {r : List Value} : aw g 44 19 L r σ Q = aw g 44 20 L (.int 2 :: r) σ Q := (aw_eq g 44 19 _ _ _ _).trans (by rw [tq44_19]; exact rfl)
theorem tq44_20 : tT g 44 20 = s_ret pI := rfl
theorem A44_20 {L : AL} {v : Value} : aw g 44 20 L [v] σ Q = (pI v ∧ Q (.inl (some v)) σ) := (aw_eq g 44 20 _ _ _ _).trans (by rw [tq44_20]; exact rfl)
theorem tq44_21 : tT g 44 21 = s_store vRf 44 23 4 := rfl
theorem A44_21 {l0 : Option Value} {l1 : Option Value} {l2 : Option Value} {l3 : Option Value} {l4 : Option Value} {x : Value} {r : List Value} : aw g 44 21 [l0, l1, l2, l3, l4] (x :: r) σ Q = (vRf x = true ∧ oc l3 = true ∧ aw g 44 23 [l0, l1, l2, l3, some (x)] r σ Q) := (aw_eq g 44 21 _ _ _ _).trans (by rw [tq44_21]; exact (h_store (o := oc l3) rfl rfl rfl))
theorem tq44_23 : tT g 44 23 = s_const 44 24 (.int 3) := rfl
theorem A44_23 {L : AL} {r : List Value} : aw g 44 23 L r σ Q = aw g 44 24 L (.int 3 :: r) σ Q := (aw_eq g 44 23 _ _ _ _).trans (by rw [tq44_23]; exact rfl)
theorem tq44_24 : tT g 44 24 = s_ret pI := rfl
theorem A44_24 {L : AL} {v : Value} : aw g 44 24 L [v] σ Q = (pI v ∧ Q (.inl (some v)) σ) := (aw_eq g 44 24 _ _ _ _).trans (by rw [tq44_24]; exact rfl)
theorem tq44_25 : tT g 44 25 = s_const 44 26 (.int 0) := rfl
theorem A44_25 {L : AL} {r : List Value} : aw g 44 25 L r σ Q = aw g 44 26 L (.int 0 :: r) σ Q := (aw_eq g 44 25 _ _ _ _).trans (by rw [tq44_25]; exact rfl)
theorem tq44_26 : tT g 44 26 = s_ret pI := rfl
theorem A44_26 {L : AL} {v : Value} : aw g 44 26 L [v] σ Q = (pI v ∧ Q (.inl (some v)) σ) := (aw_eq g 44 26 _ _ _ _).trans (by rw [tq44_26]; exact rfl)
theorem tq45_0 : tT g 45 0 = s_load vRf 45 1 3 := rfl
theorem A45_0 {l0 : Option Value} {l1 : Option Value} {l2 : Option Value} {l4 : Option Value} {x : Value} {r : List Value} : aw g 45 0 [l0, l1, l2, some (x), l4] r σ Q = (vRf x = true ∧ aw g 45 1 [l0, l1, l2, some (x), l4] (x :: r) σ Q) := (aw_eq g 45 0 _ _ _ _).trans (by rw [tq45_0]; exact h_load rfl)
theorem tq45_1 : tT g 45 1 = s_const 45 2 (.int 0) := rfl
theorem A45_1 {L : AL} {r : List Value} : aw g 45 1 L r σ Q = aw g 45 2 L (.int 0 :: r) σ Q := (aw_eq g 45 1 _ _ _ _).trans (by rw [tq45_1]; exact rfl)
theorem tq45_2 : tT g 45 2 = s_load vRf 45 3 0 := rfl
theorem A45_2 {l1 : Option Value} {l2 : Option Value} {l3 : Option Value} {l4 : Option Value} {x : Value} {r : List Value} : aw g 45 2 [some (x), l1, l2, l3, l4] r σ Q = (vRf x = true ∧ aw g 45 3 [some (x), l1, l2, l3, l4] (x :: r) σ Q) := (aw_eq g 45 2 _ _ _ _).trans (by rw [tq45_2]; exact h_load rfl)
theorem tq45_3 : tT g 45 3 = s_load vI 45 4 1 := rfl
theorem A45_3 {l0 : Option Value} {l2 : Option Value} {l3 : Option Value} {l4 : Option Value} {x : Int32} {r : List Value} : aw g 45 3 [l0, some (.int x), l2, l3, l4] r σ Q = aw g 45 4 [l0, some (.int x), l2, l3, l4] (.int x :: r) σ Q := (aw_eq g 45 3 _ _ _ _).trans (by rw [tq45_3]; exact (h_load rfl).trans (propext ⟨fun z => z.2, fun z => ⟨rfl, z⟩⟩))
theorem tq45_4 : tT g 45 4 = s_load vI 45 5 2 := rfl
theorem A45_4 {l0 : Option Value} {l1 : Option Value} {l3 : Option Value} {l4 : Option Value} {x : Int32} {r : List Value} : aw g 45 4 [l0, l1, some (.int x), l3, l4] r σ Q = aw g 45 5 [l0, l1, some (.int x), l3, l4] (.int x :: r) σ Q := (aw_eq g 45 4 _ _ _ _).trans (by rw [tq45_4]; exact (h_load rfl).trans (propext ⟨fun z => z.2, fun z => ⟨rfl, z⟩⟩))
theorem tq45_5 : tT g 45 5 = s_callhk (fun k => match k with | 2 => some 13 | 0 => some 17 | 1 => some 21 | _ => none) 45 8 88 0 [0, 0] 4 := rfl
theorem A45_5 {L : AL} {r : List Value} {a : Nat} {w0 w1 : Value} : aw g 45 5 L (w1 :: w0 :: .ref a :: r) σ Q = (hty σ a = some 0 ∧ (vI w0 && (vI w1 && true)) = true ∧ csum r ≤ 8 ∧ aw g 88 0 [some (.ref a), some w0, some w1, none] [] σ (kth (fun k => match k with | 2 => some 13 | 0 => some 17 | 1 => some 21 | _ => none) (aw g) 45 8 L r Q)) := (aw_eq g 45 5 _ _ _ _).trans (by rw [tq45_5]; exact rfl)
theorem tq45_8 : tT g 45 8 = s_i2 45 9 (fun a => .long a.toInt64) := rfl
theorem A45_8 {L : AL} {r : List Value} {a : Int32} : aw g 45 8 L (.int a :: r) σ Q = aw g 45 9 L (.long a.toInt64 :: r) σ Q := (aw_eq g 45 8 _ _ _ _).trans (by rw [tq45_8]; exact rfl)
theorem tq45_9 : tT g 45 9 = s_ast g (fun _ v => vL v = true) 45 10 22 := rfl
theorem A45_9 {L : AL} {r : List Value} {a : Nat} {i : Int32} {v : Value} : aw g 45 9 L (v :: .int i :: .ref a :: r) σ Q = (hty σ a = some 22 ∧ gB g ≤ a ∧ ¬ i < 0 ∧ i.toNatClampNeg < hln σ a ∧ vL v = true ∧ aw g 45 10 L r (hput σ 22 a i.toNatClampNeg v) Q) := (aw_eq g 45 9 _ _ _ _).trans (by rw [tq45_9]; exact rfl)
theorem tq45_10 : tT g 45 10 = s_goto 45 25 := rfl
theorem A45_10 {L : AL} {r : List Value} : aw g 45 10 L r σ Q = aw g 45 25 L r σ Q := (aw_eq g 45 10 _ _ _ _).trans (by rw [tq45_10]; exact rfl)
theorem tq45_13 : tT g 45 13 = s_store vRf 45 15 4 := rfl
theorem A45_13 {l0 : Option Value} {l1 : Option Value} {l2 : Option Value} {l3 : Option Value} {l4 : Option Value} {x : Value} {r : List Value} : aw g 45 13 [l0, l1, l2, l3, l4] (x :: r) σ Q = (vRf x = true ∧ oc l3 = true ∧ aw g 45 15 [l0, l1, l2, l3, some (x)] r σ Q) := (aw_eq g 45 13 _ _ _ _).trans (by rw [tq45_13]; exact (h_store (o := oc l3) rfl rfl rfl))
theorem tq45_15 : tT g 45 15 = s_const 45 16 (.int 1) := rfl
theorem A45_15 {L : AL} {r : List Value} : aw g 45 15 L r σ Q = aw g 45 16 L (.int 1 :: r) σ Q := (aw_eq g 45 15 _ _ _ _).trans (by rw [tq45_15]; exact rfl)
theorem tq45_16 : tT g 45 16 = s_ret pI := rfl
theorem A45_16 {L : AL} {v : Value} : aw g 45 16 L [v] σ Q = (pI v ∧ Q (.inl (some v)) σ) := (aw_eq g 45 16 _ _ _ _).trans (by rw [tq45_16]; exact rfl)
theorem tq45_17 : tT g 45 17 = s_store vRf 45 19 4 := rfl
theorem A45_17 {l0 : Option Value} {l1 : Option Value} {l2 : Option Value} {l3 : Option Value} {l4 : Option Value} {x : Value} {r : List Value} : aw g 45 17 [l0, l1, l2, l3, l4] (x :: r) σ Q = (vRf x = true ∧ oc l3 = true ∧ aw g 45 19 [l0, l1, l2, l3, some (x)] r σ Q) := (aw_eq g 45 17 _ _ _ _).trans (by rw [tq45_17]; exact (h_store (o := oc l3) rfl rfl rfl))
theorem tq45_19 : tT g 45 19 = s_const 45 20 (.int 2) := rfl
theorem A45_19 {L : AL} {r : List Value} : aw g 45 19 L r σ Q = aw g 45 20 L (.int 2 :: r) σ Q := (aw_eq g 45 19 _ _ _ _).trans (by rw [tq45_19]; exact rfl)
theorem tq45_20 : tT g 45 20 = s_ret pI := rfl
theorem A45_20 {L : AL} {v : Value} : aw g 45 20 L [v] σ Q = (pI v ∧ Q (.inl (some v)) σ) := (aw_eq g 45 20 _ _ _ _).trans (by rw [tq45_20]; exact rfl)
theorem tq45_21 : tT g 45 21 = s_store vRf 45 23 4 := rfl
theorem A45_21 {l0 : Option Value} {l1 : Option Value} {l2 : Option Value} {l3 : Option Value} {l4 : Option Value} {x : Value} {r : List Value} : aw g 45 21 [l0, l1, l2, l3, l4] (x :: r) σ Q = (vRf x = true ∧ oc l3 = true ∧ aw g 45 23 [l0, l1, l2, l3, some (x)] r σ Q) := (aw_eq g 45 21 _ _ _ _).trans (by rw [tq45_21]; exact (h_store (o := oc l3) rfl rfl rfl))
theorem tq45_23 : tT g 45 23 = s_const 45 24 (.int 3) := rfl
theorem A45_23 {L : AL} {r : List Value} : aw g 45 23 L r σ Q = aw g 45 24 L (.int 3 :: r) σ Q := (aw_eq g 45 23 _ _ _ _).trans (by rw [tq45_23]; exact rfl)
theorem tq45_24 : tT g 45 24 = s_ret pI := rfl
theorem A45_24 {L : AL} {v : Value} : aw g 45 24 L [v] σ Q = (pI v ∧ Q (.inl (some v)) σ) := (aw_eq g 45 24 _ _ _ _).trans (by rw [tq45_24]; exact rfl)
theorem tq45_25 : tT g 45 25 = s_const 45 26 (.int 0) := rfl
theorem A45_25 {L : AL} {r : List Value} : aw g 45 25 L r σ Q = aw g 45 26 L (.int 0 :: r) σ Q := (aw_eq g 45 25 _ _ _ _).trans (by rw [tq45_25]; exact rfl)
theorem tq45_26 : tT g 45 26 = s_ret pI := rfl
theorem A45_26 {L : AL} {v : Value} : aw g 45 26 L [v] σ Q = (pI v ∧ Q (.inl (some v)) σ) := (aw_eq g 45 26 _ _ _ _).trans (by rw [tq45_26]; exact rfl)
theorem tq46_0 : tT g 46 0 = s_load vRf 46 1 2 := rfl
theorem A46_0 {l0 : Option Value} {l1 : Option Value} {l3 : Option Value} {x : Value} {r : List Value} : aw g 46 0 [l0, l1, some (x), l3] r σ Q = (vRf x = true ∧ aw g 46 1 [l0, l1, some (x), l3] (x :: r) σ Q) := (aw_eq g 46 0 _ _ _ _).trans (by rw [tq46_0]; exact h_load rfl)
theorem tq46_1 : tT g 46 1 = s_const 46 2 (.int 0) := rfl
theorem A46_1 {L : AL} {r : List Value} : aw g 46 1 L r σ Q = aw g 46 2 L (.int 0 :: r) σ Q := (aw_eq g 46 1 _ _ _ _).trans (by rw [tq46_1]; exact rfl)
theorem tq46_2 : tT g 46 2 = s_load vRf 46 3 0 := rfl
theorem A46_2 {l1 : Option Value} {l2 : Option Value} {l3 : Option Value} {x : Value} {r : List Value} : aw g 46 2 [some (x), l1, l2, l3] r σ Q = (vRf x = true ∧ aw g 46 3 [some (x), l1, l2, l3] (x :: r) σ Q) := (aw_eq g 46 2 _ _ _ _).trans (by rw [tq46_2]; exact h_load rfl)
theorem tq46_3 : tT g 46 3 = s_load vI 46 4 1 := rfl
theorem A46_3 {l0 : Option Value} {l2 : Option Value} {l3 : Option Value} {x : Int32} {r : List Value} : aw g 46 3 [l0, some (.int x), l2, l3] r σ Q = aw g 46 4 [l0, some (.int x), l2, l3] (.int x :: r) σ Q := (aw_eq g 46 3 _ _ _ _).trans (by rw [tq46_3]; exact (h_load rfl).trans (propext ⟨fun z => z.2, fun z => ⟨rfl, z⟩⟩))
theorem tq46_4 : tT g 46 4 = s_callhk (fun k => match k with | 2 => some 12 | 1 => some 15 | _ => none) 46 7 90 0 [0] 4 := rfl
theorem A46_4 {L : AL} {r : List Value} {a : Nat} {w0 : Value} : aw g 46 4 L (w0 :: .ref a :: r) σ Q = (hty σ a = some 0 ∧ (vI w0 && true) = true ∧ csum r ≤ 8 ∧ aw g 90 0 [some (.ref a), some w0, none, none] [] σ (kth (fun k => match k with | 2 => some 12 | 1 => some 15 | _ => none) (aw g) 46 7 L r Q)) := (aw_eq g 46 4 _ _ _ _).trans (by rw [tq46_4]; exact rfl)
theorem tq46_7 : tT g 46 7 = s_i2 46 8 (fun a => .long a.toInt64) := rfl
theorem A46_7 {L : AL} {r : List Value} {a : Int32} : aw g 46 7 L (.int a :: r) σ Q = aw g 46 8 L (.long a.toInt64 :: r) σ Q := (aw_eq g 46 7 _ _ _ _).trans (by rw [tq46_7]; exact rfl)
theorem tq46_8 : tT g 46 8 = s_ast g (fun _ v => vL v = true) 46 9 22 := rfl
theorem A46_8 {L : AL} {r : List Value} {a : Nat} {i : Int32} {v : Value} : aw g 46 8 L (v :: .int i :: .ref a :: r) σ Q = (hty σ a = some 22 ∧ gB g ≤ a ∧ ¬ i < 0 ∧ i.toNatClampNeg < hln σ a ∧ vL v = true ∧ aw g 46 9 L r (hput σ 22 a i.toNatClampNeg v) Q) := (aw_eq g 46 8 _ _ _ _).trans (by rw [tq46_8]; exact rfl)
theorem tq46_9 : tT g 46 9 = s_goto 46 18 := rfl
theorem A46_9 {L : AL} {r : List Value} : aw g 46 9 L r σ Q = aw g 46 18 L r σ Q := (aw_eq g 46 9 _ _ _ _).trans (by rw [tq46_9]; exact rfl)
theorem tq46_12 : tT g 46 12 = s_store vRf 46 13 3 := rfl
theorem A46_12 {l0 : Option Value} {l1 : Option Value} {l2 : Option Value} {l3 : Option Value} {x : Value} {r : List Value} : aw g 46 12 [l0, l1, l2, l3] (x :: r) σ Q = (vRf x = true ∧ oc l2 = true ∧ aw g 46 13 [l0, l1, l2, some (x)] r σ Q) := (aw_eq g 46 12 _ _ _ _).trans (by rw [tq46_12]; exact (h_store (o := oc l2) rfl rfl rfl))
theorem tq46_13 : tT g 46 13 = s_const 46 14 (.int 1) := rfl
theorem A46_13 {L : AL} {r : List Value} : aw g 46 13 L r σ Q = aw g 46 14 L (.int 1 :: r) σ Q := (aw_eq g 46 13 _ _ _ _).trans (by rw [tq46_13]; exact rfl)
theorem tq46_14 : tT g 46 14 = s_ret pI := rfl
theorem A46_14 {L : AL} {v : Value} : aw g 46 14 L [v] σ Q = (pI v ∧ Q (.inl (some v)) σ) := (aw_eq g 46 14 _ _ _ _).trans (by rw [tq46_14]; exact rfl)
theorem tq46_15 : tT g 46 15 = s_store vRf 46 16 3 := rfl
theorem A46_15 {l0 : Option Value} {l1 : Option Value} {l2 : Option Value} {l3 : Option Value} {x : Value} {r : List Value} : aw g 46 15 [l0, l1, l2, l3] (x :: r) σ Q = (vRf x = true ∧ oc l2 = true ∧ aw g 46 16 [l0, l1, l2, some (x)] r σ Q) := (aw_eq g 46 15 _ _ _ _).trans (by rw [tq46_15]; exact (h_store (o := oc l2) rfl rfl rfl))
theorem tq46_16 : tT g 46 16 = s_const 46 17 (.int 2) := rfl
theorem A46_16 {L : AL} {r : List Value} : aw g 46 16 L r σ Q = aw g 46 17 L (.int 2 :: r) σ Q := (aw_eq g 46 16 _ _ _ _).trans (by rw [tq46_16]; exact rfl)
theorem tq46_17 : tT g 46 17 = s_ret pI := rfl
theorem A46_17 {L : AL} {v : Value} : aw g 46 17 L [v] σ Q = (pI v ∧ Q (.inl (some v)) σ) := (aw_eq g 46 17 _ _ _ _).trans (by rw [tq46_17]; exact rfl)
theorem tq46_18 : tT g 46 18 = s_const 46 19 (.int 0) := rfl
theorem A46_18 {L : AL} {r : List Value} : aw g 46 18 L r σ Q = aw g 46 19 L (.int 0 :: r) σ Q := (aw_eq g 46 18 _ _ _ _).trans (by rw [tq46_18]; exact rfl)
theorem tq46_19 : tT g 46 19 = s_ret pI := rfl
theorem A46_19 {L : AL} {v : Value} : aw g 46 19 L [v] σ Q = (pI v ∧ Q (.inl (some v)) σ) := (aw_eq g 46 19 _ _ _ _).trans (by rw [tq46_19]; exact rfl)
theorem tq47_0 : tT g 47 0 = s_load vRf 47 1 2 := rfl
theorem A47_0 {l0 : Option Value} {l1 : Option Value} {l3 : Option Value} {x : Value} {r : List Value} : aw g 47 0 [l0, l1, some (x), l3] r σ Q = (vRf x = true ∧ aw g 47 1 [l0, l1, some (x), l3] (x :: r) σ Q) := (aw_eq g 47 0 _ _ _ _).trans (by rw [tq47_0]; exact h_load rfl)
theorem tq47_1 : tT g 47 1 = s_const 47 2 (.int 0) := rfl
theorem A47_1 {L : AL} {r : List Value} : aw g 47 1 L r σ Q = aw g 47 2 L (.int 0 :: r) σ Q := (aw_eq g 47 1 _ _ _ _).trans (by rw [tq47_1]; exact rfl)
theorem tq47_2 : tT g 47 2 = s_load vRf 47 3 0 := rfl
theorem A47_2 {l1 : Option Value} {l2 : Option Value} {l3 : Option Value} {x : Value} {r : List Value} : aw g 47 2 [some (x), l1, l2, l3] r σ Q = (vRf x = true ∧ aw g 47 3 [some (x), l1, l2, l3] (x :: r) σ Q) := (aw_eq g 47 2 _ _ _ _).trans (by rw [tq47_2]; exact h_load rfl)
theorem tq47_3 : tT g 47 3 = s_load vI 47 4 1 := rfl
theorem A47_3 {l0 : Option Value} {l2 : Option Value} {l3 : Option Value} {x : Int32} {r : List Value} : aw g 47 3 [l0, some (.int x), l2, l3] r σ Q = aw g 47 4 [l0, some (.int x), l2, l3] (.int x :: r) σ Q := (aw_eq g 47 3 _ _ _ _).trans (by rw [tq47_3]; exact (h_load rfl).trans (propext ⟨fun z => z.2, fun z => ⟨rfl, z⟩⟩))
theorem tq47_4 : tT g 47 4 = s_callhk (fun k => match k with | 0 => some 12 | _ => none) 47 7 91 0 [0] 2 := rfl
theorem A47_4 {L : AL} {r : List Value} {a : Nat} {w0 : Value} : aw g 47 4 L (w0 :: .ref a :: r) σ Q = (hty σ a = some 0 ∧ (vI w0 && true) = true ∧ csum r ≤ 8 ∧ aw g 91 0 [some (.ref a), some w0] [] σ (kth (fun k => match k with | 0 => some 12 | _ => none) (aw g) 47 7 L r Q)) := (aw_eq g 47 4 _ _ _ _).trans (by rw [tq47_4]; exact rfl)
theorem tq47_7 : tT g 47 7 = s_i2 47 8 (fun a => .long a.toInt64) := rfl
theorem A47_7 {L : AL} {r : List Value} {a : Int32} : aw g 47 7 L (.int a :: r) σ Q = aw g 47 8 L (.long a.toInt64 :: r) σ Q := (aw_eq g 47 7 _ _ _ _).trans (by rw [tq47_7]; exact rfl)
theorem tq47_8 : tT g 47 8 = s_ast g (fun _ v => vL v = true) 47 9 22 := rfl
theorem A47_8 {L : AL} {r : List Value} {a : Nat} {i : Int32} {v : Value} : aw g 47 8 L (v :: .int i :: .ref a :: r) σ Q = (hty σ a = some 22 ∧ gB g ≤ a ∧ ¬ i < 0 ∧ i.toNatClampNeg < hln σ a ∧ vL v = true ∧ aw g 47 9 L r (hput σ 22 a i.toNatClampNeg v) Q) := (aw_eq g 47 8 _ _ _ _).trans (by rw [tq47_8]; exact rfl)
theorem tq47_9 : tT g 47 9 = s_goto 47 15 := rfl
theorem A47_9 {L : AL} {r : List Value} : aw g 47 9 L r σ Q = aw g 47 15 L r σ Q := (aw_eq g 47 9 _ _ _ _).trans (by rw [tq47_9]; exact rfl)
theorem tq47_12 : tT g 47 12 = s_store vRf 47 13 3 := rfl
theorem A47_12 {l0 : Option Value} {l1 : Option Value} {l2 : Option Value} {l3 : Option Value} {x : Value} {r : List Value} : aw g 47 12 [l0, l1, l2, l3] (x :: r) σ Q = (vRf x = true ∧ oc l2 = true ∧ aw g 47 13 [l0, l1, l2, some (x)] r σ Q) := (aw_eq g 47 12 _ _ _ _).trans (by rw [tq47_12]; exact (h_store (o := oc l2) rfl rfl rfl))
theorem tq47_13 : tT g 47 13 = s_const 47 14 (.int 1) := rfl
theorem A47_13 {L : AL} {r : List Value} : aw g 47 13 L r σ Q = aw g 47 14 L (.int 1 :: r) σ Q := (aw_eq g 47 13 _ _ _ _).trans (by rw [tq47_13]; exact rfl)
theorem tq47_14 : tT g 47 14 = s_ret pI := rfl
theorem A47_14 {L : AL} {v : Value} : aw g 47 14 L [v] σ Q = (pI v ∧ Q (.inl (some v)) σ) := (aw_eq g 47 14 _ _ _ _).trans (by rw [tq47_14]; exact rfl)
theorem tq47_15 : tT g 47 15 = s_const 47 16 (.int 0) := rfl
theorem A47_15 {L : AL} {r : List Value} : aw g 47 15 L r σ Q = aw g 47 16 L (.int 0 :: r) σ Q := (aw_eq g 47 15 _ _ _ _).trans (by rw [tq47_15]; exact rfl)
theorem tq47_16 : tT g 47 16 = s_ret pI := rfl
theorem A47_16 {L : AL} {v : Value} : aw g 47 16 L [v] σ Q = (pI v ∧ Q (.inl (some v)) σ) := (aw_eq g 47 16 _ _ _ _).trans (by rw [tq47_16]; exact rfl)
theorem tq48_0 : tT g 48 0 = s_load vRf 48 1 3 := rfl
theorem A48_0 {l0 : Option Value} {l1 : Option Value} {l2 : Option Value} {l4 : Option Value} {x : Value} {r : List Value} : aw g 48 0 [l0, l1, l2, some (x), l4] r σ Q = (vRf x = true ∧ aw g 48 1 [l0, l1, l2, some (x), l4] (x :: r) σ Q) := (aw_eq g 48 0 _ _ _ _).trans (by rw [tq48_0]; exact h_load rfl)
theorem tq48_1 : tT g 48 1 = s_const 48 2 (.int 0) := rfl
theorem A48_1 {L : AL} {r : List Value} : aw g 48 1 L r σ Q = aw g 48 2 L (.int 0 :: r) σ Q := (aw_eq g 48 1 _ _ _ _).trans (by rw [tq48_1]; exact rfl)
theorem tq48_2 : tT g 48 2 = s_load vRf 48 3 0 := rfl
theorem A48_2 {l1 : Option Value} {l2 : Option Value} {l3 : Option Value} {l4 : Option Value} {x : Value} {r : List Value} : aw g 48 2 [some (x), l1, l2, l3, l4] r σ Q = (vRf x = true ∧ aw g 48 3 [some (x), l1, l2, l3, l4] (x :: r) σ Q) := (aw_eq g 48 2 _ _ _ _).trans (by rw [tq48_2]; exact h_load rfl)
theorem tq48_3 : tT g 48 3 = s_load vI 48 4 1 := rfl
theorem A48_3 {l0 : Option Value} {l2 : Option Value} {l3 : Option Value} {l4 : Option Value} {x : Int32} {r : List Value} : aw g 48 3 [l0, some (.int x), l2, l3, l4] r σ Q = aw g 48 4 [l0, some (.int x), l2, l3, l4] (.int x :: r) σ Q := (aw_eq g 48 3 _ _ _ _).trans (by rw [tq48_3]; exact (h_load rfl).trans (propext ⟨fun z => z.2, fun z => ⟨rfl, z⟩⟩))
theorem tq48_4 : tT g 48 4 = s_load vI 48 5 2 := rfl
theorem A48_4 {l0 : Option Value} {l1 : Option Value} {l3 : Option Value} {l4 : Option Value} {x : Int32} {r : List Value} : aw g 48 4 [l0, l1, some (.int x), l3, l4] r σ Q = aw g 48 5 [l0, l1, some (.int x), l3, l4] (.int x :: r) σ Q := (aw_eq g 48 4 _ _ _ _).trans (by rw [tq48_4]; exact (h_load rfl).trans (propext ⟨fun z => z.2, fun z => ⟨rfl, z⟩⟩))
theorem tq48_5 : tT g 48 5 = s_callhk (fun k => match k with | 2 => some 13 | 0 => some 17 | _ => none) 48 8 93 0 [0, 0] 4 := rfl
theorem A48_5 {L : AL} {r : List Value} {a : Nat} {w0 w1 : Value} : aw g 48 5 L (w1 :: w0 :: .ref a :: r) σ Q = (hty σ a = some 0 ∧ (vI w0 && (vI w1 && true)) = true ∧ csum r ≤ 8 ∧ aw g 93 0 [some (.ref a), some w0, some w1, none] [] σ (kth (fun k => match k with | 2 => some 13 | 0 => some 17 | _ => none) (aw g) 48 8 L r Q)) := (aw_eq g 48 5 _ _ _ _).trans (by rw [tq48_5]; exact rfl)
theorem tq48_8 : tT g 48 8 = s_i2 48 9 (fun a => .long a.toInt64) := rfl
theorem A48_8 {L : AL} {r : List Value} {a : Int32} : aw g 48 8 L (.int a :: r) σ Q = aw g 48 9 L (.long a.toInt64 :: r) σ Q := (aw_eq g 48 8 _ _ _ _).trans (by rw [tq48_8]; exact rfl)
theorem tq48_9 : tT g 48 9 = s_ast g (fun _ v => vL v = true) 48 10 22 := rfl
theorem A48_9 {L : AL} {r : List Value} {a : Nat} {i : Int32} {v : Value} : aw g 48 9 L (v :: .int i :: .ref a :: r) σ Q = (hty σ a = some 22 ∧ gB g ≤ a ∧ ¬ i < 0 ∧ i.toNatClampNeg < hln σ a ∧ vL v = true ∧ aw g 48 10 L r (hput σ 22 a i.toNatClampNeg v) Q) := (aw_eq g 48 9 _ _ _ _).trans (by rw [tq48_9]; exact rfl)
theorem tq48_10 : tT g 48 10 = s_goto 48 21 := rfl
theorem A48_10 {L : AL} {r : List Value} : aw g 48 10 L r σ Q = aw g 48 21 L r σ Q := (aw_eq g 48 10 _ _ _ _).trans (by rw [tq48_10]; exact rfl)
theorem tq48_13 : tT g 48 13 = s_store vRf 48 15 4 := rfl
theorem A48_13 {l0 : Option Value} {l1 : Option Value} {l2 : Option Value} {l3 : Option Value} {l4 : Option Value} {x : Value} {r : List Value} : aw g 48 13 [l0, l1, l2, l3, l4] (x :: r) σ Q = (vRf x = true ∧ oc l3 = true ∧ aw g 48 15 [l0, l1, l2, l3, some (x)] r σ Q) := (aw_eq g 48 13 _ _ _ _).trans (by rw [tq48_13]; exact (h_store (o := oc l3) rfl rfl rfl))
theorem tq48_15 : tT g 48 15 = s_const 48 16 (.int 1) := rfl
theorem A48_15 {L : AL} {r : List Value} : aw g 48 15 L r σ Q = aw g 48 16 L (.int 1 :: r) σ Q := (aw_eq g 48 15 _ _ _ _).trans (by rw [tq48_15]; exact rfl)
theorem tq48_16 : tT g 48 16 = s_ret pI := rfl
theorem A48_16 {L : AL} {v : Value} : aw g 48 16 L [v] σ Q = (pI v ∧ Q (.inl (some v)) σ) := (aw_eq g 48 16 _ _ _ _).trans (by rw [tq48_16]; exact rfl)
theorem tq48_17 : tT g 48 17 = s_store vRf 48 19 4 := rfl
theorem A48_17 {l0 : Option Value} {l1 : Option Value} {l2 : Option Value} {l3 : Option Value} {l4 : Option Value} {x : Value} {r : List Value} : aw g 48 17 [l0, l1, l2, l3, l4] (x :: r) σ Q = (vRf x = true ∧ oc l3 = true ∧ aw g 48 19 [l0, l1, l2, l3, some (x)] r σ Q) := (aw_eq g 48 17 _ _ _ _).trans (by rw [tq48_17]; exact (h_store (o := oc l3) rfl rfl rfl))
theorem tq48_19 : tT g 48 19 = s_const 48 20 (.int 2) := rfl
theorem A48_19 {L : AL} {r : List Value} : aw g 48 19 L r σ Q = aw g 48 20 L (.int 2 :: r) σ Q := (aw_eq g 48 19 _ _ _ _).trans (by rw [tq48_19]; exact rfl)
theorem tq48_20 : tT g 48 20 = s_ret pI := rfl
theorem A48_20 {L : AL} {v : Value} : aw g 48 20 L [v] σ Q = (pI v ∧ Q (.inl (some v)) σ) := (aw_eq g 48 20 _ _ _ _).trans (by rw [tq48_20]; exact rfl)
theorem tq48_21 : tT g 48 21 = s_const 48 22 (.int 0) := rfl
theorem A48_21 {L : AL} {r : List Value} : aw g 48 21 L r σ Q = aw g 48 22 L (.int 0 :: r) σ Q := (aw_eq g 48 21 _ _ _ _).trans (by rw [tq48_21]; exact rfl)
theorem tq48_22 : tT g 48 22 = s_ret pI := rfl
theorem A48_22 {L : AL} {v : Value} : aw g 48 22 L [v] σ Q = (pI v ∧ Q (.inl (some v)) σ) := (aw_eq g 48 22 _ _ _ _).trans (by rw [tq48_22]; exact rfl)
theorem tq49_0 : tT g 49 0 = s_load vRf 49 1 3 := rfl
theorem A49_0 {l0 : Option Value} {l1 : Option Value} {l2 : Option Value} {l4 : Option Value} {x : Value} {r : List Value} : aw g 49 0 [l0, l1, l2, some (x), l4] r σ Q = (vRf x = true ∧ aw g 49 1 [l0, l1, l2, some (x), l4] (x :: r) σ Q) := (aw_eq g 49 0 _ _ _ _).trans (by rw [tq49_0]; exact h_load rfl)
theorem tq49_1 : tT g 49 1 = s_const 49 2 (.int 0) := rfl
theorem A49_1 {L : AL} {r : List Value} : aw g 49 1 L r σ Q = aw g 49 2 L (.int 0 :: r) σ Q := (aw_eq g 49 1 _ _ _ _).trans (by rw [tq49_1]; exact rfl)
theorem tq49_2 : tT g 49 2 = s_load vRf 49 3 0 := rfl
theorem A49_2 {l1 : Option Value} {l2 : Option Value} {l3 : Option Value} {l4 : Option Value} {x : Value} {r : List Value} : aw g 49 2 [some (x), l1, l2, l3, l4] r σ Q = (vRf x = true ∧ aw g 49 3 [some (x), l1, l2, l3, l4] (x :: r) σ Q) := (aw_eq g 49 2 _ _ _ _).trans (by rw [tq49_2]; exact h_load rfl)
theorem tq49_3 : tT g 49 3 = s_load vI 49 4 1 := rfl
theorem A49_3 {l0 : Option Value} {l2 : Option Value} {l3 : Option Value} {l4 : Option Value} {x : Int32} {r : List Value} : aw g 49 3 [l0, some (.int x), l2, l3, l4] r σ Q = aw g 49 4 [l0, some (.int x), l2, l3, l4] (.int x :: r) σ Q := (aw_eq g 49 3 _ _ _ _).trans (by rw [tq49_3]; exact (h_load rfl).trans (propext ⟨fun z => z.2, fun z => ⟨rfl, z⟩⟩))
theorem tq49_4 : tT g 49 4 = s_load vI 49 5 2 := rfl
theorem A49_4 {l0 : Option Value} {l1 : Option Value} {l3 : Option Value} {l4 : Option Value} {x : Int32} {r : List Value} : aw g 49 4 [l0, l1, some (.int x), l3, l4] r σ Q = aw g 49 5 [l0, l1, some (.int x), l3, l4] (.int x :: r) σ Q := (aw_eq g 49 4 _ _ _ _).trans (by rw [tq49_4]; exact (h_load rfl).trans (propext ⟨fun z => z.2, fun z => ⟨rfl, z⟩⟩))
theorem tq49_5 : tT g 49 5 = s_callhk (fun k => match k with | 2 => some 13 | 0 => some 17 | _ => none) 49 8 94 0 [0, 0] 4 := rfl
theorem A49_5 {L : AL} {r : List Value} {a : Nat} {w0 w1 : Value} : aw g 49 5 L (w1 :: w0 :: .ref a :: r) σ Q = (hty σ a = some 0 ∧ (vI w0 && (vI w1 && true)) = true ∧ csum r ≤ 8 ∧ aw g 94 0 [some (.ref a), some w0, some w1, none] [] σ (kth (fun k => match k with | 2 => some 13 | 0 => some 17 | _ => none) (aw g) 49 8 L r Q)) := (aw_eq g 49 5 _ _ _ _).trans (by rw [tq49_5]; exact rfl)
theorem tq49_8 : tT g 49 8 = s_i2 49 9 (fun a => .long a.toInt64) := rfl
theorem A49_8 {L : AL} {r : List Value} {a : Int32} : aw g 49 8 L (.int a :: r) σ Q = aw g 49 9 L (.long a.toInt64 :: r) σ Q := (aw_eq g 49 8 _ _ _ _).trans (by rw [tq49_8]; exact rfl)
theorem tq49_9 : tT g 49 9 = s_ast g (fun _ v => vL v = true) 49 10 22 := rfl
theorem A49_9 {L : AL} {r : List Value} {a : Nat} {i : Int32} {v : Value} : aw g 49 9 L (v :: .int i :: .ref a :: r) σ Q = (hty σ a = some 22 ∧ gB g ≤ a ∧ ¬ i < 0 ∧ i.toNatClampNeg < hln σ a ∧ vL v = true ∧ aw g 49 10 L r (hput σ 22 a i.toNatClampNeg v) Q) := (aw_eq g 49 9 _ _ _ _).trans (by rw [tq49_9]; exact rfl)
theorem tq49_10 : tT g 49 10 = s_goto 49 21 := rfl
theorem A49_10 {L : AL} {r : List Value} : aw g 49 10 L r σ Q = aw g 49 21 L r σ Q := (aw_eq g 49 10 _ _ _ _).trans (by rw [tq49_10]; exact rfl)
theorem tq49_13 : tT g 49 13 = s_store vRf 49 15 4 := rfl
theorem A49_13 {l0 : Option Value} {l1 : Option Value} {l2 : Option Value} {l3 : Option Value} {l4 : Option Value} {x : Value} {r : List Value} : aw g 49 13 [l0, l1, l2, l3, l4] (x :: r) σ Q = (vRf x = true ∧ oc l3 = true ∧ aw g 49 15 [l0, l1, l2, l3, some (x)] r σ Q) := (aw_eq g 49 13 _ _ _ _).trans (by rw [tq49_13]; exact (h_store (o := oc l3) rfl rfl rfl))
theorem tq49_15 : tT g 49 15 = s_const 49 16 (.int 1) := rfl
theorem A49_15 {L : AL} {r : List Value} : aw g 49 15 L r σ Q = aw g 49 16 L (.int 1 :: r) σ Q := (aw_eq g 49 15 _ _ _ _).trans (by rw [tq49_15]; exact rfl)
theorem tq49_16 : tT g 49 16 = s_ret pI := rfl
theorem A49_16 {L : AL} {v : Value} : aw g 49 16 L [v] σ Q = (pI v ∧ Q (.inl (some v)) σ) := (aw_eq g 49 16 _ _ _ _).trans (by rw [tq49_16]; exact rfl)
theorem tq49_17 : tT g 49 17 = s_store vRf 49 19 4 := rfl
theorem A49_17 {l0 : Option Value} {l1 : Option Value} {l2 : Option Value} {l3 : Option Value} {l4 : Option Value} {x : Value} {r : List Value} : aw g 49 17 [l0, l1, l2, l3, l4] (x :: r) σ Q = (vRf x = true ∧ oc l3 = true ∧ aw g 49 19 [l0, l1, l2, l3, some (x)] r σ Q) := (aw_eq g 49 17 _ _ _ _).trans (by rw [tq49_17]; exact (h_store (o := oc l3) rfl rfl rfl))
theorem tq49_19 : tT g 49 19 = s_const 49 20 (.int 2) := rfl
theorem A49_19 {L : AL} {r : List Value} : aw g 49 19 L r σ Q = aw g 49 20 L (.int 2 :: r) σ Q := (aw_eq g 49 19 _ _ _ _).trans (by rw [tq49_19]; exact rfl)
theorem tq49_20 : tT g 49 20 = s_ret pI := rfl
theorem A49_20 {L : AL} {v : Value} : aw g 49 20 L [v] σ Q = (pI v ∧ Q (.inl (some v)) σ) := (aw_eq g 49 20 _ _ _ _).trans (by rw [tq49_20]; exact rfl)
theorem tq49_21 : tT g 49 21 = s_const 49 22 (.int 0) := rfl
theorem A49_21 {L : AL} {r : List Value} : aw g 49 21 L r σ Q = aw g 49 22 L (.int 0 :: r) σ Q := (aw_eq g 49 21 _ _ _ _).trans (by rw [tq49_21]; exact rfl)
theorem tq49_22 : tT g 49 22 = s_ret pI := rfl
theorem A49_22 {L : AL} {v : Value} : aw g 49 22 L [v] σ Q = (pI v ∧ Q (.inl (some v)) σ) := (aw_eq g 49 22 _ _ _ _).trans (by rw [tq49_22]; exact rfl)
theorem tq50_0 : tT g 50 0 = s_load vRf 50 2 4 := rfl
theorem A50_0 {l0 : Option Value} {l1 : Option Value} {l2 : Option Value} {l3 : Option Value} {l5 : Option Value} {x : Value} {r : List Value} : aw g 50 0 [l0, l1, l2, l3, some (x), l5] r σ Q = (vRf x = true ∧ aw g 50 2 [l0, l1, l2, l3, some (x), l5] (x :: r) σ Q) := (aw_eq g 50 0 _ _ _ _).trans (by rw [tq50_0]; exact h_load rfl)
theorem tq50_2 : tT g 50 2 = s_const 50 3 (.int 0) := rfl
theorem A50_2 {L : AL} {r : List Value} : aw g 50 2 L r σ Q = aw g 50 3 L (.int 0 :: r) σ Q := (aw_eq g 50 2 _ _ _ _).trans (by rw [tq50_2]; exact rfl)
theorem tq50_3 : tT g 50 3 = s_load vRf 50 4 0 := rfl
theorem A50_3 {l1 : Option Value} {l2 : Option Value} {l3 : Option Value} {l4 : Option Value} {l5 : Option Value} {x : Value} {r : List Value} : aw g 50 3 [some (x), l1, l2, l3, l4, l5] r σ Q = (vRf x = true ∧ aw g 50 4 [some (x), l1, l2, l3, l4, l5] (x :: r) σ Q) := (aw_eq g 50 3 _ _ _ _).trans (by rw [tq50_3]; exact h_load rfl)
theorem tq50_4 : tT g 50 4 = s_load vI 50 5 1 := rfl
theorem A50_4 {l0 : Option Value} {l2 : Option Value} {l3 : Option Value} {l4 : Option Value} {l5 : Option Value} {x : Int32} {r : List Value} : aw g 50 4 [l0, some (.int x), l2, l3, l4, l5] r σ Q = aw g 50 5 [l0, some (.int x), l2, l3, l4, l5] (.int x :: r) σ Q := (aw_eq g 50 4 _ _ _ _).trans (by rw [tq50_4]; exact (h_load rfl).trans (propext ⟨fun z => z.2, fun z => ⟨rfl, z⟩⟩))
theorem tq50_5 : tT g 50 5 = s_load vI 50 6 2 := rfl
theorem A50_5 {l0 : Option Value} {l1 : Option Value} {l3 : Option Value} {l4 : Option Value} {l5 : Option Value} {x : Int32} {r : List Value} : aw g 50 5 [l0, l1, some (.int x), l3, l4, l5] r σ Q = aw g 50 6 [l0, l1, some (.int x), l3, l4, l5] (.int x :: r) σ Q := (aw_eq g 50 5 _ _ _ _).trans (by rw [tq50_5]; exact (h_load rfl).trans (propext ⟨fun z => z.2, fun z => ⟨rfl, z⟩⟩))
theorem tq50_6 : tT g 50 6 = s_load vI 50 7 3 := rfl
theorem A50_6 {l0 : Option Value} {l1 : Option Value} {l2 : Option Value} {l4 : Option Value} {l5 : Option Value} {x : Int32} {r : List Value} : aw g 50 6 [l0, l1, l2, some (.int x), l4, l5] r σ Q = aw g 50 7 [l0, l1, l2, some (.int x), l4, l5] (.int x :: r) σ Q := (aw_eq g 50 6 _ _ _ _).trans (by rw [tq50_6]; exact (h_load rfl).trans (propext ⟨fun z => z.2, fun z => ⟨rfl, z⟩⟩))
theorem tq50_7 : tT g 50 7 = s_callhk (fun k => match k with | 2 => some 15 | 0 => some 19 | _ => none) 50 10 95 0 [0, 0, 0] 5 := rfl
theorem A50_7 {L : AL} {r : List Value} {a : Nat} {w0 w1 w2 : Value} : aw g 50 7 L (w2 :: w1 :: w0 :: .ref a :: r) σ Q = (hty σ a = some 0 ∧ (vI w0 && (vI w1 && (vI w2 && true))) = true ∧ csum r ≤ 8 ∧ aw g 95 0 [some (.ref a), some w0, some w1, some w2, none] [] σ (kth (fun k => match k with | 2 => some 15 | 0 => some 19 | _ => none) (aw g) 50 10 L r Q)) := (aw_eq g 50 7 _ _ _ _).trans (by rw [tq50_7]; exact rfl)
theorem tq50_10 : tT g 50 10 = s_i2 50 11 (fun a => .long a.toInt64) := rfl
theorem A50_10 {L : AL} {r : List Value} {a : Int32} : aw g 50 10 L (.int a :: r) σ Q = aw g 50 11 L (.long a.toInt64 :: r) σ Q := (aw_eq g 50 10 _ _ _ _).trans (by rw [tq50_10]; exact rfl)
theorem tq50_11 : tT g 50 11 = s_ast g (fun _ v => vL v = true) 50 12 22 := rfl
theorem A50_11 {L : AL} {r : List Value} {a : Nat} {i : Int32} {v : Value} : aw g 50 11 L (v :: .int i :: .ref a :: r) σ Q = (hty σ a = some 22 ∧ gB g ≤ a ∧ ¬ i < 0 ∧ i.toNatClampNeg < hln σ a ∧ vL v = true ∧ aw g 50 12 L r (hput σ 22 a i.toNatClampNeg v) Q) := (aw_eq g 50 11 _ _ _ _).trans (by rw [tq50_11]; exact rfl)
theorem tq50_12 : tT g 50 12 = s_goto 50 23 := rfl
theorem A50_12 {L : AL} {r : List Value} : aw g 50 12 L r σ Q = aw g 50 23 L r σ Q := (aw_eq g 50 12 _ _ _ _).trans (by rw [tq50_12]; exact rfl)
theorem tq50_15 : tT g 50 15 = s_store vRf 50 17 5 := rfl
theorem A50_15 {l0 : Option Value} {l1 : Option Value} {l2 : Option Value} {l3 : Option Value} {l4 : Option Value} {l5 : Option Value} {x : Value} {r : List Value} : aw g 50 15 [l0, l1, l2, l3, l4, l5] (x :: r) σ Q = (vRf x = true ∧ oc l4 = true ∧ aw g 50 17 [l0, l1, l2, l3, l4, some (x)] r σ Q) := (aw_eq g 50 15 _ _ _ _).trans (by rw [tq50_15]; exact (h_store (o := oc l4) rfl rfl rfl))
theorem tq50_17 : tT g 50 17 = s_const 50 18 (.int 1) := rfl
theorem A50_17 {L : AL} {r : List Value} : aw g 50 17 L r σ Q = aw g 50 18 L (.int 1 :: r) σ Q := (aw_eq g 50 17 _ _ _ _).trans (by rw [tq50_17]; exact rfl)
theorem tq50_18 : tT g 50 18 = s_ret pI := rfl
theorem A50_18 {L : AL} {v : Value} : aw g 50 18 L [v] σ Q = (pI v ∧ Q (.inl (some v)) σ) := (aw_eq g 50 18 _ _ _ _).trans (by rw [tq50_18]; exact rfl)
theorem tq50_19 : tT g 50 19 = s_store vRf 50 21 5 := rfl
theorem A50_19 {l0 : Option Value} {l1 : Option Value} {l2 : Option Value} {l3 : Option Value} {l4 : Option Value} {l5 : Option Value} {x : Value} {r : List Value} : aw g 50 19 [l0, l1, l2, l3, l4, l5] (x :: r) σ Q = (vRf x = true ∧ oc l4 = true ∧ aw g 50 21 [l0, l1, l2, l3, l4, some (x)] r σ Q) := (aw_eq g 50 19 _ _ _ _).trans (by rw [tq50_19]; exact (h_store (o := oc l4) rfl rfl rfl))
theorem tq50_21 : tT g 50 21 = s_const 50 22 (.int 2) := rfl
theorem A50_21 {L : AL} {r : List Value} : aw g 50 21 L r σ Q = aw g 50 22 L (.int 2 :: r) σ Q := (aw_eq g 50 21 _ _ _ _).trans (by rw [tq50_21]; exact rfl)
theorem tq50_22 : tT g 50 22 = s_ret pI := rfl
theorem A50_22 {L : AL} {v : Value} : aw g 50 22 L [v] σ Q = (pI v ∧ Q (.inl (some v)) σ) := (aw_eq g 50 22 _ _ _ _).trans (by rw [tq50_22]; exact rfl)
theorem tq50_23 : tT g 50 23 = s_const 50 24 (.int 0) := rfl
theorem A50_23 {L : AL} {r : List Value} : aw g 50 23 L r σ Q = aw g 50 24 L (.int 0 :: r) σ Q := (aw_eq g 50 23 _ _ _ _).trans (by rw [tq50_23]; exact rfl)
theorem tq50_24 : tT g 50 24 = s_ret pI := rfl
theorem A50_24 {L : AL} {v : Value} : aw g 50 24 L [v] σ Q = (pI v ∧ Q (.inl (some v)) σ) := (aw_eq g 50 24 _ _ _ _).trans (by rw [tq50_24]; exact rfl)
theorem tq51_0 : tT g 51 0 = s_load vRf 51 1 3 := rfl
theorem A51_0 {l0 : Option Value} {l1 : Option Value} {l2 : Option Value} {l4 : Option Value} {x : Value} {r : List Value} : aw g 51 0 [l0, l1, l2, some (x), l4] r σ Q = (vRf x = true ∧ aw g 51 1 [l0, l1, l2, some (x), l4] (x :: r) σ Q) := (aw_eq g 51 0 _ _ _ _).trans (by rw [tq51_0]; exact h_load rfl)
theorem tq51_1 : tT g 51 1 = s_const 51 2 (.int 0) := rfl
theorem A51_1 {L : AL} {r : List Value} : aw g 51 1 L r σ Q = aw g 51 2 L (.int 0 :: r) σ Q := (aw_eq g 51 1 _ _ _ _).trans (by rw [tq51_1]; exact rfl)
theorem tq51_2 : tT g 51 2 = s_load vRf 51 3 0 := rfl
theorem A51_2 {l1 : Option Value} {l2 : Option Value} {l3 : Option Value} {l4 : Option Value} {x : Value} {r : List Value} : aw g 51 2 [some (x), l1, l2, l3, l4] r σ Q = (vRf x = true ∧ aw g 51 3 [some (x), l1, l2, l3, l4] (x :: r) σ Q) := (aw_eq g 51 2 _ _ _ _).trans (by rw [tq51_2]; exact h_load rfl)
theorem tq51_3 : tT g 51 3 = s_load vI 51 4 1 := rfl
theorem A51_3 {l0 : Option Value} {l2 : Option Value} {l3 : Option Value} {l4 : Option Value} {x : Int32} {r : List Value} : aw g 51 3 [l0, some (.int x), l2, l3, l4] r σ Q = aw g 51 4 [l0, some (.int x), l2, l3, l4] (.int x :: r) σ Q := (aw_eq g 51 3 _ _ _ _).trans (by rw [tq51_3]; exact (h_load rfl).trans (propext ⟨fun z => z.2, fun z => ⟨rfl, z⟩⟩))
theorem tq51_4 : tT g 51 4 = s_load vI 51 5 2 := rfl
theorem A51_4 {l0 : Option Value} {l1 : Option Value} {l3 : Option Value} {l4 : Option Value} {x : Int32} {r : List Value} : aw g 51 4 [l0, l1, some (.int x), l3, l4] r σ Q = aw g 51 5 [l0, l1, some (.int x), l3, l4] (.int x :: r) σ Q := (aw_eq g 51 4 _ _ _ _).trans (by rw [tq51_4]; exact (h_load rfl).trans (propext ⟨fun z => z.2, fun z => ⟨rfl, z⟩⟩))
theorem tq51_5 : tT g 51 5 = s_callhk (fun k => match k with | 2 => some 13 | 0 => some 17 | _ => none) 51 8 96 0 [0, 0] 4 := rfl
theorem A51_5 {L : AL} {r : List Value} {a : Nat} {w0 w1 : Value} : aw g 51 5 L (w1 :: w0 :: .ref a :: r) σ Q = (hty σ a = some 0 ∧ (vI w0 && (vI w1 && true)) = true ∧ csum r ≤ 8 ∧ aw g 96 0 [some (.ref a), some w0, some w1, none] [] σ (kth (fun k => match k with | 2 => some 13 | 0 => some 17 | _ => none) (aw g) 51 8 L r Q)) := (aw_eq g 51 5 _ _ _ _).trans (by rw [tq51_5]; exact rfl)
theorem tq51_8 : tT g 51 8 = s_i2 51 9 (fun a => .long a.toInt64) := rfl
theorem A51_8 {L : AL} {r : List Value} {a : Int32} : aw g 51 8 L (.int a :: r) σ Q = aw g 51 9 L (.long a.toInt64 :: r) σ Q := (aw_eq g 51 8 _ _ _ _).trans (by rw [tq51_8]; exact rfl)
theorem tq51_9 : tT g 51 9 = s_ast g (fun _ v => vL v = true) 51 10 22 := rfl
theorem A51_9 {L : AL} {r : List Value} {a : Nat} {i : Int32} {v : Value} : aw g 51 9 L (v :: .int i :: .ref a :: r) σ Q = (hty σ a = some 22 ∧ gB g ≤ a ∧ ¬ i < 0 ∧ i.toNatClampNeg < hln σ a ∧ vL v = true ∧ aw g 51 10 L r (hput σ 22 a i.toNatClampNeg v) Q) := (aw_eq g 51 9 _ _ _ _).trans (by rw [tq51_9]; exact rfl)
theorem tq51_10 : tT g 51 10 = s_goto 51 21 := rfl
theorem A51_10 {L : AL} {r : List Value} : aw g 51 10 L r σ Q = aw g 51 21 L r σ Q := (aw_eq g 51 10 _ _ _ _).trans (by rw [tq51_10]; exact rfl)
theorem tq51_13 : tT g 51 13 = s_store vRf 51 15 4 := rfl
theorem A51_13 {l0 : Option Value} {l1 : Option Value} {l2 : Option Value} {l3 : Option Value} {l4 : Option Value} {x : Value} {r : List Value} : aw g 51 13 [l0, l1, l2, l3, l4] (x :: r) σ Q = (vRf x = true ∧ oc l3 = true ∧ aw g 51 15 [l0, l1, l2, l3, some (x)] r σ Q) := (aw_eq g 51 13 _ _ _ _).trans (by rw [tq51_13]; exact (h_store (o := oc l3) rfl rfl rfl))
theorem tq51_15 : tT g 51 15 = s_const 51 16 (.int 1) := rfl
theorem A51_15 {L : AL} {r : List Value} : aw g 51 15 L r σ Q = aw g 51 16 L (.int 1 :: r) σ Q := (aw_eq g 51 15 _ _ _ _).trans (by rw [tq51_15]; exact rfl)
theorem tq51_16 : tT g 51 16 = s_ret pI := rfl
theorem A51_16 {L : AL} {v : Value} : aw g 51 16 L [v] σ Q = (pI v ∧ Q (.inl (some v)) σ) := (aw_eq g 51 16 _ _ _ _).trans (by rw [tq51_16]; exact rfl)
theorem tq51_17 : tT g 51 17 = s_store vRf 51 19 4 := rfl
theorem A51_17 {l0 : Option Value} {l1 : Option Value} {l2 : Option Value} {l3 : Option Value} {l4 : Option Value} {x : Value} {r : List Value} : aw g 51 17 [l0, l1, l2, l3, l4] (x :: r) σ Q = (vRf x = true ∧ oc l3 = true ∧ aw g 51 19 [l0, l1, l2, l3, some (x)] r σ Q) := (aw_eq g 51 17 _ _ _ _).trans (by rw [tq51_17]; exact (h_store (o := oc l3) rfl rfl rfl))
theorem tq51_19 : tT g 51 19 = s_const 51 20 (.int 2) := rfl
theorem A51_19 {L : AL} {r : List Value} : aw g 51 19 L r σ Q = aw g 51 20 L (.int 2 :: r) σ Q := (aw_eq g 51 19 _ _ _ _).trans (by rw [tq51_19]; exact rfl)
theorem tq51_20 : tT g 51 20 = s_ret pI := rfl
theorem A51_20 {L : AL} {v : Value} : aw g 51 20 L [v] σ Q = (pI v ∧ Q (.inl (some v)) σ) := (aw_eq g 51 20 _ _ _ _).trans (by rw [tq51_20]; exact rfl)
theorem tq51_21 : tT g 51 21 = s_const 51 22 (.int 0) := rfl
theorem A51_21 {L : AL} {r : List Value} : aw g 51 21 L r σ Q = aw g 51 22 L (.int 0 :: r) σ Q := (aw_eq g 51 21 _ _ _ _).trans (by rw [tq51_21]; exact rfl)
theorem tq51_22 : tT g 51 22 = s_ret pI := rfl
theorem A51_22 {L : AL} {v : Value} : aw g 51 22 L [v] σ Q = (pI v ∧ Q (.inl (some v)) σ) := (aw_eq g 51 22 _ _ _ _).trans (by rw [tq51_22]; exact rfl)
theorem tq52_0 : tT g 52 0 = s_load vRf 52 1 3 := rfl
theorem A52_0 {l0 : Option Value} {l1 : Option Value} {l2 : Option Value} {l4 : Option Value} {x : Value} {r : List Value} : aw g 52 0 [l0, l1, l2, some (x), l4] r σ Q = (vRf x = true ∧ aw g 52 1 [l0, l1, l2, some (x), l4] (x :: r) σ Q) := (aw_eq g 52 0 _ _ _ _).trans (by rw [tq52_0]; exact h_load rfl)
theorem tq52_1 : tT g 52 1 = s_const 52 2 (.int 0) := rfl
theorem A52_1 {L : AL} {r : List Value} : aw g 52 1 L r σ Q = aw g 52 2 L (.int 0 :: r) σ Q := (aw_eq g 52 1 _ _ _ _).trans (by rw [tq52_1]; exact rfl)
theorem tq52_2 : tT g 52 2 = s_load vRf 52 3 0 := rfl
theorem A52_2 {l1 : Option Value} {l2 : Option Value} {l3 : Option Value} {l4 : Option Value} {x : Value} {r : List Value} : aw g 52 2 [some (x), l1, l2, l3, l4] r σ Q = (vRf x = true ∧ aw g 52 3 [some (x), l1, l2, l3, l4] (x :: r) σ Q) := (aw_eq g 52 2 _ _ _ _).trans (by rw [tq52_2]; exact h_load rfl)
theorem tq52_3 : tT g 52 3 = s_load vI 52 4 1 := rfl
theorem A52_3 {l0 : Option Value} {l2 : Option Value} {l3 : Option Value} {l4 : Option Value} {x : Int32} {r : List Value} : aw g 52 3 [l0, some (.int x), l2, l3, l4] r σ Q = aw g 52 4 [l0, some (.int x), l2, l3, l4] (.int x :: r) σ Q := (aw_eq g 52 3 _ _ _ _).trans (by rw [tq52_3]; exact (h_load rfl).trans (propext ⟨fun z => z.2, fun z => ⟨rfl, z⟩⟩))
theorem tq52_4 : tT g 52 4 = s_load vI 52 5 2 := rfl
theorem A52_4 {l0 : Option Value} {l1 : Option Value} {l3 : Option Value} {l4 : Option Value} {x : Int32} {r : List Value} : aw g 52 4 [l0, l1, some (.int x), l3, l4] r σ Q = aw g 52 5 [l0, l1, some (.int x), l3, l4] (.int x :: r) σ Q := (aw_eq g 52 4 _ _ _ _).trans (by rw [tq52_4]; exact (h_load rfl).trans (propext ⟨fun z => z.2, fun z => ⟨rfl, z⟩⟩))
theorem tq52_5 : tT g 52 5 = s_callhk (fun k => match k with | 2 => some 13 | 0 => some 17 | _ => none) 52 8 97 0 [0, 0] 4 := rfl
theorem A52_5 {L : AL} {r : List Value} {a : Nat} {w0 w1 : Value} : aw g 52 5 L (w1 :: w0 :: .ref a :: r) σ Q = (hty σ a = some 0 ∧ (vI w0 && (vI w1 && true)) = true ∧ csum r ≤ 8 ∧ aw g 97 0 [some (.ref a), some w0, some w1, none] [] σ (kth (fun k => match k with | 2 => some 13 | 0 => some 17 | _ => none) (aw g) 52 8 L r Q)) := (aw_eq g 52 5 _ _ _ _).trans (by rw [tq52_5]; exact rfl)
theorem tq52_8 : tT g 52 8 = s_i2 52 9 (fun a => .long a.toInt64) := rfl
theorem A52_8 {L : AL} {r : List Value} {a : Int32} : aw g 52 8 L (.int a :: r) σ Q = aw g 52 9 L (.long a.toInt64 :: r) σ Q := (aw_eq g 52 8 _ _ _ _).trans (by rw [tq52_8]; exact rfl)
theorem tq52_9 : tT g 52 9 = s_ast g (fun _ v => vL v = true) 52 10 22 := rfl
theorem A52_9 {L : AL} {r : List Value} {a : Nat} {i : Int32} {v : Value} : aw g 52 9 L (v :: .int i :: .ref a :: r) σ Q = (hty σ a = some 22 ∧ gB g ≤ a ∧ ¬ i < 0 ∧ i.toNatClampNeg < hln σ a ∧ vL v = true ∧ aw g 52 10 L r (hput σ 22 a i.toNatClampNeg v) Q) := (aw_eq g 52 9 _ _ _ _).trans (by rw [tq52_9]; exact rfl)
theorem tq52_10 : tT g 52 10 = s_goto 52 21 := rfl
theorem A52_10 {L : AL} {r : List Value} : aw g 52 10 L r σ Q = aw g 52 21 L r σ Q := (aw_eq g 52 10 _ _ _ _).trans (by rw [tq52_10]; exact rfl)
theorem tq52_13 : tT g 52 13 = s_store vRf 52 15 4 := rfl
theorem A52_13 {l0 : Option Value} {l1 : Option Value} {l2 : Option Value} {l3 : Option Value} {l4 : Option Value} {x : Value} {r : List Value} : aw g 52 13 [l0, l1, l2, l3, l4] (x :: r) σ Q = (vRf x = true ∧ oc l3 = true ∧ aw g 52 15 [l0, l1, l2, l3, some (x)] r σ Q) := (aw_eq g 52 13 _ _ _ _).trans (by rw [tq52_13]; exact (h_store (o := oc l3) rfl rfl rfl))
theorem tq52_15 : tT g 52 15 = s_const 52 16 (.int 1) := rfl
theorem A52_15 {L : AL} {r : List Value} : aw g 52 15 L r σ Q = aw g 52 16 L (.int 1 :: r) σ Q := (aw_eq g 52 15 _ _ _ _).trans (by rw [tq52_15]; exact rfl)
theorem tq52_16 : tT g 52 16 = s_ret pI := rfl
theorem A52_16 {L : AL} {v : Value} : aw g 52 16 L [v] σ Q = (pI v ∧ Q (.inl (some v)) σ) := (aw_eq g 52 16 _ _ _ _).trans (by rw [tq52_16]; exact rfl)
theorem tq52_17 : tT g 52 17 = s_store vRf 52 19 4 := rfl
theorem A52_17 {l0 : Option Value} {l1 : Option Value} {l2 : Option Value} {l3 : Option Value} {l4 : Option Value} {x : Value} {r : List Value} : aw g 52 17 [l0, l1, l2, l3, l4] (x :: r) σ Q = (vRf x = true ∧ oc l3 = true ∧ aw g 52 19 [l0, l1, l2, l3, some (x)] r σ Q) := (aw_eq g 52 17 _ _ _ _).trans (by rw [tq52_17]; exact (h_store (o := oc l3) rfl rfl rfl))
theorem tq52_19 : tT g 52 19 = s_const 52 20 (.int 2) := rfl
theorem A52_19 {L : AL} {r : List Value} : aw g 52 19 L r σ Q = aw g 52 20 L (.int 2 :: r) σ Q := (aw_eq g 52 19 _ _ _ _).trans (by rw [tq52_19]; exact rfl)
theorem tq52_20 : tT g 52 20 = s_ret pI := rfl
theorem A52_20 {L : AL} {v : Value} : aw g 52 20 L [v] σ Q = (pI v ∧ Q (.inl (some v)) σ) := (aw_eq g 52 20 _ _ _ _).trans (by rw [tq52_20]; exact rfl)
theorem tq52_21 : tT g 52 21 = s_const 52 22 (.int 0) := rfl
theorem A52_21 {L : AL} {r : List Value} : aw g 52 21 L r σ Q = aw g 52 22 L (.int 0 :: r) σ Q := (aw_eq g 52 21 _ _ _ _).trans (by rw [tq52_21]; exact rfl)
theorem tq52_22 : tT g 52 22 = s_ret pI := rfl
theorem A52_22 {L : AL} {v : Value} : aw g 52 22 L [v] σ Q = (pI v ∧ Q (.inl (some v)) σ) := (aw_eq g 52 22 _ _ _ _).trans (by rw [tq52_22]; exact rfl)
theorem tq53_0 : tT g 53 0 = s_load vRf 53 1 2 := rfl
theorem A53_0 {l0 : Option Value} {l1 : Option Value} {l3 : Option Value} {x : Value} {r : List Value} : aw g 53 0 [l0, l1, some (x), l3] r σ Q = (vRf x = true ∧ aw g 53 1 [l0, l1, some (x), l3] (x :: r) σ Q) := (aw_eq g 53 0 _ _ _ _).trans (by rw [tq53_0]; exact h_load rfl)
theorem tq53_1 : tT g 53 1 = s_const 53 2 (.int 0) := rfl
theorem A53_1 {L : AL} {r : List Value} : aw g 53 1 L r σ Q = aw g 53 2 L (.int 0 :: r) σ Q := (aw_eq g 53 1 _ _ _ _).trans (by rw [tq53_1]; exact rfl)
theorem tq53_2 : tT g 53 2 = s_load vRf 53 3 0 := rfl
theorem A53_2 {l1 : Option Value} {l2 : Option Value} {l3 : Option Value} {x : Value} {r : List Value} : aw g 53 2 [some (x), l1, l2, l3] r σ Q = (vRf x = true ∧ aw g 53 3 [some (x), l1, l2, l3] (x :: r) σ Q) := (aw_eq g 53 2 _ _ _ _).trans (by rw [tq53_2]; exact h_load rfl)
theorem tq53_3 : tT g 53 3 = s_load vI 53 4 1 := rfl
theorem A53_3 {l0 : Option Value} {l2 : Option Value} {l3 : Option Value} {x : Int32} {r : List Value} : aw g 53 3 [l0, some (.int x), l2, l3] r σ Q = aw g 53 4 [l0, some (.int x), l2, l3] (.int x :: r) σ Q := (aw_eq g 53 3 _ _ _ _).trans (by rw [tq53_3]; exact (h_load rfl).trans (propext ⟨fun z => z.2, fun z => ⟨rfl, z⟩⟩))
theorem tq53_4 : tT g 53 4 = s_callhk (fun k => match k with | 0 => some 12 | _ => none) 53 7 98 0 [0] 2 := rfl
theorem A53_4 {L : AL} {r : List Value} {a : Nat} {w0 : Value} : aw g 53 4 L (w0 :: .ref a :: r) σ Q = (hty σ a = some 0 ∧ (vI w0 && true) = true ∧ csum r ≤ 8 ∧ aw g 98 0 [some (.ref a), some w0] [] σ (kth (fun k => match k with | 0 => some 12 | _ => none) (aw g) 53 7 L r Q)) := (aw_eq g 53 4 _ _ _ _).trans (by rw [tq53_4]; exact rfl)
theorem tq53_7 : tT g 53 7 = s_i2 53 8 (fun a => .long a.toInt64) := rfl
theorem A53_7 {L : AL} {r : List Value} {a : Int32} : aw g 53 7 L (.int a :: r) σ Q = aw g 53 8 L (.long a.toInt64 :: r) σ Q := (aw_eq g 53 7 _ _ _ _).trans (by rw [tq53_7]; exact rfl)
theorem tq53_8 : tT g 53 8 = s_ast g (fun _ v => vL v = true) 53 9 22 := rfl
theorem A53_8 {L : AL} {r : List Value} {a : Nat} {i : Int32} {v : Value} : aw g 53 8 L (v :: .int i :: .ref a :: r) σ Q = (hty σ a = some 22 ∧ gB g ≤ a ∧ ¬ i < 0 ∧ i.toNatClampNeg < hln σ a ∧ vL v = true ∧ aw g 53 9 L r (hput σ 22 a i.toNatClampNeg v) Q) := (aw_eq g 53 8 _ _ _ _).trans (by rw [tq53_8]; exact rfl)
theorem tq53_9 : tT g 53 9 = s_goto 53 15 := rfl
theorem A53_9 {L : AL} {r : List Value} : aw g 53 9 L r σ Q = aw g 53 15 L r σ Q := (aw_eq g 53 9 _ _ _ _).trans (by rw [tq53_9]; exact rfl)
theorem tq53_12 : tT g 53 12 = s_store vRf 53 13 3 := rfl
theorem A53_12 {l0 : Option Value} {l1 : Option Value} {l2 : Option Value} {l3 : Option Value} {x : Value} {r : List Value} : aw g 53 12 [l0, l1, l2, l3] (x :: r) σ Q = (vRf x = true ∧ oc l2 = true ∧ aw g 53 13 [l0, l1, l2, some (x)] r σ Q) := (aw_eq g 53 12 _ _ _ _).trans (by rw [tq53_12]; exact (h_store (o := oc l2) rfl rfl rfl))
theorem tq53_13 : tT g 53 13 = s_const 53 14 (.int 1) := rfl
theorem A53_13 {L : AL} {r : List Value} : aw g 53 13 L r σ Q = aw g 53 14 L (.int 1 :: r) σ Q := (aw_eq g 53 13 _ _ _ _).trans (by rw [tq53_13]; exact rfl)
theorem tq53_14 : tT g 53 14 = s_ret pI := rfl
theorem A53_14 {L : AL} {v : Value} : aw g 53 14 L [v] σ Q = (pI v ∧ Q (.inl (some v)) σ) := (aw_eq g 53 14 _ _ _ _).trans (by rw [tq53_14]; exact rfl)
theorem tq53_15 : tT g 53 15 = s_const 53 16 (.int 0) := rfl
theorem A53_15 {L : AL} {r : List Value} : aw g 53 15 L r σ Q = aw g 53 16 L (.int 0 :: r) σ Q := (aw_eq g 53 15 _ _ _ _).trans (by rw [tq53_15]; exact rfl)
theorem tq53_16 : tT g 53 16 = s_ret pI := rfl
theorem A53_16 {L : AL} {v : Value} : aw g 53 16 L [v] σ Q = (pI v ∧ Q (.inl (some v)) σ) := (aw_eq g 53 16 _ _ _ _).trans (by rw [tq53_16]; exact rfl)
theorem tq54_0 : tT g 54 0 = s_load vRf 54 1 2 := rfl
theorem A54_0 {l0 : Option Value} {l1 : Option Value} {l3 : Option Value} {x : Value} {r : List Value} : aw g 54 0 [l0, l1, some (x), l3] r σ Q = (vRf x = true ∧ aw g 54 1 [l0, l1, some (x), l3] (x :: r) σ Q) := (aw_eq g 54 0 _ _ _ _).trans (by rw [tq54_0]; exact h_load rfl)
theorem tq54_1 : tT g 54 1 = s_const 54 2 (.int 0) := rfl
theorem A54_1 {L : AL} {r : List Value} : aw g 54 1 L r σ Q = aw g 54 2 L (.int 0 :: r) σ Q := (aw_eq g 54 1 _ _ _ _).trans (by rw [tq54_1]; exact rfl)
theorem tq54_2 : tT g 54 2 = s_load vRf 54 3 0 := rfl
theorem A54_2 {l1 : Option Value} {l2 : Option Value} {l3 : Option Value} {x : Value} {r : List Value} : aw g 54 2 [some (x), l1, l2, l3] r σ Q = (vRf x = true ∧ aw g 54 3 [some (x), l1, l2, l3] (x :: r) σ Q) := (aw_eq g 54 2 _ _ _ _).trans (by rw [tq54_2]; exact h_load rfl)
theorem tq54_3 : tT g 54 3 = s_load vI 54 4 1 := rfl
theorem A54_3 {l0 : Option Value} {l2 : Option Value} {l3 : Option Value} {x : Int32} {r : List Value} : aw g 54 3 [l0, some (.int x), l2, l3] r σ Q = aw g 54 4 [l0, some (.int x), l2, l3] (.int x :: r) σ Q := (aw_eq g 54 3 _ _ _ _).trans (by rw [tq54_3]; exact (h_load rfl).trans (propext ⟨fun z => z.2, fun z => ⟨rfl, z⟩⟩))
theorem tq54_4 : tT g 54 4 = s_callhk (fun k => match k with | 2 => some 11 | _ => none) 54 7 99 0 [0] 3 := rfl
theorem A54_4 {L : AL} {r : List Value} {a : Nat} {w0 : Value} : aw g 54 4 L (w0 :: .ref a :: r) σ Q = (hty σ a = some 0 ∧ (vI w0 && true) = true ∧ csum r ≤ 8 ∧ aw g 99 0 [some (.ref a), some w0, none] [] σ (kth (fun k => match k with | 2 => some 11 | _ => none) (aw g) 54 7 L r Q)) := (aw_eq g 54 4 _ _ _ _).trans (by rw [tq54_4]; exact rfl)
theorem tq54_7 : tT g 54 7 = s_ast g (fun _ v => vD v = true) 54 8 23 := rfl
theorem A54_7 {L : AL} {r : List Value} {a : Nat} {i : Int32} {v : Value} : aw g 54 7 L (v :: .int i :: .ref a :: r) σ Q = (hty σ a = some 23 ∧ gB g ≤ a ∧ ¬ i < 0 ∧ i.toNatClampNeg < hln σ a ∧ vD v = true ∧ aw g 54 8 L r (hput σ 23 a i.toNatClampNeg v) Q) := (aw_eq g 54 7 _ _ _ _).trans (by rw [tq54_7]; exact rfl)
theorem tq54_8 : tT g 54 8 = s_goto 54 14 := rfl
theorem A54_8 {L : AL} {r : List Value} : aw g 54 8 L r σ Q = aw g 54 14 L r σ Q := (aw_eq g 54 8 _ _ _ _).trans (by rw [tq54_8]; exact rfl)
theorem tq54_11 : tT g 54 11 = s_store vRf 54 12 3 := rfl
theorem A54_11 {l0 : Option Value} {l1 : Option Value} {l2 : Option Value} {l3 : Option Value} {x : Value} {r : List Value} : aw g 54 11 [l0, l1, l2, l3] (x :: r) σ Q = (vRf x = true ∧ oc l2 = true ∧ aw g 54 12 [l0, l1, l2, some (x)] r σ Q) := (aw_eq g 54 11 _ _ _ _).trans (by rw [tq54_11]; exact (h_store (o := oc l2) rfl rfl rfl))
theorem tq54_12 : tT g 54 12 = s_const 54 13 (.int 1) := rfl
theorem A54_12 {L : AL} {r : List Value} : aw g 54 12 L r σ Q = aw g 54 13 L (.int 1 :: r) σ Q := (aw_eq g 54 12 _ _ _ _).trans (by rw [tq54_12]; exact rfl)
theorem tq54_13 : tT g 54 13 = s_ret pI := rfl
theorem A54_13 {L : AL} {v : Value} : aw g 54 13 L [v] σ Q = (pI v ∧ Q (.inl (some v)) σ) := (aw_eq g 54 13 _ _ _ _).trans (by rw [tq54_13]; exact rfl)
theorem tq54_14 : tT g 54 14 = s_const 54 15 (.int 0) := rfl
theorem A54_14 {L : AL} {r : List Value} : aw g 54 14 L r σ Q = aw g 54 15 L (.int 0 :: r) σ Q := (aw_eq g 54 14 _ _ _ _).trans (by rw [tq54_14]; exact rfl)
theorem tq54_15 : tT g 54 15 = s_ret pI := rfl
theorem A54_15 {L : AL} {v : Value} : aw g 54 15 L [v] σ Q = (pI v ∧ Q (.inl (some v)) σ) := (aw_eq g 54 15 _ _ _ _).trans (by rw [tq54_15]; exact rfl)
theorem tq55_0 : tT g 55 0 = s_load vRf 55 2 4 := rfl
theorem A55_0 {l0 : Option Value} {l1 : Option Value} {l2 : Option Value} {l3 : Option Value} {l5 : Option Value} {x : Value} {r : List Value} : aw g 55 0 [l0, l1, l2, l3, some (x), l5] r σ Q = (vRf x = true ∧ aw g 55 2 [l0, l1, l2, l3, some (x), l5] (x :: r) σ Q) := (aw_eq g 55 0 _ _ _ _).trans (by rw [tq55_0]; exact h_load rfl)
theorem tq55_2 : tT g 55 2 = s_const 55 3 (.int 0) := rfl
theorem A55_2 {L : AL} {r : List Value} : aw g 55 2 L r σ Q = aw g 55 3 L (.int 0 :: r) σ Q := (aw_eq g 55 2 _ _ _ _).trans (by rw [tq55_2]; exact rfl)
theorem tq55_3 : tT g 55 3 = s_load vRf 55 4 0 := rfl
theorem A55_3 {l1 : Option Value} {l2 : Option Value} {l3 : Option Value} {l4 : Option Value} {l5 : Option Value} {x : Value} {r : List Value} : aw g 55 3 [some (x), l1, l2, l3, l4, l5] r σ Q = (vRf x = true ∧ aw g 55 4 [some (x), l1, l2, l3, l4, l5] (x :: r) σ Q) := (aw_eq g 55 3 _ _ _ _).trans (by rw [tq55_3]; exact h_load rfl)
theorem tq55_4 : tT g 55 4 = s_load vI 55 5 1 := rfl
theorem A55_4 {l0 : Option Value} {l2 : Option Value} {l3 : Option Value} {l4 : Option Value} {l5 : Option Value} {x : Int32} {r : List Value} : aw g 55 4 [l0, some (.int x), l2, l3, l4, l5] r σ Q = aw g 55 5 [l0, some (.int x), l2, l3, l4, l5] (.int x :: r) σ Q := (aw_eq g 55 4 _ _ _ _).trans (by rw [tq55_4]; exact (h_load rfl).trans (propext ⟨fun z => z.2, fun z => ⟨rfl, z⟩⟩))
theorem tq55_5 : tT g 55 5 = s_load vI 55 6 2 := rfl
theorem A55_5 {l0 : Option Value} {l1 : Option Value} {l3 : Option Value} {l4 : Option Value} {l5 : Option Value} {x : Int32} {r : List Value} : aw g 55 5 [l0, l1, some (.int x), l3, l4, l5] r σ Q = aw g 55 6 [l0, l1, some (.int x), l3, l4, l5] (.int x :: r) σ Q := (aw_eq g 55 5 _ _ _ _).trans (by rw [tq55_5]; exact (h_load rfl).trans (propext ⟨fun z => z.2, fun z => ⟨rfl, z⟩⟩))
theorem tq55_6 : tT g 55 6 = s_load vI 55 7 3 := rfl
theorem A55_6 {l0 : Option Value} {l1 : Option Value} {l2 : Option Value} {l4 : Option Value} {l5 : Option Value} {x : Int32} {r : List Value} : aw g 55 6 [l0, l1, l2, some (.int x), l4, l5] r σ Q = aw g 55 7 [l0, l1, l2, some (.int x), l4, l5] (.int x :: r) σ Q := (aw_eq g 55 6 _ _ _ _).trans (by rw [tq55_6]; exact (h_load rfl).trans (propext ⟨fun z => z.2, fun z => ⟨rfl, z⟩⟩))
theorem tq55_7 : tT g 55 7 = s_callhk (fun k => match k with | 2 => some 15 | 0 => some 19 | _ => none) 55 10 100 0 [0, 0, 0] 5 := rfl
theorem A55_7 {L : AL} {r : List Value} {a : Nat} {w0 w1 w2 : Value} : aw g 55 7 L (w2 :: w1 :: w0 :: .ref a :: r) σ Q = (hty σ a = some 0 ∧ (vI w0 && (vI w1 && (vI w2 && true))) = true ∧ csum r ≤ 8 ∧ aw g 100 0 [some (.ref a), some w0, some w1, some w2, none] [] σ (kth (fun k => match k with | 2 => some 15 | 0 => some 19 | _ => none) (aw g) 55 10 L r Q)) := (aw_eq g 55 7 _ _ _ _).trans (by rw [tq55_7]; exact rfl)
theorem tq55_10 : tT g 55 10 = s_i2 55 11 (fun a => .long a.toInt64) := rfl
theorem A55_10 {L : AL} {r : List Value} {a : Int32} : aw g 55 10 L (.int a :: r) σ Q = aw g 55 11 L (.long a.toInt64 :: r) σ Q := (aw_eq g 55 10 _ _ _ _).trans (by rw [tq55_10]; exact rfl)
theorem tq55_11 : tT g 55 11 = s_ast g (fun _ v => vL v = true) 55 12 22 := rfl
theorem A55_11 {L : AL} {r : List Value} {a : Nat} {i : Int32} {v : Value} : aw g 55 11 L (v :: .int i :: .ref a :: r) σ Q = (hty σ a = some 22 ∧ gB g ≤ a ∧ ¬ i < 0 ∧ i.toNatClampNeg < hln σ a ∧ vL v = true ∧ aw g 55 12 L r (hput σ 22 a i.toNatClampNeg v) Q) := (aw_eq g 55 11 _ _ _ _).trans (by rw [tq55_11]; exact rfl)
theorem tq55_12 : tT g 55 12 = s_goto 55 23 := rfl
theorem A55_12 {L : AL} {r : List Value} : aw g 55 12 L r σ Q = aw g 55 23 L r σ Q := (aw_eq g 55 12 _ _ _ _).trans (by rw [tq55_12]; exact rfl)
theorem tq55_15 : tT g 55 15 = s_store vRf 55 17 5 := rfl
theorem A55_15 {l0 : Option Value} {l1 : Option Value} {l2 : Option Value} {l3 : Option Value} {l4 : Option Value} {l5 : Option Value} {x : Value} {r : List Value} : aw g 55 15 [l0, l1, l2, l3, l4, l5] (x :: r) σ Q = (vRf x = true ∧ oc l4 = true ∧ aw g 55 17 [l0, l1, l2, l3, l4, some (x)] r σ Q) := (aw_eq g 55 15 _ _ _ _).trans (by rw [tq55_15]; exact (h_store (o := oc l4) rfl rfl rfl))
theorem tq55_17 : tT g 55 17 = s_const 55 18 (.int 1) := rfl
theorem A55_17 {L : AL} {r : List Value} : aw g 55 17 L r σ Q = aw g 55 18 L (.int 1 :: r) σ Q := (aw_eq g 55 17 _ _ _ _).trans (by rw [tq55_17]; exact rfl)
theorem tq55_18 : tT g 55 18 = s_ret pI := rfl
theorem A55_18 {L : AL} {v : Value} : aw g 55 18 L [v] σ Q = (pI v ∧ Q (.inl (some v)) σ) := (aw_eq g 55 18 _ _ _ _).trans (by rw [tq55_18]; exact rfl)
theorem tq55_19 : tT g 55 19 = s_store vRf 55 21 5 := rfl
theorem A55_19 {l0 : Option Value} {l1 : Option Value} {l2 : Option Value} {l3 : Option Value} {l4 : Option Value} {l5 : Option Value} {x : Value} {r : List Value} : aw g 55 19 [l0, l1, l2, l3, l4, l5] (x :: r) σ Q = (vRf x = true ∧ oc l4 = true ∧ aw g 55 21 [l0, l1, l2, l3, l4, some (x)] r σ Q) := (aw_eq g 55 19 _ _ _ _).trans (by rw [tq55_19]; exact (h_store (o := oc l4) rfl rfl rfl))
theorem tq55_21 : tT g 55 21 = s_const 55 22 (.int 2) := rfl
theorem A55_21 {L : AL} {r : List Value} : aw g 55 21 L r σ Q = aw g 55 22 L (.int 2 :: r) σ Q := (aw_eq g 55 21 _ _ _ _).trans (by rw [tq55_21]; exact rfl)
theorem tq55_22 : tT g 55 22 = s_ret pI := rfl
theorem A55_22 {L : AL} {v : Value} : aw g 55 22 L [v] σ Q = (pI v ∧ Q (.inl (some v)) σ) := (aw_eq g 55 22 _ _ _ _).trans (by rw [tq55_22]; exact rfl)
theorem tq55_23 : tT g 55 23 = s_const 55 24 (.int 0) := rfl
theorem A55_23 {L : AL} {r : List Value} : aw g 55 23 L r σ Q = aw g 55 24 L (.int 0 :: r) σ Q := (aw_eq g 55 23 _ _ _ _).trans (by rw [tq55_23]; exact rfl)
theorem tq55_24 : tT g 55 24 = s_ret pI := rfl
theorem A55_24 {L : AL} {v : Value} : aw g 55 24 L [v] σ Q = (pI v ∧ Q (.inl (some v)) σ) := (aw_eq g 55 24 _ _ _ _).trans (by rw [tq55_24]; exact rfl)
theorem tq56_0 : tT g 56 0 = s_load vRf 56 1 3 := rfl
theorem A56_0 {l0 : Option Value} {l1 : Option Value} {l2 : Option Value} {l4 : Option Value} {x : Value} {r : List Value} : aw g 56 0 [l0, l1, l2, some (x), l4] r σ Q = (vRf x = true ∧ aw g 56 1 [l0, l1, l2, some (x), l4] (x :: r) σ Q) := (aw_eq g 56 0 _ _ _ _).trans (by rw [tq56_0]; exact h_load rfl)
theorem tq56_1 : tT g 56 1 = s_const 56 2 (.int 0) := rfl
theorem A56_1 {L : AL} {r : List Value} : aw g 56 1 L r σ Q = aw g 56 2 L (.int 0 :: r) σ Q := (aw_eq g 56 1 _ _ _ _).trans (by rw [tq56_1]; exact rfl)
theorem tq56_2 : tT g 56 2 = s_load vRf 56 3 0 := rfl
theorem A56_2 {l1 : Option Value} {l2 : Option Value} {l3 : Option Value} {l4 : Option Value} {x : Value} {r : List Value} : aw g 56 2 [some (x), l1, l2, l3, l4] r σ Q = (vRf x = true ∧ aw g 56 3 [some (x), l1, l2, l3, l4] (x :: r) σ Q) := (aw_eq g 56 2 _ _ _ _).trans (by rw [tq56_2]; exact h_load rfl)
theorem tq56_3 : tT g 56 3 = s_load vI 56 4 1 := rfl
theorem A56_3 {l0 : Option Value} {l2 : Option Value} {l3 : Option Value} {l4 : Option Value} {x : Int32} {r : List Value} : aw g 56 3 [l0, some (.int x), l2, l3, l4] r σ Q = aw g 56 4 [l0, some (.int x), l2, l3, l4] (.int x :: r) σ Q := (aw_eq g 56 3 _ _ _ _).trans (by rw [tq56_3]; exact (h_load rfl).trans (propext ⟨fun z => z.2, fun z => ⟨rfl, z⟩⟩))
theorem tq56_4 : tT g 56 4 = s_load vI 56 5 2 := rfl
theorem A56_4 {l0 : Option Value} {l1 : Option Value} {l3 : Option Value} {l4 : Option Value} {x : Int32} {r : List Value} : aw g 56 4 [l0, l1, some (.int x), l3, l4] r σ Q = aw g 56 5 [l0, l1, some (.int x), l3, l4] (.int x :: r) σ Q := (aw_eq g 56 4 _ _ _ _).trans (by rw [tq56_4]; exact (h_load rfl).trans (propext ⟨fun z => z.2, fun z => ⟨rfl, z⟩⟩))
theorem tq56_5 : tT g 56 5 = s_callhk (fun k => match k with | 2 => some 13 | 0 => some 17 | _ => none) 56 8 101 0 [0, 0] 3 := rfl
theorem A56_5 {L : AL} {r : List Value} {a : Nat} {w0 w1 : Value} : aw g 56 5 L (w1 :: w0 :: .ref a :: r) σ Q = (hty σ a = some 0 ∧ (vI w0 && (vI w1 && true)) = true ∧ csum r ≤ 8 ∧ aw g 101 0 [some (.ref a), some w0, some w1] [] σ (kth (fun k => match k with | 2 => some 13 | 0 => some 17 | _ => none) (aw g) 56 8 L r Q)) := (aw_eq g 56 5 _ _ _ _).trans (by rw [tq56_5]; exact rfl)
theorem tq56_8 : tT g 56 8 = s_i2 56 9 (fun a => .long a.toInt64) := rfl
theorem A56_8 {L : AL} {r : List Value} {a : Int32} : aw g 56 8 L (.int a :: r) σ Q = aw g 56 9 L (.long a.toInt64 :: r) σ Q := (aw_eq g 56 8 _ _ _ _).trans (by rw [tq56_8]; exact rfl)
theorem tq56_9 : tT g 56 9 = s_ast g (fun _ v => vL v = true) 56 10 22 := rfl
theorem A56_9 {L : AL} {r : List Value} {a : Nat} {i : Int32} {v : Value} : aw g 56 9 L (v :: .int i :: .ref a :: r) σ Q = (hty σ a = some 22 ∧ gB g ≤ a ∧ ¬ i < 0 ∧ i.toNatClampNeg < hln σ a ∧ vL v = true ∧ aw g 56 10 L r (hput σ 22 a i.toNatClampNeg v) Q) := (aw_eq g 56 9 _ _ _ _).trans (by rw [tq56_9]; exact rfl)
theorem tq56_10 : tT g 56 10 = s_goto 56 21 := rfl
theorem A56_10 {L : AL} {r : List Value} : aw g 56 10 L r σ Q = aw g 56 21 L r σ Q := (aw_eq g 56 10 _ _ _ _).trans (by rw [tq56_10]; exact rfl)
theorem tq56_13 : tT g 56 13 = s_store vRf 56 15 4 := rfl
theorem A56_13 {l0 : Option Value} {l1 : Option Value} {l2 : Option Value} {l3 : Option Value} {l4 : Option Value} {x : Value} {r : List Value} : aw g 56 13 [l0, l1, l2, l3, l4] (x :: r) σ Q = (vRf x = true ∧ oc l3 = true ∧ aw g 56 15 [l0, l1, l2, l3, some (x)] r σ Q) := (aw_eq g 56 13 _ _ _ _).trans (by rw [tq56_13]; exact (h_store (o := oc l3) rfl rfl rfl))
theorem tq56_15 : tT g 56 15 = s_const 56 16 (.int 1) := rfl
theorem A56_15 {L : AL} {r : List Value} : aw g 56 15 L r σ Q = aw g 56 16 L (.int 1 :: r) σ Q := (aw_eq g 56 15 _ _ _ _).trans (by rw [tq56_15]; exact rfl)
theorem tq56_16 : tT g 56 16 = s_ret pI := rfl
theorem A56_16 {L : AL} {v : Value} : aw g 56 16 L [v] σ Q = (pI v ∧ Q (.inl (some v)) σ) := (aw_eq g 56 16 _ _ _ _).trans (by rw [tq56_16]; exact rfl)
theorem tq56_17 : tT g 56 17 = s_store vRf 56 19 4 := rfl
theorem A56_17 {l0 : Option Value} {l1 : Option Value} {l2 : Option Value} {l3 : Option Value} {l4 : Option Value} {x : Value} {r : List Value} : aw g 56 17 [l0, l1, l2, l3, l4] (x :: r) σ Q = (vRf x = true ∧ oc l3 = true ∧ aw g 56 19 [l0, l1, l2, l3, some (x)] r σ Q) := (aw_eq g 56 17 _ _ _ _).trans (by rw [tq56_17]; exact (h_store (o := oc l3) rfl rfl rfl))
theorem tq56_19 : tT g 56 19 = s_const 56 20 (.int 2) := rfl
theorem A56_19 {L : AL} {r : List Value} : aw g 56 19 L r σ Q = aw g 56 20 L (.int 2 :: r) σ Q := (aw_eq g 56 19 _ _ _ _).trans (by rw [tq56_19]; exact rfl)
theorem tq56_20 : tT g 56 20 = s_ret pI := rfl
theorem A56_20 {L : AL} {v : Value} : aw g 56 20 L [v] σ Q = (pI v ∧ Q (.inl (some v)) σ) := (aw_eq g 56 20 _ _ _ _).trans (by rw [tq56_20]; exact rfl)
theorem tq56_21 : tT g 56 21 = s_const 56 22 (.int 0) := rfl
theorem A56_21 {L : AL} {r : List Value} : aw g 56 21 L r σ Q = aw g 56 22 L (.int 0 :: r) σ Q := (aw_eq g 56 21 _ _ _ _).trans (by rw [tq56_21]; exact rfl)
theorem tq56_22 : tT g 56 22 = s_ret pI := rfl
theorem A56_22 {L : AL} {v : Value} : aw g 56 22 L [v] σ Q = (pI v ∧ Q (.inl (some v)) σ) := (aw_eq g 56 22 _ _ _ _).trans (by rw [tq56_22]; exact rfl)
theorem tq57_0 : tT g 57 0 = s_load vRf 57 1 3 := rfl
theorem A57_0 {l0 : Option Value} {l1 : Option Value} {l2 : Option Value} {l4 : Option Value} {x : Value} {r : List Value} : aw g 57 0 [l0, l1, l2, some (x), l4] r σ Q = (vRf x = true ∧ aw g 57 1 [l0, l1, l2, some (x), l4] (x :: r) σ Q) := (aw_eq g 57 0 _ _ _ _).trans (by rw [tq57_0]; exact h_load rfl)
theorem tq57_1 : tT g 57 1 = s_const 57 2 (.int 0) := rfl
theorem A57_1 {L : AL} {r : List Value} : aw g 57 1 L r σ Q = aw g 57 2 L (.int 0 :: r) σ Q := (aw_eq g 57 1 _ _ _ _).trans (by rw [tq57_1]; exact rfl)
theorem tq57_2 : tT g 57 2 = s_load vRf 57 3 0 := rfl
theorem A57_2 {l1 : Option Value} {l2 : Option Value} {l3 : Option Value} {l4 : Option Value} {x : Value} {r : List Value} : aw g 57 2 [some (x), l1, l2, l3, l4] r σ Q = (vRf x = true ∧ aw g 57 3 [some (x), l1, l2, l3, l4] (x :: r) σ Q) := (aw_eq g 57 2 _ _ _ _).trans (by rw [tq57_2]; exact h_load rfl)
theorem tq57_3 : tT g 57 3 = s_load vI 57 4 1 := rfl
theorem A57_3 {l0 : Option Value} {l2 : Option Value} {l3 : Option Value} {l4 : Option Value} {x : Int32} {r : List Value} : aw g 57 3 [l0, some (.int x), l2, l3, l4] r σ Q = aw g 57 4 [l0, some (.int x), l2, l3, l4] (.int x :: r) σ Q := (aw_eq g 57 3 _ _ _ _).trans (by rw [tq57_3]; exact (h_load rfl).trans (propext ⟨fun z => z.2, fun z => ⟨rfl, z⟩⟩))
theorem tq57_4 : tT g 57 4 = s_load vI 57 5 2 := rfl
theorem A57_4 {l0 : Option Value} {l1 : Option Value} {l3 : Option Value} {l4 : Option Value} {x : Int32} {r : List Value} : aw g 57 4 [l0, l1, some (.int x), l3, l4] r σ Q = aw g 57 5 [l0, l1, some (.int x), l3, l4] (.int x :: r) σ Q := (aw_eq g 57 4 _ _ _ _).trans (by rw [tq57_4]; exact (h_load rfl).trans (propext ⟨fun z => z.2, fun z => ⟨rfl, z⟩⟩))
theorem tq57_5 : tT g 57 5 = s_callhk (fun k => match k with | 2 => some 13 | 0 => some 17 | 1 => some 21 | _ => none) 57 8 102 0 [0, 0] 4 := rfl
theorem A57_5 {L : AL} {r : List Value} {a : Nat} {w0 w1 : Value} : aw g 57 5 L (w1 :: w0 :: .ref a :: r) σ Q = (hty σ a = some 0 ∧ (vI w0 && (vI w1 && true)) = true ∧ csum r ≤ 8 ∧ aw g 102 0 [some (.ref a), some w0, some w1, none] [] σ (kth (fun k => match k with | 2 => some 13 | 0 => some 17 | 1 => some 21 | _ => none) (aw g) 57 8 L r Q)) := (aw_eq g 57 5 _ _ _ _).trans (by rw [tq57_5]; exact rfl)
theorem tq57_8 : tT g 57 8 = s_i2 57 9 (fun a => .long a.toInt64) := rfl
theorem A57_8 {L : AL} {r : List Value} {a : Int32} : aw g 57 8 L (.int a :: r) σ Q = aw g 57 9 L (.long a.toInt64 :: r) σ Q := (aw_eq g 57 8 _ _ _ _).trans (by rw [tq57_8]; exact rfl)
theorem tq57_9 : tT g 57 9 = s_ast g (fun _ v => vL v = true) 57 10 22 := rfl
theorem A57_9 {L : AL} {r : List Value} {a : Nat} {i : Int32} {v : Value} : aw g 57 9 L (v :: .int i :: .ref a :: r) σ Q = (hty σ a = some 22 ∧ gB g ≤ a ∧ ¬ i < 0 ∧ i.toNatClampNeg < hln σ a ∧ vL v = true ∧ aw g 57 10 L r (hput σ 22 a i.toNatClampNeg v) Q) := (aw_eq g 57 9 _ _ _ _).trans (by rw [tq57_9]; exact rfl)
theorem tq57_10 : tT g 57 10 = s_goto 57 25 := rfl
theorem A57_10 {L : AL} {r : List Value} : aw g 57 10 L r σ Q = aw g 57 25 L r σ Q := (aw_eq g 57 10 _ _ _ _).trans (by rw [tq57_10]; exact rfl)
theorem tq57_13 : tT g 57 13 = s_store vRf 57 15 4 := rfl
theorem A57_13 {l0 : Option Value} {l1 : Option Value} {l2 : Option Value} {l3 : Option Value} {l4 : Option Value} {x : Value} {r : List Value} : aw g 57 13 [l0, l1, l2, l3, l4] (x :: r) σ Q = (vRf x = true ∧ oc l3 = true ∧ aw g 57 15 [l0, l1, l2, l3, some (x)] r σ Q) := (aw_eq g 57 13 _ _ _ _).trans (by rw [tq57_13]; exact (h_store (o := oc l3) rfl rfl rfl))
theorem tq57_15 : tT g 57 15 = s_const 57 16 (.int 1) := rfl
theorem A57_15 {L : AL} {r : List Value} : aw g 57 15 L r σ Q = aw g 57 16 L (.int 1 :: r) σ Q := (aw_eq g 57 15 _ _ _ _).trans (by rw [tq57_15]; exact rfl)
theorem tq57_16 : tT g 57 16 = s_ret pI := rfl
theorem A57_16 {L : AL} {v : Value} : aw g 57 16 L [v] σ Q = (pI v ∧ Q (.inl (some v)) σ) := (aw_eq g 57 16 _ _ _ _).trans (by rw [tq57_16]; exact rfl)
theorem tq57_17 : tT g 57 17 = s_store vRf 57 19 4 := rfl
theorem A57_17 {l0 : Option Value} {l1 : Option Value} {l2 : Option Value} {l3 : Option Value} {l4 : Option Value} {x : Value} {r : List Value} : aw g 57 17 [l0, l1, l2, l3, l4] (x :: r) σ Q = (vRf x = true ∧ oc l3 = true ∧ aw g 57 19 [l0, l1, l2, l3, some (x)] r σ Q) := (aw_eq g 57 17 _ _ _ _).trans (by rw [tq57_17]; exact (h_store (o := oc l3) rfl rfl rfl))
theorem tq57_19 : tT g 57 19 = s_const 57 20 (.int 2) := rfl
theorem A57_19 {L : AL} {r : List Value} : aw g 57 19 L r σ Q = aw g 57 20 L (.int 2 :: r) σ Q := (aw_eq g 57 19 _ _ _ _).trans (by rw [tq57_19]; exact rfl)
theorem tq57_20 : tT g 57 20 = s_ret pI := rfl
theorem A57_20 {L : AL} {v : Value} : aw g 57 20 L [v] σ Q = (pI v ∧ Q (.inl (some v)) σ) := (aw_eq g 57 20 _ _ _ _).trans (by rw [tq57_20]; exact rfl)
theorem tq57_21 : tT g 57 21 = s_store vRf 57 23 4 := rfl
theorem A57_21 {l0 : Option Value} {l1 : Option Value} {l2 : Option Value} {l3 : Option Value} {l4 : Option Value} {x : Value} {r : List Value} : aw g 57 21 [l0, l1, l2, l3, l4] (x :: r) σ Q = (vRf x = true ∧ oc l3 = true ∧ aw g 57 23 [l0, l1, l2, l3, some (x)] r σ Q) := (aw_eq g 57 21 _ _ _ _).trans (by rw [tq57_21]; exact (h_store (o := oc l3) rfl rfl rfl))
theorem tq57_23 : tT g 57 23 = s_const 57 24 (.int 3) := rfl
theorem A57_23 {L : AL} {r : List Value} : aw g 57 23 L r σ Q = aw g 57 24 L (.int 3 :: r) σ Q := (aw_eq g 57 23 _ _ _ _).trans (by rw [tq57_23]; exact rfl)
theorem tq57_24 : tT g 57 24 = s_ret pI := rfl
theorem A57_24 {L : AL} {v : Value} : aw g 57 24 L [v] σ Q = (pI v ∧ Q (.inl (some v)) σ) := (aw_eq g 57 24 _ _ _ _).trans (by rw [tq57_24]; exact rfl)
theorem tq57_25 : tT g 57 25 = s_const 57 26 (.int 0) := rfl
theorem A57_25 {L : AL} {r : List Value} : aw g 57 25 L r σ Q = aw g 57 26 L (.int 0 :: r) σ Q := (aw_eq g 57 25 _ _ _ _).trans (by rw [tq57_25]; exact rfl)
theorem tq57_26 : tT g 57 26 = s_ret pI := rfl
theorem A57_26 {L : AL} {v : Value} : aw g 57 26 L [v] σ Q = (pI v ∧ Q (.inl (some v)) σ) := (aw_eq g 57 26 _ _ _ _).trans (by rw [tq57_26]; exact rfl)
end STEPS
