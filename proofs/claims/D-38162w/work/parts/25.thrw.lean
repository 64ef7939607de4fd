/-! what the three throws ask of the tables -/
set_option maxRecDepth 100000 in
theorem thr_a0 : ∀ w ∈ vx_at0 "HyperVane" 3 (exN 0) ["java/lang/RuntimeException", "java/lang/Exception"], goodWord w = true ∨ (nwk w = true ∧ w.onTables = true) := by decide +kernel
set_option maxRecDepth 100000 in
theorem thr_b0 : ∀ w ∈ vx_at0 "HyperVane" 3 (exN 0) ["java/lang/RuntimeException", "java/lang/Exception"], w ∈ lw_tbl := by decide +kernel
set_option maxRecDepth 100000 in
theorem thr_c0 : ∀ w ∈ Cond.classLink "HyperVane" 1 (exN 0) :: Cond.initialized (exN 0) :: vx_at0 "HyperVane" 3 (exN 0) ["java/lang/RuntimeException", "java/lang/Exception"], vx_ot w = true := by decide +kernel
theorem thr_h0 : ∀ w ∈ vx_at0 "HyperVane" 3 (exN 0) ["java/lang/RuntimeException", "java/lang/Exception"], w ∈ lw_all ∨ (w ∈ lw_tbl ∧ nwk w = true ∧ w.onTables = true) := fun w hw => (thr_a0 w hw).elim (fun q => Or.inl (List.mem_filter.mpr ⟨thr_b0 w hw, q⟩)) (fun q => Or.inr ⟨thr_b0 w hw, q.1, q.2⟩)
theorem thr_f0 : Bundle.fit (exN 0) = true := by decide +kernel
theorem thr_n0 : ∀ n ∈ ["java/lang/RuntimeException", "java/lang/Exception"], Bundle.fit n = true := by decide +kernel
set_option maxRecDepth 100000 in
theorem thr_a1 : ∀ w ∈ vx_at0 "HyperVane" 9 (exN 1) ["java/lang/RuntimeException", "java/lang/Exception"], goodWord w = true ∨ (nwk w = true ∧ w.onTables = true) := by decide +kernel
set_option maxRecDepth 100000 in
theorem thr_b1 : ∀ w ∈ vx_at0 "HyperVane" 9 (exN 1) ["java/lang/RuntimeException", "java/lang/Exception"], w ∈ lw_tbl := by decide +kernel
set_option maxRecDepth 100000 in
theorem thr_c1 : ∀ w ∈ Cond.classLink "HyperVane" 7 (exN 1) :: Cond.initialized (exN 1) :: vx_at0 "HyperVane" 9 (exN 1) ["java/lang/RuntimeException", "java/lang/Exception"], vx_ot w = true := by decide +kernel
theorem thr_h1 : ∀ w ∈ vx_at0 "HyperVane" 9 (exN 1) ["java/lang/RuntimeException", "java/lang/Exception"], w ∈ lw_all ∨ (w ∈ lw_tbl ∧ nwk w = true ∧ w.onTables = true) := fun w hw => (thr_a1 w hw).elim (fun q => Or.inl (List.mem_filter.mpr ⟨thr_b1 w hw, q⟩)) (fun q => Or.inr ⟨thr_b1 w hw, q.1, q.2⟩)
theorem thr_f1 : Bundle.fit (exN 1) = true := by decide +kernel
theorem thr_n1 : ∀ n ∈ ["java/lang/RuntimeException", "java/lang/Exception"], Bundle.fit n = true := by decide +kernel
set_option maxRecDepth 100000 in
theorem thr_a2 : ∀ w ∈ vx_at0 "HyperVane" 12 (exN 2) ["java/lang/RuntimeException", "java/lang/Exception"], goodWord w = true ∨ (nwk w = true ∧ w.onTables = true) := by decide +kernel
set_option maxRecDepth 100000 in
theorem thr_b2 : ∀ w ∈ vx_at0 "HyperVane" 12 (exN 2) ["java/lang/RuntimeException", "java/lang/Exception"], w ∈ lw_tbl := by decide +kernel
set_option maxRecDepth 100000 in
theorem thr_c2 : ∀ w ∈ Cond.classLink "HyperVane" 10 (exN 2) :: Cond.initialized (exN 2) :: vx_at0 "HyperVane" 12 (exN 2) ["java/lang/RuntimeException", "java/lang/Exception"], vx_ot w = true := by decide +kernel
theorem thr_h2 : ∀ w ∈ vx_at0 "HyperVane" 12 (exN 2) ["java/lang/RuntimeException", "java/lang/Exception"], w ∈ lw_all ∨ (w ∈ lw_tbl ∧ nwk w = true ∧ w.onTables = true) := fun w hw => (thr_a2 w hw).elim (fun q => Or.inl (List.mem_filter.mpr ⟨thr_b2 w hw, q⟩)) (fun q => Or.inr ⟨thr_b2 w hw, q.1, q.2⟩)
theorem thr_f2 : Bundle.fit (exN 2) = true := by decide +kernel
theorem thr_n2 : ∀ n ∈ ["java/lang/RuntimeException", "java/lang/Exception"], Bundle.fit n = true := by decide +kernel
