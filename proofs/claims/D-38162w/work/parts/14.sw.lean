/-! THE MACHINE BEHIND THE ABSTRACT ONE: what a heap of the machine has to do with an abstract one, and what a step functional has to show -/
abbrev MI : Type := MethodName × ByteArray × Nat × Option FieldType × Nat × List (Nat × Nat × Nat × Nat)
/-- the classes by their tags: 0 HyperVane, 1 Machine, 2 Frame, 3 HyperVaneModel, 4 World, 5 Guest, 6 Mind, 7 the model's Guest, 8 Op, 9 Past, 10 ArrayList, 11 its Itr, 12 Integer -/
def tgN : List vw_C := [(RX1, TX1, 1), (RX2, TX2, 10), (RX3, TX3, 3), (RX4, TX4, 3), (RX5, TX5, 10), (RX6, TX6, 22), (RX7, TX7, 4), (RX8, TX8, 32), (RX9, TX9, 2), (RX10, TX10, 5), (RJ2, TJ2, 3), (RJ16, TJ16, 4), (RJ18, TJ18, 1)]
def tgF (t : Nat) : Nat := match tgN[t]? with
  | some q => q.2.2
  | none => 0
/-- the arrays by their tags, from 20 on; 27: the law's script -/
def tgA (D : Nat → ClassId) : List (ClassId × FieldType) := [(D 20, .int), (D 21, .boolean), (D 22, .long), (D 23, .double), (D 24, .object "java/lang/Object"), (D 26, .object "java/lang/Integer")]
def cR (g : GC) (D : va_G) (σ : AH) (H : Heap) (a t : Nat) : Prop := ∃ cell : Cell, H[a]? = some cell ∧ cell.cls = D.1 t ∧ cell.vm ≠ .unknown ∧ cell.vm.isStatics = false ∧ (gB g ≤ a → cell.vm = .none) ∧ (t < 20 → ∀ k, k < tgF t → cell.slots[D.2 t k]? = some (hv σ t a k)) ∧ (20 ≤ t → cell.slots.size = hln σ a ∧ ∀ j, j < hln σ a → cell.slots[j]? = some (hv σ t a j))
def hTot (H : Heap) : Nat := H.foldl (fun n c => n + c.slots.size) 0
def hR (g : GC) (D : va_G) (H0 : Heap) (σ : AH) (H : Heap) : Prop := H.size = hsz σ ∧ hTot H = hsl σ ∧ hsz σ ≤ gC g ∧ hsl σ ≤ gS g ∧ gB g ≤ H.size ∧ (∀ q : Nat, q < gB g → H[q]? = H0[q]?) ∧ ∀ a t : Nat, hty σ a = some t → cR g D σ H a t
theorem hTot_list (H : Heap) : hTot H = (H.toList.map (fun c => c.slots.size)).sum := by
  have key : ∀ (l : List Cell) (n : Nat), l.foldl (fun n c => n + c.slots.size) n = n + (l.map (fun c => c.slots.size)).sum := by
    intro l
    induction l with
    | nil => intro n; simp
    | cons c l ih => intro n; rw [List.foldl_cons, ih]; simp; omega
  unfold hTot
  rw [← Array.foldl_toList, key]
  simp
theorem hTot_push (H : Heap) (c : Cell) : hTot (H.push c) = hTot H + c.slots.size := by
  rw [hTot_list, hTot_list]
  simp
theorem hTot_congr {H H' : Heap} (hs : H'.size = H.size) (h : ∀ (i : Nat) (c c' : Cell), H[i]? = some c → H'[i]? = some c' → c'.slots.size = c.slots.size) : hTot H' = hTot H := by
  rw [hTot_list, hTot_list]
  congr 1
  apply List.ext_getElem?
  intro i
  rw [List.getElem?_map, List.getElem?_map, Array.getElem?_toList, Array.getElem?_toList]
  cases h1 : H[i]? with
  | none =>
    have h2 : H.size ≤ i := by simpa using h1
    have h3 : H'[i]? = none := by simp; omega
    rw [h3]
  | some c =>
    have h2 : i < H.size := (Array.getElem?_eq_some_iff.mp h1).1
    have h3 : H'[i]? = some H'[i] := Array.getElem?_eq_getElem (by omega)
    rw [h3, Option.map_some, Option.map_some, h i c _ h1 h3]
/-- the tables and the statics, as every method's start has them -/
def nwk (w : Cond) : Bool := match w with
  | .fieldLinkNest _ _ _ _ _ _ => true
  | .methodLinkNest _ _ _ _ => true
  | .castable _ _ => true
  | .declares _ => true
  | _ => false
def nwT : List Cond := lw_tbl.filter nwk
def fwL : List (String × MethodName × MethodName) := [(RJ16, ⟨"java/util/Iterator", "hasNext", "()Z"⟩, yJ16_hasNext), (RJ16, ⟨"java/util/Iterator", "next", "()Ljava/lang/Object;"⟩, yJ16_next), (RJ2, ⟨"java/util/List", "size", "()I"⟩, yJ2_size), (RJ2, ⟨"java/util/List", "get", "(I)Ljava/lang/Object;"⟩, yJ2_get), (RJ2, ⟨"java/util/Collection", "toArray", "()[Ljava/lang/Object;"⟩, yJ2_toArray)]
def exN : Nat → String
  | 0 => "java/lang/IllegalArgumentException"
  | 1 => "java/lang/IllegalStateException"
  | _ => "java/lang/IndexOutOfBoundsException"
def ncL : List (String × String) := [(exN 0, exN 2), (exN 1, exN 0), (exN 1, exN 2), (exN 0, exN 1)]
/-- what getClass() through java/util/Collection asks of the tables -/
def fcG (U : State) : Prop := (Cond.declares ⟨"java/lang/Object", "getClass", "()Ljava/lang/Class;"⟩).before #[] U = true ∧ (Cond.interfaceMethod "java/util/Collection" "java/lang/Object" "getClass" "()Ljava/lang/Class;").before #[] U = true ∧ (Cond.publicMethod ⟨"java/lang/Object", "getClass", "()Ljava/lang/Class;"⟩).before #[] U = true ∧ (Cond.unhidden "java/util/ArrayList" "getClass" "()Ljava/lang/Class;").before #[] U = true
theorem fcG_moved {u U : State} (hvm : u.vm.Alike U.vm) (h : fcG u) : fcG U := by
  obtain ⟨h1, h2, h3, h4⟩ := h
  have tr : ∀ {c : Cond}, c.onTables = true → c.before #[] (u.setVm U.vm) = true → c.before #[] U = true := fun hc h => va_tabs hc (rfl : (u.setVm U.vm).vm = U.vm) h
  refine ⟨tr rfl (by rw [Cond.declares_setVm hvm]; exact h1), tr rfl ?_, tr rfl (by rw [Cond.publicMethod_setVm hvm]; exact h3), tr rfl (by rw [Cond.unhidden_setVm hvm]; exact h4)⟩
  have e : (Cond.interfaceMethod "java/util/Collection" "java/lang/Object" "getClass" "()Ljava/lang/Class;").before #[] (u.setVm U.vm) = (Cond.interfaceMethod "java/util/Collection" "java/lang/Object" "getClass" "()Ljava/lang/Class;").before #[] u := by
    simp only [Cond.before, Cond.holds, Cond.value, State.vm_setVm, hvm.findClass, State.methodFound?_setVm hvm, State.methodNamed?_setVm hvm, arm_isInterface_setVm hvm]
  rw [e]
  exact h2
def tI (g : GC) (D : va_G) (H0 : Heap) (s : State) : Prop :=
  va_K D tgN (tgA D.1) s ∧ (∀ w ∈ nwT, va_Nw w s) ∧ (∀ q ∈ fwL, va_Fw q.1 q.2.1 q.2.2 s) ∧ va_AO "java/lang/Object" s ∧ (Cond.arrayOver (.array .int)).before #[] s = true ∧
  va_Z "java/util/ArrayList" "DEFAULTCAPACITY_EMPTY_ELEMENTDATA" "[Ljava/lang/Object;" (.ref (gV g 0)) (fun q => gB g ≤ q) s s.heap ∧
  va_Z "java/util/ArrayList" "EMPTY_ELEMENTDATA" "[Ljava/lang/Object;" (.ref (gV g 1)) (fun q => gB g ≤ q) s s.heap ∧
  va_Z "java/lang/Integer$IntegerCache" "high" "I" (.int 127) (fun q => gB g ≤ q) s s.heap ∧
  va_Z "java/lang/Integer$IntegerCache" "cache" "[Ljava/lang/Integer;" (.ref (gV g 2)) (fun q => gB g ≤ q) s s.heap ∧
  va_Mi "[Ljava/lang/Object;" (gV g 3) s ∧ va_Mi "java/util/ArrayList" (gV g 4) s ∧
  vx_Zq Bundle.tN "UNASSIGNED_STACK" Bundle.steD (fun q => gB g ≤ q) s s.heap ∧ vx_Zq Bundle.tN "SUPPRESSED_SENTINEL" Bundle.listD (fun q => gB g ≤ q) s s.heap ∧
  (∀ q ∈ ncL, va_Nc q.1 q.2 s) ∧ (∀ q : Nat, q < gB g → s.heap[q]? = H0[q]?) ∧ gB g ≤ s.heap.size ∧ ArrOfT s (D.1 27) .int ∧ ArrOfT s (D.1 25) (.array .int) ∧ (∃ (k : Class) (comp : ClassId), s.vm.classes[D.1 25]? = some k ∧ k.kind = .array comp (.array .int) ∧ s.vm.findClass (FieldType.array FieldType.int).toString = some comp ∧ s.vm.findClass ("[" ++ (FieldType.array FieldType.int).toString) = some (D.1 25)) ∧ fcG s
theorem nwk_moved {w : Cond} {s U : State} (h : nwk w = true) (hW : s.WarmedH U.vm) (hw : va_Nw w s) : va_Nw w U := by
  cases w with
  | fieldLinkNest a i b n d q => exact va_Nw.warmF hW hw
  | methodLinkNest a i x q => exact va_Nw.warmM hW hw
  | castable a b => exact va_Nw.warmC hW hw
  | declares x => exact va_Nw.warmD hW hw
  | _ => cases h
theorem aoI_moved {u U : State} (hvm : u.vm.Alike U.vm) (h : (Cond.arrayOver (.array .int)).before #[] u = true) : (Cond.arrayOver (.array .int)).before #[] U = true :=
  (show (Cond.arrayOver (.array .int)).before #[] (u.setVm U.vm) = true by rw [Cond.arrayOver_setVmC hvm]; exact h)
theorem tI_moved {g : GC} {D : va_G} {H0 : Heap} {s U : State} (hW : s.WarmedH U.vm) (hq : ∀ q : Nat, q < gB g → U.heap[q]? = H0[q]?) (hz : gB g ≤ U.heap.size) (h : tI g D H0 s) : tI g D H0 U := by
  obtain ⟨h1, h2, h3, h4, h5, h6, h7, h8, h9, h10, h11, h12, h13, h14, h15, h16, h17, h18, h19, h20⟩ := h
  have hA := hW.alike
  have hk : ∀ a : Nat, a < s.heap.size → ¬ (gB g ≤ a) → U.heap[a]? = s.heap[a]? := fun a _ hn => by rw [hq a (by omega), h15 a (by omega)]
  refine ⟨h1.moved hA, fun w hw => nwk_moved (List.mem_filter.mp hw).2 hW (h2 w hw), fun q hq => (h3 q hq).moved ?_ hA, h4.moved hA, ?_, (h6.kept hk).moved hA, (h7.kept hk).moved hA, (h8.kept hk).moved hA, (h9.kept hk).moved hA, h10.moved hA, h11.moved hA, (h12.kept hk).moved hA, (h13.kept hk).moved hA, fun q hq => (h14 q hq).moved hA, hq, hz, arrOfT_moved hA h17, arrOfT_moved hA h18, ?_, fcG_moved hA h20⟩
  · revert q
    decide +kernel
  · exact aoI_moved hA h5
  · obtain ⟨k, comp, e1, e2, e3, e4⟩ := h19
    obtain ⟨k', hk', he⟩ := hA.2.2 _ _ e1
    exact ⟨k', comp, hk', by rw [he]; exact e2, by rw [hA.findClass]; exact e3, by rw [hA.findClass]; exact e4⟩
/-- the locals -/
def lr (ls : Array Slot) (n : Nat) (L : AL) : Prop := ls.size = n ∧ L.length = n ∧ lv_wf ls ∧ ∀ (k : Nat) (v : Value), L[k]? = some (some v) → ls[k]? = some (.val v)
def qC (g : GC) (D : va_G) (H0 : Heap) (Q : AQ) : Array Value → State → Outcome → State → Prop := fun _ _ o t => ∃ (v : Option Value) (σ : AH), o = .returned v ∧ Q (.inl v) σ ∧ hR g D H0 σ t.heap
def qX (g : GC) (D : va_G) (H0 : Heap) (Q : AQ) : String → State → State → Prop := fun E _ t => ∃ (k : Nat) (σ : AH), E = exN k ∧ Q (.inr k) σ ∧ hR g D H0 σ t.heap
def sX (l : Launch) (g : GC) (D : va_G) (H0 : Heap) (i : MI) (p : Program) (R : Room) (s : State) (m : MethodId) (args : Array Value) (meth : Method) (c : Code) : Prop :=
  p.tables.exec = Jvm.exec ∧ c.code = i.2.1 ∧ meth.sig.returnType = i.2.2.2.1 ∧ c.maxLocals = i.2.2.1 ∧ s.vm.findClass i.1.cls = some m.cls ∧ (∀ w ∈ lw_all, w.before args s = true) ∧ meth.locks = false ∧ c.exceptionTable.toList = tableOf i.2.2.2.2.2 ∧ meth.name = i.1.name ∧ tI g D H0 s ∧
  i.2.2.2.2.1 ≤ R.frames ∧ 428 * i.2.2.2.2.1 ≤ R.locals ∧ gC g ≤ s.heap.size + R.cells ∧ gS g ≤ hTot s.heap + R.slots ∧ l.stackTraces = false
/-- what an abstract run says of the machine -/
def sW (l : Launch) (g : GC) (D : va_G) (H0 : Heap) (mi : Nat → MI) : PT := fun y pc L st σ Q => ∀ (p : Program) (e : Env) (R : Room) (s : State) (m : MethodId) (args : Array Value) (below : List Frame) (meth : Method) (c : Code), sX l g D H0 (mi y) p R s m args meth c →
  ∀ (H : Heap) (locs : List Loc) (cells slots : Nat) (ls : Array Slot), hR g D H0 σ H → lr ls (mi y).2.2.1 L → (∀ z ∈ locs, gB g ≤ z.base) →
  W p l e R s m args below meth c H locs cells slots (vx_MQ below (qC g D H0 Q) (qX g D H0 Q) args s (gC g - s.heap.size) (gS g - hTot s.heap) (fun q => gB g ≤ q)) (F0 m pc ls st)
/-- a step functional is right at (y, pc) -/
def sOk (l : Launch) (g : GC) (D : va_G) (H0 : Heap) (mi : Nat → MI) (y pc : Nat) (F : FT) : Prop := ∀ (L : AL) (st : List Value) (σ : AH) (Q : AQ), F (sW l g D H0 mi) L st σ Q → sW l g D H0 mi y pc L st σ Q
section TIGHT
variable {p : Program} {l : Launch} {e : Env} {R : Room} {s : State} {m : MethodId} {args : Array Value} {below : List Frame} {meth : Method} {c : Code} {H : Heap} {locs : List Loc} {cells slots : Nat} {Q : State → Prop}
theorem w_tight {gf : JFrame} (k : s.heap.size ≤ H.size → hTot s.heap ≤ hTot H → W p l e R s m args below meth c H locs (H.size - s.heap.size) (hTot H - hTot s.heap) Q gf) : W p l e R s m args below meth c H locs cells slots Q gf := by
  intro T hT X
  obtain ⟨e1, e2, e3, e4, e5, e6⟩ := X.same
  have b1 : T.slotsUsed = hTot T.heap := by
    have h := X.book
    unfold State.slotsTrue at h
    exact (beq_iff_eq.mp h)
  have b2 : s.slotsUsed = hTot s.heap := by
    have h := X.room
    simp only [State.hasRoom, Bool.and_eq_true] at h
    exact (beq_iff_eq.mp h.2)
  have e4' : T.slotsUsed = s.slotsUsed + ((T.heap.toList.drop s.heap.size).map (·.slots.size)).sum := e4
  have e2' : s.heap.size ≤ T.heap.size := e2
  rw [b1, b2, hT] at e4'
  rw [hT] at e2'
  have X' : Stand p l e R s m args below meth c T locs (H.size - s.heap.size) (hTot H - hTot s.heap) := by
    refine { X with same := ⟨e1, e2, ?_, e4, ?_, e6⟩ }
    · show T.heap.size ≤ s.heap.size + (H.size - s.heap.size)
      rw [hT]
      omega
    · show ((T.heap.toList.drop s.heap.size).map (·.slots.size)).sum ≤ hTot H - hTot s.heap
      rw [hT]
      omega
  exact k e2' (by omega) T hT X'
end TIGHT
