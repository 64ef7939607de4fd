/-! THE ABSTRACT MACHINE (no program in sight): a heap of typed cells, a frame as (method number, pc, locals, stack), one step functional an instruction, and 'aw': the least predicate closed under the steps. -/
/-- abstract heap: the class tag of a cell, its values (by tag, address, place), an array's length, the next address, the slots in use -/
def AH : Type := (Nat → Option Nat) × (Nat → Nat → Nat → Value) × (Nat → Nat) × Nat × Nat
def hsz (σ : AH) : Nat := σ.2.2.2.1
def hsl (σ : AH) : Nat := σ.2.2.2.2
def hty (σ : AH) (a : Nat) : Option Nat := if a < hsz σ then σ.1 a else none
def hv (σ : AH) (t a k : Nat) : Value := σ.2.1 t a k
def hln (σ : AH) (a : Nat) : Nat := σ.2.2.1 a
def hput (σ : AH) (t a k : Nat) (x : Value) : AH := (σ.1, (fun t' a' k' => if t' = t ∧ a' = a ∧ k' = k then x else σ.2.1 t' a' k'), σ.2.2)
def hnew (σ : AH) (t n : Nat) (f : Nat → Value) (s : Nat) : AH := ((fun b => if b = hsz σ then some t else σ.1 b), (fun t' a' k' => if t' = t ∧ a' = hsz σ then f k' else σ.2.1 t' a' k'), (fun b => if b = hsz σ then n else σ.2.2.1 b), hsz σ + 1, hsl σ + s)
/-- some cells more of which nothing is known -/
def hopq (σ : AH) (i j : Nat) : AH := ((fun b => if hsz σ ≤ b then none else σ.1 b), σ.2.1, σ.2.2.1, hsz σ + i, hsl σ + j)
def hcpy (σ : AH) (t s sp d dp n : Nat) : AH := (σ.1, (fun t' a' k' => if t' = t ∧ a' = d ∧ dp ≤ k' ∧ k' < dp + n then σ.2.1 t s (sp + (k' - dp)) else σ.2.1 t' a' k'), σ.2.2)
theorem hsz_put (σ : AH) (t a k : Nat) (x : Value) : hsz (hput σ t a k x) = hsz σ := rfl
theorem hsl_put (σ : AH) (t a k : Nat) (x : Value) : hsl (hput σ t a k x) = hsl σ := rfl
theorem hty_put (σ : AH) (t a k : Nat) (x : Value) (b : Nat) : hty (hput σ t a k x) b = hty σ b := rfl
theorem hln_put (σ : AH) (t a k : Nat) (x : Value) (b : Nat) : hln (hput σ t a k x) b = hln σ b := rfl
theorem hv_put (σ : AH) (t a k : Nat) (x : Value) (t' a' k' : Nat) : hv (hput σ t a k x) t' a' k' = if t' = t ∧ a' = a ∧ k' = k then x else hv σ t' a' k' := rfl
theorem hsz_new (σ : AH) (t n : Nat) (f : Nat → Value) (s : Nat) : hsz (hnew σ t n f s) = hsz σ + 1 := rfl
theorem hsl_new (σ : AH) (t n : Nat) (f : Nat → Value) (s : Nat) : hsl (hnew σ t n f s) = hsl σ + s := rfl
theorem hln_new (σ : AH) (t n : Nat) (f : Nat → Value) (s : Nat) (b : Nat) : hln (hnew σ t n f s) b = if b = hsz σ then n else hln σ b := rfl
theorem hv_new (σ : AH) (t n : Nat) (f : Nat → Value) (s : Nat) (t' a' k' : Nat) : hv (hnew σ t n f s) t' a' k' = if t' = t ∧ a' = hsz σ then f k' else hv σ t' a' k' := rfl
theorem hty_new (σ : AH) (t n : Nat) (f : Nat → Value) (s : Nat) (b : Nat) : hty (hnew σ t n f s) b = if b = hsz σ then some t else hty σ b := by
  unfold hty
  rw [hsz_new]
  show (if b < hsz σ + 1 then (if b = hsz σ then some t else σ.1 b) else none) = _
  by_cases h : b = hsz σ
  · subst h
    simp
  · by_cases h2 : b < hsz σ
    · rw [if_pos (by omega), if_neg h, if_neg h, if_pos h2]
    · rw [if_neg (by omega), if_neg h, if_neg h2]
theorem hsz_opq (σ : AH) (i j : Nat) : hsz (hopq σ i j) = hsz σ + i := rfl
theorem hsl_opq (σ : AH) (i j : Nat) : hsl (hopq σ i j) = hsl σ + j := rfl
theorem hln_opq (σ : AH) (i j b : Nat) : hln (hopq σ i j) b = hln σ b := rfl
theorem hv_opq (σ : AH) (i j t a k : Nat) : hv (hopq σ i j) t a k = hv σ t a k := rfl
theorem hty_opq (σ : AH) (i j b : Nat) : hty (hopq σ i j) b = hty σ b := by
  unfold hty
  rw [hsz_opq]
  show (if b < hsz σ + i then (if hsz σ ≤ b then none else σ.1 b) else none) = _
  by_cases h2 : b < hsz σ
  · rw [if_pos (by omega), if_neg (by omega), if_pos h2]
  · rw [if_neg h2]
    by_cases h3 : b < hsz σ + i
    · rw [if_pos h3, if_pos (by omega)]
    · rw [if_neg h3]
theorem hsz_cpy (σ : AH) (t s sp d dp n : Nat) : hsz (hcpy σ t s sp d dp n) = hsz σ := rfl
theorem hsl_cpy (σ : AH) (t s sp d dp n : Nat) : hsl (hcpy σ t s sp d dp n) = hsl σ := rfl
theorem hty_cpy (σ : AH) (t s sp d dp n : Nat) (b : Nat) : hty (hcpy σ t s sp d dp n) b = hty σ b := rfl
theorem hln_cpy (σ : AH) (t s sp d dp n : Nat) (b : Nat) : hln (hcpy σ t s sp d dp n) b = hln σ b := rfl
theorem hv_cpy (σ : AH) (t s sp d dp n : Nat) (t' a' k' : Nat) : hv (hcpy σ t s sp d dp n) t' a' k' = if t' = t ∧ a' = d ∧ dp ≤ k' ∧ k' < dp + n then hv σ t s (sp + (k' - dp)) else hv σ t' a' k' := rfl
theorem hty_lt {σ : AH} {a t : Nat} (h : hty σ a = some t) : a < hsz σ := by
  unfold hty at h
  by_cases q : a < hsz σ
  · exact q
  · rw [if_neg q] at h
    cases h
abbrev AL : Type := List (Option Value)
abbrev AO : Type := Option Value ⊕ Nat
abbrev AQ : Type := AO → AH → Prop
abbrev PT : Type := Nat → Nat → AL → List Value → AH → AQ → Prop
abbrev FT : Type := PT → AL → List Value → AH → AQ → Prop
/-- what stays the same through a claim: the most cells, the most slots, the first cell that may be written; the statics and class objects by number -/
def GC : Type := (Nat × Nat × Nat) × (Nat → Nat)
def gC (g : GC) : Nat := g.1.1
def gS (g : GC) : Nat := g.1.2.1
def gB (g : GC) : Nat := g.1.2.2
def gV (g : GC) (k : Nat) : Nat := g.2 k
def csum (r : List Value) : Nat := (r.map fun v => v.category).sum
def vRf : Value → Bool
  | .ref _ => true
  | .null => true
  | _ => false
def vI : Value → Bool
  | .int _ => true
  | _ => false
def vL : Value → Bool
  | .long _ => true
  | _ => false
def vD : Value → Bool
  | .double _ => true
  | _ => false
/-- a boolean's ints -/
def vZ : Value → Prop
  | .int x => x = 0 ∨ x = 1
  | _ => False
/-- the place ahead of a store holds no long -/
def oc : Option Value → Bool
  | none => true
  | some v => v.category == 1
def oks : AL → Nat → Bool
  | _, 0 => true
  | L, k + 1 => oc (L.getD k none)
/-- the entry's locals -/
def ent (n : Nat) (vs : List Value) : AL := (vs.flatMap fun v => if v.category = 2 then [some v, none] else [some v]) ++ List.replicate (n - (vs.flatMap fun v => if v.category = 2 then [some v, none] else [some v]).length) none
/-- behind a call -/
def kt (P : PT) (y n : Nat) (L : AL) (r : List Value) (Q : AQ) : AQ := fun o σ => o.elim (fun v => P y n L (v.toList ++ r) σ Q) (fun E => Q (.inr E) σ)
/-- behind a call in a method with handlers -/
def kth (h : Nat → Option Nat) (P : PT) (y n : Nat) (L : AL) (r : List Value) (Q : AQ) : AQ := fun o σ => o.elim (fun v => P y n L (v.toList ++ r) σ Q) (fun E => match h E with
  | some t => ∀ q : Nat, P y t L [.ref q] σ Q
  | none => False)
def MonQ (P : PT) : Prop := ∀ (y pc : Nat) (L : AL) (st : List Value) (σ : AH) (Q Q' : AQ), (∀ o σ', Q o σ' → Q' o σ') → P y pc L st σ Q → P y pc L st σ Q'
def okF (F : FT) : Prop := ∀ (P P' : PT), MonQ P' → (∀ y pc L st σ Q, P y pc L st σ Q → P' y pc L st σ Q) → ∀ (L : AL) (st : List Value) (σ : AH) (Q Q' : AQ), (∀ o σ', Q o σ' → Q' o σ') → F P L st σ Q → F P' L st σ Q'
theorem kt_mono {P P' : PT} {Q Q' : AQ} (hm : MonQ P') (hle : ∀ y pc L st σ Q, P y pc L st σ Q → P' y pc L st σ Q) (hQ : ∀ o σ', Q o σ' → Q' o σ') (y n : Nat) (L : AL) (r : List Value) : ∀ o σ', kt P y n L r Q o σ' → kt P' y n L r Q' o σ' := by
  intro o σ' h
  cases o with
  | inl v => exact hm _ _ _ _ _ _ _ hQ (hle _ _ _ _ _ _ h)
  | inr E => exact hQ _ _ h
theorem kth_mono {P P' : PT} {Q Q' : AQ} (hh : Nat → Option Nat) (hm : MonQ P') (hle : ∀ y pc L st σ Q, P y pc L st σ Q → P' y pc L st σ Q) (hQ : ∀ o σ', Q o σ' → Q' o σ') (y n : Nat) (L : AL) (r : List Value) : ∀ o σ', kth hh P y n L r Q o σ' → kth hh P' y n L r Q' o σ' := by
  intro o σ' h
  cases o with
  | inl v => exact hm _ _ _ _ _ _ _ hQ (hle _ _ _ _ _ _ h)
  | inr E =>
    revert h
    show (match hh E with
      | some t => ∀ q : Nat, P y t L [.ref q] σ' Q
      | none => False) → (match hh E with
      | some t => ∀ q : Nat, P' y t L [.ref q] σ' Q'
      | none => False)
    cases hh E with
    | none => exact fun h => h
    | some t => exact fun h q => hm _ _ _ _ _ _ _ hQ (hle _ _ _ _ _ _ (h q))
/-! the step functionals -/
def s_none : FT := fun _ _ _ _ _ => False
def s_const (y n : Nat) (v : Value) : FT := fun P L st σ Q => P y n L (v :: st) σ Q
def s_load (ok : Value → Bool) (y n k : Nat) : FT := fun P L st σ Q => match L.getD k none with
  | some v => ok v = true ∧ P y n L (v :: st) σ Q
  | none => False
def s_store (ok : Value → Bool) (y n k : Nat) : FT := fun P L st σ Q => match st with
  | v :: r => ok v = true ∧ k < L.length ∧ oks L k = true ∧ P y n (L.set k (some v)) r σ Q
  | _ => False
def s_store2 (ok : Value → Bool) (y n k : Nat) : FT := fun P L st σ Q => match st with
  | v :: r => ok v = true ∧ k + 1 < L.length ∧ oks L k = true ∧ P y n ((L.set k (some v)).set (k + 1) none) r σ Q
  | _ => False
def s_iinc (y n k : Nat) (d : Int32) : FT := fun P L st σ Q => match L.getD k none with
  | some (.int x) => oks L k = true ∧ P y n (L.set k (some (.int (x + d)))) st σ Q
  | _ => False
def s_dup (y n : Nat) : FT := fun P L st σ Q => match st with
  | v :: r => v.category = 1 ∧ P y n L (v :: v :: r) σ Q
  | _ => False
def s_pop (y n : Nat) : FT := fun P L st σ Q => match st with
  | v :: r => v.category = 1 ∧ P y n L r σ Q
  | _ => False
def s_dupx1 (y n : Nat) : FT := fun P L st σ Q => match st with
  | v :: w :: r => v.category = 1 ∧ w.category = 1 ∧ P y n L (v :: w :: v :: r) σ Q
  | _ => False
def s_dup2 (y n : Nat) : FT := fun P L st σ Q => match st with
  | v :: w :: r => v.category = 1 ∧ w.category = 1 ∧ P y n L (v :: w :: v :: w :: r) σ Q
  | _ => False
def s_bin (y n : Nat) (f : Int32 → Int32 → Int32) : FT := fun P L st σ Q => match st with
  | .int b :: .int a :: r => P y n L (.int (f a b) :: r) σ Q
  | _ => False
def s_div (y n : Nat) (f : Int32 → Int32 → Int32) : FT := fun P L st σ Q => match st with
  | .int b :: .int a :: r => b ≠ 0 ∧ P y n L (.int (f a b) :: r) σ Q
  | _ => False
def s_i2 (y n : Nat) (f : Int32 → Value) : FT := fun P L st σ Q => match st with
  | .int a :: r => P y n L (f a :: r) σ Q
  | _ => False
def s_lbin (y n : Nat) (f : Int64 → Int64 → Value) : FT := fun P L st σ Q => match st with
  | .long b :: .long a :: r => P y n L (f a b :: r) σ Q
  | _ => False
def s_dbin (y n : Nat) (f : UInt64 → UInt64 → Value) : FT := fun P L st σ Q => match st with
  | .double b :: .double a :: r => P y n L (f a b :: r) σ Q
  | _ => False
def s_if (y n t : Nat) (c : Int32 → Prop) : FT := fun P L st σ Q => match st with
  | .int a :: r => (c a → P y t L r σ Q) ∧ (¬ c a → P y n L r σ Q)
  | _ => False
def s_icmp (y n t : Nat) (c : Int32 → Int32 → Prop) : FT := fun P L st σ Q => match st with
  | .int b :: .int a :: r => (c a b → P y t L r σ Q) ∧ (¬ c a b → P y n L r σ Q)
  | _ => False
/-- jumps to t where the two are one -/
def s_acmp (y n t : Nat) : FT := fun P L st σ Q => match st with
  | b :: a :: r => vRf a = true ∧ vRf b = true ∧ (a = b → P y t L r σ Q) ∧ (a ≠ b → P y n L r σ Q)
  | _ => False
def s_ifnull (y n t : Nat) : FT := fun P L st σ Q => match st with
  | a :: r => vRf a = true ∧ (a = .null → P y t L r σ Q) ∧ (a ≠ .null → P y n L r σ Q)
  | _ => False
def s_goto (y t : Nat) : FT := fun P L st σ Q => P y t L st σ Q
def s_tsw (y : Nat) (f : Int32 → Nat) : FT := fun P L st σ Q => match st with
  | .int a :: r => P y (f a) L r σ Q
  | _ => False
def s_getf (y n t k : Nat) : FT := fun P L st σ Q => match st with
  | .ref a :: r => hty σ a = some t ∧ P y n L (hv σ t a k :: r) σ Q
  | _ => False
def s_putf (g : GC) (ok : Value → Prop) (y n t k : Nat) : FT := fun P L st σ Q => match st with
  | v :: .ref a :: r => hty σ a = some t ∧ gB g ≤ a ∧ ok v ∧ P y n L r (hput σ t a k v) Q
  | _ => False
def s_new (g : GC) (y n t sl : Nat) (f : Nat → Value) : FT := fun P L st σ Q => hsz σ + 1 ≤ gC g ∧ hsl σ + sl ≤ gS g ∧ P y n L (.ref (hsz σ) :: st) (hnew σ t 0 f sl) Q
def s_newa (g : GC) (y n t : Nat) (d : Value) : FT := fun P L st σ Q => match st with
  | .int x :: r => ¬ x < 0 ∧ x.toNatClampNeg ≤ 65536 ∧ hsz σ + 1 ≤ gC g ∧ hsl σ + x.toNatClampNeg ≤ gS g ∧ P y n L (.ref (hsz σ) :: r) (hnew σ t x.toNatClampNeg (fun _ => d) x.toNatClampNeg) Q
  | _ => False
def s_ald (y n t : Nat) : FT := fun P L st σ Q => match st with
  | .int i :: .ref a :: r => hty σ a = some t ∧ ¬ i < 0 ∧ i.toNatClampNeg < hln σ a ∧ P y n L (hv σ t a i.toNatClampNeg :: r) σ Q
  | _ => False
def s_ast (g : GC) (ok : AH → Value → Prop) (y n t : Nat) : FT := fun P L st σ Q => match st with
  | v :: .int i :: .ref a :: r => hty σ a = some t ∧ gB g ≤ a ∧ ¬ i < 0 ∧ i.toNatClampNeg < hln σ a ∧ ok σ v ∧ P y n L r (hput σ t a i.toNatClampNeg v) Q
  | _ => False
def s_alen (y n t : Nat) : FT := fun P L st σ Q => match st with
  | .ref a :: r => hty σ a = some t ∧ P y n L (.int (Int32.ofNat (hln σ a)) :: r) σ Q
  | _ => False
/-- a cast that succeeds: null, or a tag that the list has -/
def s_cast (y n : Nat) (ts : List Nat) : FT := fun P L st σ Q => match st with
  | .null :: r => P y n L (.null :: r) σ Q
  | .ref a :: r => (∃ t, t ∈ ts ∧ hty σ a = some t) ∧ P y n L (.ref a :: r) σ Q
  | _ => False
/-- Object's constructor -/
def s_oinit (y n : Nat) : FT := fun P L st σ Q => match st with
  | .ref _ :: r => csum r ≤ 8 ∧ P y n L r σ Q
  | _ => False
/-- a call with k arguments, m locals there -/
def s_call (y n y2 k m : Nat) : FT := fun P L st σ Q => k ≤ st.length ∧ csum (st.take k) ≤ m ∧ csum (st.drop k) ≤ 8 ∧ P y2 0 (ent m (st.take k).reverse) [] σ (kt P y n L (st.drop k) Q)
/-- a constructor's call: k further arguments -/
def s_calli (y n y2 k m : Nat) : FT := fun P L st σ Q => match st.drop k with
  | .ref a :: r => csum (.ref a :: st.take k) ≤ m ∧ csum r ≤ 8 ∧ P y2 0 (ent m (.ref a :: (st.take k).reverse)) [] σ (kt P y n L r Q)
  | _ => False
/-- a call through an object of the tag t: k further arguments -/
def s_callv (y n y2 t k m : Nat) : FT := fun P L st σ Q => match st.drop k with
  | .ref a :: r => hty σ a = some t ∧ csum (.ref a :: st.take k) ≤ m ∧ csum r ≤ 8 ∧ P y2 0 (ent m (.ref a :: (st.take k).reverse)) [] σ (kt P y n L r Q)
  | _ => False
def s_callvh (h : Nat → Option Nat) (y n y2 t k m : Nat) : FT := fun P L st σ Q => match st.drop k with
  | .ref a :: r => hty σ a = some t ∧ csum (.ref a :: st.take k) ≤ m ∧ csum r ≤ 8 ∧ P y2 0 (ent m (.ref a :: (st.take k).reverse)) [] σ (kth h P y n L r Q)
  | _ => False
def s_vret : FT := fun _ _ st σ Q => match st with
  | [] => Q (.inl none) σ
  | _ => False
def s_ret (ok : Value → Prop) : FT := fun _ _ st σ Q => match st with
  | [v] => ok v ∧ Q (.inl (some v)) σ
  | _ => False
def s_throw (g : GC) (E : Nat) : FT := fun _ _ st σ Q => csum st ≤ 8 ∧ hsz σ + 1 ≤ gC g ∧ hsl σ + 6 ≤ gS g ∧ ∀ i j : Nat, i ≤ 1 → j ≤ 6 → Q (.inr E) (hopq σ i j)
/-- System.arraycopy between two arrays of one tag -/
def s_acopy (g : GC) (ok : AH → Value → Prop) (y n t : Nat) : FT := fun P L st σ Q => match st with
  | .int k :: .int dp :: .ref d :: .int sp :: .ref s :: r => hty σ s = some t ∧ hty σ d = some t ∧ gB g ≤ d ∧ csum r ≤ 8 ∧ ¬ k < 0 ∧ ¬ sp < 0 ∧ ¬ dp < 0 ∧ sp.toNatClampNeg + k.toNatClampNeg ≤ hln σ s ∧ dp.toNatClampNeg + k.toNatClampNeg ≤ hln σ d ∧ (∀ i, i < k.toNatClampNeg → ok σ (hv σ t s (sp.toNatClampNeg + i))) ∧ P y n L r (hcpy σ t s sp.toNatClampNeg d dp.toNatClampNeg k.toNatClampNeg) Q
  | _ => False
/-- an array's clone -/
def s_clone (g : GC) (ok : AH → Value → Prop) (y n t : Nat) : FT := fun P L st σ Q => match st with
  | .ref a :: r => hty σ a = some t ∧ csum r ≤ 8 ∧ hsz σ + 1 ≤ gC g ∧ hsl σ + hln σ a ≤ gS g ∧ (∀ i, i < hln σ a → ok σ (hv σ t a i)) ∧ P y n L (.ref (hsz σ) :: r) (hnew σ t (hln σ a) (hv σ t a) (hln σ a)) Q
  | _ => False
/-- getClass(): the class object of the tag t is q -/
def s_getc (y n t q : Nat) : FT := fun P L st σ Q => match st with
  | .ref a :: r => hty σ a = some t ∧ csum r ≤ 8 ∧ P y n L (.ref q :: r) σ Q
  | _ => False
/-- a reference that may be stored among objects: null, or a cell with a tag -/
def vOb (σ : AH) : Value → Prop
  | .null => True
  | .ref b => ∃ u, hty σ b = some u ∧ (u < 13 ∨ u = 20)
  | _ => False
def vRow (σ : AH) : Value → Prop
  | .ref b => hty σ b = some 20
  | _ => False
