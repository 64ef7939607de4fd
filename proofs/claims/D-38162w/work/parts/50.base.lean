/-! the common lemmas of the pure part -/
theorem vRf_r (a : Nat) : vRf (.ref a) = true := rfl
theorem vRf_n : vRf .null = true := rfl
theorem vI_i (x : Int32) : vI (.int x) = true := rfl
theorem vL_l (x : Int64) : vL (.long x) = true := rfl
theorem vD_d (x : UInt64) : vD (.double x) = true := rfl
theorem pI_i (x : Int32) : pI (.int x) = True := eq_true rfl
theorem pR_r (a : Nat) : pR (.ref a) = True := eq_true rfl
theorem pR_n : pR .null = True := eq_true rfl
theorem vZ_0 : vZ (.int 0) = True := eq_true (Or.inl rfl)
theorem vZ_1 : vZ (.int 1) = True := eq_true (Or.inr rfl)
theorem ct_i (x : Int32) : Value.category (.int x) = 1 := rfl
theorem ct_r (x : Nat) : Value.category (.ref x) = 1 := rfl
theorem ct_n : Value.category .null = 1 := rfl
theorem ct_l (x : Int64) : Value.category (.long x) = 2 := rfl
theorem ct_d (x : UInt64) : Value.category (.double x) = 2 := rfl
theorem csum_n : csum [] = 0 := rfl
theorem csum_c (v : Value) (r : List Value) : csum (v :: r) = v.category + csum r := by unfold csum; rw [List.map_cons, List.sum_cons]
theorem kt_v (P : PT) (y n : Nat) (L : AL) (r : List Value) (Q : AQ) (v : Value) (σ : AH) : kt P y n L r Q (.inl (some v)) σ = P y n L (v :: r) σ Q := rfl
theorem kt_n (P : PT) (y n : Nat) (L : AL) (r : List Value) (Q : AQ) (σ : AH) : kt P y n L r Q (.inl none) σ = P y n L r σ Q := rfl
theorem kt_e (P : PT) (y n : Nat) (L : AL) (r : List Value) (Q : AQ) (E : Nat) (σ : AH) : kt P y n L r Q (.inr E) σ = Q (.inr E) σ := rfl
theorem oc_n : oc (some .null) = true := rfl
theorem oc_i (x : Int32) : oc (some (.int x)) = true := rfl
theorem oc_r (x : Nat) : oc (some (.ref x)) = true := rfl
theorem oc_u : oc none = true := rfl
theorem oc_l (x : Int64) : oc (some (.long x)) = false := rfl
theorem oc_d (x : UInt64) : oc (some (.double x)) = false := rfl
theorem false_imp (p : Prop) : (False → p) = True := eq_true (fun h => h.elim)
theorem hv_same (σ : AH) (t a k : Nat) (x : Value) : hv (hput σ t a k x) t a k = x := by rw [hv_put, if_pos ⟨rfl, rfl, rfl⟩]
theorem hv_tne (σ : AH) {t a k : Nat} {x : Value} {t' : Nat} (h : t' ≠ t) : hv (hput σ t a k x) t' = hv σ t' := by
  funext a' k'; rw [hv_put, if_neg (fun q => h q.1)]
theorem hv_kne (σ : AH) {t a k : Nat} {x : Value} {t' a' k' : Nat} (h : k' ≠ k) : hv (hput σ t a k x) t' a' k' = hv σ t' a' k' := by
  rw [hv_put, if_neg (fun q => h q.2.2)]
theorem hv_ane (σ : AH) {t a k : Nat} {x : Value} {t' a' k' : Nat} (h : a' ≠ a) : hv (hput σ t a k x) t' a' k' = hv σ t' a' k' := by
  rw [hv_put, if_neg (fun q => h q.2.1)]
theorem hv_ntne (σ : AH) {t n : Nat} {f : Nat → Value} {s : Nat} {t' : Nat} (h : t' ≠ t) : hv (hnew σ t n f s) t' = hv σ t' := by
  funext a' k'; rw [hv_new, if_neg (fun q => h q.1)]
theorem hv_nane (σ : AH) {t n : Nat} {f : Nat → Value} {s : Nat} {t' a' k' : Nat} (h : a' ≠ hsz σ) : hv (hnew σ t n f s) t' a' k' = hv σ t' a' k' := by
  rw [hv_new, if_neg (fun q => h q.2)]
theorem hv_nsame (σ : AH) (t n : Nat) (f : Nat → Value) (s k : Nat) : hv (hnew σ t n f s) t (hsz σ) k = f k := by rw [hv_new, if_pos ⟨rfl, rfl⟩]
theorem hv_ctne (σ : AH) {t s sp d dp n t' : Nat} (h : t' ≠ t) : hv (hcpy σ t s sp d dp n) t' = hv σ t' := by
  funext a' k'; rw [hv_cpy, if_neg (fun q => h q.1)]
theorem hv_cane (σ : AH) {t s sp d dp n t' a' k' : Nat} (h : a' ≠ d) : hv (hcpy σ t s sp d dp n) t' a' k' = hv σ t' a' k' := by
  rw [hv_cpy, if_neg (fun q => h q.2.1)]
/-! small naturals as ints -/
theorem n32_lt {i n : Nat} (hi : i < 2147483648) (hn : n < 2147483648) : (Int32.ofNat i < Int32.ofNat n) = (i < n) := by
  apply propext
  rw [Int32.lt_iff_toInt_lt, Int32.toInt_ofNat_of_lt (by omega), Int32.toInt_ofNat_of_lt (by omega)]
  omega
theorem n32_le {i n : Nat} (hi : i < 2147483648) (hn : n < 2147483648) : (Int32.ofNat i ≤ Int32.ofNat n) = (i ≤ n) := by
  apply propext
  rw [Int32.le_iff_toInt_le, Int32.toInt_ofNat_of_lt (by omega), Int32.toInt_ofNat_of_lt (by omega)]
  omega
theorem n32_eq {i n : Nat} (hi : i < 2147483648) (hn : n < 2147483648) : (Int32.ofNat i = Int32.ofNat n) = (i = n) := by
  apply propext
  constructor
  · intro h
    have h2 := congrArg Int32.toInt h
    rw [Int32.toInt_ofNat_of_lt (by omega), Int32.toInt_ofNat_of_lt (by omega)] at h2
    omega
  · intro h; rw [h]
theorem n32_nat {i : Nat} (hi : i < 2147483648) : (Int32.ofNat i).toNatClampNeg = i := Int32.toNatClampNeg_ofNat_of_lt (by omega)
theorem n32_neg {i : Nat} (hi : i < 2147483648) : (Int32.ofNat i < 0) = False := by
  have h : (0 : Int32) = Int32.ofNat 0 := rfl
  rw [h, n32_lt hi (by omega)]
  exact eq_false (by omega)
theorem n32_add (i j : Nat) : Int32.ofNat i + Int32.ofNat j = Int32.ofNat (i + j) := (Int32.ofNat_add i j).symm
theorem n32_inc (i : Nat) : Int32.ofNat i + 1 = Int32.ofNat (i + 1) := (Int32.ofNat_add i 1).symm
theorem n32_sub {i j : Nat} (h : j ≤ i) : Int32.ofNat i - Int32.ofNat j = Int32.ofNat (i - j) := by
  have h2 : i = (i - j) + j := by omega
  have h3 : Int32.ofNat i = Int32.ofNat (i - j) + Int32.ofNat j := by rw [n32_add, ← h2]
  rw [h3]
  simp
theorem n32_half {n : Nat} (h : n < 2147483648) : Int32.ofNat n >>> ((1 : Int32) &&& 31) = Int32.ofNat (n / 2) := by
  apply Int32.toInt_inj.mp
  rw [Int32.toInt_ofNat_of_lt (by omega), ← Int32.toInt_toBitVec, Int32.toBitVec_shiftRight]
  show ((Int32.ofNat n).toBitVec.sshiftRight 1).toInt = _
  rw [BitVec.toInt_sshiftRight, Int32.toInt_toBitVec, Int32.toInt_ofNat_of_lt (by omega), Int.shiftRight_eq_div_pow]
  omega
/-- an int that is not below zero -/
theorem n32_of {x : Int32} (h : ¬ x < 0) : x = Int32.ofNat x.toNatClampNeg := by
  have h2 : 0 ≤ x.toInt := by
    rw [Int32.lt_iff_toInt_lt] at h
    have h3 : (0 : Int32).toInt = 0 := rfl
    omega
  apply Int32.toInt_inj.mp
  have h4 := Int32.toInt_lt x
  rw [Int32.toInt_ofNat_of_lt (by show x.toInt.toNat < _; omega)]
  show x.toInt = (x.toInt.toNat : Int)
  omega
theorem n32_bd (x : Int32) : x.toNatClampNeg < 2147483648 := by
  have h4 := Int32.toInt_lt x
  show x.toInt.toNat < _
  omega
theorem t32_0 : (0 : Int32).toNatClampNeg = 0 := rfl
theorem t32_1 : (1 : Int32).toNatClampNeg = 1 := rfl
theorem t32_2 : (2 : Int32).toNatClampNeg = 2 := rfl
theorem t32_3 : (3 : Int32).toNatClampNeg = 3 := rfl
theorem t32_4 : (4 : Int32).toNatClampNeg = 4 := rfl
theorem t32_5 : (5 : Int32).toNatClampNeg = 5 := rfl
theorem t32_6 : (6 : Int32).toNatClampNeg = 6 := rfl
theorem z32_0 : Int32.ofNat 0 = 0 := rfl
/-! what stays -/
/-- nothing but at W changes of what was; at most c cells and s slots come -/
def kp (W : Nat → Prop) (c s : Nat) (σ σ' : AH) : Prop := hsz σ ≤ hsz σ' ∧ hsz σ' ≤ hsz σ + c ∧ hsl σ ≤ hsl σ' ∧ hsl σ' ≤ hsl σ + s ∧ ∀ a, a < hsz σ → hty σ' a = hty σ a ∧ hln σ' a = hln σ a ∧ (¬ W a → ∀ t k, hv σ' t a k = hv σ t a k)
theorem kp_refl (W : Nat → Prop) (σ : AH) : kp W 0 0 σ σ := ⟨Nat.le_refl _, Nat.le_refl _, Nat.le_refl _, Nat.le_refl _, fun _ _ => ⟨rfl, rfl, fun _ _ _ => rfl⟩⟩
theorem kp_mono {W W' : Nat → Prop} {c s c' s' : Nat} {σ σ' : AH} (h : kp W c s σ σ') (hc : c ≤ c') (hs : s ≤ s') (hW : ∀ a, a < hsz σ → W a → W' a) : kp W' c' s' σ σ' := by
  obtain ⟨h1, h2, h3, h4, h5⟩ := h
  exact ⟨h1, by omega, h3, by omega, fun a ha => ⟨(h5 a ha).1, (h5 a ha).2.1, fun q => (h5 a ha).2.2 (fun z => q (hW a ha z))⟩⟩
theorem kp_trans {W : Nat → Prop} {c1 s1 c2 s2 : Nat} {σ σ1 σ2 : AH} (h : kp W c1 s1 σ σ1) (k : kp W c2 s2 σ1 σ2) : kp W (c1 + c2) (s1 + s2) σ σ2 := by
  obtain ⟨h1, h2, h3, h4, h5⟩ := h
  obtain ⟨k1, k2, k3, k4, k5⟩ := k
  refine ⟨by omega, by omega, by omega, by omega, fun a ha => ?_⟩
  obtain ⟨x1, x2, x3⟩ := h5 a ha
  obtain ⟨y1, y2, y3⟩ := k5 a (by omega)
  exact ⟨y1.trans x1, y2.trans x2, fun q t k => (y3 q t k).trans (x3 q t k)⟩
/-- what comes in between may be written -/
theorem kp_then {W W2 : Nat → Prop} {c1 s1 c2 s2 : Nat} {σ σ1 σ2 : AH} (h : kp W c1 s1 σ σ1) (k : kp W2 c2 s2 σ1 σ2) (hW : ∀ a, a < hsz σ → W2 a → W a) : kp W (c1 + c2) (s1 + s2) σ σ2 := by
  obtain ⟨h1, h2, h3, h4, h5⟩ := h
  obtain ⟨k1, k2, k3, k4, k5⟩ := k
  refine ⟨by omega, by omega, by omega, by omega, fun a ha => ?_⟩
  obtain ⟨x1, x2, x3⟩ := h5 a ha
  obtain ⟨y1, y2, y3⟩ := k5 a (by omega)
  exact ⟨y1.trans x1, y2.trans x2, fun q t k => (y3 (fun z => q (hW a ha z)) t k).trans (x3 q t k)⟩
theorem kp_put {W : Nat → Prop} {σ : AH} {t a k : Nat} {x : Value} (h : a < hsz σ → W a) : kp W 0 0 σ (hput σ t a k x) :=
  ⟨Nat.le_refl _, Nat.le_refl _, Nat.le_refl _, Nat.le_refl _, fun b hb => ⟨rfl, rfl, fun q t' k' => hv_ane σ (fun e => q (by subst e; exact h hb))⟩⟩
theorem kp_cpy {W : Nat → Prop} {σ : AH} {t s sp d dp n : Nat} (h : d < hsz σ → W d) : kp W 0 0 σ (hcpy σ t s sp d dp n) :=
  ⟨Nat.le_refl _, Nat.le_refl _, Nat.le_refl _, Nat.le_refl _, fun b hb => ⟨rfl, rfl, fun q t' k' => hv_cane σ (fun e => q (by subst e; exact h hb))⟩⟩
theorem kp_new {W : Nat → Prop} {σ : AH} {t n s : Nat} {f : Nat → Value} : kp W 1 s σ (hnew σ t n f s) :=
  ⟨Nat.le_succ _, Nat.le_refl _, Nat.le_add_right _ _, Nat.le_refl _, fun b hb => ⟨by rw [hty_new, if_neg (by omega)], by rw [hln_new, if_neg (by omega)], fun _ t' k' => hv_nane σ (by omega)⟩⟩
theorem kp_opq {W : Nat → Prop} {σ : AH} {i j : Nat} : kp W i j σ (hopq σ i j) :=
  ⟨Nat.le_add_right _ _, Nat.le_refl _, Nat.le_add_right _ _, Nat.le_refl _, fun b _ => ⟨hty_opq σ i j b, rfl, fun _ _ _ => rfl⟩⟩
theorem kp_ty {W : Nat → Prop} {c s : Nat} {σ σ' : AH} (h : kp W c s σ σ') {a t : Nat} (q : hty σ a = some t) : hty σ' a = some t := by rw [(h.2.2.2.2 a (hty_lt q)).1]; exact q
theorem kp_vOb {W : Nat → Prop} {c s : Nat} {σ σ' : AH} (h : kp W c s σ σ') {v : Value} (q : vOb σ v) : vOb σ' v := by
  cases v with
  | ref b =>
    obtain ⟨u, h1, h2⟩ := q
    exact ⟨u, kp_ty h h1, h2⟩
  | null => trivial
  | _ => exact q.elim
theorem vOb_r {σ : AH} {v : Value} (h : vOb σ v) : vRf v = true := by
  cases v with
  | ref b => rfl
  | null => rfl
  | _ => exact h.elim
theorem vOb_c {σ : AH} {v : Value} (h : vOb σ v) : v.category = 1 := by
  cases v with
  | ref b => rfl
  | null => rfl
  | _ => exact h.elim
theorem vOb_p {σ : AH} {v : Value} (h : vOb σ v) : pR v = True := eq_true (vOb_r h)
theorem vOb_o {σ : AH} {v : Value} (h : vOb σ v) : oc (some v) = true := by
  cases v with
  | ref b => rfl
  | null => rfl
  | _ => exact h.elim
theorem vrn (a : Nat) : (Value.ref a = .null) = False := eq_false (fun e => by cases e)
theorem vnr (a : Nat) : (Value.null = .ref a) = False := eq_false (fun e => by cases e)
theorem vrr (a b : Nat) : (Value.ref a = .ref b) = (a = b) := propext ⟨fun e => Value.ref.inj e, fun e => by rw [e]⟩
/-- the remainder, as the machine takes it -/
def irm (a b : Int32) : Int32 := a - a / b * b
theorem n32_rem {a b : Nat} (ha : a < 2147483648) (hb : b < 2147483648) : irm (Int32.ofNat a) (Int32.ofNat b) = Int32.ofNat (a % b) := by
  unfold irm
  rw [← Int32.ofNat_div (by omega) (by omega), ← Int32.ofNat_mul, ← Int32.ofNat_sub _ _ (Nat.div_mul_le_self a b)]
  congr 1
  have := Nat.div_add_mod a b
  rw [Nat.mul_comm] at this
  omega
theorem n32_ne0 {b : Nat} (h0 : 0 < b) (hb : b < 2147483648) : (Int32.ofNat b = 0) = False := by
  rw [← z32_0, n32_eq hb (by omega)]; exact eq_false (by omega)
