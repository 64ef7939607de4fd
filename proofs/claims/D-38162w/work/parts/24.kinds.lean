/-! calls with their arguments' kinds (0 int, 1 reference, 2 long, 3 double); what each step functional is on its pattern -/
def kd : Nat → Value → Bool
  | 0 => vI
  | 1 => vRf
  | 2 => vL
  | _ => vD
def kOk : List Nat → List Value → Bool
  | [], [] => true
  | k :: ks, v :: vs => kd k v && kOk ks vs
  | _, _ => false
def kfl : List Nat → List Value → AL
  | k :: ks, v :: vs => if 2 ≤ k then some v :: none :: kfl ks vs else some v :: kfl ks vs
  | _, _ => []
def ksum : List Nat → Nat
  | [] => 0
  | k :: ks => (if 2 ≤ k then 2 else 1) + ksum ks
def entk (m : Nat) (ks : List Nat) (vs : List Value) : AL := kfl ks vs ++ List.replicate (m - ksum ks) none
theorem kd_cat {k : Nat} {v : Value} (h : kd k v = true) : v.category = if 2 ≤ k then 2 else 1 := by
  match k with
  | 0 => cases v <;> first | rfl | cases h
  | 1 => cases v <;> first | rfl | cases h
  | 2 => cases v <;> first | rfl | cases h
  | k + 3 =>
    rw [if_pos (by omega)]
    cases v <;> first | rfl | cases h
theorem kOk_fl : ∀ {ks : List Nat} {vs : List Value}, kOk ks vs = true → (vs.flatMap fun v => if v.category = 2 then [some v, none] else [some v]) = kfl ks vs ∧ csum vs = ksum ks ∧ vs.length = ks.length
  | [], [], _ => ⟨rfl, rfl, rfl⟩
  | k :: ks, v :: vs, h => by
    simp only [kOk, Bool.and_eq_true] at h
    obtain ⟨h1, h2, h3⟩ := kOk_fl h.2
    have hc := kd_cat h.1
    unfold csum at h2 ⊢
    rw [List.flatMap_cons, List.map_cons, List.sum_cons, h1, h2, hc]
    by_cases hk : 2 ≤ k
    · simp [kfl, ksum, hk, h3]
    · simp [kfl, ksum, hk, h3]
  | [], _ :: _, h => by cases h
  | _ :: _, [], h => by cases h
theorem ent_k {m : Nat} {ks : List Nat} {vs : List Value} (h : kOk ks vs = true) : ent m vs = entk m ks vs := by
  obtain ⟨h1, h2, h3⟩ := kOk_fl h
  unfold ent entk
  rw [h1]
  congr 2
  rw [← h1, ent_len, csum_lg, h2]
def s_callk (y n y2 : Nat) (ks : List Nat) (m : Nat) : FT := fun P L st σ Q => kOk ks (st.take ks.length).reverse = true ∧ csum (st.drop ks.length) ≤ 8 ∧ P y2 0 (entk m ks (st.take ks.length).reverse) [] σ (kt P y n L (st.drop ks.length) Q)
def s_callik (y n y2 : Nat) (ks : List Nat) (m : Nat) : FT := fun P L st σ Q => match st.drop ks.length with
  | .ref a :: r => kOk ks (st.take ks.length).reverse = true ∧ csum r ≤ 8 ∧ P y2 0 (entk m (1 :: ks) (.ref a :: (st.take ks.length).reverse)) [] σ (kt P y n L r Q)
  | _ => False
def s_callvk (y n y2 t : Nat) (ks : List Nat) (m : Nat) : FT := fun P L st σ Q => match st.drop ks.length with
  | .ref a :: r => hty σ a = some t ∧ kOk ks (st.take ks.length).reverse = true ∧ csum r ≤ 8 ∧ P y2 0 (entk m (1 :: ks) (.ref a :: (st.take ks.length).reverse)) [] σ (kt P y n L r Q)
  | _ => False
def s_callhk (h : Nat → Option Nat) (y n y2 t : Nat) (ks : List Nat) (m : Nat) : FT := fun P L st σ Q => match st.drop ks.length with
  | .ref a :: r => hty σ a = some t ∧ kOk ks (st.take ks.length).reverse = true ∧ csum r ≤ 8 ∧ P y2 0 (entk m (1 :: ks) (.ref a :: (st.take ks.length).reverse)) [] σ (kth h P y n L r Q)
  | _ => False
theorem ok_callk (y n y2 : Nat) (ks : List Nat) (m : Nat) : okF (s_callk y n y2 ks m) := by
  intro P P' hm hle L st σ Q Q' hQ h
  unfold s_callk at h ⊢
  exact ⟨h.1, h.2.1, hm _ _ _ _ _ _ _ (kt_mono hm hle hQ _ _ _ _) (hle _ _ _ _ _ _ h.2.2)⟩
theorem ok_callik (y n y2 : Nat) (ks : List Nat) (m : Nat) : okF (s_callik y n y2 ks m) := by
  intro P P' hm hle L st σ Q Q' hQ h
  unfold s_callik at h ⊢
  split at h
  · exact ⟨h.1, h.2.1, hm _ _ _ _ _ _ _ (kt_mono hm hle hQ _ _ _ _) (hle _ _ _ _ _ _ h.2.2)⟩
  · exact h.elim
theorem ok_callvk (y n y2 t : Nat) (ks : List Nat) (m : Nat) : okF (s_callvk y n y2 t ks m) := by
  intro P P' hm hle L st σ Q Q' hQ h
  unfold s_callvk at h ⊢
  split at h
  · exact ⟨h.1, h.2.1, h.2.2.1, hm _ _ _ _ _ _ _ (kt_mono hm hle hQ _ _ _ _) (hle _ _ _ _ _ _ h.2.2.2)⟩
  · exact h.elim
theorem ok_callhk (hh : Nat → Option Nat) (y n y2 t : Nat) (ks : List Nat) (m : Nat) : okF (s_callhk hh y n y2 t ks m) := by
  intro P P' hm hle L st σ Q Q' hQ h
  unfold s_callhk at h ⊢
  split at h
  · exact ⟨h.1, h.2.1, h.2.2.1, hm _ _ _ _ _ _ _ (kth_mono hh hm hle hQ _ _ _ _) (hle _ _ _ _ _ _ h.2.2.2)⟩
  · exact h.elim
section KINDS
variable {l : Launch} {g : GC} {D : va_G} {H0 : Heap} {mi : Nat → MI} {y pc n y2 t m : Nat} {ks : List Nat}
theorem take_len {α : Type} {st : List α} {k : Nat} (h : (st.take k).reverse.length = k) : k ≤ st.length := by
  rw [List.length_reverse, List.length_take] at h
  omega
theorem csum_cons (v : Value) (r : List Value) : csum (v :: r) = v.category + csum r := by
  unfold csum
  rw [List.map_cons, List.sum_cons]
theorem sk_call (hs : ksum ks ≤ m) (h : sOk l g D H0 mi y pc (s_call y n y2 ks.length m)) : sOk l g D H0 mi y pc (s_callk y n y2 ks m) := by
  intro L st σ Q q
  refine h L st σ Q ?_
  unfold s_callk at q
  obtain ⟨q1, q2, q3⟩ := q
  obtain ⟨e1, e2, e3⟩ := kOk_fl q1
  unfold s_call
  refine ⟨take_len e3, by rw [← csum_rev, e2]; exact hs, q2, ?_⟩
  rw [ent_k q1]
  exact q3
theorem kOk_ref {a : Nat} {vs : List Value} (h : kOk ks vs = true) : kOk (1 :: ks) (.ref a :: vs) = true := by
  show (true && kOk ks vs) = true
  rw [h]
  rfl
theorem sk_calli (hs : 1 + ksum ks ≤ m) (h : sOk l g D H0 mi y pc (s_calli y n y2 ks.length m)) : sOk l g D H0 mi y pc (s_callik y n y2 ks m) := by
  intro L st σ Q q
  refine h L st σ Q ?_
  unfold s_callik at q
  unfold s_calli
  split at q
  · rename_i a r hsp
    obtain ⟨q1, q2, q3⟩ := q
    obtain ⟨e1, e2, e3⟩ := kOk_fl q1
    rw [hsp]
    refine ⟨by rw [csum_cons, ← csum_rev, e2]; exact hs, q2, ?_⟩
    rw [ent_k (kOk_ref q1)]
    exact q3
  · exact q.elim
theorem sk_callv (hs : 1 + ksum ks ≤ m) (h : sOk l g D H0 mi y pc (s_callv y n y2 t ks.length m)) : sOk l g D H0 mi y pc (s_callvk y n y2 t ks m) := by
  intro L st σ Q q
  refine h L st σ Q ?_
  unfold s_callvk at q
  unfold s_callv
  split at q
  · rename_i a r hsp
    obtain ⟨q0, q1, q2, q3⟩ := q
    obtain ⟨e1, e2, e3⟩ := kOk_fl q1
    rw [hsp]
    refine ⟨q0, by rw [csum_cons, ← csum_rev, e2]; exact hs, q2, ?_⟩
    rw [ent_k (kOk_ref q1)]
    exact q3
  · exact q.elim
theorem sk_callh {hh : Nat → Option Nat} (hs : 1 + ksum ks ≤ m) (h : sOk l g D H0 mi y pc (s_callvh hh y n y2 t ks.length m)) : sOk l g D H0 mi y pc (s_callhk hh y n y2 t ks m) := by
  intro L st σ Q q
  refine h L st σ Q ?_
  unfold s_callhk at q
  unfold s_callvh
  split at q
  · rename_i a r hsp
    obtain ⟨q0, q1, q2, q3⟩ := q
    obtain ⟨e1, e2, e3⟩ := kOk_fl q1
    rw [hsp]
    refine ⟨q0, by rw [csum_cons, ← csum_rev, e2]; exact hs, q2, ?_⟩
    rw [ent_k (kOk_ref q1)]
    exact q3
  · exact q.elim
end KINDS
/-! the functionals on their patterns -/
section PATS
variable {P : PT} {L L' : AL} {r : List Value} {σ : AH} {Q : AQ} {y n k : Nat}
theorem h_load {ok : Value → Bool} {v : Value} (hk : L.getD k none = some v) : s_load ok y n k P L r σ Q = (ok v = true ∧ P y n L (v :: r) σ Q) := by
  unfold s_load
  rw [hk]
theorem h_store {ok : Value → Bool} {v : Value} {o : Bool} (hl : Nat.ble (k + 1) L.length = true) (ho : oks L k = o) (hL : L.set k (some v) = L') : s_store ok y n k P L (v :: r) σ Q = (ok v = true ∧ o = true ∧ P y n L' r σ Q) := by
  subst ho hL
  have h : k < L.length := Nat.le_of_ble_eq_true hl
  unfold s_store
  simp [h]
theorem h_store2 {ok : Value → Bool} {v : Value} {o : Bool} (hl : Nat.ble (k + 2) L.length = true) (ho : oks L k = o) (hL : (L.set k (some v)).set (k + 1) none = L') : s_store2 ok y n k P L (v :: r) σ Q = (ok v = true ∧ o = true ∧ P y n L' r σ Q) := by
  subst ho hL
  have h : k + 1 < L.length := Nat.le_of_ble_eq_true hl
  unfold s_store2
  simp [h]
theorem h_iinc {d x : Int32} {o : Bool} (hk : L.getD k none = some (.int x)) (ho : oks L k = o) (hL : L.set k (some (.int (x + d))) = L') : s_iinc y n k d P L r σ Q = (o = true ∧ P y n L' r σ Q) := by
  subst ho hL
  unfold s_iinc
  rw [hk]
end PATS
