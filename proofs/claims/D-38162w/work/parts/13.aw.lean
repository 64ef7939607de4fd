/-! every step functional is monotone; 'aw' over a table of step functionals -/
theorem ok_none : okF s_none := fun _ _ _ _ _ _ _ _ _ _ h => h
theorem ok_const (y n : Nat) (v : Value) : okF (s_const y n v) := fun _ _ hm hle _ _ _ _ _ hQ h => hm _ _ _ _ _ _ _ hQ (hle _ _ _ _ _ _ h)
theorem ok_load (ok : Value → Bool) (y n k : Nat) : okF (s_load ok y n k) := by
  intro P P' hm hle L st σ Q Q' hQ h
  unfold s_load at h ⊢
  split at h
  · exact ⟨h.1, hm _ _ _ _ _ _ _ hQ (hle _ _ _ _ _ _ h.2)⟩
  · exact h.elim
theorem ok_store (ok : Value → Bool) (y n k : Nat) : okF (s_store ok y n k) := by
  intro P P' hm hle L st σ Q Q' hQ h
  unfold s_store at h ⊢
  split at h
  · exact ⟨h.1, h.2.1, h.2.2.1, hm _ _ _ _ _ _ _ hQ (hle _ _ _ _ _ _ h.2.2.2)⟩
  · exact h.elim
theorem ok_store2 (ok : Value → Bool) (y n k : Nat) : okF (s_store2 ok y n k) := by
  intro P P' hm hle L st σ Q Q' hQ h
  unfold s_store2 at h ⊢
  split at h
  · exact ⟨h.1, h.2.1, h.2.2.1, hm _ _ _ _ _ _ _ hQ (hle _ _ _ _ _ _ h.2.2.2)⟩
  · exact h.elim
theorem ok_iinc (y n k : Nat) (d : Int32) : okF (s_iinc y n k d) := by
  intro P P' hm hle L st σ Q Q' hQ h
  unfold s_iinc at h ⊢
  split at h
  · exact ⟨h.1, hm _ _ _ _ _ _ _ hQ (hle _ _ _ _ _ _ h.2)⟩
  · exact h.elim
theorem ok_dup (y n : Nat) : okF (s_dup y n) := by
  intro P P' hm hle L st σ Q Q' hQ h
  unfold s_dup at h ⊢
  split at h
  · exact ⟨h.1, hm _ _ _ _ _ _ _ hQ (hle _ _ _ _ _ _ h.2)⟩
  · exact h.elim
theorem ok_pop (y n : Nat) : okF (s_pop y n) := by
  intro P P' hm hle L st σ Q Q' hQ h
  unfold s_pop at h ⊢
  split at h
  · exact ⟨h.1, hm _ _ _ _ _ _ _ hQ (hle _ _ _ _ _ _ h.2)⟩
  · exact h.elim
theorem ok_dupx1 (y n : Nat) : okF (s_dupx1 y n) := by
  intro P P' hm hle L st σ Q Q' hQ h
  unfold s_dupx1 at h ⊢
  split at h
  · exact ⟨h.1, h.2.1, hm _ _ _ _ _ _ _ hQ (hle _ _ _ _ _ _ h.2.2)⟩
  · exact h.elim
theorem ok_dup2 (y n : Nat) : okF (s_dup2 y n) := by
  intro P P' hm hle L st σ Q Q' hQ h
  unfold s_dup2 at h ⊢
  split at h
  · exact ⟨h.1, h.2.1, hm _ _ _ _ _ _ _ hQ (hle _ _ _ _ _ _ h.2.2)⟩
  · exact h.elim
theorem ok_bin (y n : Nat) (f : Int32 → Int32 → Int32) : okF (s_bin y n f) := by
  intro P P' hm hle L st σ Q Q' hQ h
  unfold s_bin at h ⊢
  split at h
  · exact hm _ _ _ _ _ _ _ hQ (hle _ _ _ _ _ _ h)
  · exact h.elim
theorem ok_div (y n : Nat) (f : Int32 → Int32 → Int32) : okF (s_div y n f) := by
  intro P P' hm hle L st σ Q Q' hQ h
  unfold s_div at h ⊢
  split at h
  · exact ⟨h.1, hm _ _ _ _ _ _ _ hQ (hle _ _ _ _ _ _ h.2)⟩
  · exact h.elim
theorem ok_i2 (y n : Nat) (f : Int32 → Value) : okF (s_i2 y n f) := by
  intro P P' hm hle L st σ Q Q' hQ h
  unfold s_i2 at h ⊢
  split at h
  · exact hm _ _ _ _ _ _ _ hQ (hle _ _ _ _ _ _ h)
  · exact h.elim
theorem ok_lbin (y n : Nat) (f : Int64 → Int64 → Value) : okF (s_lbin y n f) := by
  intro P P' hm hle L st σ Q Q' hQ h
  unfold s_lbin at h ⊢
  split at h
  · exact hm _ _ _ _ _ _ _ hQ (hle _ _ _ _ _ _ h)
  · exact h.elim
theorem ok_dbin (y n : Nat) (f : UInt64 → UInt64 → Value) : okF (s_dbin y n f) := by
  intro P P' hm hle L st σ Q Q' hQ h
  unfold s_dbin at h ⊢
  split at h
  · exact hm _ _ _ _ _ _ _ hQ (hle _ _ _ _ _ _ h)
  · exact h.elim
theorem ok_if (y n t : Nat) (c : Int32 → Prop) : okF (s_if y n t c) := by
  intro P P' hm hle L st σ Q Q' hQ h
  unfold s_if at h ⊢
  split at h
  · exact ⟨fun q => hm _ _ _ _ _ _ _ hQ (hle _ _ _ _ _ _ (h.1 q)), fun q => hm _ _ _ _ _ _ _ hQ (hle _ _ _ _ _ _ (h.2 q))⟩
  · exact h.elim
theorem ok_icmp (y n t : Nat) (c : Int32 → Int32 → Prop) : okF (s_icmp y n t c) := by
  intro P P' hm hle L st σ Q Q' hQ h
  unfold s_icmp at h ⊢
  split at h
  · exact ⟨fun q => hm _ _ _ _ _ _ _ hQ (hle _ _ _ _ _ _ (h.1 q)), fun q => hm _ _ _ _ _ _ _ hQ (hle _ _ _ _ _ _ (h.2 q))⟩
  · exact h.elim
theorem ok_acmp (y n t : Nat) : okF (s_acmp y n t) := by
  intro P P' hm hle L st σ Q Q' hQ h
  unfold s_acmp at h ⊢
  split at h
  · exact ⟨h.1, h.2.1, fun q => hm _ _ _ _ _ _ _ hQ (hle _ _ _ _ _ _ (h.2.2.1 q)), fun q => hm _ _ _ _ _ _ _ hQ (hle _ _ _ _ _ _ (h.2.2.2 q))⟩
  · exact h.elim
theorem ok_ifnull (y n t : Nat) : okF (s_ifnull y n t) := by
  intro P P' hm hle L st σ Q Q' hQ h
  unfold s_ifnull at h ⊢
  split at h
  · exact ⟨h.1, fun q => hm _ _ _ _ _ _ _ hQ (hle _ _ _ _ _ _ (h.2.1 q)), fun q => hm _ _ _ _ _ _ _ hQ (hle _ _ _ _ _ _ (h.2.2 q))⟩
  · exact h.elim
theorem ok_goto (y t : Nat) : okF (s_goto y t) := fun _ _ hm hle _ _ _ _ _ hQ h => hm _ _ _ _ _ _ _ hQ (hle _ _ _ _ _ _ h)
theorem ok_tsw (y : Nat) (f : Int32 → Nat) : okF (s_tsw y f) := by
  intro P P' hm hle L st σ Q Q' hQ h
  unfold s_tsw at h ⊢
  split at h
  · exact hm _ _ _ _ _ _ _ hQ (hle _ _ _ _ _ _ h)
  · exact h.elim
theorem ok_getf (y n t k : Nat) : okF (s_getf y n t k) := by
  intro P P' hm hle L st σ Q Q' hQ h
  unfold s_getf at h ⊢
  split at h
  · exact ⟨h.1, hm _ _ _ _ _ _ _ hQ (hle _ _ _ _ _ _ h.2)⟩
  · exact h.elim
theorem ok_putf (g : GC) (ok : Value → Prop) (y n t k : Nat) : okF (s_putf g ok y n t k) := by
  intro P P' hm hle L st σ Q Q' hQ h
  unfold s_putf at h ⊢
  split at h
  · exact ⟨h.1, h.2.1, h.2.2.1, hm _ _ _ _ _ _ _ hQ (hle _ _ _ _ _ _ h.2.2.2)⟩
  · exact h.elim
theorem ok_new (g : GC) (y n t sl : Nat) (f : Nat → Value) : okF (s_new g y n t sl f) := by
  intro P P' hm hle L st σ Q Q' hQ h
  unfold s_new at h ⊢
  exact ⟨h.1, h.2.1, hm _ _ _ _ _ _ _ hQ (hle _ _ _ _ _ _ h.2.2)⟩
theorem ok_newa (g : GC) (y n t : Nat) (d : Value) : okF (s_newa g y n t d) := by
  intro P P' hm hle L st σ Q Q' hQ h
  unfold s_newa at h ⊢
  split at h
  · exact ⟨h.1, h.2.1, h.2.2.1, h.2.2.2.1, hm _ _ _ _ _ _ _ hQ (hle _ _ _ _ _ _ h.2.2.2.2)⟩
  · exact h.elim
theorem ok_ald (y n t : Nat) : okF (s_ald y n t) := by
  intro P P' hm hle L st σ Q Q' hQ h
  unfold s_ald at h ⊢
  split at h
  · exact ⟨h.1, h.2.1, h.2.2.1, hm _ _ _ _ _ _ _ hQ (hle _ _ _ _ _ _ h.2.2.2)⟩
  · exact h.elim
theorem ok_ast (g : GC) (ok : AH → Value → Prop) (y n t : Nat) : okF (s_ast g ok y n t) := by
  intro P P' hm hle L st σ Q Q' hQ h
  unfold s_ast at h ⊢
  split at h
  · exact ⟨h.1, h.2.1, h.2.2.1, h.2.2.2.1, h.2.2.2.2.1, hm _ _ _ _ _ _ _ hQ (hle _ _ _ _ _ _ h.2.2.2.2.2)⟩
  · exact h.elim
theorem ok_alen (y n t : Nat) : okF (s_alen y n t) := by
  intro P P' hm hle L st σ Q Q' hQ h
  unfold s_alen at h ⊢
  split at h
  · exact ⟨h.1, hm _ _ _ _ _ _ _ hQ (hle _ _ _ _ _ _ h.2)⟩
  · exact h.elim
theorem ok_cast (y n : Nat) (ts : List Nat) : okF (s_cast y n ts) := by
  intro P P' hm hle L st σ Q Q' hQ h
  unfold s_cast at h ⊢
  split at h
  · exact hm _ _ _ _ _ _ _ hQ (hle _ _ _ _ _ _ h)
  · exact ⟨h.1, hm _ _ _ _ _ _ _ hQ (hle _ _ _ _ _ _ h.2)⟩
  · exact h.elim
theorem ok_oinit (y n : Nat) : okF (s_oinit y n) := by
  intro P P' hm hle L st σ Q Q' hQ h
  unfold s_oinit at h ⊢
  split at h
  · exact ⟨h.1, hm _ _ _ _ _ _ _ hQ (hle _ _ _ _ _ _ h.2)⟩
  · exact h.elim
theorem ok_call (y n y2 k m : Nat) : okF (s_call y n y2 k m) := by
  intro P P' hm hle L st σ Q Q' hQ h
  unfold s_call at h ⊢
  exact ⟨h.1, h.2.1, h.2.2.1, hm _ _ _ _ _ _ _ (kt_mono hm hle hQ _ _ _ _) (hle _ _ _ _ _ _ h.2.2.2)⟩
theorem ok_calli (y n y2 k m : Nat) : okF (s_calli y n y2 k m) := by
  intro P P' hm hle L st σ Q Q' hQ h
  unfold s_calli at h ⊢
  split at h
  · exact ⟨h.1, h.2.1, hm _ _ _ _ _ _ _ (kt_mono hm hle hQ _ _ _ _) (hle _ _ _ _ _ _ h.2.2)⟩
  · exact h.elim
theorem ok_callv (y n y2 t k m : Nat) : okF (s_callv y n y2 t k m) := by
  intro P P' hm hle L st σ Q Q' hQ h
  unfold s_callv at h ⊢
  split at h
  · exact ⟨h.1, h.2.1, h.2.2.1, hm _ _ _ _ _ _ _ (kt_mono hm hle hQ _ _ _ _) (hle _ _ _ _ _ _ h.2.2.2)⟩
  · exact h.elim
theorem ok_callvh (hh : Nat → Option Nat) (y n y2 t k m : Nat) : okF (s_callvh hh y n y2 t k m) := by
  intro P P' hm hle L st σ Q Q' hQ h
  unfold s_callvh at h ⊢
  split at h
  · exact ⟨h.1, h.2.1, h.2.2.1, hm _ _ _ _ _ _ _ (kth_mono hh hm hle hQ _ _ _ _) (hle _ _ _ _ _ _ h.2.2.2)⟩
  · exact h.elim
theorem ok_vret : okF s_vret := by
  intro P P' hm hle L st σ Q Q' hQ h
  unfold s_vret at h ⊢
  split at h
  · exact hQ _ _ h
  · exact h.elim
theorem ok_ret (ok : Value → Prop) : okF (s_ret ok) := by
  intro P P' hm hle L st σ Q Q' hQ h
  unfold s_ret at h ⊢
  split at h
  · exact ⟨h.1, hQ _ _ h.2⟩
  · exact h.elim
theorem ok_throw (g : GC) (E : Nat) : okF (s_throw g E) := by
  intro P P' hm hle L st σ Q Q' hQ h
  unfold s_throw at h ⊢
  exact ⟨h.1, h.2.1, h.2.2.1, fun i j hi hj => hQ _ _ (h.2.2.2 i j hi hj)⟩
theorem ok_acopy (g : GC) (ok : AH → Value → Prop) (y n t : Nat) : okF (s_acopy g ok y n t) := by
  intro P P' hm hle L st σ Q Q' hQ h
  unfold s_acopy at h ⊢
  split at h
  · exact ⟨h.1, h.2.1, h.2.2.1, h.2.2.2.1, h.2.2.2.2.1, h.2.2.2.2.2.1, h.2.2.2.2.2.2.1, h.2.2.2.2.2.2.2.1, h.2.2.2.2.2.2.2.2.1, h.2.2.2.2.2.2.2.2.2.1, hm _ _ _ _ _ _ _ hQ (hle _ _ _ _ _ _ h.2.2.2.2.2.2.2.2.2.2)⟩
  · exact h.elim
theorem ok_clone (g : GC) (ok : AH → Value → Prop) (y n t : Nat) : okF (s_clone g ok y n t) := by
  intro P P' hm hle L st σ Q Q' hQ h
  unfold s_clone at h ⊢
  split at h
  · exact ⟨h.1, h.2.1, h.2.2.1, h.2.2.2.1, h.2.2.2.2.1, hm _ _ _ _ _ _ _ hQ (hle _ _ _ _ _ _ h.2.2.2.2.2)⟩
  · exact h.elim
theorem ok_getc (y n t q : Nat) : okF (s_getc y n t q) := by
  intro P P' hm hle L st σ Q Q' hQ h
  unfold s_getc at h ⊢
  split at h
  · exact ⟨h.1, h.2.1, hm _ _ _ _ _ _ _ hQ (hle _ _ _ _ _ _ h.2.2)⟩
  · exact h.elim
/-- a choice by a number, in a table -/
theorem ok_cond {b : Bool} {F G : FT} (h1 : okF F) (h2 : okF G) : okF (cond b F G) := by cases b <;> assumption
/-- the least predicate closed under a table's steps -/
def lfp (tb : Nat → Nat → FT) : PT := fun y pc L st σ Q => ∀ P : PT, MonQ P → (∀ y pc L st σ Q, tb y pc P L st σ Q → P y pc L st σ Q) → P y pc L st σ Q
theorem lfp_mon (tb : Nat → Nat → FT) : MonQ (lfp tb) := fun _ _ _ _ _ _ _ hQ h P hP hc => hP _ _ _ _ _ _ _ hQ (h P hP hc)
theorem lfp_in {tb : Nat → Nat → FT} (ho : ∀ y pc, okF (tb y pc)) {y pc : Nat} {L : AL} {st : List Value} {σ : AH} {Q : AQ} (h : tb y pc (lfp tb) L st σ Q) : lfp tb y pc L st σ Q := fun P hP hc => hc _ _ _ _ _ _ (ho y pc (lfp tb) P hP (fun _ _ _ _ _ _ k => k P hP hc) L st σ Q Q (fun _ _ q => q) h)
theorem lfp_out {tb : Nat → Nat → FT} (ho : ∀ y pc, okF (tb y pc)) {y pc : Nat} {L : AL} {st : List Value} {σ : AH} {Q : AQ} (h : lfp tb y pc L st σ Q) : tb y pc (lfp tb) L st σ Q := by
  refine h (fun y pc L st σ Q => tb y pc (lfp tb) L st σ Q) ?_ ?_
  · intro y pc L st σ Q Q' hQ k
    exact ho y pc (lfp tb) (lfp tb) (lfp_mon tb) (fun _ _ _ _ _ _ k => k) L st σ Q Q' hQ k
  · intro y pc L st σ Q k
    exact ho y pc _ (lfp tb) (lfp_mon tb) (fun _ _ _ _ _ _ k => lfp_in ho k) L st σ Q Q (fun _ _ q => q) k
theorem lfp_eq {tb : Nat → Nat → FT} (ho : ∀ y pc, okF (tb y pc)) (y pc : Nat) (L : AL) (st : List Value) (σ : AH) (Q : AQ) : lfp tb y pc L st σ Q = tb y pc (lfp tb) L st σ Q := propext ⟨lfp_out ho, lfp_in ho⟩
