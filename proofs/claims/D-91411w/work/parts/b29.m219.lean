set_option maxRecDepth 100000
section FRM
variable {g : GP} {P : Nat → Prop} {F F1 : Mem} {A : XA} {τ : XT} {dn : XD} {ν : XS} {M M1 : Mem} {w : Nat} {S : Nat → Nat → Nat} {b : XS} {σ : MS} {e : XE} {nw : Nat}
theorem RX.frm (h : RX g P F A τ dn ν M) (h0 : ∀ a, ¬ P a → F1 a = F a ∧ M1 a = M a) (h1 : ∀ a, P a → F1 a ≠ none ∧ M1 a = F1 a) : RX g P F1 A τ dn ν M1 := by
  obtain ⟨k1, k2, k3, k4, k5, k6, k7⟩ := h
  have hne : ∀ k w i, LvX ν.2.1 k w i → ¬ P (A k w i) := fun k w i hl z => (k6 _ z).1 (k3 _ _ _ hl).1
  refine ⟨fun k w i hl => ?_, k2, fun k w i hl => ⟨?_, (k3 _ _ _ hl).2⟩, fun a e hf => ?_, fun a e hf => ?_, fun a ha => ⟨(h1 a ha).1, (k6 a ha).2⟩, k7⟩
  · rw [(h0 _ (hne _ _ _ hl)).2]
    exact k1 _ _ _ hl
  · rw [(h0 _ (hne _ _ _ hl)).1]
    exact (k3 _ _ _ hl).1
  · by_cases z : P a
    · rw [(h1 a z).2]
      exact hf
    · rw [(h0 a z).1] at hf
      rw [(h0 a z).2]
      exact k4 _ _ hf
  · have z : ¬ P a := fun z => by
      rw [(k6 a z).2] at hf
      cases hf
    rw [(h0 a z).2]
    exact k5 _ _ hf
theorem SX.frm (h : SX g P F A w S b σ e M) (h0 : ∀ a, ¬ P a → F1 a = F a ∧ M1 a = M a) (h1 : ∀ a, P a → F1 a ≠ none ∧ M1 a = F1 a) : SX g P F1 A w S b σ e M1 := by
  obtain ⟨τ, dn, fl, hR, hz⟩ := h
  exact ⟨τ, dn, fl, hR.frm h0 h1, hz⟩
theorem SB.frm (h : SB g P F A w S b σ nw M) (h0 : ∀ a, ¬ P a → F1 a = F a ∧ M1 a = M a) (h1 : ∀ a, P a → F1 a ≠ none ∧ M1 a = F1 a) : SB g P F1 A w S b σ nw M1 := by
  obtain ⟨e, s, t⟩ := h
  exact ⟨e, s.frm h0 h1, t⟩
theorem SB.frF (h : SB g P F A w S b σ nw M) {a : Nat} {c : va_E} (hf : F a = some c) : M a = some c := by
  obtain ⟨e, ⟨τ, dn, fl, hR, -⟩, -⟩ := h
  exact hR.f hf
end FRM
/-- the law's out -/
def ouC (g : GP) (x : Nat → Int64) : va_E := .inl (gA g 1, 1, .inr (.inl x))
/-- what is kept beside the class: the model's cells (they hold σ), the law's out -/
def FL (g : GP) (ad : Nat → Nat) (out : Nat) (x : Nat → Int64) (σ : MS) : Mem := mm g ad (fun a => if a = out then some (ouC g x) else none) σ
def PL (ad : Nat → Nat) (out : Nat) (a : Nat) : Prop := a = out ∨ ∃ k, k < 18 ∧ a = ad k
section LWF
variable {g : GP} {ad : Nat → Nat} {out : Nat} {x : Nat → Int64} {σ σ1 : MS} {μ : Mem}
theorem mm_off {a : Nat} (h : ∀ k, k < 18 → a ≠ ad k) : mm g ad μ σ a = μ a := mput_off h
theorem mm_on (hA : Inj ad 18) {k : Nat} (hk : k < 18) : mm g ad μ σ (ad k) = some (mcel g ad σ k) := mput_get hA hk
theorem FL_o (ho : ∀ k, k < 18 → out ≠ ad k) : FL g ad out x σ out = some (ouC g x) := (mm_off ho).trans (if_pos rfl)
theorem FL_n {a : Nat} (h : ¬ PL ad out a) : FL g ad out x σ a = none := (mm_off (fun k hk e => h (Or.inr ⟨k, hk, e⟩))).trans (if_neg (fun e => h (Or.inl e)))
theorem FL_k (hA : Inj ad 18) {k : Nat} (hk : k < 18) : FL g ad out x σ (ad k) = some (mcel g ad σ k) := mm_on hA hk
variable {A : XA} {S : Nat → Nat → Nat} {b : XS} {τ : MS} {nw w : Nat} {M : Mem}
/-- the model has moved on -/
theorem SB.model (hA : Inj ad 18) (ho : ∀ k, k < 18 → out ≠ ad k) (h : SB g (PL ad out) (FL g ad out x σ) A w S b τ nw M) : SB g (PL ad out) (FL g ad out x σ1) A w S b τ nw (mm g ad M σ1) := by
  refine h.frm (fun a ha => ⟨by rw [FL_n ha, FL_n ha], mm_off (fun k hk e => ha (Or.inr ⟨k, hk, e⟩))⟩) (fun a ha => ?_)
  rcases ha with rfl | ⟨k, hk, rfl⟩
  · rw [FL_o ho]
    exact ⟨fun z => (by cases z), (mm_off ho).trans (SB.frF h (FL_o ho))⟩
  · rw [FL_k hA hk]
    exact ⟨fun z => (by cases z), mm_on hA hk⟩
theorem SB.outp {y : Nat → Int64} (hA : Inj ad 18) (ho : ∀ k, k < 18 → out ≠ ad k) (h : SB g (PL ad out) (FL g ad out x σ) A w S b τ nw M) : SB g (PL ad out) (FL g ad out y σ) A w S b τ nw (mset M out (ouC g y)) := by
  refine h.frm (fun a ha => ⟨by rw [FL_n ha, FL_n ha], mset_n (fun e => ha (Or.inl e))⟩) (fun a ha => ?_)
  rcases ha with rfl | ⟨k, hk, rfl⟩
  · rw [FL_o ho, mset_s]
    exact ⟨fun z => (by cases z), rfl⟩
  · rw [FL_k hA hk, mset_n (fun e => ho k hk e.symm)]
    exact ⟨fun z => (by cases z), SB.frF h (FL_k hA hk)⟩
theorem SB.mmid (hA : Inj ad 18) (h : SB g (PL ad out) (FL g ad out x σ) A w S b τ nw M) : M = mm g ad M σ := by
  funext a
  by_cases c : ∃ k, k < 18 ∧ a = ad k
  · obtain ⟨k, hk, rfl⟩ := c
    rw [SB.frF h (FL_k hA hk), mm_on hA hk]
  · exact (mm_off (fun k hk e => c ⟨k, hk, e⟩)).symm
theorem SB.outq (ho : ∀ k, k < 18 → out ≠ ad k) (h : SB g (PL ad out) (FL g ad out x σ) A w S b τ nw M) : M out = some (ouC g x) := SB.frF h (FL_o ho)
end LWF
