set_option maxRecDepth 100000
/-- what was kept apart for a while is let go -/
theorem SX.drop {g : GP} {P P1 : Nat → Prop} {F F1 : Mem} {A : XA} {w : Nat} {S : Nat → Nat → Nat} {b : XS} {σ : MS} {e : XE} {M : Mem} (h : SX g P1 F1 A w S b σ e M) (hF : ∀ a e, F a = some e → F1 a = some e) (hP : ∀ a, P a → P1 a) (hPF : ∀ a, P a → F a ≠ none) : SX g P F A w S b σ e M := by
  obtain ⟨τ, dn, fl, hR, z⟩ := h
  obtain ⟨h1, h2, h3, h4, h5, h6, h7⟩ := hR
  refine ⟨τ, dn, fl, ⟨h1, h2, fun k w i hl => ⟨?_, (h3 k w i hl).2⟩, fun a e he => h4 a e (hF a e he), h5, fun a ha => ⟨hPF a ha, (h6 a (hP a ha)).2⟩, h7⟩, z⟩
  cases hf : F (A k w i) with
  | none => rfl
  | some x =>
    have h9 := hF _ _ hf
    rw [(h3 k w i hl).1] at h9
    cases h9
theorem sails_iv {σ : MS} {n nl nb q nor nw p : Nat} {y : Int32} (v : IvG σ n nl nb q nor nw) (hp : p < n) : IvG (sR (sR σ (768 + 8 * p + 2) (nI 1)) (768 + 8 * p + 5) y) n nl nb q nor nw := by
  have hP := v.hP
  exact (v.perF hp (by decide)).sR1 (by unfold fr1 fr2; omega)
