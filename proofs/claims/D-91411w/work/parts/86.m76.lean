set_option maxRecDepth 100000
def OkT (t : Nat × Nat × Nat) : Prop := (t.1 = 0 → t.2.1 ≠ 2 ∧ t.2.1 ≠ 13 ∧ t.2.1 ≠ 14) ∧ (t.1 = 1 → t.2.2 = 9 ∨ t.2.2 = 13 ∨ t.2.2 = 29 ∨ t.2.2 = 28 ∨ t.2.2 = 31 ∨ t.2.2 = 23 ∨ t.2.2 = 24 ∨ t.2.2 = 7)
theorem OkT.it {p : Prop} [Decidable p] {a b : Nat × Nat × Nat} (h : OkT a) (k : OkT b) : OkT (if p then a else b) := by
  by_cases c : p
  · rw [if_pos c]; exact h
  · rw [if_neg c]; exact k
theorem OkT.a {x y : Nat} (h : x ≠ 2 ∧ x ≠ 13 ∧ x ≠ 14) : OkT (0, x, y) := ⟨fun _ => h, fun z => absurd (show (0 : Nat) = 1 from z) (by decide)⟩
theorem OkT.f {x y : Nat} (h : y = 9 ∨ y = 13 ∨ y = 29 ∨ y = 28 ∨ y = 31 ∨ y = 23 ∨ y = 24 ∨ y = 7) : OkT (1, x, y) := ⟨fun z => absurd (show (1 : Nat) = 0 from z) (by decide), fun _ => h⟩
theorem OkT.o {c x y : Nat} (h : c ≠ 0 ∧ c ≠ 1) : OkT (c, x, y) := ⟨fun z => absurd z h.1, fun z => absurd z h.2⟩
theorem invX_k0 {w k i j : Nat} : OkT (TX w k i j) := by
  match k with
  | 0 => exact (OkT.it (OkT.f (by decide)) (OkT.it (OkT.f (by decide)) (OkT.it (OkT.a (by decide)) (OkT.it (OkT.f (by decide)) (OkT.it (OkT.f (by decide)) (OkT.it (OkT.o (by decide)) (OkT.it (OkT.o (by decide)) (OkT.it (OkT.f (by decide)) (OkT.o (by decide))))))))))
  | 1 => exact (OkT.it (OkT.a (by decide)) (OkT.it (OkT.a (by decide)) (OkT.it (OkT.a (by decide)) (OkT.it (OkT.a (by decide)) (OkT.it (OkT.it (OkT.a (by decide)) (OkT.o (by decide))) (OkT.it (OkT.it (OkT.a (by decide)) (OkT.o (by decide))) (OkT.it (OkT.a (by decide)) (OkT.it (OkT.a (by decide)) (OkT.it (OkT.it (OkT.a (by decide)) (OkT.o (by decide))) (OkT.it (OkT.f (by decide)) (OkT.it (OkT.f (by decide)) (OkT.it (OkT.f (by decide)) (OkT.o (by decide))))))))))))))
  | 2 => exact (OkT.o (by decide))
  | 3 => exact (OkT.o (by decide))
  | 4 => exact (OkT.o (by decide))
  | 5 => exact (OkT.o (by decide))
  | 6 => exact (OkT.o (by decide))
  | 7 => exact (OkT.o (by decide))
  | 8 => exact (OkT.o (by decide))
  | 9 => exact (OkT.o (by decide))
  | 10 => exact (OkT.o (by decide))
  | 11 => exact (OkT.o (by decide))
  | 12 => exact (OkT.o (by decide))
  | 13 => exact (OkT.a (by decide))
  | 14 => exact (OkT.o (by decide))
  | 15 => exact (OkT.a (by decide))
  | 16 => exact (OkT.o (by decide))
  | 17 => exact (OkT.a (by decide))
  | 18 => exact (OkT.o (by decide))
  | 19 => exact (OkT.a (by decide))
  | 20 => exact (OkT.o (by decide))
  | 21 => exact (OkT.a (by decide))
  | 22 => exact (OkT.a (by decide))
  | 23 => exact (OkT.a (by decide))
  | 24 => exact (OkT.a (by decide))
  | 25 => exact (OkT.a (by decide))
  | 26 => exact (OkT.o (by decide))
  | 27 => exact (OkT.a (by decide))
  | 28 => exact (OkT.a (by decide))
  | 29 => exact (OkT.o (by decide))
  | 30 => exact (OkT.o (by decide))
  | 31 => exact (OkT.a (by decide))
  | 32 => exact (OkT.o (by decide))
  | 33 => exact (OkT.o (by decide))
  | 34 => exact (OkT.it (OkT.a (by decide)) (OkT.it (OkT.a (by decide)) (OkT.it (OkT.a (by decide)) (OkT.it (OkT.a (by decide)) (OkT.o (by decide))))))
  | 35 => exact (OkT.it (OkT.o (by decide)) (OkT.it (OkT.it (OkT.a (by decide)) (OkT.o (by decide))) (OkT.it (OkT.a (by decide)) (OkT.it (OkT.a (by decide)) (OkT.it (OkT.a (by decide)) (OkT.it (OkT.o (by decide)) (OkT.it (OkT.o (by decide)) (OkT.it (OkT.a (by decide)) (OkT.it (OkT.a (by decide)) (OkT.it (OkT.a (by decide)) (OkT.o (by decide))))))))))))
  | 36 => exact (OkT.it (OkT.a (by decide)) (OkT.it (OkT.a (by decide)) (OkT.it (OkT.a (by decide)) (OkT.o (by decide)))))
  | 37 => exact (OkT.o (by decide))
  | 38 => exact (OkT.it (OkT.a (by decide)) (OkT.it (OkT.o (by decide)) (OkT.it (OkT.o (by decide)) (OkT.it (OkT.o (by decide)) (OkT.it (OkT.it (OkT.a (by decide)) (OkT.o (by decide))) (OkT.it (OkT.it (OkT.a (by decide)) (OkT.o (by decide))) (OkT.it (OkT.o (by decide)) (OkT.o (by decide)))))))))
  | 39 => exact (OkT.it (OkT.a (by decide)) (OkT.o (by decide)))
  | 40 => exact (OkT.it (OkT.a (by decide)) (OkT.it (OkT.o (by decide)) (OkT.it (OkT.a (by decide)) (OkT.it (OkT.a (by decide)) (OkT.o (by decide))))))
  | 41 => exact (OkT.a (by decide))
  | 42 => exact (OkT.a (by decide))
  | 43 => exact (OkT.a (by decide))
  | 44 => exact (OkT.a (by decide))
  | 45 => exact (OkT.o (by decide))
  | 46 => exact (OkT.o (by decide))
  | 47 => exact (OkT.a (by decide))
  | k9 + 48 => exact (OkT.o (by decide))
theorem invX_k {w k i j : Nat} : ((TX w k i j).1 = 0 → (TX w k i j).2.1 ≠ 2 ∧ (TX w k i j).2.1 ≠ 13 ∧ (TX w k i j).2.1 ≠ 14) ∧ ((TX w k i j).1 = 1 → (TX w k i j).2.2 = 9 ∨ (TX w k i j).2.2 = 13 ∨ (TX w k i j).2.2 = 29 ∨ (TX w k i j).2.2 = 28 ∨ (TX w k i j).2.2 = 31 ∨ (TX w k i j).2.2 = 23 ∨ (TX w k i j).2.2 = 24 ∨ (TX w k i j).2.2 = 7) := invX_k0
theorem VX_in {w : Nat} {S : Nat → Nat → Nat} {b : XS} {σ : MS} {e : XE} {k i j : Nat} (hi : i < iNX S w k) (hj : j < jNX k) : VX w S b σ e k (wkX w k) i j = vaX b σ e k (wkX w k) i j (TX w k i j) := if_pos ⟨rfl, hi, hj⟩
theorem FlX.cg {S : Nat → Nat → Nat} {σ τ : MS} {fl : Nat → Nat → UInt32} (h5 : τ.2.1 5 = σ.2.1 5) (h6 : τ.2.1 6 = σ.2.1 6) (h : FlX S σ fl) : FlX S τ fl := by
  unfold FlX
  rw [h5, h6]
  exact h
theorem DnX.cg {σ τ : MS} {nl : Nat} {dn : XD} (h8 : τ.2.1 8 = σ.2.1 8) (h9 : τ.2.1 9 = σ.2.1 9) (h10 : τ.2.1 10 = σ.2.1 10) (h11 : τ.2.1 11 = σ.2.1 11) (h : DnX σ nl dn) : DnX τ nl dn := by
  intro l hl
  rw [h10, h11]
  obtain ⟨a, c⟩ := h l hl
  refine ⟨a, fun k hk => ?_⟩
  rcases c k hk with z | ⟨φ, ca, z1, z2, z3, z4⟩
  · exact Or.inl z
  · refine Or.inr ⟨φ, ca, z1, z2, z3, fun wk so pe gr pile => ?_⟩
    obtain ⟨p', hp⟩ := z4 wk so pe gr pile
    exact ⟨p', (vrun_cg h8 h9 _ _ _ _).trans hp⟩
theorem wA_k {σ : MS} {a x k : Nat} {v : Int32} (h : k ≠ a) : (wA σ a x v).2.1 k = σ.2.1 k := by simp [sA, h]
section SXp
variable {g : GP} {P : Nat → Prop} {F : Mem} {A : XA} {w : Nat} {S : Nat → Nat → Nat} {b : XS} {σ : MS} {e : XE} {M : Mem}
theorem SX.hz (h : SX g P F A w S b σ e M) : SzX w S := by
  obtain ⟨τ, dn, fl, -, hz, -⟩ := h
  exact hz
theorem SX.f (h : SX g P F A w S b σ e M) {a : Nat} {x : va_E} (hf : F a = some x) : M a = some x := by
  obtain ⟨τ, dn, fl, hR, -⟩ := h
  exact hR.f hf
theorem SX.mono (h : SX g P F A w S b σ e M) {M1 : Mem} (hm : ∀ a x, M a = some x → M1 a = some x) : SX g P F A w S b σ e M1 := by
  obtain ⟨τ, dn, fl, hR, z⟩ := h
  exact ⟨τ, dn, fl, hR.mono hm, z⟩
theorem SX.putA (h : SX g P F A w S b σ e M) {k i j a x : Nat} {v : Int32} {c : va_E} (hi : i < iNX S w k) (hj : j < jNX k) (ht : TX w k i j = (0, a, x)) (hlv : LvX S k (wkX w k) i) (h34 : k ≠ 34) (h17 : k ≠ 17) (ha : a ≠ 5 ∧ a ≠ 6 ∧ a ≠ 8 ∧ a ≠ 9 ∧ a ≠ 10 ∧ a ≠ 11)
    (hc : ∀ (τ : XT) (fl : Nat → UInt32), c = shX g A τ S σ.2.2 fl k (wkX w k) i (upd (VX w S b σ e k (wkX w k) i) j v)) : SX g P F A w S b (wA σ a x v) e (mset M (A k (wkX w k) i) c) := by
  obtain ⟨τ, dn, fl, hR, hz, hf, hd⟩ := h
  refine ⟨τ, dn, fl, ?_, hz, hf.cg (wA_k (Ne.symm ha.1)) (wA_k (Ne.symm ha.2.1)), hd.cg (wA_k (Ne.symm ha.2.2.1)) (wA_k (Ne.symm ha.2.2.2.1)) (wA_k (Ne.symm ha.2.2.2.2.1)) (wA_k (Ne.symm ha.2.2.2.2.2))⟩
  rw [hc τ (fl i), VX_A (y := (S, σ.2.2, fl)) hz hi hj ht]
  exact hR.put hlv h34 h17
theorem SX.putF (h : SX g P F A w S b σ e M) {k i j x : Nat} {v : Int32} {c : va_E} (hi : i < iNX S w k) (hj : j < jNX k) (ht : TX w k i j = (1, 0, x)) (hlv : LvX S k (wkX w k) i) (h34 : k ≠ 34) (h17 : k ≠ 17)
    (hc : ∀ (τ : XT) (fl : Nat → UInt32), c = shX g A τ S σ.2.2 fl k (wkX w k) i (upd (VX w S b σ e k (wkX w k) i) j v)) : SX g P F A w S b (sF σ x v) e (mset M (A k (wkX w k) i) c) := by
  obtain ⟨τ, dn, fl, hR, hz, hf, hd⟩ := h
  refine ⟨τ, dn, fl, ?_, hz, hf.cg rfl rfl, hd.cg rfl rfl rfl rfl⟩
  rw [hc τ (fl i), VX_F (y := (S, σ.2.2, fl)) hz hi hj ht]
  exact hR.put hlv h34 h17
theorem SX.putE (h : SX g P F A w S b σ e M) {k i j a x : Nat} {v : Int32} {c : va_E} (hi : i < iNX S w k) (hj : j < jNX k) (ht : TX w k i j = (2, a, x)) (hlv : LvX S k (wkX w k) i) (h34 : k ≠ 34) (h17 : k ≠ 17)
    (hc : ∀ (τ : XT) (fl : Nat → UInt32), c = shX g A τ S σ.2.2 fl k (wkX w k) i (upd (VX w S b σ e k (wkX w k) i) j v)) : SX g P F A w S b σ (uE e a x v) (mset M (A k (wkX w k) i) c) := by
  obtain ⟨τ, dn, fl, hR, hz, hf, hd⟩ := h
  refine ⟨τ, dn, fl, ?_, hz, hf, hd⟩
  rw [hc τ (fl i), VX_E (y := (S, σ.2.2, fl)) hz hi hj ht]
  exact hR.put hlv h34 h17
/-- the model's numbers that the class doesn't see -/
theorem SX.cg (h : SX g P F A w S b σ e M) {σ1 : MS} {e1 : XE} (ha : ∀ a, a ≠ 2 → a ≠ 13 → a ≠ 14 → σ1.2.1 a = σ.2.1 a) (hf : ∀ x, x = 9 ∨ x = 13 ∨ x = 29 ∨ x = 28 ∨ x = 31 ∨ x = 23 ∨ x = 24 ∨ x = 7 → σ1.1 x = σ.1 x) (hl : σ1.2.2 = σ.2.2) (he : e1 = e) : SX g P F A w S b σ1 e1 M := by
  subst he
  obtain ⟨τ, dn, fl, hR, hz, hfl, hd⟩ := h
  refine ⟨τ, dn, fl, ?_, hz, hfl.cg (ha 5 (by decide) (by decide) (by decide)) (ha 6 (by decide) (by decide) (by decide)), hd.cg (ha 8 (by decide) (by decide) (by decide)) (ha 9 (by decide) (by decide) (by decide)) (ha 10 (by decide) (by decide) (by decide)) (ha 11 (by decide) (by decide) (by decide))⟩
  have ev : VX w S b σ1 e1 = VX w S b σ e1 := by
    funext k w' i j
    simp only [VX]
    by_cases hc : w' = wkX w k ∧ i < iNX S w k ∧ j < jNX k
    · rw [if_pos hc, if_pos hc]
      have hi := invX_k (w := w) (i := i) (j := j) (k := k)
      simp only [vaX]
      by_cases h0 : (TX w k i j).1 = 0
      · rw [if_pos h0, if_pos h0, ha _ (hi.1 h0).1 (hi.1 h0).2.1 (hi.1 h0).2.2]
      · rw [if_neg h0, if_neg h0]
        by_cases h1 : (TX w k i j).1 = 1
        · rw [if_pos h1, if_pos h1, hf _ (hi.2 h1)]
        · rw [if_neg h1, if_neg h1]
    · rw [if_neg hc, if_neg hc]
  rw [ev, hl]
  exact hR
end SXp
section SXg
variable {g : GP} {own : String} {cc : ByteArray} {nL : Nat} {i : MI} {d C N pc : Nat} {ls : List (Nat × Value)} {st : List Value} {μ : Mem} {Q : OC → Mem → Prop}
/-- a memory of which so much is known -/
theorem sxg {T : Mem → Prop} (h : T μ) (k : ∀ M : Mem, T M → PJ g own cc nL i d C N pc ls st M Q) : PJ g own cc nL i d C N pc ls st μ Q := k μ h
end SXg
