set_option maxRecDepth 100000
/-- what is known of the cells that never change -/
def ImX (g : GP) (A : XA) (τ : XT) (dn : XD) (ν : XS) : Prop :=
  (∀ w s, w < 2 → s < 96 → HoC (tIm τ) (tHd τ w s) (ν.1 34 w s)) ∧ (∀ w, w < 2 → tIm τ (A 48 w 0) = some (.inr (37, [])) ∧ tIm τ (A 49 w 0) = some (.inr (38, [])) ∧ A 0 0 0 = ν.2.1 59 0)
  ∧ (∀ l, l < ν.2.1 8 0 → TxC g (tIm τ) (A 50 0 l) (dn l)) ∧ (∀ k, k < ν.2.1 16 0 → PdX g (tIm τ) (A 51 0 k) (ν.1 17 0 0 k)) ∧ ∀ k w, k < 50 → ν.2.1 k w ≤ tCp τ k w ∧ 1 ≤ tCp τ k w ∧ tCp τ k w < 1000
/-- the class's cells lie in M: P what others own, F what is to be kept -/
def RX (g : GP) (P : Nat → Prop) (F : Mem) (A : XA) (τ : XT) (dn : XD) (ν : XS) (M : Mem) : Prop :=
  (∀ k w i, LvX ν.2.1 k w i → M (A k w i) = some (celX g A τ ν k w i))
  ∧ (∀ k w i k' w' i', LvX ν.2.1 k w i → LvX ν.2.1 k' w' i' → A k w i = A k' w' i' → k = k' ∧ w = w' ∧ i = i')
  ∧ (∀ k w i, LvX ν.2.1 k w i → F (A k w i) = none ∧ tIm τ (A k w i) = none)
  ∧ (∀ a e, F a = some e → M a = some e) ∧ (∀ a e, tIm τ a = some e → M a = some e)
  ∧ (∀ a, P a → F a ≠ none ∧ tIm τ a = none) ∧ ImX g A τ dn ν
section RXl
variable {g : GP} {P : Nat → Prop} {F : Mem} {A : XA} {τ : XT} {dn : XD} {ν : XS} {M : Mem}
theorem RX.gt (h : RX g P F A τ dn ν M) {k w i : Nat} (hl : LvX ν.2.1 k w i) : M (A k w i) = some (celX g A τ ν k w i) := h.1 k w i hl
theorem RX.f (h : RX g P F A τ dn ν M) {a : Nat} {e : va_E} (hf : F a = some e) : M a = some e := h.2.2.2.1 a e hf
theorem RX.im (h : RX g P F A τ dn ν M) {a : Nat} {e : va_E} (hf : tIm τ a = some e) : M a = some e := h.2.2.2.2.1 a e hf
theorem RX.mono (h : RX g P F A τ dn ν M) {M1 : Mem} (hm : ∀ a e, M a = some e → M1 a = some e) : RX g P F A τ dn ν M1 :=
  ⟨fun k w i hl => hm _ _ (h.1 k w i hl), h.2.1, h.2.2.1, fun a e hf => hm _ _ (h.2.2.2.1 a e hf), fun a e hf => hm _ _ (h.2.2.2.2.1 a e hf), h.2.2.2.2.2⟩
/-- one int of a live cell written -/
theorem RX.put (h : RX g P F A τ dn ν M) {k w i j : Nat} {v : Int32} (hl : LvX ν.2.1 k w i) (h34 : k ≠ 34) (h17 : k ≠ 17) : RX g P F A τ dn (sI ν k w i j v) (mset M (A k w i) (shX g A τ ν.2.1 ν.2.2.1 (ν.2.2.2 i) k w i (upd (ν.1 k w i) j v))) := by
  obtain ⟨h1, h2, h3, h4, h5, h6, h7⟩ := h
  refine ⟨fun k' w' i' hl' => ?_, h2, h3, fun a e hf => ?_, fun a e hf => ?_, h6, ?_⟩
  · by_cases e : k' = k ∧ w' = w ∧ i' = i
    · obtain ⟨rfl, rfl, rfl⟩ := e
      rw [mset_s]
      show _ = some (shX g A τ ν.2.1 ν.2.2.1 (ν.2.2.2 i') k' w' i' ((sI ν k' w' i' j v).1 k' w' i'))
      rw [sI_eq]
    · rw [mset_n (fun z => e (h2 _ _ _ _ _ _ hl' hl z)), h1 _ _ _ hl']
      show some (shX g A τ ν.2.1 ν.2.2.1 (ν.2.2.2 i') k' w' i' (ν.1 k' w' i')) = some (shX g A τ ν.2.1 ν.2.2.1 (ν.2.2.2 i') k' w' i' ((sI ν k w i j v).1 k' w' i'))
      rw [sI_ne e]
  · rw [mset_n (fun z => by rw [z, (h3 _ _ _ hl).1] at hf; cases hf)]
    exact h4 _ _ hf
  · rw [mset_n (fun z => by rw [z, (h3 _ _ _ hl).2] at hf; cases hf)]
    exact h5 _ _ hf
  · refine ⟨fun w9 s hw hs => ?_, h7.2.1, h7.2.2.1, ⟨fun q hq => ?_, h7.2.2.2.2⟩⟩
    · rw [sI_ne (fun z => h34 z.1.symm)]
      exact h7.1 w9 s hw hs
    · rw [sI_ne (fun z => h17 z.1.symm)]
      exact h7.2.2.2.1 q hq
/-- a slot gets another holding (of those that never change) -/
theorem RX.slot (h : RX g P F A τ dn ν M) {w s q : Nat} {r : Nat → Int32} (hw : w < 2) (hs : s < 96) (hx : w = 1 → s < ν.2.1 63 1) (hq : HoC (tIm τ) q r) : ∃ τ1 : XT, tIm τ1 = tIm τ ∧ RX g P F A τ1 dn (fun k' w' i' => if k' = 34 ∧ w' = w ∧ i' = s then r else ν.1 k' w' i', ν.2) (mset M (A 34 w s) (slO q)) := by
  obtain ⟨h1, h2, h3, h4, h5, h6, h7⟩ := h
  have hl : LvX ν.2.1 34 w s := ⟨by simp [wNX]; omega, by simp [cNX]; omega, fun z => by cases z⟩
  refine ⟨(τ.1, fun w' s' => if w' = w ∧ s' = s then q else tHd τ w' s', τ.2.2), rfl, fun k' w' i' hl' => ?_, h2, h3, fun a e hf => ?_, fun a e hf => ?_, h6, ?_⟩
  · by_cases e : k' = 34 ∧ w' = w ∧ i' = s
    · obtain ⟨rfl, rfl, rfl⟩ := e
      rw [mset_s]
      simp [celX, shX, tHd, slW_r hx]
    · rw [mset_n (fun z => e (h2 _ _ _ _ _ _ hl' hl z)), h1 _ _ _ hl']
      by_cases hk : k' = 34
      · subst hk
        have e2 : ¬ (w' = w ∧ i' = s) := fun z => e ⟨rfl, z⟩
        simp [celX, shX, tHd, e2]
      · simp only [celX]
        rw [if_neg e]
        congr 1
        unfold shX
        split <;> first | rfl | exact absurd rfl hk
  · rw [mset_n (fun z => by rw [z, (h3 _ _ _ hl).1] at hf; cases hf)]
    exact h4 _ _ hf
  · rw [mset_n (fun z => by rw [z, (h3 _ _ _ hl).2] at hf; cases hf)]
    exact h5 _ _ hf
  · refine ⟨fun w9 s9 hw9 hs9 => ?_, h7.2.1, h7.2.2.1, h7.2.2.2⟩
    show HoC (tIm τ) (if w9 = w ∧ s9 = s then q else tHd τ w9 s9) (if (34 : Nat) = 34 ∧ w9 = w ∧ s9 = s then r else ν.1 34 w9 s9)
    by_cases e : w9 = w ∧ s9 = s
    · rw [if_pos e, if_pos ⟨rfl, e⟩]
      exact hq
    · rw [if_neg e, if_neg (fun z => e z.2)]
      exact h7.1 w9 s9 hw9 hs9
/-- a fresh cell that never changes -/
theorem RX.newI (h : RX g P F A τ dn ν M) {q : Nat} {e : va_E} (hq : M q = none) : RX g P F A (mset (tIm τ) q e, τ.2) dn ν (mset M q e) := by
  obtain ⟨h1, h2, h3, h4, h5, h6, h7⟩ := h
  have hn : ∀ a x, tIm τ a = some x → mset (tIm τ) q e a = some x := fun a x hx => by
    rw [mset_n (fun z => by rw [z] at hx; rw [h5 _ _ hx] at hq; cases hq)]
    exact hx
  have hA : ∀ k w i, LvX ν.2.1 k w i → A k w i ≠ q := fun k w i hl z => by
    have := h1 _ _ _ hl
    rw [z, hq] at this
    cases this
  refine ⟨fun k w i hl => ?_, h2, fun k w i hl => ⟨(h3 _ _ _ hl).1, ?_⟩, fun a x hf => ?_, fun a x hf => ?_, fun a ha => ⟨(h6 a ha).1, ?_⟩, ?_⟩
  · rw [mset_n (hA k w i hl)]
    exact h1 _ _ _ hl
  · show mset (tIm τ) q e (A k w i) = none
    rw [mset_n (hA k w i hl)]
    exact (h3 _ _ _ hl).2
  · rw [mset_n (fun z => by rw [z] at hf; rw [h4 _ _ hf] at hq; cases hq)]
    exact h4 _ _ hf
  · have hf : mset (tIm τ) q e a = some x := hf
    by_cases ea : a = q
    · subst ea
      rw [mset_s] at hf ⊢
      exact hf
    · rw [mset_n ea] at hf ⊢
      exact h5 _ _ hf
  · show mset (tIm τ) q e a = none
    rw [mset_n (fun z => ?_)]
    · exact (h6 a ha).2
    · subst z
      obtain ⟨x, hx⟩ := Option.ne_none_iff_exists'.mp (h6 a ha).1
      rw [h4 _ _ hx] at hq
      cases hq
  · exact ⟨fun w s hw hs => (h7.1 w s hw hs).mono hn, fun w hw => ⟨hn _ _ (h7.2.1 w hw).1, hn _ _ (h7.2.1 w hw).2.1, (h7.2.1 w hw).2.2⟩, fun l hl => (h7.2.2.1 l hl).mono hn, ⟨fun k hk => (h7.2.2.2.1 k hk).mono hn, h7.2.2.2.2⟩⟩
end RXl
theorem LvX.k34 {S : Nat → Nat → Nat} {w s : Nat} (hw : w < 2) (hs : s < 96) : LvX S 34 w s := ⟨by simp [wNX]; omega, by simp [cNX]; omega, fun z => by cases z⟩
theorem LvX.k35 {S : Nat → Nat → Nat} {w p : Nat} (hw : w < 2) (hp : p < S 4 w) : LvX S 35 w p := ⟨by simp [wNX]; omega, by simp [cNX]; omega, fun z => by cases z⟩
theorem LvX.one {S : Nat → Nat → Nat} {k w : Nat} (h0 : k ≠ 34 ∧ k ≠ 35 ∧ k ≠ 36 ∧ k ≠ 37 ∧ k ≠ 38 ∧ k ≠ 39 ∧ k ≠ 40 ∧ k ≠ 32) (hw : w < wNX k) : LvX S k w 0 := ⟨hw, by unfold cNX; rw [if_neg (by omega), if_neg (by omega), if_neg (by omega), if_neg (by omega), if_neg (by omega), if_neg (by omega)]; decide, fun z => by omega⟩
theorem LvX.k36 {S : Nat → Nat → Nat} {w p k : Nat} (hk : k = 36 ∨ k = 37) (hw : w < 2) (hp : p < S 6 w) : LvX S k w p := by
  rcases hk with rfl | rfl <;> exact ⟨by simp [wNX]; omega, by simp [cNX]; omega, fun z => by cases z⟩
theorem LvX.k38 {S : Nat → Nat → Nat} {w p k : Nat} (hk : k = 38 ∨ k = 39) (hw : w < 2) (hp : p < S 8 w) : LvX S k w p := by
  rcases hk with rfl | rfl <;> exact ⟨by simp [wNX]; omega, by simp [cNX]; omega, fun z => by cases z⟩
theorem LvX.k40 {S : Nat → Nat → Nat} {w p : Nat} (hw : w < 2) (hp : p < S 10 w) : LvX S 40 w p := ⟨by simp [wNX]; omega, by simp [cNX]; omega, fun z => by cases z⟩
