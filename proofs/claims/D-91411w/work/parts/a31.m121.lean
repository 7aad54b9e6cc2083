set_option maxRecDepth 100000
section PR
variable {g : GP} {P : Nat → Prop} {F : Mem} {A A1 : XA} {τ : XT} {dn : XD} {ν : XS} {M : Mem}
/-- the ints of a cell replaced -/
def rI (ν : XS) (k w i : Nat) (r : Nat → Int32) : XS := (fun k' w' i' => if k' = k ∧ w' = w ∧ i' = i then r else ν.1 k' w' i', ν.2)
theorem RX.putR (h : RX g P F A τ dn ν M) {k w i : Nat} (hl : LvX ν.2.1 k w i) (h34 : k ≠ 34) (h17 : k ≠ 17) (r : Nat → Int32) : RX g P F A τ dn (rI ν k w i r) (mset M (A k w i) (shX g A τ ν.2.1 ν.2.2.1 (ν.2.2.2 i) k w i r)) := by
  obtain ⟨h1, h2, h3, h4, h5, h6, h7⟩ := h
  refine ⟨fun k' w' i' hl' => ?_, h2, h3, fun a e hf => ?_, fun a e hf => ?_, h6, ?_⟩
  · by_cases e : k' = k ∧ w' = w ∧ i' = i
    · obtain ⟨rfl, rfl, rfl⟩ := e
      rw [mset_s]
      show _ = some (shX g A τ ν.2.1 ν.2.2.1 (ν.2.2.2 i') k' w' i' ((rI ν k' w' i' r).1 k' w' i'))
      rw [show (rI ν k' w' i' r).1 k' w' i' = r from if_pos ⟨rfl, rfl, rfl⟩]
    · rw [mset_n (fun z => e (h2 _ _ _ _ _ _ hl' hl z)), h1 _ _ _ hl']
      show some (shX g A τ ν.2.1 ν.2.2.1 (ν.2.2.2 i') k' w' i' (ν.1 k' w' i')) = some (shX g A τ ν.2.1 ν.2.2.1 (ν.2.2.2 i') k' w' i' ((rI ν k w i r).1 k' w' i'))
      rw [show (rI ν k w i r).1 k' w' i' = ν.1 k' w' i' from if_neg e]
  · rw [mset_n (fun z => by rw [z, (h3 _ _ _ hl).1] at hf; cases hf)]
    exact h4 _ _ hf
  · rw [mset_n (fun z => by rw [z, (h3 _ _ _ hl).2] at hf; cases hf)]
    exact h5 _ _ hf
  · refine ⟨fun w9 s hw hs => ?_, h7.2.1, h7.2.2.1, ⟨fun q hq => ?_, h7.2.2.2.2⟩⟩
    · rw [show (rI ν k w i r).1 34 w9 s = ν.1 34 w9 s from if_neg (fun z => h34 z.1.symm)]
      exact h7.1 w9 s hw hs
    · rw [show (rI ν k w i r).1 17 0 0 = ν.1 17 0 0 from if_neg (fun z => h17 z.1.symm)]
      exact h7.2.2.2.1 q hq
/-- ints of cells that are not there may be what they will -/
theorem RX.cgI (h : RX g P F A τ dn ν M) {f : Nat → Nat → Nat → Nat → Int32} (hr : ∀ k w i, LvX ν.2.1 k w i → f k w i = ν.1 k w i) : RX g P F A τ dn (f, ν.2) M := by
  obtain ⟨h1, h2, h3, h4, h5, h6, h7⟩ := h
  refine ⟨fun k w i hl => ?_, h2, h3, h4, h5, h6, fun w s hw hs => ?_, h7.2.1, h7.2.2.1, fun q hq => ?_, h7.2.2.2.2⟩
  · rw [h1 _ _ _ hl]
    show some (shX g A τ ν.2.1 ν.2.2.1 (ν.2.2.2 i) k w i (ν.1 k w i)) = some (shX g A τ ν.2.1 ν.2.2.1 (ν.2.2.2 i) k w i (f k w i))
    rw [hr _ _ _ hl]
  · show HoC (tIm τ) (tHd τ w s) (f 34 w s)
    rw [hr 34 w s (LvX.k34 hw hs)]
    exact h7.1 w s hw hs
  · show PdX g (tIm τ) (A 51 0 q) (f 17 0 0 q)
    rw [hr 17 0 0 (LvX.one (by decide) (by decide))]
    exact h7.2.2.2.1 q hq
def L1X (ν : XS) (k n1 : Nat) (r1 : Nat → Int32) : XS := ((fun k' w' i' => if k' = k + 1 ∧ w' = 0 ∧ i' = 0 then r1 else ν.1 k' w' i'), (fun x y => if x = k ∧ y = 0 then n1 else ν.2.1 x y), ν.2.2)
/-- orders, asks, prices paid: the list is another one -/
theorem RX.lst (h : RX g P F A τ dn ν M) {k n1 m1 q2 : Nat} {mc1 : Int32} {r1 : Nat → Int32} (hk : k = 12 ∨ k = 14 ∨ k = 16) (hq2 : q2 = A (k + 1) 0 0 ∨ M q2 = none) (hm : n1 ≤ m1 ∧ 1 ≤ m1 ∧ m1 < 1000)
    (hA1 : ∀ k' w' i', k' ≠ 51 → ¬ (k' = k + 1 ∧ w' = 0 ∧ i' = 0) → A1 k' w' i' = A k' w' i') (hA2 : A1 (k + 1) 0 0 = q2) (h51 : ∀ i, i < ν.2.1 16 0 → A1 51 0 i = A 51 0 i) (hpd : k = 16 → ∀ j, j < n1 → PdX g (tIm τ) (A1 51 0 j) (r1 j))
    (h2 : ν.2.1 2 0 ≤ 96 ∧ ν.2.1 2 1 ≤ 96) (h8 : ν.2.1 8 1 ≤ ν.2.1 8 0) (hO : ∀ j, j < ν.2.1 12 0 → tN (ν.1 13 0 0 j) < ν.2.1 4 0) (hQ : ∀ j, j < ν.2.1 14 0 → tN (ν.1 15 0 0 j) < ν.2.1 4 0) :
    RX g P F A1 (T1X τ k 0 m1 mc1) dn (L1X ν k n1 r1) (mset (mset M q2 (ldX g A1 (T1X τ k 0 m1 mc1) k 0 n1 r1)) (A k 0 0) (lsX A1 (T1X τ k 0 m1 mc1) k 0 n1)) := by
  have kb : 12 ≤ k ∧ k ≤ 16 := by rcases hk with e | e | e <;> (subst e; decide)
  have kk : k = 4 ∨ k = 6 ∨ k = 8 ∨ k = 10 ∨ k = 12 ∨ k = 14 ∨ k = 16 := hk.elim (fun z => Or.inr (Or.inr (Or.inr (Or.inr (Or.inl z))))) (fun z => Or.inr (Or.inr (Or.inr (Or.inr (Or.inr z)))))
  have eL : ∀ k' w' i', LvX (L1X ν k n1 r1).2.1 k' w' i' ↔ LvX ν.2.1 k' w' i' := fun k' w' i' => by
    have e : ∀ x, x < 12 ∨ x = 32 → ∀ y, (L1X ν k n1 r1).2.1 x y = ν.2.1 x y := fun x hx y => if_neg (fun z => by omega)
    unfold LvX cNX
    rw [e 4 (by decide), e 6 (by decide), e 8 (by decide), e 10 (by decide), e 32 (by decide)]
  have hlk : LvX ν.2.1 k 0 0 := LvX.one (by omega) (by rcases hk with e | e | e <;> (subst e; decide))
  have hld : LvX ν.2.1 (k + 1) 0 0 := LvX.one (by omega) (by rcases hk with e | e | e <;> (subst e; decide))
  obtain ⟨h1, hinj, h3, h4, h5, h6, h7⟩ := id h
  have q2n : ∀ k' w' i', LvX ν.2.1 k' w' i' → ¬ (k' = k + 1 ∧ w' = 0 ∧ i' = 0) → A k' w' i' ≠ q2 := fun k' w' i' hl hn z => by
    rcases hq2 with e | e
    · rw [e] at z
      exact hn (hinj _ _ _ _ _ _ hl hld z)
    · rw [← z, h1 _ _ _ hl] at e
      cases e
  have l51 : ∀ k' w' i', LvX ν.2.1 k' w' i' → k' ≠ 51 := fun k' w' i' hl z => by
    have := hl.1
    rw [z, show wNX 51 = 0 by decide] at this
    omega
  have keepM : ∀ a e, (∀ k' w' i', LvX ν.2.1 k' w' i' → A k' w' i' ≠ a) → M a = some e → mset (mset M q2 (ldX g A1 (T1X τ k 0 m1 mc1) k 0 n1 r1)) (A k 0 0) (lsX A1 (T1X τ k 0 m1 mc1) k 0 n1) a = some e := fun a e ha hM => by
    rw [mset_n (Ne.symm (ha _ _ _ hlk)), mset_n (fun z => ?_)]
    · exact hM
    · rcases hq2 with e2 | e2
      · exact ha _ _ _ hld (e2.symm.trans z.symm)
      · rw [← z, hM] at e2
        cases e2
  refine RX.more h (fun _ _ z => z) (fun _ z => z) (fun a ha => (h6 a ha).1) (k + 1) 0 (fun k' w' i' hl => Or.inl ((eL _ _ _).mp hl)) (fun k' w' i' hl => ?_) (fun k' w' i' hl => ?_) (fun k' w' i' x y z hl hl' hn hn' he => absurd ((eL _ _ _).mp hl) hn) (fun a e hf => ?_) rfl (fun a e hf => ?_) ?_
  · have z := (eL _ _ _).mp hl
    by_cases e1 : k' = k ∧ w' = 0
    · obtain ⟨rfl, rfl⟩ := e1
      have i0 : i' = 0 := by
        have l2 := z.2.1
        unfold cNX at l2
        rw [if_neg (by omega), if_neg (by omega), if_neg (by omega), if_neg (by omega), if_neg (by omega), if_neg (by omega)] at l2
        omega
      subst i0
      rw [hA1 _ _ _ (by omega) (by omega), mset_s]
      have es := celX_ls (g := g) (A := A1) (τ := T1X τ k' 0 m1 mc1) (ν := L1X ν k' n1 r1) (k := k') (w := 0) kk
      rw [show (L1X ν k' n1 r1).2.1 k' 0 = n1 from if_pos ⟨rfl, rfl⟩] at es
      rw [es]
    · by_cases e2 : k' = k + 1 ∧ w' = 0
      · obtain ⟨rfl, rfl⟩ := e2
        have i0 : i' = 0 := by
          have l2 := z.2.1
          unfold cNX at l2
          rw [if_neg (by omega), if_neg (by omega), if_neg (by omega), if_neg (by omega), if_neg (by omega), if_neg (by omega)] at l2
          omega
        subst i0
        rw [hA2, mset_n (Ne.symm (q2n _ _ _ hlk (by omega))), mset_s]
        have es := celX_ld (g := g) (A := A1) (τ := T1X τ k 0 m1 mc1) (ν := L1X ν k n1 r1) (k := k) (w := 0) kk
        rw [show (L1X ν k n1 r1).2.1 k 0 = n1 from if_pos ⟨rfl, rfl⟩, show (L1X ν k n1 r1).1 (k + 1) 0 0 = r1 from if_pos ⟨rfl, rfl, rfl⟩] at es
        rw [es]
      · have en : ¬ (k' = k + 1 ∧ w' = 0 ∧ i' = 0) := fun y => e2 ⟨y.1, y.2.1⟩
        rw [hA1 _ _ _ (l51 _ _ _ z) en, mset_n (fun y => e1 (by have := hinj _ _ _ _ _ _ z hlk y; exact ⟨this.1, this.2.1⟩)), mset_n (q2n _ _ _ z en), h1 _ _ _ z]
        have er : celX g A1 (T1X τ k 0 m1 mc1) (L1X ν k n1 r1) k' w' i' = celX g A1 (T1X τ k 0 m1 mc1) (ν.1, (L1X ν k n1 r1).2) k' w' i' := by
          unfold celX
          rw [show (L1X ν k n1 r1).1 k' w' i' = ν.1 k' w' i' from if_neg en]
        rw [er]
        refine congrArg some (celX_ag (A := A) (τ := τ) (ν := ν) (kl := k) (wl := 0) (A1 := A1) (τ1 := T1X τ k 0 m1 mc1) (ν1 := (ν.1, (L1X ν k n1 r1).2)) kk (fun k9 w9 i9 h9 n9 => ?_) (fun k9 w9 i9 h9 => rfl) rfl (fun x y hxy => ?_) rfl (fun x y hxy => ⟨?_, ?_⟩) h2 h8 hO hQ k' w' i' z e1 e2).symm
        · by_cases e51 : k9 = 51
          · subst e51
            rcases h9 with h9 | h9 | h9 | h9 | h9 | h9
            · exact absurd rfl (l51 _ _ _ h9)
            · exact absurd h9.1 (by decide)
            · exact absurd h9.1 (by decide)
            · exact absurd h9.1 (by decide)
            · rw [h9.2.1]; exact h51 _ h9.2.2
            · exact absurd h9 (by decide)
          · exact hA1 _ _ _ e51 (fun y => n9 ⟨y.1, y.2.1⟩)
        · exact if_neg hxy
        · exact if_neg hxy
        · exact if_neg hxy
  · by_cases e : k' = k + 1 ∧ w' = 0 ∧ i' = 0
    · obtain ⟨rfl, rfl, rfl⟩ := e
      rw [hA2]
      rcases hq2 with e2 | e2
      · exact Or.inl e2
      · exact Or.inr ⟨e2, rfl, rfl, rfl⟩
    · exact Or.inl (hA1 _ _ _ (l51 _ _ _ hl) e)
  · exact keepM a e (fun k' w' i' hl z => by have := (h3 _ _ _ hl).1; rw [z, hf] at this; cases this) (h4 _ _ hf)
  · exact keepM a e (fun k' w' i' hl z => by have := (h3 _ _ _ hl).2; rw [z, hf] at this; cases this) (h5 _ _ hf)
  · obtain ⟨i1, i2, i3, i4, i5⟩ := h7
    refine ⟨fun w' s hw' hs => ?_, fun w' hw' => ?_, fun l hl => ?_, fun x hx => ?_, fun x y hx50 => ?_⟩
    · rw [show (L1X ν k n1 r1).1 34 w' s = ν.1 34 w' s from if_neg (by omega)]
      exact i1 w' s hw' hs
    · rw [hA1 48 w' 0 (by decide) (by omega), hA1 49 w' 0 (by decide) (by omega), hA1 0 0 0 (by decide) (by omega)]
      refine ⟨(i2 w' hw').1, (i2 w' hw').2.1, (i2 w' hw').2.2.trans ?_⟩
      show ν.2.1 59 0 = (if 59 = k ∧ 0 = 0 then n1 else ν.2.1 59 0)
      rw [if_neg (by omega)]
    · rw [hA1 50 0 l (by decide) (by omega)]
      exact i3 l (by have hl9 : l < (if 8 = k ∧ 0 = 0 then n1 else ν.2.1 8 0) := hl; rw [if_neg (by omega)] at hl9; exact hl9)
    · by_cases e : k = 16
      · subst e
        have hx9 : x < (if 16 = 16 ∧ 0 = 0 then n1 else ν.2.1 16 0) := hx
        rw [if_pos ⟨rfl, rfl⟩] at hx9
        rw [show (L1X ν 16 n1 r1).1 17 0 0 = r1 by simp [L1X]]
        exact hpd rfl x hx9
      · have hx9 : x < (if 16 = k ∧ 0 = 0 then n1 else ν.2.1 16 0) := hx
        rw [if_neg (by omega)] at hx9
        rw [show (L1X ν k n1 r1).1 17 0 0 = ν.1 17 0 0 from if_neg (by omega), h51 x hx9]
        exact i4 x hx9
    · show (if x = k ∧ y = 0 then n1 else ν.2.1 x y) ≤ (if x = k ∧ y = 0 then m1 else tCp τ x y) ∧ 1 ≤ (if x = k ∧ y = 0 then m1 else tCp τ x y) ∧ (if x = k ∧ y = 0 then m1 else tCp τ x y) < 1000
      by_cases e : x = k ∧ y = 0
      · rw [if_pos e, if_pos e]; exact hm
      · rw [if_neg e, if_neg e]; exact i5 x y hx50
end PR
