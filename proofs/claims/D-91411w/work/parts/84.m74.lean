set_option maxRecDepth 100000
theorem iN_le_0 {S : Nat → Nat → Nat} {w i : Nat} (hi : i < iNX S w 0) : i < 1 := by
  unfold iNX at hi
  rw [if_neg (by decide)] at hi
  split at hi
  · exact hi
  · exact absurd hi (Nat.not_lt_zero _)
theorem iN_le_1 {S : Nat → Nat → Nat} {w i : Nat} (hi : i < iNX S w 1) : i < 1 := by
  unfold iNX at hi
  rw [if_neg (by decide)] at hi
  split at hi
  · exact hi
  · exact absurd hi (Nat.not_lt_zero _)
theorem iN_le_13 {S : Nat → Nat → Nat} {w i : Nat} (hi : i < iNX S w 13) : i < 1 := by
  unfold iNX at hi
  rw [if_neg (by decide)] at hi
  split at hi
  · exact hi
  · exact absurd hi (Nat.not_lt_zero _)
theorem iN_le_15 {S : Nat → Nat → Nat} {w i : Nat} (hi : i < iNX S w 15) : i < 1 := by
  unfold iNX at hi
  rw [if_neg (by decide)] at hi
  split at hi
  · exact hi
  · exact absurd hi (Nat.not_lt_zero _)
theorem iN_le_17 {S : Nat → Nat → Nat} {w i : Nat} (hi : i < iNX S w 17) : i < 1 := by
  unfold iNX at hi
  rw [if_neg (by decide)] at hi
  split at hi
  · exact hi
  · exact absurd hi (Nat.not_lt_zero _)
theorem iN_le_18 {S : Nat → Nat → Nat} {w i : Nat} (hi : i < iNX S w 18) : i < 1 := by
  unfold iNX at hi
  rw [if_neg (by decide)] at hi
  split at hi
  · exact hi
  · exact absurd hi (Nat.not_lt_zero _)
theorem iN_le_19 {S : Nat → Nat → Nat} {w i : Nat} (hi : i < iNX S w 19) : i < 1 := by
  unfold iNX at hi
  rw [if_neg (by decide)] at hi
  split at hi
  · exact hi
  · exact absurd hi (Nat.not_lt_zero _)
theorem iN_le_20 {S : Nat → Nat → Nat} {w i : Nat} (hi : i < iNX S w 20) : i < 1 := by
  unfold iNX at hi
  rw [if_neg (by decide)] at hi
  split at hi
  · exact hi
  · exact absurd hi (Nat.not_lt_zero _)
theorem iN_le_21 {S : Nat → Nat → Nat} {w i : Nat} (hi : i < iNX S w 21) : i < 1 := by
  unfold iNX at hi
  rw [if_neg (by decide)] at hi
  split at hi
  · exact hi
  · exact absurd hi (Nat.not_lt_zero _)
theorem iN_le_22 {S : Nat → Nat → Nat} {w i : Nat} (hi : i < iNX S w 22) : i < 1 := by
  unfold iNX at hi
  rw [if_neg (by decide)] at hi
  split at hi
  · exact hi
  · exact absurd hi (Nat.not_lt_zero _)
theorem iN_le_23 {S : Nat → Nat → Nat} {w i : Nat} (hi : i < iNX S w 23) : i < 1 := by
  unfold iNX at hi
  rw [if_neg (by decide)] at hi
  split at hi
  · exact hi
  · exact absurd hi (Nat.not_lt_zero _)
theorem iN_le_24 {S : Nat → Nat → Nat} {w i : Nat} (hi : i < iNX S w 24) : i < 1 := by
  unfold iNX at hi
  rw [if_neg (by decide)] at hi
  split at hi
  · exact hi
  · exact absurd hi (Nat.not_lt_zero _)
theorem iN_le_25 {S : Nat → Nat → Nat} {w i : Nat} (hi : i < iNX S w 25) : i < 1 := by
  unfold iNX at hi
  rw [if_neg (by decide)] at hi
  split at hi
  · exact hi
  · exact absurd hi (Nat.not_lt_zero _)
theorem iN_le_26 {S : Nat → Nat → Nat} {w i : Nat} (hi : i < iNX S w 26) : i < 1 := by
  unfold iNX at hi
  rw [if_neg (by decide)] at hi
  split at hi
  · exact hi
  · exact absurd hi (Nat.not_lt_zero _)
theorem iN_le_27 {S : Nat → Nat → Nat} {w i : Nat} (hi : i < iNX S w 27) : i < 1 := by
  unfold iNX at hi
  rw [if_pos (by decide)] at hi
  exact hi
theorem iN_le_28 {S : Nat → Nat → Nat} {w i : Nat} (hi : i < iNX S w 28) : i < 1 := by
  unfold iNX at hi
  rw [if_pos (by decide)] at hi
  exact hi
theorem iN_le_31 {S : Nat → Nat → Nat} {w i : Nat} (hi : i < iNX S w 31) : i < 1 := by
  unfold iNX at hi
  rw [if_pos (by decide)] at hi
  exact hi
theorem iN_le_33 {S : Nat → Nat → Nat} {w i : Nat} (hi : i < iNX S w 33) : i < 1 := by
  unfold iNX at hi
  rw [if_neg (by decide)] at hi
  split at hi
  · exact hi
  · exact absurd hi (Nat.not_lt_zero _)
theorem iN_le_34 {S : Nat → Nat → Nat} {w i : Nat} (hi : i < iNX S w 34) : i < 96 := by
  unfold iNX at hi
  rw [if_neg (by decide)] at hi
  split at hi
  · exact hi
  · exact absurd hi (Nat.not_lt_zero _)
theorem iN_le_35 {S : Nat → Nat → Nat} {w i : Nat} (hi : i < iNX S w 35) : i < S 4 w := by
  unfold iNX at hi
  rw [if_neg (by decide)] at hi
  split at hi
  · exact hi
  · exact absurd hi (Nat.not_lt_zero _)
theorem iN_le_36 {S : Nat → Nat → Nat} {w i : Nat} (hi : i < iNX S w 36) : i < S 6 w := by
  unfold iNX at hi
  rw [if_neg (by decide)] at hi
  split at hi
  · exact hi
  · exact absurd hi (Nat.not_lt_zero _)
theorem iN_le_37 {S : Nat → Nat → Nat} {w i : Nat} (hi : i < iNX S w 37) : i < S 6 w := by
  unfold iNX at hi
  rw [if_neg (by decide)] at hi
  split at hi
  · exact hi
  · exact absurd hi (Nat.not_lt_zero _)
theorem iN_le_38 {S : Nat → Nat → Nat} {w i : Nat} (hi : i < iNX S w 38) : i < S 8 w := by
  unfold iNX at hi
  rw [if_neg (by decide)] at hi
  split at hi
  · exact hi
  · exact absurd hi (Nat.not_lt_zero _)
theorem iN_le_39 {S : Nat → Nat → Nat} {w i : Nat} (hi : i < iNX S w 39) : i < S 8 w := by
  unfold iNX at hi
  rw [if_neg (by decide)] at hi
  split at hi
  · exact hi
  · exact absurd hi (Nat.not_lt_zero _)
theorem iN_le_40 {S : Nat → Nat → Nat} {w i : Nat} (hi : i < iNX S w 40) : i < S 10 w := by
  unfold iNX at hi
  rw [if_neg (by decide)] at hi
  split at hi
  · exact hi
  · exact absurd hi (Nat.not_lt_zero _)
theorem iN_le_41 {S : Nat → Nat → Nat} {w i : Nat} (hi : i < iNX S w 41) : i < 1 := by
  unfold iNX at hi
  rw [if_neg (by decide)] at hi
  split at hi
  · exact hi
  · exact absurd hi (Nat.not_lt_zero _)
theorem iN_le_42 {S : Nat → Nat → Nat} {w i : Nat} (hi : i < iNX S w 42) : i < 1 := by
  unfold iNX at hi
  rw [if_neg (by decide)] at hi
  split at hi
  · exact hi
  · exact absurd hi (Nat.not_lt_zero _)
theorem iN_le_43 {S : Nat → Nat → Nat} {w i : Nat} (hi : i < iNX S w 43) : i < 1 := by
  unfold iNX at hi
  rw [if_neg (by decide)] at hi
  split at hi
  · exact hi
  · exact absurd hi (Nat.not_lt_zero _)
theorem iN_le_44 {S : Nat → Nat → Nat} {w i : Nat} (hi : i < iNX S w 44) : i < 1 := by
  unfold iNX at hi
  rw [if_neg (by decide)] at hi
  split at hi
  · exact hi
  · exact absurd hi (Nat.not_lt_zero _)
theorem iN_le_45 {S : Nat → Nat → Nat} {w i : Nat} (hi : i < iNX S w 45) : i < 1 := by
  unfold iNX at hi
  rw [if_neg (by decide)] at hi
  split at hi
  · exact hi
  · exact absurd hi (Nat.not_lt_zero _)
theorem iN_le_46 {S : Nat → Nat → Nat} {w i : Nat} (hi : i < iNX S w 46) : i < 1 := by
  unfold iNX at hi
  rw [if_neg (by decide)] at hi
  split at hi
  · exact hi
  · exact absurd hi (Nat.not_lt_zero _)
theorem iN_le_47 {S : Nat → Nat → Nat} {w i : Nat} (hi : i < iNX S w 47) : i < 1 := by
  unfold iNX at hi
  rw [if_neg (by decide)] at hi
  split at hi
  · exact hi
  · exact absurd hi (Nat.not_lt_zero _)
theorem invX_ok {w k i j : Nat} {S : Nat → Nat → Nat} (hz : SzX w S) (hi : i < iNX S w k) (hj : j < jNX k) (h : (TX w k i j).1 < 3) : invX (TX w k i j) = (k, i, j) := by
  obtain ⟨z1, z2, z3, z4, z5, z6, z7⟩ := hz
  match k, hi, hj, h with
  | 0, hi, hj, h => exact invX_0 (by have h9 := iN_le_0 hi; omega) hj h
  | 1, hi, hj, h => exact invX_1 (by have h9 := iN_le_1 hi; omega) hj h
  | 2, hi, hj, h => exact absurd (show (4 : Nat) < 3 from h) (by decide)
  | 3, hi, hj, h => exact absurd (show (4 : Nat) < 3 from h) (by decide)
  | 4, hi, hj, h => exact absurd (show (4 : Nat) < 3 from h) (by decide)
  | 5, hi, hj, h => exact absurd (show (4 : Nat) < 3 from h) (by decide)
  | 6, hi, hj, h => exact absurd (show (4 : Nat) < 3 from h) (by decide)
  | 7, hi, hj, h => exact absurd (show (4 : Nat) < 3 from h) (by decide)
  | 8, hi, hj, h => exact absurd (show (4 : Nat) < 3 from h) (by decide)
  | 9, hi, hj, h => exact absurd (show (4 : Nat) < 3 from h) (by decide)
  | 10, hi, hj, h => exact absurd (show (4 : Nat) < 3 from h) (by decide)
  | 11, hi, hj, h => exact absurd (show (4 : Nat) < 3 from h) (by decide)
  | 12, hi, hj, h => exact absurd (show (4 : Nat) < 3 from h) (by decide)
  | 13, hi, hj, h => exact invX_13 (by have h9 := iN_le_13 hi; omega) hj h
  | 14, hi, hj, h => exact absurd (show (4 : Nat) < 3 from h) (by decide)
  | 15, hi, hj, h => exact invX_15 (by have h9 := iN_le_15 hi; omega) hj h
  | 16, hi, hj, h => exact absurd (show (4 : Nat) < 3 from h) (by decide)
  | 17, hi, hj, h => exact invX_17 (by have h9 := iN_le_17 hi; omega) hj h
  | 18, hi, hj, h => exact invX_18 (by have h9 := iN_le_18 hi; omega) hj h
  | 19, hi, hj, h => exact invX_19 (by have h9 := iN_le_19 hi; omega) hj h
  | 20, hi, hj, h => exact invX_20 (by have h9 := iN_le_20 hi; omega) hj h
  | 21, hi, hj, h => exact invX_21 (by have h9 := iN_le_21 hi; omega) hj h
  | 22, hi, hj, h => exact invX_22 (by have h9 := iN_le_22 hi; omega) hj h
  | 23, hi, hj, h => exact invX_23 (by have h9 := iN_le_23 hi; omega) hj h
  | 24, hi, hj, h => exact invX_24 (by have h9 := iN_le_24 hi; omega) hj h
  | 25, hi, hj, h => exact invX_25 (by have h9 := iN_le_25 hi; omega) hj h
  | 26, hi, hj, h => exact invX_26 (by have h9 := iN_le_26 hi; omega) hj h
  | 27, hi, hj, h => exact invX_27 (by have h9 := iN_le_27 hi; omega) hj h
  | 28, hi, hj, h => exact invX_28 (by have h9 := iN_le_28 hi; omega) hj h
  | 29, hi, hj, h => exact absurd (show (4 : Nat) < 3 from h) (by decide)
  | 30, hi, hj, h => exact absurd (show (4 : Nat) < 3 from h) (by decide)
  | 31, hi, hj, h => exact invX_31 (by have h9 := iN_le_31 hi; omega) hj h
  | 32, hi, hj, h => exact absurd (show (4 : Nat) < 3 from h) (by decide)
  | 33, hi, hj, h => exact invX_33 (by have h9 := iN_le_33 hi; omega) hj h
  | 34, hi, hj, h => exact invX_34 (by have h9 := iN_le_34 hi; omega) hj h
  | 35, hi, hj, h => exact invX_35 (by have h9 := iN_le_35 hi; omega) hj h
  | 36, hi, hj, h => exact invX_36 (by have h9 := iN_le_36 hi; omega) hj h
  | 37, hi, hj, h => exact invX_37 (by have h9 := iN_le_37 hi; omega) hj h
  | 38, hi, hj, h => exact invX_38 (by have h9 := iN_le_38 hi; omega) hj h
  | 39, hi, hj, h => exact invX_39 (by have h9 := iN_le_39 hi; omega) hj h
  | 40, hi, hj, h => exact invX_40 (by have h9 := iN_le_40 hi; omega) hj h
  | 41, hi, hj, h => exact invX_41 (by have h9 := iN_le_41 hi; omega) hj h
  | 42, hi, hj, h => exact invX_42 (by have h9 := iN_le_42 hi; omega) hj h
  | 43, hi, hj, h => exact invX_43 (by have h9 := iN_le_43 hi; omega) hj h
  | 44, hi, hj, h => exact invX_44 (by have h9 := iN_le_44 hi; omega) hj h
  | 45, hi, hj, h => exact invX_45 (by have h9 := iN_le_45 hi; omega) hj h
  | 46, hi, hj, h => exact invX_46 (by have h9 := iN_le_46 hi; omega) hj h
  | 47, hi, hj, h => exact invX_47 (by have h9 := iN_le_47 hi; omega) hj h
  | k9 + 48, hi, hj, h => exact absurd (show (4 : Nat) < 3 from h) (by decide)
theorem vaA_eq {b : XS} {σ : MS} {e : XE} {k w i j a x : Nat} {v : Int32} : vaX b (wA σ a x v) e k w i j (0, a, x) = v := by simp [vaX, sA, upd]
theorem vaA_ne {b : XS} {σ : MS} {e : XE} {k w i j a x : Nat} {v : Int32} {t : Nat × Nat × Nat} (h : ¬ t = (0, a, x)) : vaX b (wA σ a x v) e k w i j t = vaX b σ e k w i j t := by
  obtain ⟨c, a1, x1⟩ := t
  by_cases hc : c = 0
  · subst hc
    by_cases ha : a1 = a
    · subst ha
      have hx : ¬ x1 = x := fun z => h (by rw [z])
      simp [vaX, sA, upd, hx]
    · simp [vaX, sA, ha]
  · simp [vaX, hc, sA]
theorem vaF_eq {b : XS} {σ : MS} {e : XE} {k w i j a x : Nat} {v : Int32} : vaX b (sF σ x v) e k w i j (1, a, x) = v := by simp [vaX, sF, upd]
theorem vaF_ne {b : XS} {σ : MS} {e : XE} {k w i j x : Nat} {v : Int32} {t : Nat × Nat × Nat} (h : ¬ (t.1 = 1 ∧ t.2.2 = x)) : vaX b (sF σ x v) e k w i j t = vaX b σ e k w i j t := by
  obtain ⟨c, a1, x1⟩ := t
  by_cases hc : c = 1
  · subst hc
    have hx : ¬ x1 = x := fun z => h ⟨rfl, z⟩
    simp [vaX, sF, upd, hx]
  · simp [vaX, hc, sF]
def uE (e : XE) (a x : Nat) (v : Int32) : XE := fun a' => if a' = a then upd (e a) x v else e a'
theorem uE_eq {e : XE} {a x : Nat} {v : Int32} : uE e a x v a x = v := by simp [uE, upd]
theorem uE_ne {e : XE} {a x a' x' : Nat} {v : Int32} (h : ¬ (a' = a ∧ x' = x)) : uE e a x v a' x' = e a' x' := by
  unfold uE
  by_cases ha : a' = a
  · subst ha
    rw [if_pos rfl]
    exact if_neg (fun z => h ⟨rfl, z⟩)
  · rw [if_neg ha]
theorem vaE_eq {b : XS} {σ : MS} {e : XE} {k w i j a x : Nat} {v : Int32} : vaX b σ (uE e a x v) k w i j (2, a, x) = v := by simp [vaX, uE_eq]
theorem vaE_ne {b : XS} {σ : MS} {e : XE} {k w i j a x : Nat} {v : Int32} {t : Nat × Nat × Nat} (h : ¬ t = (2, a, x)) : vaX b σ (uE e a x v) k w i j t = vaX b σ e k w i j t := by
  obtain ⟨c, a1, x1⟩ := t
  by_cases hc : c = 2
  · subst hc
    simp only [vaX]
    rw [uE_ne (fun z => h (by rw [z.1, z.2]))]
  · simp [vaX, hc]
theorem inv3_T {w k i j x : Nat} : True := trivial
theorem VX_A {w : Nat} {S : Nat → Nat → Nat} {b : XS} {σ : MS} {e : XE} {k i j a x : Nat} {v : Int32} {y : (Nat → Nat → Nat) × (Nat → Int64) × (Nat → Nat → UInt32)} (hz : SzX w S) (hi : i < iNX S w k) (hj : j < jNX k) (ht : TX w k i j = (0, a, x)) : VX w S b (wA σ a x v) e = (sI (VX w S b σ e, y) k (wkX w k) i j v).1 := by
  have hin := invX_ok hz hi hj (by rw [ht]; exact (by decide : (0 : Nat) < 3))
  funext k' w' i' j'
  by_cases h1 : k' = k ∧ w' = wkX w k ∧ i' = i
  · obtain ⟨rfl, rfl, rfl⟩ := h1
    rw [sI_eq]
    by_cases h2 : j' = j
    · subst h2
      simp only [VX, upd]
      rw [if_pos ⟨trivial, hi, hj⟩, if_pos trivial, ht, vaA_eq]
    · simp only [VX, upd]
      rw [if_neg h2]
      by_cases h3 : j' < jNX k'
      · rw [if_pos ⟨trivial, hi, h3⟩, if_pos ⟨trivial, hi, h3⟩, vaA_ne (fun z => ?_)]
        have := invX_ok hz hi h3 (by rw [z]; exact (by decide : (0 : Nat) < 3))
        rw [z] at this
        rw [ht] at hin
        exact h2 (congrArg (fun q => q.2.2) (this.symm.trans hin))
      · rw [if_neg (fun z => h3 z.2.2), if_neg (fun z => h3 z.2.2)]
  · rw [sI_ne h1]
    simp only [VX]
    by_cases h3 : w' = wkX w k' ∧ i' < iNX S w k' ∧ j' < jNX k'
    · rw [if_pos h3, if_pos h3, vaA_ne (fun z => ?_)]
      have := invX_ok hz h3.2.1 h3.2.2 (by rw [z]; exact (by decide : (0 : Nat) < 3))
      rw [z] at this
      rw [ht] at hin
      have e1 := this.symm.trans hin
      cases e1
      exact h1 ⟨rfl, h3.1, rfl⟩
    · rw [if_neg h3, if_neg h3]
theorem VX_E {w : Nat} {S : Nat → Nat → Nat} {b : XS} {σ : MS} {e : XE} {k i j a x : Nat} {v : Int32} {y : (Nat → Nat → Nat) × (Nat → Int64) × (Nat → Nat → UInt32)} (hz : SzX w S) (hi : i < iNX S w k) (hj : j < jNX k) (ht : TX w k i j = (2, a, x)) : VX w S b σ (uE e a x v) = (sI (VX w S b σ e, y) k (wkX w k) i j v).1 := by
  have hin := invX_ok hz hi hj (by rw [ht]; exact (by decide : (2 : Nat) < 3))
  funext k' w' i' j'
  by_cases h1 : k' = k ∧ w' = wkX w k ∧ i' = i
  · obtain ⟨rfl, rfl, rfl⟩ := h1
    rw [sI_eq]
    by_cases h2 : j' = j
    · subst h2
      simp only [VX, upd]
      rw [if_pos ⟨trivial, hi, hj⟩, if_pos trivial, ht, vaE_eq]
    · simp only [VX, upd]
      rw [if_neg h2]
      by_cases h3 : j' < jNX k'
      · rw [if_pos ⟨trivial, hi, h3⟩, if_pos ⟨trivial, hi, h3⟩, vaE_ne (fun z => ?_)]
        have := invX_ok hz hi h3 (by rw [z]; exact (by decide : (2 : Nat) < 3))
        rw [z] at this
        rw [ht] at hin
        exact h2 (congrArg (fun q => q.2.2) (this.symm.trans hin))
      · rw [if_neg (fun z => h3 z.2.2), if_neg (fun z => h3 z.2.2)]
  · rw [sI_ne h1]
    simp only [VX]
    by_cases h3 : w' = wkX w k' ∧ i' < iNX S w k' ∧ j' < jNX k'
    · rw [if_pos h3, if_pos h3, vaE_ne (fun z => ?_)]
      have := invX_ok hz h3.2.1 h3.2.2 (by rw [z]; exact (by decide : (2 : Nat) < 3))
      rw [z] at this
      rw [ht] at hin
      have e1 := this.symm.trans hin
      cases e1
      exact h1 ⟨rfl, h3.1, rfl⟩
    · rw [if_neg h3, if_neg h3]
theorem VX_F {w : Nat} {S : Nat → Nat → Nat} {b : XS} {σ : MS} {e : XE} {k i j x : Nat} {v : Int32} {y : (Nat → Nat → Nat) × (Nat → Int64) × (Nat → Nat → UInt32)} (hz : SzX w S) (hi : i < iNX S w k) (hj : j < jNX k) (ht : TX w k i j = (1, 0, x)) : VX w S b (sF σ x v) e = (sI (VX w S b σ e, y) k (wkX w k) i j v).1 := by
  have hin := invX_ok hz hi hj (by rw [ht]; exact (by decide : (1 : Nat) < 3))
  funext k' w' i' j'
  by_cases h1 : k' = k ∧ w' = wkX w k ∧ i' = i
  · obtain ⟨rfl, rfl, rfl⟩ := h1
    rw [sI_eq]
    by_cases h2 : j' = j
    · subst h2
      simp only [VX, upd]
      rw [if_pos ⟨trivial, hi, hj⟩, if_pos trivial, ht, vaF_eq]
    · simp only [VX, upd]
      rw [if_neg h2]
      by_cases h3 : j' < jNX k'
      · rw [if_pos ⟨trivial, hi, h3⟩, if_pos ⟨trivial, hi, h3⟩, vaF_ne (fun z => ?_)]
        have := invX_ok hz hi h3 (by rw [z.1]; decide)
        rw [show invX (TX w k' i' j') = inv3 x by unfold invX; rw [if_neg (by rw [z.1]; decide), if_pos z.1, z.2]] at this
        rw [ht] at hin
        exact h2 (congrArg (fun q => q.2.2) (this.symm.trans hin))
      · rw [if_neg (fun z => h3 z.2.2), if_neg (fun z => h3 z.2.2)]
  · rw [sI_ne h1]
    simp only [VX]
    by_cases h3 : w' = wkX w k' ∧ i' < iNX S w k' ∧ j' < jNX k'
    · rw [if_pos h3, if_pos h3, vaF_ne (fun z => ?_)]
      have := invX_ok hz h3.2.1 h3.2.2 (by rw [z.1]; decide)
      rw [show invX (TX w k' i' j') = inv3 x by unfold invX; rw [if_neg (by rw [z.1]; decide), if_pos z.1, z.2]] at this
      rw [ht] at hin
      have e1 := this.symm.trans hin
      cases e1
      exact h1 ⟨rfl, h3.1, rfl⟩
    · rw [if_neg h3, if_neg h3]
/-- rains as they are told: floats of the model's numbers -/
def FlX (S : Nat → Nat → Nat) (σ : MS) (fl : Nat → Nat → UInt32) : Prop := ∀ z, z < 4 → (S 32 z = 1 ∨ σ.2.1 6 z = nI 0) ∧ ∀ j, j < tN (σ.2.1 6 z) → (σ.2.1 5 (1000 * z + j) = -1 ∧ fl z j = 2143289344) ∨ ∃ n, n ≤ 500 ∧ σ.2.1 5 (1000 * z + j) = nI n ∧ fl z j = FP.i2f (nI n)
/-- what the texts tell is what the codes tell -/
def DnX (σ : MS) (nl : Nat) (dn : XD) : Prop := ∀ l, l < nl → (dn l).2 = σ.2.1 11 l ∧ ∀ k, k < 8 → ((dn l).1 k = none ∧ σ.2.1 10 (8 * l + k) < 0) ∨ ∃ φ ca, (dn l).1 k = some φ ∧ σ.2.1 10 (8 * l + k) = nI ca ∧ ca < 4800 ∧ ∀ wk so pe gr pile, ∃ p', vrun σ wk so pe gr 4800 (400 * l + ca) 0 pile = some (φ wk so pe gr, p')
/-- the class's cells in M, seen as world w -/
def SX (g : GP) (P : Nat → Prop) (F : Mem) (A : XA) (w : Nat) (S : Nat → Nat → Nat) (b : XS) (σ : MS) (e : XE) (M : Mem) : Prop :=
  ∃ (τ : XT) (dn : XD) (fl : Nat → Nat → UInt32), RX g P F A τ dn (VX w S b σ e, S, σ.2.2, fl) M ∧ SzX w S ∧ FlX S σ fl ∧ DnX σ (S 8 w) dn
