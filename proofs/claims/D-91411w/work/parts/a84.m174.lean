set_option maxRecDepth 100000
theorem cpy45 {b : XS} {S : Nat → Nat → Nat} {σ : MS} {e : XE} (hz : SzX 0 S) : upd (VX 0 S b σ (uE e 17 0 (e 18 0)) 45 0 0) 1 (e 18 1) = va_cpy (VX 0 S b σ e 46 0 0) (VX 0 S b σ e 45 0 0) 0 0 2 := by
  funext j
  unfold va_cpy upd
  by_cases h1 : j = 1
  · subst h1
    rw [if_pos rfl, if_pos (by omega)]
    exact (V46 hz (by decide)).symm
  · rw [if_neg h1]
    by_cases h0 : j = 0
    · subst h0
      rw [if_pos (by omega), V45 hz (by decide)]
      exact uE_eq.trans (V46 hz (by decide)).symm
    · rw [if_neg (by omega)]
      unfold VX
      rw [if_neg (fun z => by have z3 := z.2.2; unfold jNX at z3; simp at z3; omega), if_neg (fun z => by have z3 := z.2.2; unfold jNX at z3; simp at z3; omega)]
theorem SX.cp45 {g : GP} {P : Nat → Prop} {F : Mem} {A : XA} {S : Nat → Nat → Nat} {b : XS} {σ : MS} {e : XE} {M : Mem} (h : SX g P F A 0 S b σ e M) : SX g P F A 0 S b σ (uE (uE e 17 0 (e 18 0)) 17 1 (e 18 1)) (mset M (A 45 0 0) (.inl (gA g 0, 2, .inl (va_cpy (VX 0 S b σ e 46 0 0) (VX 0 S b σ e 45 0 0) 0 0 2)))) := by
  have h1 := h.p45 (j := 0) (by decide) (v := e 18 0)
  have h2 := h1.p45 (j := 1) (by decide) (v := e 18 1)
  rw [mset_m, cpy45 h.hz] at h2
  exact h2
theorem planned_b {σ : MS} {n nl nb q nw wm : Nat} {t w : Int32} (h1 : ¬ t = nI 1) (h2 : ¬ t = nI 2) : p_planned σ n nl nb q nw wm t w = (nI 0, th σ 1) := by
  unfold p_planned
  by_cases c1 : t < nI 1
  · rw [if_pos c1]
  · rw [if_neg c1]
    by_cases c2 : nI 2 < t
    · rw [if_pos c2]
    · exfalso
      obtain ⟨j, hj, rfl⟩ := nI_of2 (n := 2) (M := nI 2) (by rfl) (fun z => c1 (Int32.lt_of_lt_of_le z (by decide))) (Int32.not_lt.mp c2)
      rcases (by omega : j = 0 ∨ j = 1 ∨ j = 2) with rfl | rfl | rfl
      · exact c1 (by decide)
      · exact h1 rfl
      · exact h2 rfl
theorem planned_st {σ : MS} {n nl nb q nw wm st : Nat} {w : Int32} (h : st = 1 ∨ st = 2) : p_planned σ n nl nb q nw wm (nI st) w = if w < 0 then (nI 0, th σ 1) else if ¬ w ≤ nI 3 then (nI 0, th σ 1) else if ¬ row (s0 σ) 2116 + nI 13 * nI st ≤ nI 1000 then (nI 0, th σ 2) else if (s0 σ).1 28 = 0 then (-1, s0 σ) else if wm = 0 then (-1, s0 σ) else planEnd st w (plansF n nl nb q nw st wm (s_saves (s0 σ)) (if st = 1 then 3 else 9)) := by
  unfold p_planned
  rcases h with rfl | rfl
  · rw [if_neg (by decide), if_neg (by decide), tN_nI (by decide)]
  · rw [if_neg (by decide), if_neg (by decide), tN_nI (by decide)]
section PLF
variable {n nl nb q nw st wm p : Nat} {y : Int32 × Int32 × Int32 × MS}
theorem planF_take (h : y.1 < 0 ∨ (¬ y.2.1 < (rainsF n nl nb q nw st wm p y.2.2.2).1 ∧ (¬ (rainsF n nl nb q nw st wm p y.2.2.2).1 = y.2.1 ∨ y.2.2.1 < (rainsF n nl nb q nw st wm p y.2.2.2).2.1))) : planF n nl nb q nw st wm p y = (nI p, rainsF n nl nb q nw st wm p y.2.2.2) := by
  unfold planF
  by_cases c : y.1 < 0
  · rw [if_pos c]
  · obtain ⟨h1, h2⟩ := h.resolve_left c
    rw [if_neg c, if_neg h1]
    rcases h2 with h2 | h2
    · rw [if_pos h2]
    · by_cases c3 : ¬ (rainsF n nl nb q nw st wm p y.2.2.2).1 = y.2.1
      · rw [if_pos c3]
      · rw [if_neg c3, if_pos h2]
theorem planF_keep (h0 : ¬ y.1 < 0) (h : y.2.1 < (rainsF n nl nb q nw st wm p y.2.2.2).1 ∨ (¬ y.2.1 < (rainsF n nl nb q nw st wm p y.2.2.2).1 ∧ (rainsF n nl nb q nw st wm p y.2.2.2).1 = y.2.1 ∧ ¬ y.2.2.1 < (rainsF n nl nb q nw st wm p y.2.2.2).2.1)) : planF n nl nb q nw st wm p y = (y.1, y.2.1, y.2.2.1, (rainsF n nl nb q nw st wm p y.2.2.2).2.2) := by
  unfold planF
  rw [if_neg h0]
  rcases h with h | ⟨h1, h2, h3⟩
  · rw [if_pos h]
  · rw [if_neg h1, if_neg (fun z => z h2), if_neg h3]
end PLF
theorem plIx_0 {st p : Nat} (hst : st = 1 ∨ st = 2) (hp : st = 1 → p < 3) : plIx st p 0 = if st = 1 then p else p / 3 := by
  unfold plIx
  rcases hst with rfl | rfl
  · rw [if_pos rfl, if_pos rfl, Nat.mod_eq_of_lt (hp rfl)]
  · rw [if_neg (by decide), if_neg (by decide), if_neg (by decide)]
theorem plIx_1 {p : Nat} : plIx 2 p 1 = p % 3 := by
  unfold plIx
  rw [if_neg (by decide), if_pos rfl]
theorem plIx_3 {st p k : Nat} (hp : p < 9) : plIx st p k < 3 := by
  unfold plIx
  split
  · omega
  · split <;> omega
theorem div3 {p : Nat} (hp : p < 9) : nI p / nI 3 = nI (p / 3) := pk_div (by omega) (by decide) (by decide)
theorem mod3 {p : Nat} (hp : p < 9) : nI p - nI p / nI 3 * nI 3 = nI (p % 3) := by
  rcases (by omega : p = 0 ∨ p = 1 ∨ p = 2 ∨ p = 3 ∨ p = 4 ∨ p = 5 ∨ p = 6 ∨ p = 7 ∨ p = 8) with rfl | rfl | rfl | rfl | rfl | rfl | rfl | rfl | rfl <;> decide
theorem cst_b {S : Nat → Nat → Nat} (hz : SzX 0 S) : CsT S ≤ 288 ∧ NsT S ≤ 22988 := CsT_le hz

