set_option maxRecDepth 100000
def payA (σ : MS) (p : Nat) (v part : Int32) : MS := let σ1 := sR σ (768 + 8 * p + 1) (per σ p 1 - v); let σ2 := sR σ1 2119 (row σ1 2119 + part); sR σ2 2118 (row σ2 2118 + (v - part))
theorem rowP {σ : MS} {f : Nat → Int32} {j : Nat} : row (sA σ 13 f) j = row σ j := by simp [row, sA]
/-- the class's own numbers when a person settles -/
theorem settles_ow {σ σ1 : MS} {e : XE} {p c : Nat} {k h p1 l : Int32} (hp : p < 100) (hc : c < 96) (h2 : per σ1 p 2 = per σ p 2) (h3 : per σ1 p 3 = per σ p 3) (hb : per σ p 2 = nI 3 → ∃ o, o < 100 ∧ per σ p 3 = nI o) : OwE σ e (settlesE σ1 e p c k h p1 l) p c := by
  have g2 : per (putsS σ1 c k h p1 l) p 2 = per σ p 2 := (puts_row (by omega)).trans h2
  have g3 : per (putsS σ1 c k h p1 l) p 3 = per σ p 3 := (puts_row (by omega)).trans h3
  unfold settlesE leavesE
  rw [g2, g3]
  by_cases c3 : per σ p 2 = nI 3
  · obtain ⟨o, ho, eo⟩ := hb c3
    have go : tN (per σ p 3) = o := by rw [eo]; exact tN_nI (by omega)
    rw [if_pos c3, go]
    refine ⟨fun q hq => ?_, fun q hq => ?_, fun q hq => ?_, fun q hq => ?_, fun a ha => ?_⟩
    · by_cases eq : q = o
      · subst eq
        rw [if_pos ⟨c3, eo⟩]
        simp [uE_if, putsE]
      · rw [if_neg (fun z => eq ((nI_eq (by omega) (by omega)).mp (eo.symm.trans z.2)).symm)]
        simp [uE_if, putsE, eq]
    · by_cases eq : q = p
      · subst eq; simp [uE_if, putsE]
      · simp [uE_if, putsE, eq]
    · by_cases eq : q = c
      · subst eq; simp [uE_if, putsE]
      · simp [uE_if, putsE, eq]
    · by_cases eq : q = c
      · subst eq; simp [uE_if, putsE]
      · simp [uE_if, putsE, eq]
    · have a0 : a ≠ 0 := by omega
      have a1 : a ≠ 1 := by omega
      have a2 : a ≠ 2 := by omega
      have a3 : a ≠ 3 := by omega
      simp [uE, putsE, a0, a1, a2, a3]
  · rw [if_neg c3]
    refine ⟨fun q hq => ?_, fun q hq => ?_, fun q hq => ?_, fun q hq => ?_, fun a ha => ?_⟩
    · rw [if_neg (fun z => c3 z.1)]
      simp [uE_if, putsE]
    · by_cases eq : q = p
      · subst eq; simp [uE_if, putsE]
      · simp [uE_if, putsE, eq]
    · by_cases eq : q = c
      · subst eq; simp [uE_if, putsE]
      · simp [uE_if, putsE, eq]
    · by_cases eq : q = c
      · subst eq; simp [uE_if, putsE]
      · simp [uE_if, putsE, eq]
    · have a1 : a ≠ 1 := by omega
      have a2 : a ≠ 2 := by omega
      have a3 : a ≠ 3 := by omega
      simp [uE, putsE, a1, a2, a3]
/-- the rows when a person settles: all but the farm's own places as before -/
theorem settles_row {σ : MS} {p c j : Nat} {k h p1 l : Int32} (h0 : j < 8 * c ∨ 8 * c + 7 ≤ j ∨ j = 8 * c + 2) (h2 : j ≠ 768 + 8 * p + 2) (h3 : j ≠ 768 + 8 * p + 3) : row (settlesS σ p c k h p1 l) j = row σ j := by
  unfold settlesS
  rw [rowS_ne h2]
  unfold leavesS
  split
  · rw [rowS_ne h2, rowS_ne h3]
    exact puts_row h0
  · exact puts_row h0
theorem settles_sec {σ : MS} {p c j : Nat} {k h p1 l : Int32} (hc : c < 96) (hj : j < 7) (hj2 : j ≠ 2) : row (settlesS σ p c k h p1 l) (8 * c + j) = if j = 0 then k else if j = 1 then h else if j = 5 then p1 else if j = 6 then l else nI 0 := by
  unfold settlesS
  rw [rowS_ne (by omega)]
  have h9 : row (leavesS (putsS σ c k h p1 l) p) (8 * c + j) = row (putsS σ c k h p1 l) (8 * c + j) := by
    unfold leavesS
    split
    · rw [rowS_ne (by omega), rowS_ne (by omega)]
    · rfl
  rw [h9]
  unfold putsS hoS
  rcases (by omega : j = 0 ∨ j = 1 ∨ j = 3 ∨ j = 4 ∨ j = 5 ∨ j = 6) with rfl | rfl | rfl | rfl | rfl | rfl <;> simp (disch := omega) [rowS_ne, rowS_eq]
theorem settles_is {σ : MS} {p c : Nat} {k h p1 l : Int32} : row (settlesS σ p c k h p1 l) (768 + 8 * p + 2) = nI 4 := rowS_eq
theorem settles_boss {σ : MS} {p c : Nat} {k h p1 l : Int32} (hc : c < 96) (hb : ¬ per σ p 2 = nI 3 → per σ p 3 = -1) : row (settlesS σ p c k h p1 l) (768 + 8 * p + 3) = -1 := by
  have g2 : per (putsS σ c k h p1 l) p 2 = per σ p 2 := puts_row (by omega)
  unfold settlesS
  rw [rowS_ne (by omega)]
  unfold leavesS
  rw [g2]
  by_cases c3 : per σ p 2 = nI 3
  · rw [if_pos c3, rowS_ne (by omega), rowS_eq]
  · rw [if_neg c3]
    exact (puts_row (by omega)).trans (hb c3)
theorem OnR.puts {σ : MS} {c : Nat} {k h p1 l : Int32} : OnR σ (putsS σ c k h p1 l) := OnR.rf.R.R.R.R.R.R
theorem OnR.settles {σ : MS} {p c : Nat} {k h p1 l : Int32} : OnR σ (settlesS σ p c k h p1 l) := by
  unfold settlesS
  refine OnR.R ?_
  unfold leavesS
  split
  · exact OnR.puts.R.R
  · exact OnR.puts
theorem OnR.sell {σ : MS} {n nl p c : Nat} {v law : Int32} : OnR σ (sellS σ n nl p c v law) := OnR.fr (fr_sellS _ _ _ _ _ _ _)
theorem sell_rows {σ : MS} {n nl p c : Nat} {v law part : Int32} (hc : c < 96) (hp : p < 100) (hpart : part = v * (meanV σ n nl 1 (nI 0)).1 / nI 100) :
  (∀ j, (j < 8 * c ∨ 8 * c + 7 ≤ j) → j ≠ 768 + 8 * p + 1 → j ≠ 768 + 8 * p + 2 → j ≠ 768 + 8 * p + 3 → j ≠ 2118 → j ≠ 2119 → row (sellS σ n nl p c v law) j = row σ j)
  ∧ (∀ k, k < 7 → row (sellS σ n nl p c v law) (8 * c + k) = if k = 0 then nI 3 else if k = 1 then nI p else if k = 5 then v else if k = 6 then law else nI 0)
  ∧ row (sellS σ n nl p c v law) (768 + 8 * p + 1) = (if ¬ per σ p 1 + -v ≤ 1000000 then 1000000 else per σ p 1 + -v)
  ∧ row (sellS σ n nl p c v law) (768 + 8 * p + 2) = nI 4 ∧ row (sellS σ n nl p c v law) (768 + 8 * p + 3) = -1
  ∧ row (sellS σ n nl p c v law) 2118 = row σ 2118 + (v - part) ∧ row (sellS σ n nl p c v law) 2119 = row σ 2119 + part := by
  subst hpart
  unfold sellS
  dsimp only
  refine ⟨fun j h1 h2 h3 h4 h5 h6 => ?_, fun k hk => ?_, ?_, ?_, ?_, ?_, ?_⟩
  · unfold s_owns s_holds s_pays sM
    rw [rowS_ne h4, rowS_ne h3, rowS_ne (by omega), rowS_ne (by omega), rowS_ne (by omega), rowS_ne (by omega), rowS_ne (by omega), rowS_ne (by omega), rowS_ne (by omega), rowS_ne (by omega), rowS_ne (by omega), rowS_ne h5, rowS_ne h6, rowS_ne h2]
    exact rowP
  · unfold s_owns s_holds
    rw [rowS_ne (by omega), rowS_ne (by omega)]
    rcases (by omega : k = 0 ∨ k = 1 ∨ k = 2 ∨ k = 3 ∨ k = 4 ∨ k = 5 ∨ k = 6) with rfl | rfl | rfl | rfl | rfl | rfl | rfl <;> simp (disch := omega) [rowS_ne, rowS_eq]
  · unfold s_owns s_holds
    rw [rowS_ne (by omega), rowS_ne (by omega), rowS_ne (by omega), rowS_ne (by omega), rowS_ne (by omega), rowS_ne (by omega), rowS_ne (by omega), rowS_ne (by omega), rowS_ne (by omega), rowS_ne (by omega), rowS_ne (by omega), rowS_ne (by omega), rowS_ne (by omega)]
    unfold s_pays
    rw [rowS_eq]
    simp only [per, sM, rowP]
  · unfold s_owns
    rw [rowS_ne (by omega), rowS_eq]
  · unfold s_owns
    rw [rowS_eq]
  · unfold s_owns s_holds s_pays sM
    rw [rowS_ne (by omega), rowS_ne (by omega), rowS_ne (by omega), rowS_ne (by omega), rowS_ne (by omega), rowS_ne (by omega), rowS_ne (by omega), rowS_ne (by omega), rowS_ne (by omega), rowS_ne (by omega), rowS_ne (by omega), rowS_eq, rowS_ne (by omega), rowS_ne (by omega)]
    rw [rowP]
  · unfold s_owns s_holds s_pays sM
    rw [rowS_ne (by omega), rowS_ne (by omega), rowS_ne (by omega), rowS_ne (by omega), rowS_ne (by omega), rowS_ne (by omega), rowS_ne (by omega), rowS_ne (by omega), rowS_ne (by omega), rowS_ne (by omega), rowS_ne (by omega), rowS_ne (by omega), rowS_eq, rowS_ne (by omega)]
    rw [rowP]
theorem payA_row {σ : MS} {p j : Nat} {v part : Int32} (h1 : j ≠ 768 + 8 * p + 1) (h2 : j ≠ 2118) (h3 : j ≠ 2119) : row (payA σ p v part) j = row σ j := by
  unfold payA
  dsimp only
  rw [rowS_ne h2, rowS_ne h3, rowS_ne h1]
theorem payA_1 {σ : MS} {p : Nat} {v part : Int32} (hp : p < 100) : row (payA σ p v part) (768 + 8 * p + 1) = per σ p 1 - v := by
  unfold payA
  dsimp only
  rw [rowS_ne (by omega), rowS_ne (by omega), rowS_eq]
theorem payA_2 {σ : MS} {p : Nat} {v part : Int32} (hp : p < 100) : row (payA σ p v part) 2118 = row σ 2118 + (v - part) := by
  unfold payA
  dsimp only
  rw [rowS_eq, rowS_ne (by omega), rowS_ne (by omega)]
theorem payA_3 {σ : MS} {p : Nat} {v part : Int32} (hp : p < 100) : row (payA σ p v part) 2119 = row σ 2119 + part := by
  unfold payA
  dsimp only
  rw [rowS_ne (by omega), rowS_eq, rowS_ne (by omega)]
theorem OnR.pay {σ : MS} {p : Nat} {v part : Int32} : OnR σ (payA σ p v part) := OnR.rf.R.R.R
/-- a sale: the class's memory is the model's -/
theorem sell_tie {g : GP} {P : Nat → Prop} {F : Mem} {A : XA} {w : Nat} {S : Nat → Nat → Nat} {b : XS} {σ : MS} {e e2 : XE} {M : Mem} {nor nw p c : Nat} {v law part : Int32} {f : Nat → Int32} (h : SX g P F A w S b (settlesS (payA σ p v part) p c (nI 3) (nI p) v law) (settlesE (payA σ p v part) e2 p c (nI 3) (nI p) v law) M) (he : E9 e e2) (t0 : TieX w S σ e nw) (iv : IvG σ (S 4 w) (S 8 w) (S 10 w) (S 6 w) nor nw) (hc : c < 96) (hp : p < S 4 w) (hl : sec σ c 0 = nI 1) (hv : v ≤ per σ p 1) (hv1 : ∃ k, k ≤ 1000 ∧ v = nI k)
  (hpart : part = v * (meanV (sA σ 13 f) (S 4 w) (S 8 w) 1 (nI 0)).1 / nI 100) : SB g P F A w S b (sellS (sA σ 13 f) (S 4 w) (S 8 w) p c v law) nw M := by
  have hz := h.hz
  have hS4 := hz.2.1
  have t := t0.e9 he
  obtain ⟨k, hk, ek⟩ := hv1
  obtain ⟨m, hm, em⟩ := t.coins hp
  obtain ⟨q1, q2, q3⟩ := pay_sub em ek hm (by omega) hv
  obtain ⟨r1, r2, r3, r4, r5, r6, r7⟩ := sell_rows (law := law) (n := S 4 w) (nl := S 8 w) (p := p) hc (by omega) hpart
  have h2 : per (payA σ p v part) p 2 = per σ p 2 := payA_row (by omega) (by omega) (by omega)
  have h3 : per (payA σ p v part) p 3 = per σ p 3 := payA_row (by omega) (by omega) (by omega)
  have ha : OnR (settlesS (payA σ p v part) p c (nI 3) (nI p) v law) (sellS (sA σ 13 f) (S 4 w) (S 8 w) p c v law) := (OnR.pay.tr OnR.settles).sy.tr (OnR.rf.P.tr OnR.sell)
  have hs : OnR σ (sellS (sA σ 13 f) (S 4 w) (S 8 w) p c v law) := OnR.rf.P.tr OnR.sell
  refine ⟨_, h.onR (fun j hj => ?_) ha, tie_own t hz rfl iv hc hp hl (Or.inl rfl) (fun j hj g0 g1 g2 g6 g8 g7 g3 g4 g5 => ?_) ((r2 0 (by decide)).trans rfl) ((r2 1 (by decide)).trans rfl) r4 r5 ⟨m - k, by omega, ?_⟩ ⟨fun _ => ⟨k, hk, ((r2 5 (by decide)).trans rfl).trans ek⟩, ⟨0, by decide, (r2 3 (by decide)).trans rfl, fun _ => rfl⟩, by rw [hs.1 3 (by decide) (by decide) (by decide) (by decide)]; exact (t.ps hc).2.2.1, Or.inl ((r2 4 (by decide)).trans rfl)⟩ (hs.1 3 (by decide) (by decide) (by decide) (by decide)) (hs.1 4 (by decide) (by decide) (by decide) (by decide)) hs.2.2.2 (hs.2.1 23) (hs.2.1 24) (settles_ow (by omega) hc h2 h3 (fun z => ?_))⟩
  · by_cases hb : 8 * c ≤ j ∧ j < 8 * c + 7
    · obtain ⟨i, rfl⟩ : ∃ i, j = 8 * c + i := ⟨j - 8 * c, by omega⟩
      have hi2 : i ≠ 2 := fun z => by subst z; unfold mapR at hj; omega
      rw [r2 i (by omega), settles_sec hc (by omega) hi2]
    · by_cases e2 : j = 768 + 8 * p + 2
      · subst e2; exact r4.trans settles_is.symm
      by_cases e3 : j = 768 + 8 * p + 3
      · subst e3; exact r5.trans (settles_boss hc (by rw [h2, h3]; exact t.boss hp)).symm
      have hsr : row (settlesS (payA σ p v part) p c (nI 3) (nI p) v law) j = row (payA σ p v part) j := settles_row (by omega) e2 e3
      rw [hsr]
      by_cases e1 : j = 768 + 8 * p + 1
      · subst e1
        rw [r3, payA_1 (by omega)]
        exact q3
      by_cases e4 : j = 2118
      · subst e4; exact r6.trans (payA_2 (by omega)).symm
      by_cases e5 : j = 2119
      · subst e5; exact r7.trans (payA_3 (by omega)).symm
      rw [r1 j (by omega) e1 e2 e3 e4 e5, payA_row e1 e4 e5]
      exact rowP
  · by_cases hb : 8 * c ≤ j ∧ j < 8 * c + 7
    · exact absurd hj (by unfold fr0; omega)
    · rw [r1 j (by omega) g3 g4 g5 (fun z => hj (by unfold fr0; omega)) (fun z => hj (by unfold fr0; omega))]
      exact rowP
  · show row _ (768 + 8 * p + 1) = _
    rw [r3]
    show (if ¬ per σ p 1 + -v ≤ 1000000 then 1000000 else per σ p 1 + -v) = _
    rw [q3, q2]
  · obtain ⟨o, ho, eo⟩ := iv.hire p hp z
    exact ⟨o, by omega, eo⟩
