set_option maxRecDepth 100000
theorem queue_iv {σ : MS} {n nl nb q nor nw : Nat} {p c : Int32} (v : IvG σ n nl nb q nor nw) : IvG (p_queue σ q p c).2 n nl nb q nor nw := by
  have v0 := v.f0 (j := 0) (x := nI 0)
  have hQ := v.hQ
  cases c1 : inN p q with
  | false =>
    unfold p_queue
    rw [if_pos c1]
    with_reducible exact v0.f0
  | true =>
    cases c2 : inN c 96 with
    | false =>
      unfold p_queue
      rw [if_neg (by rw [c1]; decide), if_pos c2]
      with_reducible exact v0.f0
    | true =>
      obtain ⟨i, hi, rfl⟩ := inN_of (by omega) c1
      obtain ⟨j, hj, rfl⟩ := inN_of (by decide) c2
      obtain ⟨⟨k, e1, e2, e3⟩, -⟩ := v0.par i (by omega)
      by_cases c3 : k = 12
      · unfold p_queue
        rw [if_neg (by rw [c1]; decide), if_neg (by rw [c2]; decide), tN_nI (by omega), tN_nI (by omega)]
        dsimp only
        rw [if_pos (show row (s0 σ) (1720 + 15 * i + 2) = nI 12 by rw [e1, c3])]
        with_reducible exact v0
      · by_cases c4 : sec (s0 σ) j 0 = nI 0
        · rw [p_queue_yes hi hQ hj e1 (by omega) c4]
          exact queue_ivS v0 hi hj e1 (by omega)
        · unfold p_queue
          rw [if_neg (by rw [c1]; decide), if_neg (by rw [c2]; decide), tN_nI (by omega), tN_nI (by omega)]
          dsimp only
          rw [if_neg (fun z => c3 ((nI_eq (by omega) (by decide)).mp (e1.symm.trans z))), if_pos (show ¬ sec (s0 σ) j 0 = 0 from c4)]
          with_reducible exact v0
theorem party_iv {σ : MS} {n nl nb q nor nw : Nat} {x : Int32} (v : IvG σ n nl nb q nor nw) : ∃ q1, IvG (p_party σ q x).2 n nl nb q1 nor nw := by
  have v0 := v.f0 (j := 0) (x := nI 0)
  have hQ := v.hQ
  unfold p_party
  dsimp only
  by_cases c1 : x < nI 1
  · rw [if_pos c1]; exact ⟨q, by with_reducible exact v0.f0⟩
  · rw [if_neg c1]
    by_cases c2 : ¬ x ≤ nI 9
    · rw [if_pos c2]; exact ⟨q, by with_reducible exact v0.f0⟩
    · rw [if_neg c2]
      by_cases c3 : q = 4
      · rw [if_pos c3]; exact ⟨q, by with_reducible exact v0⟩
      · rw [if_neg c3]
        obtain ⟨j, hj, e⟩ := inN_of (x := x) (n := 10) (by decide) (by simp only [inN, Bool.and_eq_true, decide_eq_true_eq]; exact ⟨Int32.le_trans (by decide) (Int32.not_lt.mp c1), Int32.lt_of_le_of_lt (Classical.not_not.mp c2) (by decide)⟩)
        refine ⟨q + 1, ?_⟩
        have w := party_ivS v0 (show q < 4 by omega) (show j ≤ 9 by omega)
        dsimp only
        rw [show row (sR (s0 σ) (1720 + 15 * q + 0) x) 2127 = nI q from (rowS_ne (by omega)).trans v0.hq, nI_add, e]
        exact w
