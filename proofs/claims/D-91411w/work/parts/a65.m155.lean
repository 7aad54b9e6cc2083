set_option maxRecDepth 100000
theorem run_ivP {σ : MS} {n nl nb q nor nw : Nat} {p c : Int32} (v : IvG σ n nl nb q nor nw) : IvG (p_run σ n nl p c).2 n nl nb q nor nw := by
  have v0 := v.f0 (j := 0) (x := nI 0)
  have hP := v.hP
  cases c1 : inN p n with
  | false =>
    unfold p_run
    rw [if_pos c1]
    with_reducible exact v0.f0
  | true =>
    cases c2 : inN c 96 with
    | false =>
      unfold p_run
      rw [if_neg (by rw [c1]; decide), if_pos c2]
      with_reducible exact v0.f0
    | true =>
      obtain ⟨i, hi, rfl⟩ := inN_of (by omega) c1
      obtain ⟨j, hj, rfl⟩ := inN_of (by decide) c2
      unfold p_run
      rw [if_neg (by rw [c1]; decide), if_neg (by rw [c2]; decide), tN_nI (by omega), tN_nI (by omega)]
      dsimp only
      by_cases c3 : decide (nI 2 ≤ per (s0 σ) i 2) = false
      · rw [if_pos c3]; with_reducible exact v0
      · rw [if_neg c3]
        by_cases c4 : ¬ sec (s0 σ) j 0 = nI 1 ∧ ownPastV (s0 σ) i j = false
        · rw [if_pos c4]; with_reducible exact v0.sA1
        · rw [if_neg c4]
          by_cases c5 : ¬ (meanV (s0 σ) n nl 3 (nI 0)).1 ≤ per (s0 σ) i 1
          · rw [if_pos c5]; with_reducible exact v0.sA1
          · rw [if_neg c5]
            by_cases c6 : ownPastV (s0 σ) i j = true
            · rw [if_pos c6]
              have h1 : sec (s0 σ) j 1 = nI i := (ownP.mp c6).2
              exact run_ivO v0 hi hj h1
            · rw [if_neg c6]
              exact run_ivN v0 hi hj
