set_option maxRecDepth 100000
theorem choose_ivP {σ : MS} {n nl nb q nor nw : Nat} {p c : Int32} (v : IvG σ n nl nb q nor nw) : IvG (p_choose σ n nl p c).2 n nl nb q nor nw := by
  have v0 := v.f0 (j := 0) (x := nI 0)
  have hP := v.hP
  have hOR := v.hOR
  cases c1 : inN p n with
  | false =>
    unfold p_choose
    rw [if_pos c1]
    with_reducible exact v0.f0
  | true =>
    cases c2 : inN c 96 with
    | false =>
      unfold p_choose
      rw [if_neg (by rw [c1]; decide), if_pos c2]
      with_reducible exact v0.f0
    | true =>
      obtain ⟨i, hi, rfl⟩ := inN_of (by omega) c1
      obtain ⟨j, hj, rfl⟩ := inN_of (by decide) c2
      unfold p_choose
      rw [if_neg (by rw [c1]; decide), if_neg (by rw [c2]; decide), tN_nI (by omega), tN_nI (by omega)]
      dsimp only
      by_cases c3 : per (s0 σ) i 6 < 0
      · rw [if_pos c3]; with_reducible exact v0
      · rw [if_neg c3]
        obtain ⟨k, hk, ek⟩ := v0.ord i hi c3
        rw [ek, tN_nI (by omega)]
        by_cases c4 : row (s0 σ) (1780 + 3 * k + 2) = nI 1
        · rw [if_pos c4]; with_reducible exact v0
        · rw [if_neg c4]
          by_cases c5 : decide (nI 2 ≤ per (s0 σ) i 2) = false
          · rw [if_pos c5]; with_reducible exact v0
          · rw [if_neg c5]
            by_cases c6 : ¬ sec (s0 σ) j 0 = nI 1
            · rw [if_pos c6]; with_reducible exact v0
            · rw [if_neg c6]
              by_cases c7 : turnV (s0 σ) n nl k = false
              · rw [if_pos c7]; with_reducible exact v0.sA1
              · rw [if_neg c7]
                exact choose_iv v0 hi hj (show k < 100 by omega)
