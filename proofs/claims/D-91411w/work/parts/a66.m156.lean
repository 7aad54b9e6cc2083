set_option maxRecDepth 100000
theorem buy_iv {σ : MS} {n nl nb q nor nw : Nat} {p c : Int32} (v : IvG σ n nl nb q nor nw) : IvG (p_buy σ n nl p c).2 n nl nb q nor nw := by
  have v0 := v.f0 (j := 0) (x := nI 0)
  have hP := v.hP
  unfold p_buy
  by_cases c1 : inN p n = false
  · rw [if_pos c1]; with_reducible exact v0.f0
  · rw [if_neg c1]
    by_cases c2 : inN c 96 = false
    · rw [if_pos c2]; with_reducible exact v0.f0
    · rw [if_neg c2]
      dsimp only
      by_cases c3 : decide (nI 2 ≤ per (s0 σ) (tN p) 2) = false
      · rw [if_pos c3]; with_reducible exact v0
      · rw [if_neg c3]
        by_cases c4 : ¬ sec (s0 σ) (tN c) 0 = nI 1
        · rw [if_pos c4]; with_reducible exact v0
        · rw [if_neg c4]
          exact sells_iv v0 (tn_lt c1 (by omega)) (tn_lt c2 (by decide))
