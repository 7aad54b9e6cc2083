set_option maxRecDepth 100000
theorem people_iv {σ : MS} {n nl nb q nor nw : Nat} {m t c : Int32} (v : IvG σ n nl nb q nor nw) : ∃ n1, IvG (p_people σ n m t c).2 n1 nl nb q nor nw := by
  have v0 := v.f0 (j := 0) (x := nI 0)
  have hP := v.hP
  have e9 : nI 100 - nI n = nI (100 - n) := pk_sub (by omega)
  unfold p_people
  by_cases c1 : t < 0
  · rw [if_pos c1]; exact ⟨n, by with_reducible exact v0.f0⟩
  · rw [if_neg c1]
    by_cases c2 : nI 3 < t
    · rw [if_pos c2]; exact ⟨n, by with_reducible exact v0.f0⟩
    · rw [if_neg c2]
      by_cases c3 : c < 0
      · rw [if_pos c3]; exact ⟨n, by with_reducible exact v0.f0⟩
      · rw [if_neg c3]
        by_cases c4 : ¬ c ≤ 1000000
        · rw [if_pos c4]; exact ⟨n, by with_reducible exact v0.f0⟩
        · rw [if_neg c4]
          by_cases c5 : ¬ m ≤ nI 100 - nI n
          · rw [if_pos c5]; exact ⟨n, by with_reducible exact v0⟩
          · rw [if_neg c5]
            by_cases c6 : ¬ 0 ≤ m
            · rw [if_pos c6]; exact ⟨n, by with_reducible exact v0⟩
            · rw [if_neg c6]
              have c7 := Classical.not_not.mp c5
              rw [e9] at c7
              obtain ⟨j, hj, e⟩ := inN_of (x := m) (n := 101 - n) (by omega) (by simp only [inN, Bool.and_eq_true, decide_eq_true_eq]; exact ⟨Classical.not_not.mp c6, Int32.lt_of_le_of_lt c7 (nI_lt (by omega) (by omega))⟩)
              rw [e, tN_nI (by omega)]
              exact ⟨n + j, people_ivS v0 j (by omega)⟩
