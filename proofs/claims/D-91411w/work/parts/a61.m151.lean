set_option maxRecDepth 100000
theorem order_iv {σ : MS} {n nl nb q nor nw : Nat} {p : Int32} (v : IvG σ n nl nb q nor nw) (hc : ∀ i, i < n → ∃ m, m ≤ 1000000 ∧ per σ i 1 = nI m) : ∃ nor1, IvG (p_order σ n nw nor p).2 n nl nb q nor1 nw := by
  have v0 := v.f0 (j := 0) (x := nI 0)
  have hP := v.hP
  cases c1 : inN p n with
  | false =>
    refine ⟨nor, ?_⟩
    unfold p_order
    rw [if_pos c1]
    with_reducible exact v0.f0
  | true =>
    obtain ⟨i, hi, rfl⟩ := inN_of (by omega) c1
    by_cases c2 : per (s0 σ) i 2 = 0
    · by_cases c3 : per (s0 σ) i 6 < 0
      · obtain ⟨m, hm, em⟩ := hc i hi
        obtain ⟨k, hk, ek⟩ := home_in (σ := s0 σ) (nw := nw)
        by_cases c4 : nI k ≤ per (s0 σ) i 1
        · have hq : nor < 100 := by
            have z1 := v.cor
            have z2 := cnt_lt (p := isOrd σ) (k := i) (by unfold isOrd; rw [decide_eq_true (show per σ i 6 < 0 from c3)]; rfl) hi
            omega
          rw [p_order_yes hi hP hq c2 c3 em hm hk ek c4 v.hor]
          exact ⟨nor + 1, order_ivS v0 hi c3 hq⟩
        · refine ⟨nor, ?_⟩
          unfold p_order
          rw [inN_nI hi (by omega), if_neg (by decide), tN_nI (by omega)]
          dsimp only
          rw [if_neg (fun z => z c2), if_neg (fun z => z c3), if_pos (by rw [ek]; exact c4)]
          with_reducible exact v0.sA1
      · refine ⟨nor, ?_⟩
        unfold p_order
        rw [inN_nI hi (by omega), if_neg (by decide), tN_nI (by omega)]
        dsimp only
        rw [if_neg (fun z => z c2), if_pos c3]
        with_reducible exact v0
    · refine ⟨nor, ?_⟩
      unfold p_order
      rw [inN_nI hi (by omega), if_neg (by decide), tN_nI (by omega)]
      dsimp only
      rw [if_pos c2]
      with_reducible exact v0
