set_option maxRecDepth 100000
theorem sR_comm {σ : MS} {j k : Nat} {v u : Int32} (h : j ≠ k) : sR (sR σ j v) k u = sR (sR σ k u) j v := by
  refine Prod.ext rfl (Prod.ext ?_ rfl)
  funext a x
  by_cases ha : a = 1
  · subst ha
    show row (sR (sR σ j v) k u) x = row (sR (sR σ k u) j v) x
    rw [rowS_if, rowS_if, rowS_if, rowS_if]
    by_cases h1 : x = k
    · rw [if_pos h1, if_neg (fun z => h (z.symm.trans h1)), if_pos h1]
    · rw [if_neg h1, if_neg h1]
  · simp [sA, ha]
theorem undo_no3 {σ : MS} {n l c : Nat} (h : ¬ sec σ c 0 = nI 3) : undo1 n l c σ = σ := by
  unfold undo1
  exact if_pos h
theorem undo_no6 {σ : MS} {n l c : Nat} (h : ¬ sec σ c 6 = nI l) : undo1 n l c σ = σ := by
  unfold undo1
  split
  · rfl
  · first | rfl | exact if_pos h
theorem undo_yes {σ : MS} {n l c p : Nat} (h : sec σ c 0 = nI 3) (h6 : sec σ c 6 = nI l) (h1 : sec σ c 1 = nI p) (hp : p < 100) (hc : c < 96) : undo1 n l c σ = s_loses n (s_holds (sR (s_pays σ p (sec σ c 5)) 2118 (row σ 2118 - sec σ c 5)) c (nI 1) (-1)) p := by
  unfold undo1
  rw [if_neg (fun z => z h), if_neg (fun z => z h6), h1, tN_nI (by omega)]
  congr 1
  congr 1
  unfold s_pays
  rw [sR_comm (show 2118 ≠ 768 + 8 * p + 1 by omega)]
  rw [show per (sR σ 2118 (row σ 2118 - sec σ c 5)) p 1 = per σ p 1 from rowS_ne (by omega)]
