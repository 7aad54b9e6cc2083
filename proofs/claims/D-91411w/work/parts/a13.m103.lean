set_option maxRecDepth 100000
theorem letter_yes {σ : MS} {n l : Nat} (h0 : lawv σ l 0 = nI 2) (h4 : lawv σ l 4 = nI 1) (h5 : lawv σ l 5 = row σ 2116) : letter1 n l σ = sR σ (1568 + 6 * l) (nI 3) := by
  unfold letter1
  rw [if_neg (fun z => z h0), if_neg (by rw [h4]; decide), if_neg (fun z => z h5), if_pos h4]
theorem letter_undo {σ : MS} {n l : Nat} (h0 : lawv σ l 0 = nI 2) (h4 : ¬ lawv σ l 4 = nI 0) (h41 : ¬ lawv σ l 4 = nI 1) (h5 : lawv σ l 5 = row σ 2116) : letter1 n l σ = s_undoes n σ l := by
  unfold letter1
  rw [if_neg (fun z => z h0), if_neg (show ¬ lawv σ l 4 = 0 from h4), if_neg (fun z => z h5), if_neg h41]
theorem letter_no {σ : MS} {n l : Nat} (h : ¬ lawv σ l 0 = nI 2 ∨ lawv σ l 4 = nI 0 ∨ ¬ lawv σ l 5 = row σ 2116) : letter1 n l σ = σ := by
  unfold letter1
  by_cases h0 : lawv σ l 0 = nI 2
  · rw [if_neg (fun z => z h0)]
    rcases h with z | z | z
    · exact absurd h0 z
    · exact if_pos z
    · by_cases h4 : lawv σ l 4 = 0
      · rw [if_pos h4]
      · rw [if_neg h4, if_pos z]
  · rw [if_pos h0]
theorem undoes_no {σ : MS} {n l : Nat} (h : σ.2.1 11 l = 0) : s_undoes n σ l = sR σ (1568 + 6 * l) (nI 4) := by
  unfold s_undoes
  exact if_pos h
theorem undoes_yes {σ : MS} {n l : Nat} (h : ¬ σ.2.1 11 l = 0) : s_undoes n σ l = upto (undo1 n l) 96 (sR σ (1568 + 6 * l) (nI 4)) := by
  unfold s_undoes
  exact if_neg h
