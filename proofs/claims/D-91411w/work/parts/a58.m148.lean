set_option maxRecDepth 100000
theorem run_ivO {σ : MS} {n nl nb q nor nw p c : Nat} {f : Nat → Int32} {x y z : Int32} (v : IvG σ n nl nb q nor nw) (hp : p < n) (hc : c < 96) (h1 : sec σ c 1 = nI p) : IvG (sR (sR (sR (s_pays (sA σ 13 f) p x) 2118 y) (8 * c + 0) (nI 4)) (8 * c + 2) z) n nl nb q nor nw := by
  have hP := v.hP
  have vu : IvG (sR (s_pays (sA σ 13 f) p x) 2118 y) n nl nb q nor nw := (v.sA1.pays hp).sR1 (by unfold fr1 fr2; omega)
  have e1 : sec (sR (s_pays (sA σ 13 f) p x) 2118 y) c 1 = nI p := (rowS_ne (by omega)).trans ((rowS_ne (by omega)).trans h1)
  exact (vu.kind hc (Or.inr (Or.inl rfl)) ⟨p, hp, e1⟩).sR1 (by unfold fr1 fr2; omega)
theorem run_ivN {σ : MS} {n nl nb q nor nw p c : Nat} {f : Nat → Int32} {x y z : Int32} (v : IvG σ n nl nb q nor nw) (hp : p < n) (hc : c < 96) : IvG (sR (sR (s_holds (sR (s_pays (sA σ 13 f) p x) 2118 y) c (nI 4) (nI p)) (8 * c + 0) (nI 4)) (8 * c + 2) z) n nl nb q nor nw := by
  have hP := v.hP
  have vu : IvG (sR (s_pays (sA σ 13 f) p x) 2118 y) n nl nb q nor nw := (v.sA1.pays hp).sR1 (by unfold fr1 fr2; omega)
  have vh := vu.holdsN hc (h := nI 4) (p := nI p) (Or.inr (Or.inr ⟨Or.inr (Or.inl rfl), p, hp, rfl⟩))
  have e1 : sec (s_holds (sR (s_pays (sA σ 13 f) p x) 2118 y) c (nI 4) (nI p)) c 1 = nI p := (holds_sec (j := 1) (by decide)).trans rfl
  exact (vh.kind hc (Or.inr (Or.inl rfl)) ⟨p, hp, e1⟩).sR1 (by unfold fr1 fr2; omega)
theorem image_A {σ : MS} {n a : Nat} (hn : 96 + n ≤ 196) (ha : a ≠ 17) : (s_image n σ).2.1 a = σ.2.1 a := by
  unfold s_image
  rw [sums_ok _ (by omega)]
  show (imgS n (sF (s0 σ) 31 (nI (96 + n)))).2.1 a = _
  unfold imgS
  rw [img_A (f := img2) (fun _ _ => wA_k ha), img_A (f := img1) (fun _ _ => wA_k ha)]
  rfl
theorem image_iv {σ : MS} {n nl nb q nor nw : Nat} (v : IvG σ n nl nb q nor nw) : IvG (p_image σ n).2 n nl nb q nor nw := by
  have hP := v.hP
  have h : 96 + n ≤ 196 := by omega
  show IvG (s_image n σ) n nl nb q nor nw
  exact v.keep (fun j _ => congrFun (image_A h (by decide)) j) (image_A h (by decide)) (image_A h (by decide)) (image_A h (by decide)) (image_A h (by decide)) (image_A h (by decide))
/-- what the law keeps of the model beside IvG -/
def LwI (S : Nat → Nat → Nat) (σ : MS) (dr sh im tp : Nat) : Prop := RsX σ ∧ AkX S σ (S 12 0) ∧ S 16 0 = S 12 0 ∧ row σ 2130 = nI (S 14 0) ∧ row σ 2131 = nI dr ∧ S 14 0 + dr ≤ 12
  ∧ (∀ p, p < S 4 0 → per σ p 6 < 0 → per σ p 6 = -1) ∧ (∀ k, k < S 12 0 → row σ (1780 + 3 * k + 2) = nI 0 ∨ row σ (1780 + 3 * k + 2) = nI 1) ∧ (∀ k, S 12 0 ≤ k → k < 100 → row σ (1780 + 3 * k + 2) = nI 0)
  ∧ (∀ k, S 10 0 ≤ k → k < 20 → row σ (1640 + 4 * k + 1) = nI 0 ∧ row σ (1640 + 4 * k + 2) = nI 0) ∧ (∀ a, S 6 0 ≤ a → a < 4 → row σ (1720 + 15 * a + 1) = nI 0 ∧ row σ (1720 + 15 * a + 2) = nI 0)
  ∧ (∀ l, l < S 8 0 → SdX σ l) ∧ σ.1 28 = nI sh ∧ sh ≤ 20 ∧ σ.1 31 = nI im ∧ im ≤ 196 ∧ σ.1 9 = nI tp ∧ tp ≤ 300
/-- rows that LwI reads -/
def lwR (j : Nat) : Prop := (768 ≤ j ∧ j < 1568 ∧ j % 8 = 6) ∨ (1568 ≤ j ∧ j < 1720) ∨ (1720 ≤ j ∧ j < 1780) ∨ (1780 ≤ j ∧ j < 2080 ∧ j % 3 = 0) ∨ (2092 ≤ j ∧ j < 2104) ∨ j = 2116 ∨ j = 2130 ∨ j = 2131
