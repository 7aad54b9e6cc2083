set_option maxRecDepth 100000
section LW
variable {w : Nat} {S : Nat → Nat → Nat} {σ τ : MS} {e e1 : XE} {nw l : Nat}
/-- a law's state is another one -/
theorem tie_law (t : TieX w S σ e nw) (hz : SzX w S) (hl : l < S 8 w) (hr : ∀ j, ¬ fr0 j → j ≠ 1568 + 6 * l + 0 → row τ j = row σ j) (hh : HiX τ e1 nw l) (h4 : ∀ k, k ≠ l → e1 4 k = e 4 k) (h5 : ∀ k, k ≠ l → e1 5 k = e 5 k) (ho : ∀ a, a ≠ 4 → a ≠ 5 → e1 a = e a) (a3 : τ.2.1 3 = σ.2.1 3) (a4 : τ.2.1 4 = σ.2.1 4) (a14 : τ.2.1 14 = σ.2.1 14) (h23 : τ.1 23 = σ.1 23) (h24 : τ.1 24 = σ.1 24) : TieX w S τ e1 nw := by
  have z1 := hz.2.1
  have z6 := hz.2.2.1
  have z8 := hz.2.2.2.1
  have z10 := hz.2.2.2.2.1
  have s0 : ∀ j c, c < 96 → (j = 0 ∨ j = 1 ∨ j = 2 ∨ j = 3 ∨ j = 4 ∨ j = 5 ∨ j = 7) → sec τ c j = sec σ c j := fun j c hc hj => hr _ (fun z => by have := fr0_sec (c := c) (j := j) hc (by omega) z; omega) (by omega)
  have hq : ∀ j a, a < S 4 w → (j = 1 ∨ j = 2 ∨ j = 3) → per τ a j = per σ a j := fun j a ha hj => hr _ (fun z => by have := fr0_per (p := a) (by omega) (by omega) z; omega) (by omega)
  have lw : ∀ k j, k < S 8 w → j < 6 → (k ≠ l ∨ j ≠ 0) → lawv τ k j = lawv σ k j := fun k j hk hj hne => hr _ (by unfold fr0; omega) (by omega)
  have bw : ∀ k j, k < S 10 w → j < 4 → row τ (1640 + 4 * k + j) = row σ (1640 + 4 * k + j) := fun k j hk hj => hr _ (by unfold fr0; omega) (by omega)
  have qw : ∀ a j, a < S 6 w → j < 15 → row τ (1720 + 15 * a + j) = row σ (1720 + 15 * a + j) := fun a j ha hj => hr _ (by unfold fr0; omega) (by omega)
  refine ⟨tHa_cg t (fun a ha => hq 2 a ha (by decide)) (fun a ha => hq 3 a ha (by decide)) (fun _ _ => by rw [ho 0 (by decide) (by decide)]), tFa_cg t (fun c hc => s0 0 c hc (by decide)) (fun c hc => s0 1 c hc (by decide)) (fun _ _ => by rw [ho 1 (by decide) (by decide)]), tMi_cg t (fun c hc => s0 0 c hc (by decide)) (fun c hc => s0 7 c hc (by decide)) a3 a4 (fun _ _ => by rw [ho 2 (by decide) (by decide)]), tEn_cg t (fun c hc => s0 0 c hc (by decide)) (fun c hc => s0 2 c hc (by decide)) (fun _ _ => by rw [ho 3 (by decide) (by decide)]), tSa_cg t (fun k hk => lw k 4 hk (by decide) (Or.inr (by decide))) (fun k hk => lw k 5 hk (by decide) (Or.inr (by decide))) (fun _ _ => by rw [ho 6 (by decide) (by decide)]) (fun _ _ => by rw [ho 15 (by decide) (by decide)]), tDu_cg t (fun k hk => bw k 2 hk (by decide)) (fun k hk => bw k 3 hk (by decide)) (fun _ _ => by rw [ho 16 (by decide) (by decide)]), tQu_cg t qw (fun a _ _ _ => by rw [ho (10 + a) (by omega) (by omega)]), tBo_cg t (fun a ha => hq 2 a ha (by decide)) (fun a ha => hq 3 a ha (by decide)), tOw_cg t (fun c hc => s0 0 c hc (by decide)) (fun c hc => s0 1 c hc (by decide)) (fun p hp z => (hq 2 p hp (by decide)).trans z) (fun c hc => s0 3 c hc (by decide)) (fun c hc => s0 4 c hc (by decide)) (fun c hc => s0 5 c hc (by decide)) a3, fun k hk => ?_, tRo_cg t (fun j _ => by rw [a14]) (fun _ _ => by rw [ho 7 (by decide) (by decide)]), tCo_cg t (fun a ha => hq 1 a ha (by decide)), tTr_cg t h23 h24, ?_, tGh_cg t (fun a ha => qw a 0 ha (by decide)) (fun k hk => bw k 0 hk (by decide)) (fun _ _ => by rw [ho 16 (by decide) (by decide)])⟩
  · by_cases ek : k = l
    · subst ek; exact hh
    · have := t.hist hk
      unfold HiX at this ⊢
      rw [lw k 0 hk (by decide) (Or.inl ek), lw k 3 hk (by decide) (Or.inl ek), h4 k ek, h5 k ek, a14]
      exact this
  · refine ⟨fun a ha => ?_, fun a ha => ?_⟩
    · obtain ⟨m, m1, m2, m3⟩ := t.ivd.1 a ha
      refine ⟨m, by rw [a3, a4]; exact m1, m2, fun z => ?_⟩
      rw [s0 0 a ha (by decide)] at z
      rw [s0 7 a ha (by decide)]
      exact m3 z
    · rw [qw a 0 ha (by decide)]
      exact t.ivd.2 a ha
/-- assented -/
theorem hi_yes (h : HiX σ e nw l) (h2 : lawv σ l 0 = nI 2) (r0 : lawv τ l 0 = nI 3) (r3 : lawv τ l 3 = lawv σ l 3) (a14 : τ.2.1 14 = σ.2.1 14) : HiX τ e nw l := by
  obtain ⟨-, -, c3, c4, -, c6⟩ := h
  refine ⟨Or.inr (Or.inr (Or.inr (Or.inl r0))), fun z => ?_, fun _ => ?_, fun _ => c4 (by rw [h2]; decide), fun z => ?_, fun k hk => ?_⟩
  · rw [r0] at z
    rcases z with z | z <;> exact absurd z (by decide)
  · rw [r3]
    exact c3 (Or.inl h2)
  · rw [r0] at z
    exact absurd z (by decide)
  · rw [a14]
    exact c6 k hk
/-- undone from this week on -/
theorem hi_undo (h : HiX σ e nw l) (h2 : lawv σ l 0 = nI 2) (r0 : lawv τ l 0 = nI 4) (r3 : lawv τ l 3 = lawv σ l 3) (a14 : τ.2.1 14 = σ.2.1 14) (hn : nw < 2000) : HiX τ (uE e 5 l (nI nw)) nw l := by
  obtain ⟨-, -, c3, c4, -, c6⟩ := h
  have e4 : uE e 5 l (nI nw) 4 l = e 4 l := uE_ne (fun z => absurd z.1 (by decide))
  have e5 : uE e 5 l (nI nw) 5 l = nI nw := uE_eq
  have u5 := c4 (by rw [h2]; decide)
  refine ⟨Or.inr (Or.inr (Or.inr (Or.inr r0))), fun z => ?_, fun _ => ?_, fun z => absurd r0 z, fun _ => ⟨nw, Nat.le_refl _, e5⟩, fun k hk => ?_⟩
  · rw [r0] at z
    rcases z with z | z <;> exact absurd z (by decide)
  · rw [r3, e4]
    exact c3 (Or.inl h2)
  · rw [a14, e4, e5, c6 k hk, u5]
    have q1 : ¬ nI nw ≤ nI k := fun z => by
      have := (nI_leI (by omega) (by omega)).mp z
      omega
    unfold WasB
    simp [q1]
end LW
