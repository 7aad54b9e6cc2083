set_option maxRecDepth 100000
section TXd
variable {w : Nat} {S : Nat → Nat → Nat} {σ τ : MS} {e e1 : XE} {nw : Nat}
/-- coins changed, and nothing that anything else is tied to -/
theorem TieX.coin (h : TieX w S σ e nw) (hz : SzX w S) (hr : ∀ j, ¬ fr0 j → (∀ p, p < S 4 w → j ≠ 768 + 8 * p + 1) → row τ j = row σ j) (hc : ∀ p, p < S 4 w → ∃ m, m ≤ 1000000 ∧ per τ p 1 = nI m) (h3 : τ.2.1 3 = σ.2.1 3) (h4 : τ.2.1 4 = σ.2.1 4) (h14 : ∀ j, j < 7 * nw → τ.2.1 14 j = σ.2.1 14 j) (h23 : τ.1 23 = σ.1 23) (h24 : τ.1 24 = σ.1 24) : TieX w S τ e nw := by
  have z1 := hz.2.1
  have z6 := hz.2.2.1
  have z8 := hz.2.2.2.1
  have z10 := hz.2.2.2.2.1
  have p2 : ∀ p, p < S 4 w → per τ p 2 = per σ p 2 := fun p hp => hr _ (fun z => by have := fr0_per (p := p) (by omega) (by decide) z; omega) (fun q hq => by omega)
  have p3 : ∀ p, p < S 4 w → per τ p 3 = per σ p 3 := fun p hp => hr _ (fun z => by have := fr0_per (p := p) (by omega) (by decide) z; omega) (fun q hq => by omega)
  have s0 : ∀ j c, c < 96 → (j = 0 ∨ j = 1 ∨ j = 2 ∨ j = 3 ∨ j = 4 ∨ j = 5 ∨ j = 7) → sec τ c j = sec σ c j := fun j c hc hj => hr _ (fun z => by have := fr0_sec (c := c) (j := j) hc (by omega) z; omega) (fun q hq => by omega)
  have lw : ∀ l j, l < S 8 w → j < 6 → lawv τ l j = lawv σ l j := fun l j hl hj => hr _ (by unfold fr0; omega) (fun q hq => by omega)
  have bw : ∀ k j, k < S 10 w → j < 4 → row τ (1640 + 4 * k + j) = row σ (1640 + 4 * k + j) := fun k j hk hj => hr _ (by unfold fr0; omega) (fun q hq => by omega)
  have qw : ∀ a j, a < S 6 w → j < 15 → row τ (1720 + 15 * a + j) = row σ (1720 + 15 * a + j) := fun a j ha hj => hr _ (by unfold fr0; omega) (fun q hq => by omega)
  refine ⟨tHa_cg h p2 p3 (fun _ _ => rfl), tFa_cg h (fun c hc => s0 0 c hc (by decide)) (fun c hc => s0 1 c hc (by decide)) (fun _ _ => rfl), tMi_cg h (fun c hc => s0 0 c hc (by decide)) (fun c hc => s0 7 c hc (by decide)) h3 h4 (fun _ _ => rfl), tEn_cg h (fun c hc => s0 0 c hc (by decide)) (fun c hc => s0 2 c hc (by decide)) (fun _ _ => rfl), tSa_cg h (fun l hl => lw l 4 hl (by decide)) (fun l hl => lw l 5 hl (by decide)) (fun _ _ => rfl) (fun _ _ => rfl), tDu_cg h (fun k hk => bw k 2 hk (by decide)) (fun k hk => bw k 3 hk (by decide)) (fun _ _ => rfl), tQu_cg h qw (fun _ _ _ _ => rfl), tBo_cg h p2 p3, tOw_cg h (fun c hc => s0 0 c hc (by decide)) (fun c hc => s0 1 c hc (by decide)) (fun p hp z => (p2 p hp).trans z) (fun c hc => s0 3 c hc (by decide)) (fun c hc => s0 4 c hc (by decide)) (fun c hc => s0 5 c hc (by decide)) h3, tHi_cg h (fun l hl => lw l 0 hl (by decide)) (fun l hl => lw l 3 hl (by decide)) h14 (fun _ _ => rfl) (fun _ _ => rfl), tRo_cg h h14 (fun _ _ => rfl), hc, tTr_cg h h23 h24, ?_, tGh_cg h (fun a ha => qw a 0 ha (by decide)) (fun k hk => bw k 0 hk (by decide)) (fun _ _ => rfl)⟩
  refine ⟨fun a ha => ?_, fun a ha => ?_⟩
  · obtain ⟨m, m1, m2, m3⟩ := h.ivd.1 a ha
    refine ⟨m, by rw [h3, h4]; exact m1, m2, fun z => ?_⟩
    rw [s0 0 a ha (by decide)] at z
    rw [s0 7 a ha (by decide)]
    exact m3 z
  · rw [qw a 0 ha (by decide)]
    exact h.ivd.2 a ha
theorem gets_in {a b : Int32} {m k : Nat} (ha : a = nI m) (hb : b = nI k) (hm : m ≤ 1000000) (hk : k ≤ 1000000) : ∃ m1, m1 ≤ 1000000 ∧ (if ¬ a + b ≤ 1000000 then 1000000 else a + b) = nI m1 := by
  subst ha; subst hb
  rw [nI_add]
  by_cases h : m + k ≤ 1000000
  · refine ⟨m + k, h, ?_⟩
    rw [if_neg (fun z => z ((nI_leI (by omega) (by decide)).mpr h))]
  · refine ⟨1000000, Nat.le_refl _, ?_⟩
    exact if_pos (show ¬ nI (m + k) ≤ nI 1000000 from fun z => h ((nI_leI (by omega) (by decide)).mp z))
/-- a hired person is free -/
theorem tie_free {n nl nb q nor p o : Nat} (t : TieX w S σ e nw) (hz : SzX w S) (hn : n = S 4 w) (iv : IvG σ n nl nb q nor nw) (hp : p < S 4 w) (ho : o < S 4 w) (h2 : per σ p 2 = nI 3) (h3 : per σ p 3 = nI o)
    (hr : ∀ j, ¬ fr0 j → j ≠ 768 + 8 * p + 2 → j ≠ 768 + 8 * p + 3 → row τ j = row σ j) (t2 : per τ p 2 = nI 2) (t3 : per τ p 3 = -1) (a3 : τ.2.1 3 = σ.2.1 3) (a4 : τ.2.1 4 = σ.2.1 4) (a14 : τ.2.1 14 = σ.2.1 14) (h23 : τ.1 23 = σ.1 23) (h24 : τ.1 24 = σ.1 24) : TieX w S τ (uE e 0 o (e 0 o - nI 1)) nw := by
  subst hn
  have z1 := hz.2.1
  have z6 := hz.2.2.1
  have z8 := hz.2.2.2.1
  have z10 := hz.2.2.2.2.1
  have ue : ∀ a, a ≠ 0 → uE e 0 o (e 0 o - nI 1) a = e a := fun a ha => by unfold uE; rw [if_neg ha]
  have s0 : ∀ j c, c < 96 → (j = 0 ∨ j = 1 ∨ j = 2 ∨ j = 3 ∨ j = 4 ∨ j = 5 ∨ j = 7) → sec τ c j = sec σ c j := fun j c hc hj => hr _ (fun z => by have := fr0_sec (c := c) (j := j) hc (by omega) z; omega) (by omega) (by omega)
  have hq : ∀ a j, a < S 4 w → a ≠ p → (j = 1 ∨ j = 2 ∨ j = 3) → per τ a j = per σ a j := fun a j ha hne hj => hr _ (fun z => by have := fr0_per (p := a) (by omega) (by omega) z; omega) (by omega) (by omega)
  have p1 : ∀ a, a < S 4 w → per τ a 1 = per σ a 1 := fun a ha => hr _ (fun z => by have := fr0_per (p := a) (by omega) (by decide) z; omega) (by omega) (by omega)
  have lw : ∀ l j, l < S 8 w → j < 6 → lawv τ l j = lawv σ l j := fun l j hl hj => hr _ (by unfold fr0; omega) (by omega) (by omega)
  have bw : ∀ k j, k < S 10 w → j < 4 → row τ (1640 + 4 * k + j) = row σ (1640 + 4 * k + j) := fun k j hk hj => hr _ (by unfold fr0; omega) (by omega) (by omega)
  have qw : ∀ a j, a < S 6 w → j < 15 → row τ (1720 + 15 * a + j) = row σ (1720 + 15 * a + j) := fun a j ha hj => hr _ (by unfold fr0; omega) (by omega) (by omega)
  refine ⟨fun a ha => ?_, tFa_cg t (fun c hc => s0 0 c hc (by decide)) (fun c hc => s0 1 c hc (by decide)) (fun _ _ => by rw [ue 1 (by decide)]), tMi_cg t (fun c hc => s0 0 c hc (by decide)) (fun c hc => s0 7 c hc (by decide)) a3 a4 (fun _ _ => by rw [ue 2 (by decide)]), tEn_cg t (fun c hc => s0 0 c hc (by decide)) (fun c hc => s0 2 c hc (by decide)) (fun _ _ => by rw [ue 3 (by decide)]), tSa_cg t (fun l hl => lw l 4 hl (by decide)) (fun l hl => lw l 5 hl (by decide)) (fun _ _ => by rw [ue 6 (by decide)]) (fun _ _ => by rw [ue 15 (by decide)]), tDu_cg t (fun k hk => bw k 2 hk (by decide)) (fun k hk => bw k 3 hk (by decide)) (fun _ _ => by rw [ue 16 (by decide)]), tQu_cg t qw (fun a _ _ _ => by rw [ue (10 + a) (by omega)]), fun a ha z => ?_, fun c hc => ⟨fun hf a ha z => ?_, (t.ps hc).cg (s0 0 c hc (by decide)) (s0 3 c hc (by decide)) (s0 4 c hc (by decide)) (s0 5 c hc (by decide)) a3⟩, tHi_cg t (fun l hl => lw l 0 hl (by decide)) (fun l hl => lw l 3 hl (by decide)) (fun j _ => by rw [a14]) (fun _ _ => by rw [ue 4 (by decide)]) (fun _ _ => by rw [ue 5 (by decide)]), tRo_cg t (fun j _ => by rw [a14]) (fun _ _ => by rw [ue 7 (by decide)]), tCo_cg t p1, tTr_cg t h23 h24, ?_, tGh_cg t (fun a ha => qw a 0 ha (by decide)) (fun k hk => bw k 0 hk (by decide)) (fun _ _ => by rw [ue 16 (by decide)])⟩
  · have c1 := cnt_one (p := fun x => decide (per σ x 2 = nI 3) && decide (per σ x 3 = nI a)) (p' := fun x => decide (per τ x 2 = nI 3) && decide (per τ x 3 = nI a)) hp (fun i hi hne => by simp only [hq i 2 hi hne (by decide), hq i 3 hi hne (by decide)])
    have e2 : (decide (per τ p 2 = nI 3) && decide (per τ p 3 = nI a)) = false := by rw [t2]; rfl
    simp only [e2] at c1
    by_cases ea : a = o
    · subst ea
      have e1 : (decide (per σ p 2 = nI 3) && decide (per σ p 3 = nI a)) = true := by simp [h2, h3]
      simp only [e1] at c1
      simp at c1
      rw [uE_eq, t.hands ha]
      have c2 : hiredC τ (S 4 w) (nI a) + 1 = hiredC σ (S 4 w) (nI a) := c1
      rw [← c2, nI_pdec (by omega)]
      rfl
    · have e1 : (decide (per σ p 2 = nI 3) && decide (per σ p 3 = nI a)) = false := by
        rw [h3]
        simp only [Bool.and_eq_false_iff, decide_eq_false_iff_not]
        exact Or.inr (fun y => ea ((nI_eq (by omega) (by omega)).mp y).symm)
      simp only [e1] at c1
      simp at c1
      rw [uE_ne (fun z => ea z.2), t.hands ha]
      exact congrArg nI c1.symm
  · by_cases ea : a = p
    · subst ea; exact t3
    · rw [hq a 2 ha ea (by decide)] at z
      rw [hq a 3 ha ea (by decide)]
      exact t.boss ha z
  · rw [s0 0 c hc (by decide)] at hf
    rw [s0 1 c hc (by decide)] at z
    have h4 := t.own hc hf ha z
    by_cases ea : a = p
    · subst ea
      rw [h2] at h4
      exact absurd h4 (by decide)
    · rw [hq a 2 ha ea (by decide)]
      exact h4
  · refine ⟨fun a ha => ?_, fun a ha => ?_⟩
    · obtain ⟨m, m1, m2, m3⟩ := t.ivd.1 a ha
      refine ⟨m, by rw [a3, a4]; exact m1, m2, fun z => ?_⟩
      rw [s0 0 a ha (by decide)] at z
      rw [s0 7 a ha (by decide)]
      exact m3 z
    · rw [qw a 0 ha (by decide)]
      exact t.ivd.2 a ha
/-- a free person is hired by o -/
theorem tie_hire {n nl nb q nor p o : Nat} (t : TieX w S σ e nw) (hz : SzX w S) (hn : n = S 4 w) (iv : IvG σ n nl nb q nor nw) (hp : p < S 4 w) (ho : o < S 4 w) (h2 : per σ p 2 = nI 2)
    (hr : ∀ j, ¬ fr0 j → j ≠ 768 + 8 * p + 2 → j ≠ 768 + 8 * p + 3 → row τ j = row σ j) (t2 : per τ p 2 = nI 3) (t3 : per τ p 3 = nI o) (a3 : τ.2.1 3 = σ.2.1 3) (a4 : τ.2.1 4 = σ.2.1 4) (a14 : τ.2.1 14 = σ.2.1 14) (h23 : τ.1 23 = σ.1 23) (h24 : τ.1 24 = σ.1 24) : TieX w S τ (uE e 0 o (e 0 o + nI 1)) nw := by
  subst hn
  have z1 := hz.2.1
  have z6 := hz.2.2.1
  have z8 := hz.2.2.2.1
  have z10 := hz.2.2.2.2.1
  have ue : ∀ a, a ≠ 0 → uE e 0 o (e 0 o + nI 1) a = e a := fun a ha => by unfold uE; rw [if_neg ha]
  have s0 : ∀ j c, c < 96 → (j = 0 ∨ j = 1 ∨ j = 2 ∨ j = 3 ∨ j = 4 ∨ j = 5 ∨ j = 7) → sec τ c j = sec σ c j := fun j c hc hj => hr _ (fun z => by have := fr0_sec (c := c) (j := j) hc (by omega) z; omega) (by omega) (by omega)
  have hq : ∀ a j, a < S 4 w → a ≠ p → (j = 1 ∨ j = 2 ∨ j = 3) → per τ a j = per σ a j := fun a j ha hne hj => hr _ (fun z => by have := fr0_per (p := a) (by omega) (by omega) z; omega) (by omega) (by omega)
  have p1 : ∀ a, a < S 4 w → per τ a 1 = per σ a 1 := fun a ha => hr _ (fun z => by have := fr0_per (p := a) (by omega) (by decide) z; omega) (by omega) (by omega)
  have lw : ∀ l j, l < S 8 w → j < 6 → lawv τ l j = lawv σ l j := fun l j hl hj => hr _ (by unfold fr0; omega) (by omega) (by omega)
  have bw : ∀ k j, k < S 10 w → j < 4 → row τ (1640 + 4 * k + j) = row σ (1640 + 4 * k + j) := fun k j hk hj => hr _ (by unfold fr0; omega) (by omega) (by omega)
  have qw : ∀ a j, a < S 6 w → j < 15 → row τ (1720 + 15 * a + j) = row σ (1720 + 15 * a + j) := fun a j ha hj => hr _ (by unfold fr0; omega) (by omega) (by omega)
  refine ⟨fun a ha => ?_, tFa_cg t (fun c hc => s0 0 c hc (by decide)) (fun c hc => s0 1 c hc (by decide)) (fun _ _ => by rw [ue 1 (by decide)]), tMi_cg t (fun c hc => s0 0 c hc (by decide)) (fun c hc => s0 7 c hc (by decide)) a3 a4 (fun _ _ => by rw [ue 2 (by decide)]), tEn_cg t (fun c hc => s0 0 c hc (by decide)) (fun c hc => s0 2 c hc (by decide)) (fun _ _ => by rw [ue 3 (by decide)]), tSa_cg t (fun l hl => lw l 4 hl (by decide)) (fun l hl => lw l 5 hl (by decide)) (fun _ _ => by rw [ue 6 (by decide)]) (fun _ _ => by rw [ue 15 (by decide)]), tDu_cg t (fun k hk => bw k 2 hk (by decide)) (fun k hk => bw k 3 hk (by decide)) (fun _ _ => by rw [ue 16 (by decide)]), tQu_cg t qw (fun a _ _ _ => by rw [ue (10 + a) (by omega)]), fun a ha z => ?_, fun c hc => ⟨fun hf a ha z => ?_, (t.ps hc).cg (s0 0 c hc (by decide)) (s0 3 c hc (by decide)) (s0 4 c hc (by decide)) (s0 5 c hc (by decide)) a3⟩, tHi_cg t (fun l hl => lw l 0 hl (by decide)) (fun l hl => lw l 3 hl (by decide)) (fun j _ => by rw [a14]) (fun _ _ => by rw [ue 4 (by decide)]) (fun _ _ => by rw [ue 5 (by decide)]), tRo_cg t (fun j _ => by rw [a14]) (fun _ _ => by rw [ue 7 (by decide)]), tCo_cg t p1, tTr_cg t h23 h24, ?_, tGh_cg t (fun a ha => qw a 0 ha (by decide)) (fun k hk => bw k 0 hk (by decide)) (fun _ _ => by rw [ue 16 (by decide)])⟩
  · have c1 := cnt_one (p := fun x => decide (per σ x 2 = nI 3) && decide (per σ x 3 = nI a)) (p' := fun x => decide (per τ x 2 = nI 3) && decide (per τ x 3 = nI a)) hp (fun i hi hne => by simp only [hq i 2 hi hne (by decide), hq i 3 hi hne (by decide)])
    have e2 : (decide (per σ p 2 = nI 3) && decide (per σ p 3 = nI a)) = false := by rw [h2]; rfl
    simp only [e2] at c1
    by_cases ea : a = o
    · subst ea
      have e1 : (decide (per τ p 2 = nI 3) && decide (per τ p 3 = nI a)) = true := by simp [t2, t3]
      simp only [e1] at c1
      simp at c1
      rw [uE_eq, t.hands ha, nI_add]
      exact congrArg nI c1.symm
    · have e1 : (decide (per τ p 2 = nI 3) && decide (per τ p 3 = nI a)) = false := by
        rw [t3]
        simp only [Bool.and_eq_false_iff, decide_eq_false_iff_not]
        exact Or.inr (fun y => ea ((nI_eq (by omega) (by omega)).mp y).symm)
      simp only [e1] at c1
      simp at c1
      rw [uE_ne (fun z => ea z.2), t.hands ha]
      exact congrArg nI c1.symm
  · by_cases ea : a = p
    · subst ea; exact absurd t2 z
    · rw [hq a 2 ha ea (by decide)] at z
      rw [hq a 3 ha ea (by decide)]
      exact t.boss ha z
  · rw [s0 0 c hc (by decide)] at hf
    rw [s0 1 c hc (by decide)] at z
    have h4 := t.own hc hf ha z
    by_cases ea : a = p
    · subst ea
      rw [h2] at h4
      exact absurd h4 (by decide)
    · rw [hq a 2 ha ea (by decide)]
      exact h4
  · refine ⟨fun a ha => ?_, fun a ha => ?_⟩
    · obtain ⟨m, m1, m2, m3⟩ := t.ivd.1 a ha
      refine ⟨m, by rw [a3, a4]; exact m1, m2, fun z => ?_⟩
      rw [s0 0 a ha (by decide)] at z
      rw [s0 7 a ha (by decide)]
      exact m3 z
    · rw [qw a 0 ha (by decide)]
      exact t.ivd.2 a ha
end TXd
