set_option maxRecDepth 100000
section TXc
variable {w : Nat} {S : Nat → Nat → Nat} {σ τ : MS} {e e1 : XE} {nw : Nat}
theorem tHa_cg (h : TieX w S σ e nw) (h2 : ∀ p, p < S 4 w → per τ p 2 = per σ p 2) (h3 : ∀ p, p < S 4 w → per τ p 3 = per σ p 3) (h0 : ∀ p, p < S 4 w → e1 0 p = e 0 p) : ∀ p, p < S 4 w → e1 0 p = nI (hiredC τ (S 4 w) (nI p)) := fun p hp => by
  rw [h0 p hp, h.hands hp]
  exact congrArg nI (cnt_cg (fun o ho => by rw [h2 o ho, h3 o ho])).symm
theorem tFa_cg (h : TieX w S σ e nw) (h0 : ∀ c, c < 96 → sec τ c 0 = sec σ c 0) (h1 : ∀ c, c < 96 → sec τ c 1 = sec σ c 1) (h2 : ∀ p, p < S 4 w → e1 1 p = e 1 p) : ∀ p, p < S 4 w → e1 1 p = nI (farmsOfC τ (nI p) 96) := fun p hp => by
  rw [h2 p hp, h.farms hp]
  exact congrArg nI (cnt_cg (fun c hc => by rw [h0 c hc, h1 c hc])).symm
theorem tMi_cg (h : TieX w S σ e nw) (h0 : ∀ c, c < 96 → sec τ c 0 = sec σ c 0) (h7 : ∀ c, c < 96 → sec τ c 7 = sec σ c 7) (h3 : τ.2.1 3 = σ.2.1 3) (h4 : τ.2.1 4 = σ.2.1 4) (h2 : ∀ c, c < 96 → e1 2 c = e 2 c) : ∀ c, c < 96 → e1 2 c = if sec τ c 0 = nI 0 then milesV (τ.2.1 4 c) (τ.2.1 3 c) - sec τ c 7 else nI 0 := fun c hc => by
  rw [h2 c hc, h.miles hc, h0 c hc, h7 c hc, h3, h4]
theorem tEn_cg (h : TieX w S σ e nw) (h0 : ∀ c, c < 96 → sec τ c 0 = sec σ c 0) (h2 : ∀ c, c < 96 → sec τ c 2 = sec σ c 2) (h3 : ∀ c, c < 96 → e1 3 c = e 3 c) : ∀ c, c < 96 → e1 3 c = if sec τ c 0 = nI 4 then sec τ c 2 else -1 := fun c hc => by
  rw [h3 c hc, h.ends hc, h0 c hc, h2 c hc]
theorem tSa_cg (h : TieX w S σ e nw) (h4 : ∀ l, l < S 8 w → lawv τ l 4 = lawv σ l 4) (h5 : ∀ l, l < S 8 w → lawv τ l 5 = lawv σ l 5) (h6 : ∀ l, l < S 8 w → e1 6 l = e 6 l) (h15 : ∀ l, l < S 8 w → e1 15 l = e 15 l) : ∀ l, l < S 8 w → e1 6 l = (if lawv τ l 4 = nI 0 then -1 else lawv τ l 5) ∧ e1 15 l = (if lawv τ l 4 = nI 1 then nI 1 else nI 0) := fun l hl => by
  rw [h4 l hl, h5 l hl, h6 l hl, h15 l hl]
  exact h.said hl
theorem tDu_cg (h : TieX w S σ e nw) (h2 : ∀ k, k < S 10 w → row τ (1640 + 4 * k + 2) = row σ (1640 + 4 * k + 2)) (h3 : ∀ k, k < S 10 w → row τ (1640 + 4 * k + 3) = row σ (1640 + 4 * k + 3)) (h6 : ∀ k, k < S 10 w → e1 16 k = e 16 k) : ∀ k, k < S 10 w → DuX τ e1 k := fun k hk => by
  have := h.due hk
  unfold DuX at this ⊢
  rw [h2 k hk, h3 k hk, h6 k hk]
  exact this
theorem tQu_cg (h : TieX w S σ e nw) (hr : ∀ a j, a < S 6 w → j < 15 → row τ (1720 + 15 * a + j) = row σ (1720 + 15 * a + j)) (h0 : ∀ a j, a < S 6 w → j < 12 → e1 (10 + a) j = e (10 + a) j) : ∀ a, a < S 6 w → ∀ j, j < 12 → j < tN (row τ (1720 + 15 * a + 2)) → e1 (10 + a) j = row τ (1720 + 15 * a + 3 + j) := fun a ha j hj2 hj => by
  rw [hr a 2 ha (by decide)] at hj
  rw [h0 a j ha hj2, h.queue ha hj2 hj]
  have := hr a (3 + j) ha (by omega)
  rw [← Nat.add_assoc] at this
  exact this.symm
theorem tBo_cg (h : TieX w S σ e nw) (h2 : ∀ p, p < S 4 w → per τ p 2 = per σ p 2) (h3 : ∀ p, p < S 4 w → per τ p 3 = per σ p 3) : ∀ p, p < S 4 w → ¬ per τ p 2 = nI 3 → per τ p 3 = -1 := fun p hp z => by
  rw [h2 p hp] at z
  rw [h3 p hp]
  exact h.boss hp z
theorem tOw_cg (h : TieX w S σ e nw) (h0 : ∀ c, c < 96 → sec τ c 0 = sec σ c 0) (h1 : ∀ c, c < 96 → sec τ c 1 = sec σ c 1) (h2 : ∀ p, p < S 4 w → per σ p 2 = nI 4 → per τ p 2 = nI 4) (h3 : ∀ c, c < 96 → sec τ c 3 = sec σ c 3) (h4 : ∀ c, c < 96 → sec τ c 4 = sec σ c 4) (h5 : ∀ c, c < 96 → sec τ c 5 = sec σ c 5) (a3 : τ.2.1 3 = σ.2.1 3) : ∀ c, c < 96 → (isFarmV (sec τ c 0) = true → ∀ p, p < S 4 w → sec τ c 1 = nI p → per τ p 2 = nI 4) ∧ PsX τ c := fun c hc => ⟨fun hf p hp z => by
  rw [h0 c hc] at hf
  rw [h1 c hc] at z
  exact h2 p hp (h.own hc hf hp z), (h.ps hc).cg (h0 c hc) (h3 c hc) (h4 c hc) (h5 c hc) a3⟩
theorem tHi_cg (h : TieX w S σ e nw) (h0 : ∀ l, l < S 8 w → lawv τ l 0 = lawv σ l 0) (h3 : ∀ l, l < S 8 w → lawv τ l 3 = lawv σ l 3) (h14 : ∀ j, j < 7 * nw → τ.2.1 14 j = σ.2.1 14 j) (h4 : ∀ l, l < S 8 w → e1 4 l = e 4 l) (h5 : ∀ l, l < S 8 w → e1 5 l = e 5 l) : ∀ l, l < S 8 w → HiX τ e1 nw l := fun l hl => by
  have := h.hist hl
  unfold HiX at this ⊢
  rw [h0 l hl, h3 l hl, h4 l hl, h5 l hl]
  refine ⟨this.1, this.2.1, this.2.2.1, this.2.2.2.1, this.2.2.2.2.1, fun k hk => ?_⟩
  rw [h14 _ (by omega)]
  exact this.2.2.2.2.2 k hk
theorem tRo_cg (h : TieX w S σ e nw) (h14 : ∀ j, j < 7 * nw → τ.2.1 14 j = σ.2.1 14 j) (h7 : ∀ j, j < 6 * nw → e1 7 j = e 7 j) : w = 0 → ∀ k, k < nw → ∀ j, j < 6 → e1 7 (6 * k + j) = τ.2.1 14 (7 * k + j) := fun hw k hk j hj => by
  rw [h7 _ (by omega), h14 _ (by omega)]
  exact h.rows hw hk hj
theorem tCo_cg (h : TieX w S σ e nw) (h1 : ∀ p, p < S 4 w → per τ p 1 = per σ p 1) : ∀ p, p < S 4 w → ∃ m, m ≤ 1000000 ∧ per τ p 1 = nI m := fun p hp => by
  rw [h1 p hp]
  exact h.coins hp
theorem tTr_cg (h : TieX w S σ e nw) (h23 : τ.1 23 = σ.1 23) (h24 : τ.1 24 = σ.1 24) : (τ.1 23 ≤ 0 ∨ ∃ k, k ≤ 1000 ∧ τ.1 23 = nI k) ∧ (τ.1 24 = -1 ∨ ∃ k, k ≤ 100 ∧ τ.1 24 = nI k) := by
  rw [h23, h24]
  exact h.2.2.2.2.2.2.2.2.2.2.2.2.1
end TXc
/-- one place of a count changed -/
theorem cnt_one {p p' : Nat → Bool} {k : Nat} : ∀ {n : Nat}, k < n → (∀ i, i < n → i ≠ k → p' i = p i) → cnt p' n + (if p k = true then 1 else 0) = cnt p n + (if p' k = true then 1 else 0)
  | 0, h, _ => absurd h (Nat.not_lt_zero _)
  | n + 1, hk, h => by
    unfold cnt
    by_cases e : k = n
    · subst e
      rw [cnt_cg (p := p') (p' := p) (n := k) (fun i hi => h i (by omega) (by omega))]
      omega
    · have ih := cnt_one (n := n) (k := k) (p := p) (p' := p') (by omega) (fun i hi hne => h i (by omega) hne)
      rw [h n (by omega) (Ne.symm e)]
      omega
theorem fr0_sec {c j : Nat} (hc : c < 96) (hj : j < 8) (h : fr0 (8 * c + j)) : j = 6 := by unfold fr0 at h; omega
theorem fr0_per {p j : Nat} (hp : p < 100) (hj : j < 8) (h : fr0 (768 + 8 * p + j)) : j = 0 ∨ j = 4 ∨ j = 5 ∨ j = 6 := by unfold fr0 at h; omega
section TXo
variable {w : Nat} {S : Nat → Nat → Nat} {σ τ : MS} {e e1 : XE} {nw : Nat}
/-- the class's own numbers when p gets a farm at c -/
def OwE (σ : MS) (e e1 : XE) (p c : Nat) : Prop := (∀ q, q < 100 → e1 0 q = if per σ p 2 = nI 3 ∧ per σ p 3 = nI q then e 0 q - nI 1 else e 0 q) ∧ (∀ q, q < 100 → e1 1 q = if q = p then e 1 q + nI 1 else e 1 q) ∧ (∀ q, q < 96 → e1 2 q = if q = c then nI 0 else e 2 q) ∧ (∀ q, q < 96 → e1 3 q = if q = c then -1 else e 3 q) ∧ ∀ a, 4 ≤ a → e1 a = e a
theorem nI_pdec {k : Nat} (h : 0 < k) : nI k - nI 1 = nI (k - 1) := pk_sub h
/-- p gets a farm at a lot -/
theorem tie_own {n nl nb q nor c p : Nat} {h9 : Int32} (t : TieX w S σ e nw) (hz : SzX w S) (hn : n = S 4 w) (iv : IvG σ n nl nb q nor nw) (hc : c < 96) (hp : p < S 4 w) (hl : sec σ c 0 = nI 1) (hh : h9 = nI 3 ∨ h9 = nI 5)
    (hr : ∀ j, ¬ fr0 j → j ≠ 8 * c + 0 → j ≠ 8 * c + 1 → j ≠ 8 * c + 2 → j ≠ 8 * c + 3 → j ≠ 8 * c + 4 → j ≠ 8 * c + 5 → j ≠ 768 + 8 * p + 1 → j ≠ 768 + 8 * p + 2 → j ≠ 768 + 8 * p + 3 → row τ j = row σ j) (t0 : sec τ c 0 = h9) (t1 : sec τ c 1 = nI p) (t2 : per τ p 2 = nI 4) (t3 : per τ p 3 = -1) (tc : ∃ m, m ≤ 1000000 ∧ per τ p 1 = nI m) (tp : PsX τ c)
    (h3 : τ.2.1 3 = σ.2.1 3) (h4 : τ.2.1 4 = σ.2.1 4) (h14 : τ.2.1 14 = σ.2.1 14) (h23 : τ.1 23 = σ.1 23) (h24 : τ.1 24 = σ.1 24) (ow : OwE σ e e1 p c) : TieX w S τ e1 nw := by
  subst hn
  obtain ⟨o0, o1, o2, o3, o4⟩ := ow
  have z1 := hz.2.1
  have z6 := hz.2.2.1
  have z8 := hz.2.2.2.1
  have z10 := hz.2.2.2.2.1
  have hs : ∀ a j, a < 96 → j < 8 → a ≠ c → (j = 0 ∨ j = 1 ∨ j = 2 ∨ j = 3 ∨ j = 4 ∨ j = 5 ∨ j = 7) → sec τ a j = sec σ a j := fun a j ha hj hne hj2 => hr _ (fun z => by have := fr0_sec ha hj z; omega) (by omega) (by omega) (by omega) (by omega) (by omega) (by omega) (by omega) (by omega) (by omega)
  have hs7 : sec τ c 7 = sec σ c 7 := hr _ (fun z => by have := fr0_sec hc (by decide) z; omega) (by omega) (by omega) (by omega) (by omega) (by omega) (by omega) (by omega) (by omega) (by omega)
  have hq : ∀ a j, a < S 4 w → a ≠ p → (j = 1 ∨ j = 2 ∨ j = 3) → per τ a j = per σ a j := fun a j ha hne hj => hr _ (fun z => by have := fr0_per (p := a) (by omega) (by omega) z; omega) (by omega) (by omega) (by omega) (by omega) (by omega) (by omega) (by omega) (by omega) (by omega)
  have hlw : ∀ l j, l < S 8 w → j < 6 → lawv τ l j = lawv σ l j := fun l j hl hj => hr _ (by unfold fr0; omega) (by omega) (by omega) (by omega) (by omega) (by omega) (by omega) (by omega) (by omega) (by omega)
  have hbw : ∀ k j, k < S 10 w → j < 4 → row τ (1640 + 4 * k + j) = row σ (1640 + 4 * k + j) := fun k j hk hj => hr _ (by unfold fr0; omega) (by omega) (by omega) (by omega) (by omega) (by omega) (by omega) (by omega) (by omega) (by omega)
  have hqw : ∀ a j, a < S 6 w → j < 15 → row τ (1720 + 15 * a + j) = row σ (1720 + 15 * a + j) := fun a j ha hj => hr _ (by unfold fr0; omega) (by omega) (by omega) (by omega) (by omega) (by omega) (by omega) (by omega) (by omega) (by omega)
  have hfarm : isFarmV h9 = true := by rcases hh with rfl | rfl <;> decide
  have hlotf : isFarmV (sec σ c 0) = false := by rw [hl]; decide
  have h94 : ¬ h9 = nI 4 := by rcases hh with rfl | rfl <;> decide
  have h90 : ¬ h9 = nI 0 := by rcases hh with rfl | rfl <;> decide
  refine ⟨fun a ha => ?_, fun a ha => ?_, fun a ha => ?_, fun a ha => ?_, tSa_cg t (fun l hl => hlw l 4 hl (by decide)) (fun l hl => hlw l 5 hl (by decide)) (fun l _ => by rw [o4 6 (by decide)]) (fun l _ => by rw [o4 15 (by decide)]), tDu_cg t (fun k hk => hbw k 2 hk (by decide)) (fun k hk => hbw k 3 hk (by decide)) (fun k _ => by rw [o4 16 (by decide)]), tQu_cg t hqw (fun a j _ _ => by rw [o4 (10 + a) (by omega)]), fun a ha z => ?_, fun a ha => ⟨fun hf x hx z => ?_, ?_⟩, tHi_cg t (fun l hl => hlw l 0 hl (by decide)) (fun l hl => hlw l 3 hl (by decide)) (fun j _ => by rw [h14]) (fun l _ => by rw [o4 4 (by decide)]) (fun l _ => by rw [o4 5 (by decide)]), tRo_cg t (fun j _ => by rw [h14]) (fun j _ => by rw [o4 7 (by decide)]), fun a ha => ?_, tTr_cg t h23 h24, ?_, tGh_cg t (fun a ha => hqw a 0 ha (by decide)) (fun k hk => hbw k 0 hk (by decide)) (fun k _ => by rw [o4 16 (by decide)])⟩
  · rw [o0 a (by omega), t.hands ha]
    have c1 := cnt_one (p := fun o => decide (per σ o 2 = nI 3) && decide (per σ o 3 = nI a)) (p' := fun o => decide (per τ o 2 = nI 3) && decide (per τ o 3 = nI a)) hp (fun i hi hne => by simp only [hq i 2 hi hne (by decide), hq i 3 hi hne (by decide)])
    have e2 : (decide (per τ p 2 = nI 3) && decide (per τ p 3 = nI a)) = false := by rw [t2]; rfl
    simp only [e2] at c1
    by_cases hc2 : per σ p 2 = nI 3 ∧ per σ p 3 = nI a
    · rw [if_pos hc2]
      have e1 : (decide (per σ p 2 = nI 3) && decide (per σ p 3 = nI a)) = true := by simp [hc2.1, hc2.2]
      simp only [e1] at c1
      simp at c1
      show nI (hiredC σ (S 4 w) (nI a)) - nI 1 = nI (hiredC τ (S 4 w) (nI a))
      have c2 : hiredC τ (S 4 w) (nI a) + 1 = hiredC σ (S 4 w) (nI a) := c1
      rw [← c2, nI_pdec (by omega)]
      rfl
    · rw [if_neg hc2]
      have e1 : (decide (per σ p 2 = nI 3) && decide (per σ p 3 = nI a)) = false := by
        simp only [Bool.and_eq_false_iff, decide_eq_false_iff_not]
        by_cases z : per σ p 2 = nI 3
        · exact Or.inr (fun y => hc2 ⟨z, y⟩)
        · exact Or.inl z
      simp only [e1] at c1
      simp at c1
      exact congrArg nI c1.symm
  · rw [o1 a (by omega), t.farms ha]
    have c1 := cnt_one (p := fun x => isFarmV (sec σ x 0) && decide (sec σ x 1 = nI a)) (p' := fun x => isFarmV (sec τ x 0) && decide (sec τ x 1 = nI a)) hc (fun i hi hne => by simp only [hs i 0 hi (by decide) hne (by decide), hs i 1 hi (by decide) hne (by decide)])
    have e1 : (isFarmV (sec σ c 0) && decide (sec σ c 1 = nI a)) = false := by rw [hlotf]; rfl
    simp only [e1] at c1
    by_cases ha2 : a = p
    · subst ha2
      have e2 : (isFarmV (sec τ c 0) && decide (sec τ c 1 = nI a)) = true := by rw [t0, hfarm, t1]; simp
      simp only [e2] at c1
      simp at c1
      rw [if_pos rfl, nI_add]
      exact congrArg nI c1.symm
    · have e2 : (isFarmV (sec τ c 0) && decide (sec τ c 1 = nI a)) = false := by
        rw [t1]
        simp only [Bool.and_eq_false_iff, decide_eq_false_iff_not]
        exact Or.inr (fun y => ha2 ((nI_eq (by omega) (by omega)).mp y).symm)
      simp only [e2] at c1
      simp at c1
      rw [if_neg ha2]
      exact congrArg nI c1.symm
  · rw [o2 a ha]
    by_cases e9 : a = c
    · subst e9
      rw [if_pos rfl, t0, if_neg h90]
    · rw [if_neg e9, hs a 0 ha (by decide) e9 (by decide), hs a 7 ha (by decide) e9 (by decide), h3, h4]
      exact t.miles ha
  · rw [o3 a ha]
    by_cases e9 : a = c
    · subst e9
      rw [if_pos rfl, t0, if_neg h94]
    · rw [if_neg e9, hs a 0 ha (by decide) e9 (by decide), hs a 2 ha (by decide) e9 (by decide)]
      exact t.ends ha
  · by_cases e9 : a = p
    · subst e9; exact t3
    · rw [hq a 2 ha e9 (by decide)] at z
      rw [hq a 3 ha e9 (by decide)]
      exact t.boss ha z
  · by_cases e9 : x = p
    · subst e9; exact t2
    · rw [hq x 2 hx e9 (by decide)]
      by_cases e8 : a = c
      · subst e8
        rw [t1] at z
        exact absurd ((nI_eq (by omega) (by omega)).mp z).symm e9
      · rw [hs a 0 ha (by decide) e8 (by decide)] at hf
        rw [hs a 1 ha (by decide) e8 (by decide)] at z
        exact t.own ha hf hx z
  · by_cases e8 : a = c
    · subst e8; exact tp
    · exact (t.ps ha).cg (hs a 0 ha (by decide) e8 (by decide)) (hs a 3 ha (by decide) e8 (by decide)) (hs a 4 ha (by decide) e8 (by decide)) (hs a 5 ha (by decide) e8 (by decide)) h3
  · by_cases e9 : a = p
    · subst e9; exact tc
    · rw [hq a 1 ha e9 (by decide)]
      exact t.coins ha
  · refine ⟨fun a ha => ?_, fun a ha => ?_⟩
    · obtain ⟨m, m1, m2, m3⟩ := t.ivd.1 a ha
      refine ⟨m, by rw [h3, h4]; exact m1, m2, fun z => ?_⟩
      by_cases e9 : a = c
      · subst e9
        rw [t0] at z
        exact absurd z h90
      · rw [hs a 0 ha (by decide) e9 (by decide)] at z
        rw [hs a 7 ha (by decide) e9 (by decide)]
        exact m3 z
    · rw [hqw a 0 ha (by decide)]
      exact t.ivd.2 a ha
end TXo
