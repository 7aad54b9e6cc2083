set_option maxRecDepth 100000
def fr4 (j : Nat) : Prop := fr2 j ∨ (2080 ≤ j ∧ j < 2104) ∨ 2129 ≤ j
theorem IvG.up4 {σ τ : MS} {n nl nb q nor nw : Nat} (v : IvG σ n nl nb q nor nw) (h : ∀ j, ¬ fr4 j → row τ j = row σ j) (h6 : τ.2.1 6 = σ.2.1 6) (h8 : τ.2.1 8 = σ.2.1 8) (h9 : τ.2.1 9 = σ.2.1 9) (h10 : τ.2.1 10 = σ.2.1 10) (h14 : τ.2.1 14 = σ.2.1 14) (hwho : ∀ c, c < 96 → Who τ n c) (hhire : ∀ p, p < n → Hire τ n p) : IvG τ n nl nb q nor nw := by
  have hP := v.hP
  have hOR := v.hOR
  have hQ := v.hQ
  have eo : ∀ p, p < n → per τ p 6 = per σ p 6 := fun p hp => h _ (by unfold fr4 fr2; omega)
  refine ⟨(h _ (by unfold fr4 fr2; omega)).trans v.hn, v.hP, (h _ (by unfold fr4 fr2; omega)).trans v.hl, v.hL, (h _ (by unfold fr4 fr2; omega)).trans v.hb, v.hB, (h _ (by unfold fr4 fr2; omega)).trans v.hq, v.hQ, (h _ (by unfold fr4 fr2; omega)).trans v.hor, v.hOR, (h _ (by unfold fr4 fr2; omega)).trans v.hnw, v.hNW, Wc_cg h8.symm h9.symm h10.symm v.hw, fun w hw => by rw [h14]; exact v.hF w hw, hwho, hhire, fun p hp h0 => ?_, ?_, fun o ho => ?_, fun a ha => Pinv_cg (fun j h1 h2 => h j (by unfold fr4 fr2; omega)) (v.par a ha), fun a ha => ?_, fun z hz => by rw [h6]; exact v.rns z hz⟩
  · rw [eo p hp] at h0 ⊢
    exact v.ord p hp h0
  · rw [cnt_cg (p' := isOrd σ) (fun p hp => by unfold isOrd; rw [eo p hp])]
    exact v.cor
  · obtain ⟨p, hp, e⟩ := v.of_ o ho
    exact ⟨p, hp, (h _ (by unfold fr4 fr2; omega)).trans e⟩
  · obtain ⟨x, hx, e⟩ := v.pace a ha
    exact ⟨x, hx, (h _ (by unfold fr4 fr2; omega)).trans e⟩
theorem IvG.keep4 {σ τ : MS} {n nl nb q nor nw : Nat} (v : IvG σ n nl nb q nor nw) (h : ∀ j, ¬ fr3 j → row τ j = row σ j) (h6 : τ.2.1 6 = σ.2.1 6) (h8 : τ.2.1 8 = σ.2.1 8) (h9 : τ.2.1 9 = σ.2.1 9) (h10 : τ.2.1 10 = σ.2.1 10) (h14 : τ.2.1 14 = σ.2.1 14) : IvG τ n nl nb q nor nw := by
  have hP := v.hP
  refine v.up4 (fun j hj => h j (fun z => hj (z.elim (fun y => Or.inl y.1) Or.inr))) h6 h8 h9 h10 h14 (fun c hc => ?_) (fun p hp => ?_)
  · have e0 : sec τ c 0 = sec σ c 0 := h _ (by unfold fr3 fr1 fr2; omega)
    have e1 : sec τ c 1 = sec σ c 1 := h _ (by unfold fr3 fr1 fr2; omega)
    have := v.who c hc
    unfold Who at this ⊢
    rw [e0, e1]
    exact this
  · have e0 : per τ p 2 = per σ p 2 := h _ (by unfold fr3 fr1 fr2; omega)
    have e1 : per τ p 3 = per σ p 3 := h _ (by unfold fr3 fr1 fr2; omega)
    have := v.hire p hp
    unfold Hire at this ⊢
    rw [e0, e1]
    exact this
theorem IvG.kind {σ : MS} {n nl nb q nor nw c : Nat} {h : Int32} (v : IvG σ n nl nb q nor nw) (hc : c < 96) (hh : h = nI 3 ∨ h = nI 4 ∨ h = nI 5 ∨ h = nI 6) (hp : ∃ p, p < n ∧ sec σ c 1 = nI p) : IvG (sR σ (8 * c + 0) h) n nl nb q nor nw := by
  have hP := v.hP
  refine v.up (fun j hj => rowS_ne (fun z => hj (by unfold fr2; omega))) rfl rfl rfl rfl rfl (fun a ha => ?_) (fun p hp9 => ?_)
  · unfold Who
    have e1 : sec (sR σ (8 * c + 0) h) a 1 = sec σ a 1 := rowS_ne (by omega)
    rw [e1]
    by_cases e : a = c
    · subst e
      rw [show sec (sR σ (8 * a + 0) h) a 0 = h from rowS_eq]
      exact Or.inr (Or.inr ⟨hh, hp⟩)
    · rw [show sec (sR σ (8 * c + 0) h) a 0 = sec σ a 0 from rowS_ne (by omega)]
      exact v.who a ha
  · have e0 : per (sR σ (8 * c + 0) h) p 2 = per σ p 2 := rowS_ne (by omega)
    have e1 : per (sR σ (8 * c + 0) h) p 3 = per σ p 3 := rowS_ne (by omega)
    have := v.hire p hp9
    unfold Hire at this ⊢
    rw [e0, e1]
    exact this
theorem ask_iv {σ : MS} {n nl nb q nor nw as1 dr : Nat} {p : Int32} (v : IvG σ n nl nb q nor nw) (has : as1 + dr ≤ 12) : IvG (p_ask σ n as1 dr p).2 n nl nb q nor nw := by
  have v0 := v.f0 (j := 0) (x := nI 0)
  unfold p_ask
  dsimp only
  by_cases c1 : inN p n = false
  · rw [if_pos c1]; with_reducible exact v0.f0
  · rw [if_neg c1]
    by_cases c2 : decide (nI 2 ≤ per (s0 σ) (tN p) 2) = false
    · rw [if_pos c2]; with_reducible exact v0
    · rw [if_neg c2]
      by_cases c3 : askedV (s0 σ) as1 p = true
      · rw [if_pos c3]; with_reducible exact v0
      · rw [if_neg c3]
        by_cases c4 : acreV (s0 σ) dr p = true
        · rw [if_pos c4]; with_reducible exact v0
        · rw [if_neg c4]
          by_cases c5 : as1 + dr = 12
          · rw [if_pos c5]; with_reducible exact v0
          · rw [if_neg c5]
            exact v0.keep4 (fun j hj => (rowS_ne (fun z => hj (by unfold fr3; omega))).trans (rowS_ne (fun z => hj (by unfold fr3; omega)))) rfl rfl rfl rfl rfl
theorem drawF_o : ∀ (k L dr : Nat) (σ : MS), row σ 2131 = nI dr → k + dr ≤ 12 → L < fac k → (∀ j, (j < 2080 ∨ 2104 ≤ j) → j ≠ 2131 → row (drawF k L σ) j = row σ j) ∧ row (drawF k L σ) 2131 = nI (dr + k) ∧ OnR σ (drawF k L σ)
  | 0, _, _, _, h, _, _ => ⟨fun _ _ _ => rfl, h, OnR.rf⟩
  | k + 1, L, dr, σ, h, hk, hL => by
    have fk0 := fac_pos k
    have hpl : L / fac k < k + 1 := Nat.div_lt_of_lt_mul (by rw [Nat.mul_comm]; exact hL)
    obtain ⟨a, b, c⟩ := drawF_o k (L % fac k) (dr + 1) (dr1 k (L / fac k) σ) (dr1_2131 h (by omega) hpl (by omega)) (by omega) (Nat.mod_lt _ fk0)
    rw [drawF_1]
    refine ⟨fun j h1 h2 => (a j h1 h2).trans (dr1_o h (by omega) hpl (by omega) h1 h2), ?_, OnR.dr1.tr c⟩
    rw [b, show dr + 1 + k = dr + (k + 1) by omega]
theorem draw_iv {σ : MS} {n nl nb q nor nw ak dr : Nat} {x : Int32} (v : IvG σ n nl nb q nor nw) (hdr : row σ 2131 = nI dr) (hA : ak + dr ≤ 12) : IvG (p_draw σ ak x).2 n nl nb q nor nw := by
  have v0 := v.f0 (j := 0) (x := nI 0)
  unfold p_draw
  by_cases c1 : x < 0
  · rw [if_pos c1]; with_reducible exact v0.f0
  · rw [if_neg c1]
    by_cases c2 : ¬ x < nI (fac ak)
    · rw [if_pos c2]; with_reducible exact v0.f0
    · rw [if_neg c2]
      have fl := fac_lt ak (by omega)
      obtain ⟨j, hj, e⟩ := inN_of (x := x) (n := fac ak) (by omega) (by simp only [inN, Bool.and_eq_true, decide_eq_true_eq]; exact ⟨Int32.not_lt.mp c1, Classical.not_not.mp c2⟩)
      have hL : tN x < fac ak := by rw [e, tN_nI (by omega)]; exact hj
      obtain ⟨a, b, c⟩ := drawF_o ak (tN x) dr (s0 σ) hdr hA hL
      exact v0.keep4 (fun j hj => (rowS_ne (fun z => hj (by unfold fr3; omega))).trans (a j (by unfold fr3 at hj; omega) (fun z => hj (by unfold fr3; omega)))) (c.1 6 (by decide) (by decide) (by decide) (by decide)) (c.1 8 (by decide) (by decide) (by decide) (by decide)) (c.1 9 (by decide) (by decide) (by decide) (by decide)) (c.1 10 (by decide) (by decide) (by decide) (by decide)) c.2.2.2
theorem choose_iv {σ : MS} {n nl nb q nor nw p c k : Nat} {f : Nat → Int32} (v : IvG σ n nl nb q nor nw) (hp : p < n) (hc : c < 96) (hk : k < 100) : IvG (chS (sA σ 13 f) p c k) n nl nb q nor nw := by
  unfold chS
  exact (((v.sA1.holdsN hc (Or.inr (Or.inr ⟨Or.inr (Or.inr (Or.inl rfl)), p, hp, rfl⟩))).sR1 (by unfold fr1 fr2; omega)).sR1 (by unfold fr1 fr2; omega)).owns hp
theorem IvG.nb1 {σ : MS} {n nl nb q nor nw : Nat} (v : IvG σ n nl nb q nor nw) (hb : nb < 20) : IvG (sR σ 2126 (nI (nb + 1))) n nl (nb + 1) q nor nw := by
  have hP := v.hP
  have hOR := v.hOR
  have hQ := v.hQ
  have r : ∀ j, j ≠ 2126 → row (sR σ 2126 (nI (nb + 1))) j = row σ j := fun j h => rowS_ne h
  refine ⟨(r _ (by decide)).trans v.hn, v.hP, (r _ (by decide)).trans v.hl, v.hL, rowS_eq, hb, (r _ (by decide)).trans v.hq, v.hQ, (r _ (by decide)).trans v.hor, v.hOR, (r _ (by decide)).trans v.hnw, v.hNW, Wc_cg rfl rfl rfl v.hw, v.hF, fun x hx => ?_, fun p hp h3 => ?_, fun p hp h6 => ?_, ?_, fun o ho => ?_, fun a ha => Pinv_cg (fun j h1 h2 => r j (by omega)) (v.par a ha), fun a ha => ?_, v.rns⟩
  · have h := v.who x hx
    unfold Who at h ⊢
    rw [show sec (sR σ 2126 (nI (nb + 1))) x 0 = sec σ x 0 from r _ (by omega), show sec (sR σ 2126 (nI (nb + 1))) x 1 = sec σ x 1 from r _ (by omega)]
    exact h
  · rw [show per (sR σ 2126 (nI (nb + 1))) p 2 = per σ p 2 from r _ (by omega)] at h3
    rw [show per (sR σ 2126 (nI (nb + 1))) p 3 = per σ p 3 from r _ (by omega)]
    exact v.hire p hp h3
  · rw [show per (sR σ 2126 (nI (nb + 1))) p 6 = per σ p 6 from r _ (by omega)] at h6 ⊢
    exact v.ord p hp h6
  · rw [cnt_cg (p' := isOrd σ) (fun p hp => by unfold isOrd; rw [show per (sR σ 2126 (nI (nb + 1))) p 6 = per σ p 6 from r _ (by omega)])]
    exact v.cor
  · obtain ⟨p, hp, e⟩ := v.of_ o ho
    exact ⟨p, hp, (r _ (by omega)).trans e⟩
  · obtain ⟨x, hx, e⟩ := v.pace a ha
    exact ⟨x, hx, (r _ (by omega)).trans e⟩
theorem bill_iv {σ : MS} {n nl nb q nor nw : Nat} {x : Int32} (v : IvG σ n nl nb q nor nw) : ∃ nb1, IvG (p_bill σ nb x).2 n nl nb1 q nor nw := by
  have v0 := v.f0 (j := 0) (x := nI 0)
  have hB := v.hB
  unfold p_bill
  dsimp only
  by_cases c1 : x < nI 1
  · rw [if_pos c1]; exact ⟨nb, by with_reducible exact v0.f0⟩
  · rw [if_neg c1]
    by_cases c2 : ¬ x ≤ nI 10000
    · rw [if_pos c2]; exact ⟨nb, by with_reducible exact v0.f0⟩
    · rw [if_neg c2]
      by_cases c3 : nb = 20
      · rw [if_pos c3]; exact ⟨nb, by with_reducible exact v0⟩
      · rw [if_neg c3]
        refine ⟨nb + 1, ?_⟩
        have w := ((v0.sR1 (j := 1640 + 4 * nb + 0) (x := x) (by unfold fr1 fr2; omega)).sR1 (j := 1640 + 4 * nb + 3) (x := row (sR (s0 σ) (1640 + 4 * nb + 0) x) 2116 + nI 34) (by unfold fr1 fr2; omega)).sR1 (j := 2118) (x := row (sR (sR (s0 σ) (1640 + 4 * nb + 0) x) (1640 + 4 * nb + 3) (row (sR (s0 σ) (1640 + 4 * nb + 0) x) 2116 + nI 34)) 2118 + x) (by unfold fr1 fr2; omega)
        have w2 := w.nb1 (by omega)
        dsimp only
        rw [w.hb, nI_add]
        exact w2
