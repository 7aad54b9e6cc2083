set_option maxRecDepth 100000
theorem JR.asks {σ τ : MS} {S S1 : Nat → Nat → Nat} {nw : Nat} (h : JR σ S nw) (hs : JB S) (hr : ∀ j, jrR S j → ¬ (2092 ≤ j ∧ j < 2104) → j ≠ 2130 → j ≠ 2131 → row τ j = row σ j) (ha : ∀ a, a ≠ 1 → a ≠ 2 → a ≠ 13 → a ≠ 14 → τ.2.1 a = σ.2.1 a) (hi : ∀ x, x ≠ 0 → τ.1 x = σ.1 x) (hS : ∀ x, x ≠ 14 → ∀ y, S1 x y = S x y) (c2 : AkX S1 τ (S1 12 0)) (c4 : ∃ dr, row τ 2131 = nI dr ∧ S1 14 0 + dr ≤ 12) (c5 : row τ 2130 = nI (S1 14 0)) : JR τ S1 nw := by
  obtain ⟨h4, h6, h8, h10, h12⟩ := hs
  have R : ∀ j, jrR S j → j < 2092 → row τ j = row σ j := fun j hj h9 => hr j hj (by omega) (by omega) (by omega)
  have p6 : ∀ p, p < S 4 0 → per τ p 6 = per σ p 6 := fun p hp => R _ (Or.inl ⟨by omega, by omega, by omega⟩) (by omega)
  refine ⟨jc_rs h (hi 7 (by decide)) (hi 23 (by decide)) (hi 24 (by decide)), c2, by rw [hS 16 (by decide), hS 12 (by decide)]; exact h.h16, c4, c5, ?_, ?_, ?_, ?_, ?_, jc_im h (hi 31 (by decide)), jc_tp h (hi 9 (by decide)), ?_, h.hu.rw2 (hr 2122 (by unfold jrR; omega) (by omega) (by omega) (by omega)), ?_, ?_, jc_tb h (ha 7 (by decide) (by decide) (by decide) (by decide)), fun e => (hi 13 (by decide)).trans (h.fp (by rw [← hS 8 (by decide)]; exact e)), jc_wm h (hi 29 (by decide)), jc_pr h (hi 28 (by decide)) (ha 15 (by decide) (by decide) (by decide) (by decide)), jc_wr h (ha 16 (by decide) (by decide) (by decide) (by decide))⟩
  · rw [hS 4 (by decide)]
    exact jc_od6 h p6
  · rw [hS 12 (by decide)]
    exact jc_ch h (fun k hk => R _ (by unfold jrR; omega) (by omega))
  · rw [hS 10 (by decide)]
    exact jc_zb h (fun k h1 h2 => ⟨R _ (by unfold jrR; omega) (by omega), R _ (by unfold jrR; omega) (by omega)⟩)
  · rw [hS 6 (by decide)]
    exact jc_zp h (fun a h1 h2 => ⟨R _ (by unfold jrR; omega) (by omega), R _ (by unfold jrR; omega) (by omega)⟩)
  · rw [hS 8 (by decide)]
    exact jc_sd h (fun l hl => ⟨R _ (by unfold jrR; omega) (by omega), R _ (by unfold jrR; omega) (by omega)⟩)
  · rw [hS 4 (by decide), hS 12 (by decide)]
    exact h.od.cg p6 (fun o ho => R _ (by unfold jrR; omega) (by omega))
  · rw [hS 8 (by decide)]
    exact jc_lk h (ha 8 (by decide) (by decide) (by decide) (by decide)) (ha 9 (by decide) (by decide) (by decide) (by decide)) (ha 10 (by decide) (by decide) (by decide) (by decide)) (ha 11 (by decide) (by decide) (by decide) (by decide))
  · rw [hS 8 (by decide)]
    exact jc_lz h (fun l h1 h2 j hj => R _ (by unfold jrR; omega) (by omega)) (fun i _ _ => congrFun (ha 12 (by decide) (by decide) (by decide) (by decide)) i)
/-- one more asks -/
theorem jr_askA {σ : MS} {S S1 : Nat → Nat → Nat} {nw p dr : Nat} {x : Int32} (h : JR σ S nw) (hs : JB S) (hS : ∀ x, x ≠ 14 → ∀ y, S1 x y = S x y) (h14 : S1 14 0 = S 14 0 + 1) (hp : p < S 4 0) (hdr : row σ 2131 = nI dr) (hsum : S 14 0 + dr < 12) (hx : x = nI (S 14 0 + 1)) : JR (sR (sR (s0 σ) (2092 + S 14 0) (nI p)) 2130 x) S1 nw := by
  refine h.asks hs (fun j _ h1 h2 h3 => (rowS_ne h2).trans (rowS_ne (by omega))) (fun a h1 _ _ _ => (wA_k h1).trans (wA_k h1)) (fun y hy => if_neg hy) hS ?_ ⟨dr, ((rowS_ne (by omega)).trans (rowS_ne (by omega))).trans hdr, by omega⟩ (by rw [h14, ← hx]; exact rowS_eq)
  obtain ⟨a1, a2, a3, a4⟩ := h.ak
  refine ⟨by rw [hS 8 (by decide), hS 8 (by decide)]; exact a1, rfl, by omega, fun j hj => ?_⟩
  rw [hS 4 (by decide)]
  by_cases e : j = S 14 0
  · subst e
    exact ⟨p, hp, (rowS_ne (by omega)).trans rowS_eq⟩
  · obtain ⟨q, hq, eq⟩ := a4 j (by omega)
    exact ⟨q, hq, ((rowS_ne (by omega)).trans (rowS_ne (by omega))).trans eq⟩
/-- all asks are drawn -/
theorem jr_drawA {σ : MS} {S S1 : Nat → Nat → Nat} {nw L dr : Nat} (h : JR σ S nw) (hs : JB S) (hS : ∀ x, x ≠ 14 → ∀ y, S1 x y = S x y) (h14 : S1 14 0 = 0) (hdr : row σ 2131 = nI dr) (hsum : S 14 0 + dr ≤ 12) (hL : L < fac (S 14 0)) : JR (sR (drawF (S 14 0) L (s0 σ)) 2130 (nI 0)) S1 nw := by
  obtain ⟨d1, d2, d3⟩ := drawF_o (S 14 0) L dr (s0 σ) hdr hsum hL
  refine h.asks hs (fun j hj h1 h2 h3 => (rowS_ne h2).trans (d1 j ?_ h3)) (fun a h1 h2 h3 h4 => (wA_k h1).trans (d3.1 a h1 h2 h3 h4)) (fun y hy => (d3.2.1 y).trans (if_neg hy)) hS ?_ ⟨dr + S 14 0, (rowS_ne (by omega)).trans d2, by omega⟩ (by rw [h14]; exact rowS_eq)
  · unfold jrR at hj
    obtain ⟨h4, h6, h8, h10, h12⟩ := hs
    omega
  · obtain ⟨a1, a2, a3, a4⟩ := h.ak
    exact ⟨by rw [hS 8 (by decide), hS 8 (by decide)]; exact a1, rfl, by omega, fun j hj => absurd hj (by omega)⟩
