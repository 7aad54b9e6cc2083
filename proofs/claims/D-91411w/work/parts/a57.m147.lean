set_option maxRecDepth 100000
theorem order_ivS {σ : MS} {n nl nb q nor nw p m k : Nat} (v : IvG σ n nl nb q nor nw) (hp : p < n) (h6 : per σ p 6 < 0) (hq : nor < 100) : IvG (ordS σ nw p nor m k) n nl nb q (nor + 1) nw := by
  have hP := v.hP
  have hQ := v.hQ
  have on : OnR σ (ordS σ nw p nor m k) := OnR.rf.P.R.R.R.R.R.R.R
  have r : ∀ j, j ≠ 2128 → j ≠ 768 + 8 * p + 6 → j ≠ 1780 + 3 * nor + 2 → j ≠ 1780 + 3 * nor + 1 → j ≠ 1780 + 3 * nor + 0 → j ≠ 2120 → j ≠ 768 + 8 * p + 1 → row (ordS σ nw p nor m k) j = row σ j := fun j a1 a2 a3 a4 a5 a6 a7 =>
    (rowS_ne a1).trans ((rowS_ne a2).trans ((rowS_ne a3).trans ((rowS_ne a4).trans ((rowS_ne a5).trans ((rowS_ne a6).trans ((rowS_ne a7).trans rfl))))))
  have r6 : per (ordS σ nw p nor m k) p 6 = nI nor := (rowS_ne (by omega)).trans rowS_eq
  have r0 : row (ordS σ nw p nor m k) (1780 + 3 * nor + 0) = nI p := (rowS_ne (by omega)).trans ((rowS_ne (by omega)).trans ((rowS_ne (by omega)).trans ((rowS_ne (by omega)).trans rowS_eq)))
  have rp : ∀ x, x < n → x ≠ p → per (ordS σ nw p nor m k) x 6 = per σ x 6 := fun x hx hn => r _ (by omega) (by omega) (by omega) (by omega) (by omega) (by omega) (by omega)
  refine ⟨(r _ (by omega) (by omega) (by omega) (by omega) (by omega) (by omega) (by omega)).trans v.hn, v.hP, (r _ (by omega) (by omega) (by omega) (by omega) (by omega) (by omega) (by omega)).trans v.hl, v.hL, (r _ (by omega) (by omega) (by omega) (by omega) (by omega) (by omega) (by omega)).trans v.hb, v.hB, (r _ (by omega) (by omega) (by omega) (by omega) (by omega) (by omega) (by omega)).trans v.hq, v.hQ, rowS_eq, hq, (r _ (by omega) (by omega) (by omega) (by omega) (by omega) (by omega) (by omega)).trans v.hnw, v.hNW, Wc_cg (on.1 8 (by decide) (by decide) (by decide) (by decide)).symm (on.1 9 (by decide) (by decide) (by decide) (by decide)).symm (on.1 10 (by decide) (by decide) (by decide) (by decide)).symm v.hw, fun w hw => by rw [on.2.2.2]; exact v.hF w hw, fun x hx => ?_, fun x hx h3 => ?_, fun x hx h7 => ?_, ?_, fun o ho => ?_, fun a ha => Pinv_cg (fun j h1 h2 => r j (by omega) (by omega) (by omega) (by omega) (by omega) (by omega) (by omega)) (v.par a ha), fun a ha => ?_, fun z hz => by rw [on.1 6 (by decide) (by decide) (by decide) (by decide)]; exact v.rns z hz⟩
  · have h := v.who x hx
    unfold Who at h ⊢
    rw [show sec (ordS σ nw p nor m k) x 0 = sec σ x 0 from r _ (by omega) (by omega) (by omega) (by omega) (by omega) (by omega) (by omega), show sec (ordS σ nw p nor m k) x 1 = sec σ x 1 from r _ (by omega) (by omega) (by omega) (by omega) (by omega) (by omega) (by omega)]
    exact h
  · rw [show per (ordS σ nw p nor m k) x 2 = per σ x 2 from r _ (by omega) (by omega) (by omega) (by omega) (by omega) (by omega) (by omega)] at h3
    rw [show per (ordS σ nw p nor m k) x 3 = per σ x 3 from r _ (by omega) (by omega) (by omega) (by omega) (by omega) (by omega) (by omega)]
    exact v.hire x hx h3
  · by_cases e : x = p
    · subst e
      exact ⟨nor, by omega, r6⟩
    · rw [rp x hx e] at h7 ⊢
      obtain ⟨k9, hk9, e9⟩ := v.ord x hx h7
      exact ⟨k9, by omega, e9⟩
  · have hc := v.cor
    have z := cnt_one (p := isOrd σ) (p' := isOrd (ordS σ nw p nor m k)) (k := p) hp (fun i hi hne => by unfold isOrd; rw [rp i hi hne])
    have i1 : isOrd σ p = false := by unfold isOrd; rw [decide_eq_true h6]; rfl
    have i2 : isOrd (ordS σ nw p nor m k) p = true := by unfold isOrd; rw [r6, decide_eq_false (Int32.not_lt.mpr (nI_pos' (by omega)))]; rfl
    rw [i1, i2, if_neg (by decide), if_pos rfl] at z
    omega
  · by_cases e : o = nor
    · subst e
      exact ⟨p, hp, r0⟩
    · obtain ⟨x, hx, e9⟩ := v.of_ o (by omega)
      exact ⟨x, hx, (r _ (by omega) (by omega) (by omega) (by omega) (by omega) (by omega) (by omega)).trans e9⟩
  · obtain ⟨x, hx, e⟩ := v.pace a ha
    exact ⟨x, hx, (r _ (by omega) (by omega) (by omega) (by omega) (by omega) (by omega) (by omega)).trans e⟩
theorem people_ivS {n nl nb q nor nw : Nat} {t c : Int32} {σ : MS} (v : IvG σ n nl nb q nor nw) : ∀ k, n + k ≤ 100 → IvG (upto (fun _ s => s_adds s t c (nI 0) (-1)) k σ) (n + k) nl nb q nor nw
  | 0, _ => v
  | k + 1, h => adds_iv (n := n + k) (people_ivS v k (by omega)) (show n + k < 100 by omega) (by decide)
theorem feed_iv {σ : MS} {n nl nb q nor nw : Nat} {a b c d e : Int32} (v : IvG σ n nl nb q nor nw) : IvG (p_feed σ a b c d e).2 n nl nb q nor nw := by
  have v0 := v.f0 (j := 0) (x := nI 0)
  unfold p_feed
  by_cases c1 : ¬ (s0 σ).1 9 + nI 20 ≤ nI 300
  · rw [if_pos c1]; with_reducible exact v0
  · rw [if_neg c1]
    have kp : KpP (s0 σ) (feedS a b c d e (s0 σ)) := kpP_feedS
    exact v0.keep (fun j _ => congrFun (kp.1 1 (by decide)) j) (kp.1 6 (by decide)) (kp.1 8 (by decide)) (kp.1 9 (by decide)) (kp.1 10 (by decide)) (kp.1 14 (by decide))
theorem Pinv_cg1 {σ τ : MS} {a : Nat} (h : ∀ j, a < j → j < a + 15 → row τ j = row σ j) (p : Pinv σ a) : Pinv τ a := by
  obtain ⟨⟨k, h1, h2, h3⟩, x, hx, e⟩ := p
  exact ⟨⟨k, (h _ (by omega) (by omega)).trans h1, h2, fun i hi => by
    obtain ⟨c, hc, e9⟩ := h3 i hi
    exact ⟨c, hc, (h _ (by omega) (by omega)).trans e9⟩⟩, x, hx, (h _ (by omega) (by omega)).trans e⟩
theorem party_ivS {σ : MS} {n nl nb q nor nw x : Nat} (v : IvG σ n nl nb q nor nw) (hq : q < 4) (hx9 : x ≤ 9) : IvG (sR (sR σ (1720 + 15 * q + 0) (nI x)) 2127 (nI (q + 1))) n nl nb (q + 1) nor nw := by
  have hP := v.hP
  have hOR := v.hOR
  have r : ∀ j, j ≠ 2127 → j ≠ 1720 + 15 * q + 0 → row (sR (sR σ (1720 + 15 * q + 0) (nI x)) 2127 (nI (q + 1))) j = row σ j := fun j h1 h2 => (rowS_ne h1).trans (rowS_ne h2)
  refine ⟨(r _ (by decide) (by omega)).trans v.hn, v.hP, (r _ (by decide) (by omega)).trans v.hl, v.hL, (r _ (by decide) (by omega)).trans v.hb, v.hB, rowS_eq, hq, (r _ (by decide) (by omega)).trans v.hor, v.hOR, (r _ (by decide) (by omega)).trans v.hnw, v.hNW, Wc_cg rfl rfl rfl v.hw, v.hF, fun y hy => ?_, fun p hp h3 => ?_, fun p hp h6 => ?_, ?_, fun o ho => ?_, fun a ha => ?_, fun a ha => ?_, v.rns⟩
  · have h := v.who y hy
    unfold Who at h ⊢
    rw [show sec (sR (sR σ (1720 + 15 * q + 0) (nI x)) 2127 (nI (q + 1))) y 0 = sec σ y 0 from r _ (by omega) (by omega), show sec (sR (sR σ (1720 + 15 * q + 0) (nI x)) 2127 (nI (q + 1))) y 1 = sec σ y 1 from r _ (by omega) (by omega)]
    exact h
  · rw [show per (sR (sR σ (1720 + 15 * q + 0) (nI x)) 2127 (nI (q + 1))) p 2 = per σ p 2 from r _ (by omega) (by omega)] at h3
    rw [show per (sR (sR σ (1720 + 15 * q + 0) (nI x)) 2127 (nI (q + 1))) p 3 = per σ p 3 from r _ (by omega) (by omega)]
    exact v.hire p hp h3
  · rw [show per (sR (sR σ (1720 + 15 * q + 0) (nI x)) 2127 (nI (q + 1))) p 6 = per σ p 6 from r _ (by omega) (by omega)] at h6 ⊢
    exact v.ord p hp h6
  · rw [cnt_cg (p' := isOrd σ) (fun p hp => by unfold isOrd; rw [show per (sR (sR σ (1720 + 15 * q + 0) (nI x)) 2127 (nI (q + 1))) p 6 = per σ p 6 from r _ (by omega) (by omega)])]
    exact v.cor
  · obtain ⟨p, hp, e⟩ := v.of_ o ho
    exact ⟨p, hp, (r _ (by omega) (by omega)).trans e⟩
  · exact Pinv_cg1 (fun j h1 h2 => r j (by omega) (by omega)) (v.par a ha)
  · by_cases e : a = q
    · subst e
      exact ⟨x, hx9, (rowS_ne (by omega)).trans rowS_eq⟩
    · obtain ⟨y, hy, e9⟩ := v.pace a (by omega)
      exact ⟨y, hy, (r _ (by omega) (by omega)).trans e9⟩
theorem queue_ivS {σ : MS} {n nl nb q nor nw i c k : Nat} (v : IvG σ n nl nb q nor nw) (hi : i < q) (hc : c < 96) (h1 : row σ (1720 + 15 * i + 2) = nI k) (hk : k < 12) : IvG (sR (sR σ (1720 + 15 * i + 3 + k) (nI c)) (1720 + 15 * i + 2) (nI (k + 1))) n nl nb q nor nw := by
  have hQ := v.hQ
  obtain ⟨⟨k1, e1, e2, e3⟩, x, hx, ex⟩ := v.par i (by omega)
  have ek : k1 = k := (nI_eq (by omega) (by omega)).mp (e1.symm.trans h1)
  subst ek
  refine v.party (b := i) (by omega) (fun j hj => (rowS_ne (by omega)).trans (rowS_ne (by omega))) (fun a ha => (wA_k ha).trans (wA_k ha)) ⟨⟨k1 + 1, rowS_eq, by omega, fun j hj => ?_⟩, x, hx, ((rowS_ne (by omega)).trans (rowS_ne (by omega))).trans ex⟩
  by_cases e : j = k1
  · subst e
    exact ⟨c, hc, (rowS_ne (by omega)).trans rowS_eq⟩
  · obtain ⟨y, hy, e9⟩ := e3 j (by omega)
    exact ⟨y, hy, ((rowS_ne (by omega)).trans (rowS_ne (by omega))).trans e9⟩
theorem week_iv {σ : MS} {n nl nb q nor nw : Nat} {x : Int32} (v : IvG σ n nl nb q nor nw) : ∃ nw1, IvG (p_week σ n nl nb q nw x).2 n nl nb q nor nw1 := by
  have v0 := v.f0 (j := 0) (x := nI 0)
  have hNW := v.hNW
  unfold p_week
  by_cases c1 : x < 0
  · rw [if_pos c1]; exact ⟨nw, by with_reducible exact v0.f0⟩
  · rw [if_neg c1]
    by_cases c2 : ¬ x ≤ nI 104
    · rw [if_pos c2]; exact ⟨nw, by with_reducible exact v0.f0⟩
    · rw [if_neg c2]
      by_cases c3 : ¬ row (s0 σ) 2116 + x ≤ nI 1000
      · rw [if_pos c3]; exact ⟨nw, by with_reducible exact v0.f0⟩
      · rw [if_neg c3]
        obtain ⟨j, hj, e⟩ := inN_of (x := x) (n := 105) (by decide) (by simp only [inN, Bool.and_eq_true, decide_eq_true_eq]; exact ⟨Int32.not_lt.mp c1, Int32.lt_of_le_of_lt (Classical.not_not.mp c2) (by decide)⟩)
        have hs : nw + j ≤ 1000 := by
          have z := Classical.not_not.mp c3
          rw [show row (s0 σ) 2116 = nI nw from v.hnw, e, nI_add] at z
          exact (nI_leI (by omega) (by decide)).mp z
        refine ⟨nw + j, ?_⟩
        rw [e, tN_nI (by omega)]
        exact weeks_iv v0 hs j (Nat.le_refl _)
