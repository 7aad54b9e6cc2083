set_option maxRecDepth 100000
/-- rows that no invariant speaks of, but the two of who holds and who hires -/
def fr2 (j : Nat) : Prop := j < 768 ∨ (768 ≤ j ∧ j < 1568 ∧ j % 8 ≠ 6) ∨ (1568 ≤ j ∧ j < 1720) ∨ (1780 ≤ j ∧ j < 2080 ∧ j % 3 ≠ 1) ∨ (2104 ≤ j ∧ j < 2116) ∨ (2117 ≤ j ∧ j < 2124)
def fr1 (j : Nat) : Prop := fr2 j ∧ (j < 768 → 2 ≤ j % 8) ∧ (768 ≤ j → j < 1568 → j % 8 ≠ 2 ∧ j % 8 ≠ 3)
def Who (σ : MS) (n c : Nat) : Prop := sec σ c 0 = nI 0 ∨ sec σ c 0 = nI 1 ∨ ((sec σ c 0 = nI 3 ∨ sec σ c 0 = nI 4 ∨ sec σ c 0 = nI 5 ∨ sec σ c 0 = nI 6) ∧ ∃ p, p < n ∧ sec σ c 1 = nI p)
def Hire (σ : MS) (n p : Nat) : Prop := per σ p 2 = nI 3 → ∃ o, o < n ∧ per σ p 3 = nI o
def isOrd (σ : MS) (p : Nat) : Bool := !decide (per σ p 6 < 0)
abbrev IvG (σ : MS) (n nl nb q nor nw : Nat) : Prop :=
  (row σ 2124 = nI n) ∧ (n ≤ 100) ∧ (row σ 2125 = nI nl) ∧ (nl ≤ 12) ∧ (row σ 2126 = nI nb) ∧ (nb ≤ 20) ∧ (row σ 2127 = nI q) ∧ (q ≤ 4) ∧ (row σ 2128 = nI nor) ∧ (nor ≤ 100) ∧ (row σ 2116 = nI nw) ∧ (nw ≤ 1000) ∧ (Wc σ nl) ∧ (∀ w, w < nw → Lb (σ.2.1 14 (7 * w + 6)) nl) ∧ (∀ c, c < 96 → Who σ n c) ∧ (∀ p, p < n → Hire σ n p) ∧ (∀ p, p < n → ¬ per σ p 6 < 0 → ∃ k, k < nor ∧ per σ p 6 = nI k) ∧ (nor ≤ cnt (isOrd σ) n) ∧ (∀ o, o < nor → ∃ p, p < n ∧ row σ (1780 + 3 * o + 0) = nI p) ∧ (∀ a, a < 4 → Pinv σ (1720 + 15 * a)) ∧ (∀ a, a < q → ∃ v, v ≤ 9 ∧ row σ (1720 + 15 * a + 0) = nI v) ∧ (∀ z, z < 4 → ∃ r, r ≤ 1000 ∧ σ.2.1 6 z = nI r)
theorem IvG.hn {σ : MS} {n nl nb q nor nw : Nat} (h : IvG σ n nl nb q nor nw) : row σ 2124 = nI n := h.1
theorem IvG.hP {σ : MS} {n nl nb q nor nw : Nat} (h : IvG σ n nl nb q nor nw) : n ≤ 100 := h.2.1
theorem IvG.hl {σ : MS} {n nl nb q nor nw : Nat} (h : IvG σ n nl nb q nor nw) : row σ 2125 = nI nl := h.2.2.1
theorem IvG.hL {σ : MS} {n nl nb q nor nw : Nat} (h : IvG σ n nl nb q nor nw) : nl ≤ 12 := h.2.2.2.1
theorem IvG.hb {σ : MS} {n nl nb q nor nw : Nat} (h : IvG σ n nl nb q nor nw) : row σ 2126 = nI nb := h.2.2.2.2.1
theorem IvG.hB {σ : MS} {n nl nb q nor nw : Nat} (h : IvG σ n nl nb q nor nw) : nb ≤ 20 := h.2.2.2.2.2.1
theorem IvG.hq {σ : MS} {n nl nb q nor nw : Nat} (h : IvG σ n nl nb q nor nw) : row σ 2127 = nI q := h.2.2.2.2.2.2.1
theorem IvG.hQ {σ : MS} {n nl nb q nor nw : Nat} (h : IvG σ n nl nb q nor nw) : q ≤ 4 := h.2.2.2.2.2.2.2.1
theorem IvG.hor {σ : MS} {n nl nb q nor nw : Nat} (h : IvG σ n nl nb q nor nw) : row σ 2128 = nI nor := h.2.2.2.2.2.2.2.2.1
theorem IvG.hOR {σ : MS} {n nl nb q nor nw : Nat} (h : IvG σ n nl nb q nor nw) : nor ≤ 100 := h.2.2.2.2.2.2.2.2.2.1
theorem IvG.hnw {σ : MS} {n nl nb q nor nw : Nat} (h : IvG σ n nl nb q nor nw) : row σ 2116 = nI nw := h.2.2.2.2.2.2.2.2.2.2.1
theorem IvG.hNW {σ : MS} {n nl nb q nor nw : Nat} (h : IvG σ n nl nb q nor nw) : nw ≤ 1000 := h.2.2.2.2.2.2.2.2.2.2.2.1
theorem IvG.hw {σ : MS} {n nl nb q nor nw : Nat} (h : IvG σ n nl nb q nor nw) : Wc σ nl := h.2.2.2.2.2.2.2.2.2.2.2.2.1
theorem IvG.hF {σ : MS} {n nl nb q nor nw : Nat} (h : IvG σ n nl nb q nor nw) : ∀ w, w < nw → Lb (σ.2.1 14 (7 * w + 6)) nl := h.2.2.2.2.2.2.2.2.2.2.2.2.2.1
theorem IvG.who {σ : MS} {n nl nb q nor nw : Nat} (h : IvG σ n nl nb q nor nw) : ∀ c, c < 96 → Who σ n c := h.2.2.2.2.2.2.2.2.2.2.2.2.2.2.1
theorem IvG.hire {σ : MS} {n nl nb q nor nw : Nat} (h : IvG σ n nl nb q nor nw) : ∀ p, p < n → Hire σ n p := h.2.2.2.2.2.2.2.2.2.2.2.2.2.2.2.1
theorem IvG.ord {σ : MS} {n nl nb q nor nw : Nat} (h : IvG σ n nl nb q nor nw) : ∀ p, p < n → ¬ per σ p 6 < 0 → ∃ k, k < nor ∧ per σ p 6 = nI k := h.2.2.2.2.2.2.2.2.2.2.2.2.2.2.2.2.1
theorem IvG.cor {σ : MS} {n nl nb q nor nw : Nat} (h : IvG σ n nl nb q nor nw) : nor ≤ cnt (isOrd σ) n := h.2.2.2.2.2.2.2.2.2.2.2.2.2.2.2.2.2.1
theorem IvG.of_ {σ : MS} {n nl nb q nor nw : Nat} (h : IvG σ n nl nb q nor nw) : ∀ o, o < nor → ∃ p, p < n ∧ row σ (1780 + 3 * o + 0) = nI p := h.2.2.2.2.2.2.2.2.2.2.2.2.2.2.2.2.2.2.1
theorem IvG.par {σ : MS} {n nl nb q nor nw : Nat} (h : IvG σ n nl nb q nor nw) : ∀ a, a < 4 → Pinv σ (1720 + 15 * a) := h.2.2.2.2.2.2.2.2.2.2.2.2.2.2.2.2.2.2.2.1
theorem IvG.pace {σ : MS} {n nl nb q nor nw : Nat} (h : IvG σ n nl nb q nor nw) : ∀ a, a < q → ∃ v, v ≤ 9 ∧ row σ (1720 + 15 * a + 0) = nI v := h.2.2.2.2.2.2.2.2.2.2.2.2.2.2.2.2.2.2.2.2.1
theorem IvG.rns {σ : MS} {n nl nb q nor nw : Nat} (h : IvG σ n nl nb q nor nw) : ∀ z, z < 4 → ∃ r, r ≤ 1000 ∧ σ.2.1 6 z = nI r := h.2.2.2.2.2.2.2.2.2.2.2.2.2.2.2.2.2.2.2.2.2
theorem cnt_cg {p p' : Nat → Bool} : ∀ {n : Nat}, (∀ i, i < n → p i = p' i) → cnt p n = cnt p' n
  | 0, _ => rfl
  | n + 1, h => by
    have e := cnt_cg (n := n) (fun i hi => h i (by omega))
    simp only [cnt, e, h n (by omega)]
theorem Pinv_cg {σ τ : MS} {a : Nat} (h : ∀ j, a ≤ j → j < a + 15 → row τ j = row σ j) (p : Pinv σ a) : Pinv τ a := by
  obtain ⟨⟨q, h1, h2, h3⟩, x, hx, ex⟩ := p
  refine ⟨⟨q, (h _ (by omega) (by omega)).trans h1, h2, fun k hk => ?_⟩, x, hx, (h _ (by omega) (by omega)).trans ex⟩
  obtain ⟨c, hc, e⟩ := h3 k hk
  exact ⟨c, hc, (h _ (by omega) (by omega)).trans e⟩
theorem IvG.up {σ τ : MS} {n nl nb q nor nw : Nat} (v : IvG σ n nl nb q nor nw) (h : ∀ j, ¬ fr2 j → row τ j = row σ j) (h6 : τ.2.1 6 = σ.2.1 6) (h8 : τ.2.1 8 = σ.2.1 8) (h9 : τ.2.1 9 = σ.2.1 9) (h10 : τ.2.1 10 = σ.2.1 10) (h14 : τ.2.1 14 = σ.2.1 14) (hwho : ∀ c, c < 96 → Who τ n c) (hhire : ∀ p, p < n → Hire τ n p) : IvG τ n nl nb q nor nw := by
  have hP := v.hP
  have hOR := v.hOR
  have hQ := v.hQ
  have eo : ∀ p, p < n → per τ p 6 = per σ p 6 := fun p hp => h _ (by unfold fr2; omega)
  refine ⟨(h _ (by unfold fr2; omega)).trans v.hn, v.hP, (h _ (by unfold fr2; omega)).trans v.hl, v.hL, (h _ (by unfold fr2; omega)).trans v.hb, v.hB, (h _ (by unfold fr2; omega)).trans v.hq, v.hQ, (h _ (by unfold fr2; omega)).trans v.hor, v.hOR, (h _ (by unfold fr2; omega)).trans v.hnw, v.hNW, Wc_cg h8.symm h9.symm h10.symm v.hw, fun w hw => by rw [h14]; exact v.hF w hw, hwho, hhire, fun p hp h0 => ?_, ?_, fun o ho => ?_, fun a ha => Pinv_cg (fun j h1 h2 => h j (by unfold fr2; omega)) (v.par a ha), fun a ha => ?_, fun z hz => by rw [h6]; exact v.rns z hz⟩
  · rw [eo p hp] at h0 ⊢
    exact v.ord p hp h0
  · rw [cnt_cg (p' := isOrd σ) (fun p hp => by unfold isOrd; rw [eo p hp])]
    exact v.cor
  · obtain ⟨p, hp, e⟩ := v.of_ o ho
    exact ⟨p, hp, (h _ (by unfold fr2; omega)).trans e⟩
  · obtain ⟨x, hx, e⟩ := v.pace a ha
    exact ⟨x, hx, (h _ (by unfold fr2; omega)).trans e⟩
theorem IvG.keep {σ τ : MS} {n nl nb q nor nw : Nat} (v : IvG σ n nl nb q nor nw) (h : ∀ j, ¬ fr1 j → row τ j = row σ j) (h6 : τ.2.1 6 = σ.2.1 6) (h8 : τ.2.1 8 = σ.2.1 8) (h9 : τ.2.1 9 = σ.2.1 9) (h10 : τ.2.1 10 = σ.2.1 10) (h14 : τ.2.1 14 = σ.2.1 14) : IvG τ n nl nb q nor nw := by
  have hP := v.hP
  refine v.up (fun j hj => h j (fun z => hj z.1)) h6 h8 h9 h10 h14 (fun c hc => ?_) (fun p hp => ?_)
  · have e0 : sec τ c 0 = sec σ c 0 := h _ (by unfold fr1 fr2; omega)
    have e1 : sec τ c 1 = sec σ c 1 := h _ (by unfold fr1 fr2; omega)
    have := v.who c hc
    unfold Who at this ⊢
    rw [e0, e1]
    exact this
  · have e0 : per τ p 2 = per σ p 2 := h _ (by unfold fr1 fr2; omega)
    have e1 : per τ p 3 = per σ p 3 := h _ (by unfold fr1 fr2; omega)
    have := v.hire p hp
    unfold Hire at this ⊢
    rw [e0, e1]
    exact this
theorem IvG.sR1 {σ : MS} {n nl nb q nor nw j : Nat} {x : Int32} (v : IvG σ n nl nb q nor nw) (hj : fr1 j) : IvG (sR σ j x) n nl nb q nor nw :=
  v.keep (fun k hk => rowS_ne (fun e => hk (e ▸ hj))) rfl rfl rfl rfl rfl
theorem IvG.sA1 {σ : MS} {n nl nb q nor nw : Nat} {f : Nat → Int32} (v : IvG σ n nl nb q nor nw) : IvG (sA σ 13 f) n nl nb q nor nw :=
  v.keep (fun _ _ => rfl) rfl rfl rfl rfl rfl
theorem IvG.per2 {σ : MS} {n nl nb q nor nw p : Nat} {x y : Int32} (v : IvG σ n nl nb q nor nw) (hp : p < n) (h : x = nI 3 → ∃ o, o < n ∧ y = nI o) : IvG (sR (sR σ (768 + 8 * p + 2) x) (768 + 8 * p + 3) y) n nl nb q nor nw := by
  have hP := v.hP
  have hx : ∀ j, j ≠ 768 + 8 * p + 2 → j ≠ 768 + 8 * p + 3 → row (sR (sR σ (768 + 8 * p + 2) x) (768 + 8 * p + 3) y) j = row σ j := fun j h1 h2 => (rowS_ne h2).trans (rowS_ne h1)
  refine v.up (fun j hj => hx j (fun e => hj (by unfold fr2; omega)) (fun e => hj (by unfold fr2; omega))) rfl rfl rfl rfl rfl (fun c hc => ?_) (fun o ho => ?_)
  · have := v.who c hc
    unfold Who at this ⊢
    rw [show sec _ c 0 = sec σ c 0 from hx _ (by omega) (by omega), show sec _ c 1 = sec σ c 1 from hx _ (by omega) (by omega)]
    exact this
  · by_cases e : o = p
    · subst e
      intro h2
      obtain ⟨z, hz, ez⟩ := h (((rowS_ne (by omega)).trans rowS_eq).symm.trans h2)
      exact ⟨z, hz, rowS_eq.trans ez⟩
    · have := v.hire o ho
      unfold Hire at this ⊢
      rw [show per _ o 2 = per σ o 2 from hx _ (by omega) (by omega), show per _ o 3 = per σ o 3 from hx _ (by omega) (by omega)]
      exact this
theorem IvG.perF {σ : MS} {n nl nb q nor nw p : Nat} {x : Int32} (v : IvG σ n nl nb q nor nw) (hp : p < n) (h : ¬ x = nI 3) : IvG (sR σ (768 + 8 * p + 2) x) n nl nb q nor nw := by
  have hP := v.hP
  have hx : ∀ j, j ≠ 768 + 8 * p + 2 → row (sR σ (768 + 8 * p + 2) x) j = row σ j := fun j h1 => rowS_ne h1
  refine v.up (fun j hj => hx j (fun e => hj (by unfold fr2; omega))) rfl rfl rfl rfl rfl (fun c hc => ?_) (fun o ho => ?_)
  · have := v.who c hc
    unfold Who at this ⊢
    rw [show sec _ c 0 = sec σ c 0 from hx _ (by omega), show sec _ c 1 = sec σ c 1 from hx _ (by omega)]
    exact this
  · by_cases e : o = p
    · subst e
      exact fun h2 => absurd (rowS_eq.symm.trans h2) h
    · have := v.hire o ho
      unfold Hire at this ⊢
      rw [show per _ o 2 = per σ o 2 from hx _ (by omega), show per _ o 3 = per σ o 3 from hx _ (by omega)]
      exact this
theorem IvG.holdsN {σ : MS} {n nl nb q nor nw c : Nat} {h p : Int32} (v : IvG σ n nl nb q nor nw) (hc : c < 96) (hh : h = nI 0 ∨ h = nI 1 ∨ ((h = nI 3 ∨ h = nI 4 ∨ h = nI 5 ∨ h = nI 6) ∧ ∃ k, k < n ∧ p = nI k)) : IvG (s_holds σ c h p) n nl nb q nor nw := by
  have hP := v.hP
  have hx : ∀ j, (j < 8 * c ∨ 8 * c + 7 ≤ j) → row (s_holds σ c h p) j = row σ j := fun j hj => holds_row hj
  refine v.up (fun j hj => hx j (by unfold fr2 at hj; omega)) rfl rfl rfl rfl rfl (fun o ho => ?_) (fun o ho => ?_)
  · by_cases e : o = c
    · subst e
      have e0 : sec (s_holds σ o h p) o 0 = h := by
        show row (s_holds σ o h p) (8 * o + 0) = h
        rw [rowS_ne (by omega), rowS_ne (by omega), rowS_ne (by omega), rowS_ne (by omega), rowS_ne (by omega), rowS_ne (by omega), rowS_eq]
      have e1 : sec (s_holds σ o h p) o 1 = p := by
        show row (s_holds σ o h p) (8 * o + 1) = p
        rw [rowS_ne (by omega), rowS_ne (by omega), rowS_ne (by omega), rowS_ne (by omega), rowS_ne (by omega), rowS_eq]
      unfold Who
      rw [e0, e1]
      exact hh
    · have := v.who o ho
      unfold Who at this ⊢
      rw [show sec _ o 0 = sec σ o 0 from hx _ (by omega), show sec _ o 1 = sec σ o 1 from hx _ (by omega)]
      exact this
  · have := v.hire o ho
    unfold Hire at this ⊢
    rw [show per _ o 2 = per σ o 2 from hx _ (by omega), show per _ o 3 = per σ o 3 from hx _ (by omega)]
    exact this
theorem IvG.pays {σ : MS} {n nl nb q nor nw p : Nat} {x : Int32} (v : IvG σ n nl nb q nor nw) (hp : p < n) : IvG (s_pays σ p x) n nl nb q nor nw := by
  have hP := v.hP
  exact v.sR1 (by unfold fr1 fr2; omega)
theorem IvG.owns {σ : MS} {n nl nb q nor nw p : Nat} (v : IvG σ n nl nb q nor nw) (hp : p < n) : IvG (s_owns σ p) n nl nb q nor nw := v.per2 hp (fun h => absurd h (by decide))
theorem IvG.frees {σ : MS} {n nl nb q nor nw p o : Nat} (v : IvG σ n nl nb q nor nw) (ho : o < n) : IvG (frees1 p o σ) n nl nb q nor nw := by
  unfold frees1
  split
  · exact v
  · split
    · exact v
    · exact v.per2 ho (fun h => absurd h (by decide))
theorem IvG.freesN {n nl nb q nor nw p : Nat} {σ : MS} (v : IvG σ n nl nb q nor nw) : ∀ k, k ≤ n → IvG (upto (frees1 p) k σ) n nl nb q nor nw
  | 0, _ => v
  | k + 1, hk => (freesN v k (by omega)).frees (by omega)
theorem IvG.loses {σ : MS} {n nl nb q nor nw p : Nat} (v : IvG σ n nl nb q nor nw) (hp : p < n) : IvG (s_loses n σ p) n nl nb q nor nw := by
  unfold s_loses
  split
  · exact v
  · split
    · exact v
    · exact (v.perF hp (by decide)).freesN n (Nat.le_refl n)
