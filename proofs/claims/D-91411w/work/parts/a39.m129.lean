set_option maxRecDepth 100000
theorem ne_oo {M : Mem} {a c ci cj : Nat} {vs us : List Value} (h : M a = some (.inr (ci, vs))) (k : M c = some (.inr (cj, us))) (hn : ci ≠ cj) : a ≠ c := fun z => by
  subst z
  rw [h] at k
  cases k
  exact hn rfl
theorem SX.LA4 {g : GP} {P : Nat → Prop} {F : Mem} {A : XA} {w : Nat} {S : Nat → Nat → Nat} {b : XS} {σ : MS} {e : XE} {M : Mem} (h : SX g P F A w S b σ e M) : ∃ (m : Nat) (mc : Int32), LstC g M (A 4 w 0) (A 5 w 0) (S 4 w) m (fun j => if j < S 4 w then some (A 35 w j) else none) mc ∧ (1 ≤ m ∧ m < 1000) ∧ (∀ i, i < S 4 w → ∀ y, (fun j => if j < S 4 w then some (A 35 w j) else none) i = some y → ElO M "java/lang/Object" y) ∧ (∀ i, i < S 4 w → ∀ y, (fun j => if j < S 4 w then some (A 35 w j) else none) i = some y → y ≠ A 4 w 0) := by
  obtain ⟨τ, dn, fl, hR, hz, -⟩ := h
  have hc := hR.2.2.2.2.2.2.2.2.2.2 4 w (by decide)
  refine ⟨tCp τ 4 w, tMc τ 4 w, ⟨hR.gt (k := 4) (w := w) (i := 0) (LvX.one (by decide) hz.1), hR.gt (k := 5) (w := w) (i := 0) (LvX.one (by decide) hz.1), hc.1, Nat.lt_trans hc.2.2 (by decide)⟩, hc.2, fun i hi y hy => ?_, fun i hi y hy => ?_⟩
  · have e9 := (if_pos hi).symm.trans hy
    cases e9
    exact ⟨12, _, _, (hR.gt (k := 35) (w := w) (i := i) (LvX.k35 hz.1 hi)).trans rfl, rfl, q3237⟩
  · have e9 := (if_pos hi).symm.trans hy
    cases e9
    exact (ne_oo (hR.gt (k := 35) (w := w) (i := i) (LvX.k35 hz.1 hi)) (hR.gt (k := 4) (w := w) (i := 0) (LvX.one (by decide) hz.1)) (by decide))
theorem SX.LA6 {g : GP} {P : Nat → Prop} {F : Mem} {A : XA} {w : Nat} {S : Nat → Nat → Nat} {b : XS} {σ : MS} {e : XE} {M : Mem} (h : SX g P F A w S b σ e M) : ∃ (m : Nat) (mc : Int32), LstC g M (A 6 w 0) (A 7 w 0) (S 6 w) m (fun j => if j < S 6 w then some (A 36 w j) else none) mc ∧ (1 ≤ m ∧ m < 1000) ∧ (∀ i, i < S 6 w → ∀ y, (fun j => if j < S 6 w then some (A 36 w j) else none) i = some y → ElO M "java/lang/Object" y) ∧ (∀ i, i < S 6 w → ∀ y, (fun j => if j < S 6 w then some (A 36 w j) else none) i = some y → y ≠ A 6 w 0) := by
  obtain ⟨τ, dn, fl, hR, hz, -⟩ := h
  have hc := hR.2.2.2.2.2.2.2.2.2.2 6 w (by decide)
  refine ⟨tCp τ 6 w, tMc τ 6 w, ⟨hR.gt (k := 6) (w := w) (i := 0) (LvX.one (by decide) hz.1), hR.gt (k := 7) (w := w) (i := 0) (LvX.one (by decide) hz.1), hc.1, Nat.lt_trans hc.2.2 (by decide)⟩, hc.2, fun i hi y hy => ?_, fun i hi y hy => ?_⟩
  · have e9 := (if_pos hi).symm.trans hy
    cases e9
    exact ⟨13, _, _, (hR.gt (k := 36) (w := w) (i := i) (LvX.k36 (Or.inl rfl) hz.1 hi)).trans rfl, rfl, q3255⟩
  · have e9 := (if_pos hi).symm.trans hy
    cases e9
    exact (ne_oo (hR.gt (k := 36) (w := w) (i := i) (LvX.k36 (Or.inl rfl) hz.1 hi)) (hR.gt (k := 6) (w := w) (i := 0) (LvX.one (by decide) hz.1)) (by decide))
theorem SX.LA8 {g : GP} {P : Nat → Prop} {F : Mem} {A : XA} {w : Nat} {S : Nat → Nat → Nat} {b : XS} {σ : MS} {e : XE} {M : Mem} (h : SX g P F A w S b σ e M) : ∃ (m : Nat) (mc : Int32), LstC g M (A 8 w 0) (A 9 w 0) (S 8 w) m (fun j => if j < S 8 w then some (A 38 w j) else none) mc ∧ (1 ≤ m ∧ m < 1000) ∧ (∀ i, i < S 8 w → ∀ y, (fun j => if j < S 8 w then some (A 38 w j) else none) i = some y → ElO M "java/lang/Object" y) ∧ (∀ i, i < S 8 w → ∀ y, (fun j => if j < S 8 w then some (A 38 w j) else none) i = some y → y ≠ A 8 w 0) := by
  obtain ⟨τ, dn, fl, hR, hz, -⟩ := h
  have hc := hR.2.2.2.2.2.2.2.2.2.2 8 w (by decide)
  refine ⟨tCp τ 8 w, tMc τ 8 w, ⟨hR.gt (k := 8) (w := w) (i := 0) (LvX.one (by decide) hz.1), hR.gt (k := 9) (w := w) (i := 0) (LvX.one (by decide) hz.1), hc.1, Nat.lt_trans hc.2.2 (by decide)⟩, hc.2, fun i hi y hy => ?_, fun i hi y hy => ?_⟩
  · have e9 := (if_pos hi).symm.trans hy
    cases e9
    exact ⟨14, _, _, (hR.gt (k := 38) (w := w) (i := i) (LvX.k38 (Or.inl rfl) hz.1 hi)).trans rfl, rfl, q3256⟩
  · have e9 := (if_pos hi).symm.trans hy
    cases e9
    exact (ne_oo (hR.gt (k := 38) (w := w) (i := i) (LvX.k38 (Or.inl rfl) hz.1 hi)) (hR.gt (k := 8) (w := w) (i := 0) (LvX.one (by decide) hz.1)) (by decide))
theorem SX.LA10 {g : GP} {P : Nat → Prop} {F : Mem} {A : XA} {w : Nat} {S : Nat → Nat → Nat} {b : XS} {σ : MS} {e : XE} {M : Mem} (h : SX g P F A w S b σ e M) : ∃ (m : Nat) (mc : Int32), LstC g M (A 10 w 0) (A 11 w 0) (S 10 w) m (fun j => if j < S 10 w then some (A 40 w j) else none) mc ∧ (1 ≤ m ∧ m < 1000) ∧ (∀ i, i < S 10 w → ∀ y, (fun j => if j < S 10 w then some (A 40 w j) else none) i = some y → ElO M "java/lang/Object" y) ∧ (∀ i, i < S 10 w → ∀ y, (fun j => if j < S 10 w then some (A 40 w j) else none) i = some y → y ≠ A 10 w 0) := by
  obtain ⟨τ, dn, fl, hR, hz, -⟩ := h
  have hc := hR.2.2.2.2.2.2.2.2.2.2 10 w (by decide)
  refine ⟨tCp τ 10 w, tMc τ 10 w, ⟨hR.gt (k := 10) (w := w) (i := 0) (LvX.one (by decide) hz.1), hR.gt (k := 11) (w := w) (i := 0) (LvX.one (by decide) hz.1), hc.1, Nat.lt_trans hc.2.2 (by decide)⟩, hc.2, fun i hi y hy => ?_, fun i hi y hy => ?_⟩
  · have e9 := (if_pos hi).symm.trans hy
    cases e9
    exact ⟨15, _, _, (hR.gt (k := 40) (w := w) (i := i) (LvX.k40 hz.1 hi)).trans rfl, rfl, q3257⟩
  · have e9 := (if_pos hi).symm.trans hy
    cases e9
    exact (ne_oo (hR.gt (k := 40) (w := w) (i := i) (LvX.k40 hz.1 hi)) (hR.gt (k := 10) (w := w) (i := 0) (LvX.one (by decide) hz.1)) (by decide))
theorem SX.LA12 {g : GP} {P : Nat → Prop} {F : Mem} {A : XA} {S : Nat → Nat → Nat} {b : XS} {σ : MS} {e : XE} {M : Mem} (h : SX g P F A 0 S b σ e M) (hO : ∀ j, j < S 12 0 → tN (VX 0 S b σ e 13 0 0 j) < S 4 0) : ∃ (m : Nat) (mc : Int32), LstC g M (A 12 0 0) (A 13 0 0) (S 12 0) m (fun j => if j < S 12 0 then some (A 35 0 (tN (VX 0 S b σ e 13 0 0 j))) else none) mc ∧ (1 ≤ m ∧ m < 1000) ∧ (∀ i, i < S 12 0 → ∀ y, (fun j => if j < S 12 0 then some (A 35 0 (tN (VX 0 S b σ e 13 0 0 j))) else none) i = some y → ElO M "java/lang/Object" y) ∧ (∀ i, i < S 12 0 → ∀ y, (fun j => if j < S 12 0 then some (A 35 0 (tN (VX 0 S b σ e 13 0 0 j))) else none) i = some y → y ≠ A 12 0 0) := by
  obtain ⟨τ, dn, fl, hR, hz, -⟩ := h
  have hc := hR.2.2.2.2.2.2.2.2.2.2 12 0 (by decide)
  refine ⟨tCp τ 12 0, tMc τ 12 0, ⟨hR.gt (k := 12) (w := 0) (i := 0) (LvX.one (by decide) Nat.zero_lt_one), hR.gt (k := 13) (w := 0) (i := 0) (LvX.one (by decide) Nat.zero_lt_one), hc.1, Nat.lt_trans hc.2.2 (by decide)⟩, hc.2, fun i hi y hy => ?_, fun i hi y hy => ?_⟩
  · have e9 := (if_pos hi).symm.trans hy
    cases e9
    exact ⟨12, _, _, (hR.gt (k := 35) (w := 0) (i := tN (VX 0 S b σ e 13 0 0 i)) (LvX.k35 (by decide) (hO i hi))).trans rfl, rfl, q3237⟩
  · have e9 := (if_pos hi).symm.trans hy
    cases e9
    exact (ne_oo (hR.gt (k := 35) (w := 0) (i := tN (VX 0 S b σ e 13 0 0 i)) (LvX.k35 (by decide) (hO i hi))) (hR.gt (k := 12) (w := 0) (i := 0) (LvX.one (by decide) Nat.zero_lt_one)) (by decide))
theorem SX.LA14 {g : GP} {P : Nat → Prop} {F : Mem} {A : XA} {S : Nat → Nat → Nat} {b : XS} {σ : MS} {e : XE} {M : Mem} (h : SX g P F A 0 S b σ e M) (hO : ∀ j, j < S 14 0 → tN (VX 0 S b σ e 15 0 0 j) < S 4 0) : ∃ (m : Nat) (mc : Int32), LstC g M (A 14 0 0) (A 15 0 0) (S 14 0) m (fun j => if j < S 14 0 then some (A 35 0 (tN (VX 0 S b σ e 15 0 0 j))) else none) mc ∧ (1 ≤ m ∧ m < 1000) ∧ (∀ i, i < S 14 0 → ∀ y, (fun j => if j < S 14 0 then some (A 35 0 (tN (VX 0 S b σ e 15 0 0 j))) else none) i = some y → ElO M "java/lang/Object" y) ∧ (∀ i, i < S 14 0 → ∀ y, (fun j => if j < S 14 0 then some (A 35 0 (tN (VX 0 S b σ e 15 0 0 j))) else none) i = some y → y ≠ A 14 0 0) := by
  obtain ⟨τ, dn, fl, hR, hz, -⟩ := h
  have hc := hR.2.2.2.2.2.2.2.2.2.2 14 0 (by decide)
  refine ⟨tCp τ 14 0, tMc τ 14 0, ⟨hR.gt (k := 14) (w := 0) (i := 0) (LvX.one (by decide) Nat.zero_lt_one), hR.gt (k := 15) (w := 0) (i := 0) (LvX.one (by decide) Nat.zero_lt_one), hc.1, Nat.lt_trans hc.2.2 (by decide)⟩, hc.2, fun i hi y hy => ?_, fun i hi y hy => ?_⟩
  · have e9 := (if_pos hi).symm.trans hy
    cases e9
    exact ⟨12, _, _, (hR.gt (k := 35) (w := 0) (i := tN (VX 0 S b σ e 15 0 0 i)) (LvX.k35 (by decide) (hO i hi))).trans rfl, rfl, q3237⟩
  · have e9 := (if_pos hi).symm.trans hy
    cases e9
    exact (ne_oo (hR.gt (k := 35) (w := 0) (i := tN (VX 0 S b σ e 15 0 0 i)) (LvX.k35 (by decide) (hO i hi))) (hR.gt (k := 14) (w := 0) (i := 0) (LvX.one (by decide) Nat.zero_lt_one)) (by decide))
theorem VX_cgR {w : Nat} {S : Nat → Nat → Nat} {b : XS} {σ σ1 : MS} {e : XE} (hz : SzX w S) (hr : ∀ j, mapR j → row σ1 j = row σ j) (ha : ∀ a, a ≠ 1 → a ≠ 2 → a ≠ 13 → a ≠ 14 → σ1.2.1 a = σ.2.1 a) (hf : ∀ x, x = 9 ∨ x = 13 ∨ x = 29 ∨ x = 28 ∨ x = 31 ∨ x = 23 ∨ x = 24 ∨ x = 7 → σ1.1 x = σ.1 x) : VX w S b σ1 e = VX w S b σ e := by
  funext k w' i j
  simp only [VX]
  by_cases hc : w' = wkX w k ∧ i < iNX S w k ∧ j < jNX k
  · rw [if_pos hc, if_pos hc]
    have hi := invX_k (w := w) (i := i) (j := j) (k := k)
    simp only [vaX]
    by_cases h0 : (TX w k i j).1 = 0
    · rw [if_pos h0, if_pos h0]
      by_cases h1 : (TX w k i j).2.1 = 1
      · have := hr _ (TXr_ok hz hc.2.1 hc.2.2 h0 h1)
        rw [h1]
        exact this
      · rw [ha _ h1 (hi.1 h0).1 (hi.1 h0).2.1 (hi.1 h0).2.2]
    · rw [if_neg h0, if_neg h0]
      by_cases h1 : (TX w k i j).1 = 1
      · rw [if_pos h1, if_pos h1, hf _ (hi.2 h1)]
      · rw [if_neg h1, if_neg h1]
  · rw [if_neg hc, if_neg hc]
/-- a list of so many -/
def SnX (S : Nat → Nat → Nat) (k w m : Nat) : Nat → Nat → Nat := fun x y => if x = k ∧ y = w then m else S x y
theorem SnX_eq {S : Nat → Nat → Nat} {k w m : Nat} : SnX S k w m k w = m := if_pos ⟨rfl, rfl⟩
theorem SnX_ne {S : Nat → Nat → Nat} {k w m x y : Nat} (h : ¬ (x = k ∧ y = w)) : SnX S k w m x y = S x y := if_neg h
theorem SnX_id {S : Nat → Nat → Nat} {k w : Nat} : SnX S k w (S k w) = S := by
  funext x y
  unfold SnX
  by_cases h : x = k ∧ y = w
  · rw [if_pos h, h.1, h.2]
  · rw [if_neg h]
theorem S1X_n {S : Nat → Nat → Nat} {k w m : Nat} : S1X (SnX S k w m) k w = SnX S k w (m + 1) := by
  funext x y
  unfold S1X
  by_cases h : x = k ∧ y = w
  · rw [if_pos h, SnX_eq, h.1, h.2, SnX_eq]
  · rw [if_neg h, SnX_ne h, SnX_ne h]
theorem S1X_0 {S : Nat → Nat → Nat} {k w : Nat} : S1X S k w = SnX S k w (S k w + 1) := rfl
/-- a person is added: the model's rows -/
theorem adds_row {σ : MS} {t c s l : Int32} {n j : Nat} (hn : row σ 2124 = nI n) (hn9 : n ≤ 100) : row (s_adds σ t c s l) j = if j = 2124 then nI (n + 1) else if j = 768 + 8 * n + 6 then -1 else if j = 768 + 8 * n + 5 then l else if j = 768 + 8 * n + 4 then nI 0 else if j = 768 + 8 * n + 3 then -1 else if j = 768 + 8 * n + 2 then s else if j = 768 + 8 * n + 1 then c else if j = 768 + 8 * n + 0 then t else row σ j := by
  unfold s_adds
  dsimp only
  rw [hn, tN_nI (by omega)]
  have e24 : row (sR (sR (sR (sR (sR (sR (sR σ (768 + 8 * n + 0) t) (768 + 8 * n + 1) c) (768 + 8 * n + 2) s) (768 + 8 * n + 3) (-1)) (768 + 8 * n + 4) (nI 0)) (768 + 8 * n + 5) l) (768 + 8 * n + 6) (-1)) 2124 = nI n := by
    rw [rowS_ne (by omega), rowS_ne (by omega), rowS_ne (by omega), rowS_ne (by omega), rowS_ne (by omega), rowS_ne (by omega), rowS_ne (by omega)]
    exact hn
  rw [e24, nI_add]
  simp only [rowS_if]
theorem OnR.adds {σ : MS} {t c s l : Int32} : OnR σ (s_adds σ t c s l) := OnR.rf.R.R.R.R.R.R.R.R
theorem adds_iv {σ : MS} {t c s l : Int32} {n nl nb q nor nw : Nat} (v : IvG σ n nl nb q nor nw) (hn : n < 100) (hs : ¬ s = nI 3) : IvG (s_adds σ t c s l) (n + 1) nl nb q nor nw := by
  have hr := fun j => adds_row (σ := σ) (t := t) (c := c) (s := s) (l := l) (n := n) (j := j) v.hn (by omega)
  have on : OnR σ (s_adds σ t c s l) := OnR.adds
  have ro : ∀ j, (j < 768 + 8 * n ∨ 768 + 8 * n + 7 ≤ j) → j ≠ 2124 → row (s_adds σ t c s l) j = row σ j := fun j h1 h2 => by
    rw [hr, if_neg h2, if_neg (by omega), if_neg (by omega), if_neg (by omega), if_neg (by omega), if_neg (by omega), if_neg (by omega), if_neg (by omega)]
  have hOR := v.hOR
  have hQ := v.hQ
  have hL := v.hL
  have hB := v.hB
  refine ⟨by rw [hr, if_pos rfl], hn, (ro _ (by omega) (by decide)).trans v.hl, v.hL, (ro _ (by omega) (by decide)).trans v.hb, v.hB, (ro _ (by omega) (by decide)).trans v.hq, v.hQ, (ro _ (by omega) (by decide)).trans v.hor, v.hOR, (ro _ (by omega) (by decide)).trans v.hnw, v.hNW, Wc_cg (on.1 8 (by decide) (by decide) (by decide) (by decide)).symm (on.1 9 (by decide) (by decide) (by decide) (by decide)).symm (on.1 10 (by decide) (by decide) (by decide) (by decide)).symm v.hw, fun w hw => by rw [on.2.2.2]; exact v.hF w hw, fun x hx => ?_, fun p hp h3 => ?_, fun p hp h6 => ?_, ?_, fun o ho => ?_, fun a ha => Pinv_cg (fun j h1 h2 => ro j (by omega) (by omega)) (v.par a ha), fun a ha => ?_, fun z hz => by rw [on.1 6 (by decide) (by decide) (by decide) (by decide)]; exact v.rns z hz⟩
  · have e0 : sec (s_adds σ t c s l) x 0 = sec σ x 0 := ro _ (by omega) (by omega)
    have e1 : sec (s_adds σ t c s l) x 1 = sec σ x 1 := ro _ (by omega) (by omega)
    have h := v.who x hx
    unfold Who at h ⊢
    rw [e0, e1]
    rcases h with h | h | ⟨h, p, hp, ep⟩
    · exact Or.inl h
    · exact Or.inr (Or.inl h)
    · exact Or.inr (Or.inr ⟨h, p, by omega, ep⟩)
  · by_cases e : p = n
    · subst e
      have e2 : per (s_adds σ t c s l) p 2 = s := by
        show row _ _ = s
        rw [hr, if_neg (by omega), if_neg (by omega), if_neg (by omega), if_neg (by omega), if_neg (by omega), if_pos rfl]
      exact absurd (e2.symm.trans h3) hs
    · have e2 : per (s_adds σ t c s l) p 2 = per σ p 2 := ro _ (by omega) (by omega)
      have e3 : per (s_adds σ t c s l) p 3 = per σ p 3 := ro _ (by omega) (by omega)
      obtain ⟨o, ho, eo⟩ := v.hire p (by omega) (e2.symm.trans h3)
      exact ⟨o, by omega, e3.trans eo⟩
  · by_cases e : p = n
    · subst e
      have e6 : per (s_adds σ t c s l) p 6 = -1 := by
        show row _ _ = _
        rw [hr, if_neg (by omega), if_pos rfl]
      exact absurd (by rw [e6]; decide) h6
    · have e6 : per (s_adds σ t c s l) p 6 = per σ p 6 := ro _ (by omega) (by omega)
      rw [e6] at h6 ⊢
      exact v.ord p (by omega) h6
  · have e6 : isOrd (s_adds σ t c s l) n = false := by
      unfold isOrd
      have : per (s_adds σ t c s l) n 6 = -1 := by
        show row _ _ = _
        rw [hr, if_neg (by omega), if_pos rfl]
      rw [this]
      decide
    rw [cnt_f e6, cnt_cg (p' := isOrd σ) (fun p hp => by unfold isOrd; rw [show per (s_adds σ t c s l) p 6 = per σ p 6 from ro _ (by omega) (by omega)])]
    exact v.cor
  · obtain ⟨p, hp, e⟩ := v.of_ o ho
    exact ⟨p, by omega, (ro _ (by omega) (by omega)).trans e⟩
  · obtain ⟨x, hx, e⟩ := v.pace a ha
    exact ⟨x, hx, (ro _ (by omega) (by omega)).trans e⟩
section TP
variable {g : GP} {P P1 : Nat → Prop} {F F1 : Mem} {A : XA} {w : Nat} {S : Nat → Nat → Nat} {b : XS} {σ : MS} {e : XE} {M : Mem} {nw q q2 m1 m : Nat} {mc1 t c s l : Int32}
theorem tie_adds {n nl nb q9 nor : Nat} (tt : TieX w S σ e nw) (hz : SzX w S) (hn : n = S 4 w) (iv : IvG σ n nl nb q9 nor nw) (hn9 : n < 100) (hs : ¬ s = nI 3) (hc : c = nI m) (hm : m ≤ 1000000) : TieX w (SnX S 4 w (n + 1)) (s_adds σ t c s l) (uE (uE e 0 n (nI 0)) 1 n (nI 0)) nw := by
  have z6 := hz.2.2.1
  have z8 := hz.2.2.2.1
  have z10 := hz.2.2.2.2.1
  have hr := fun j => adds_row (σ := σ) (t := t) (c := c) (s := s) (l := l) (n := n) (j := j) iv.hn (by omega)
  have on : OnR σ (s_adds σ t c s l) := OnR.adds
  have ro : ∀ j, (j < 768 + 8 * n ∨ 768 + 8 * n + 7 ≤ j) → j ≠ 2124 → row (s_adds σ t c s l) j = row σ j := fun j h1 h2 => by
    rw [hr, if_neg h2, if_neg (by omega), if_neg (by omega), if_neg (by omega), if_neg (by omega), if_neg (by omega), if_neg (by omega), if_neg (by omega)]
  have n1 : per (s_adds σ t c s l) n 1 = c := by
    show row _ _ = _
    rw [hr, if_neg (by omega), if_neg (by omega), if_neg (by omega), if_neg (by omega), if_neg (by omega), if_neg (by omega), if_pos rfl]
  have n2 : per (s_adds σ t c s l) n 2 = s := by
    show row _ _ = _
    rw [hr, if_neg (by omega), if_neg (by omega), if_neg (by omega), if_neg (by omega), if_neg (by omega), if_pos rfl]
  have n3 : per (s_adds σ t c s l) n 3 = -1 := by
    show row _ _ = _
    rw [hr, if_neg (by omega), if_neg (by omega), if_neg (by omega), if_neg (by omega), if_pos rfl]
  have hp : ∀ j p, p < n → j < 7 → per (s_adds σ t c s l) p j = per σ p j := fun j p hp hj => ro _ (by omega) (by omega)
  have s0 : ∀ j a, a < 96 → j < 8 → sec (s_adds σ t c s l) a j = sec σ a j := fun j a ha hj => ro _ (by omega) (by omega)
  have lw : ∀ k j, k < S 8 w → j < 6 → lawv (s_adds σ t c s l) k j = lawv σ k j := fun k j hk hj => ro _ (by omega) (by omega)
  have bw : ∀ k j, k < S 10 w → j < 4 → row (s_adds σ t c s l) (1640 + 4 * k + j) = row σ (1640 + 4 * k + j) := fun k j hk hj => ro _ (by omega) (by omega)
  have qw : ∀ a j, a < S 6 w → j < 15 → row (s_adds σ t c s l) (1720 + 15 * a + j) = row σ (1720 + 15 * a + j) := fun a j ha hj => ro _ (by omega) (by omega)
  have e4 : SnX S 4 w (n + 1) 4 w = n + 1 := SnX_eq
  have eS : ∀ k, k ≠ 4 → ∀ y, SnX S 4 w (n + 1) k y = S k y := fun k hk y => SnX_ne (fun z => hk z.1)
  have hee : ∀ a, a ≠ 0 → a ≠ 1 → uE (uE e 0 n (nI 0)) 1 n (nI 0) a = e a := fun a h0 h1 => by
    unfold uE
    rw [if_neg h1, if_neg h0]
  have a3 := on.1 3 (by decide) (by decide) (by decide) (by decide)
  have a4 := on.1 4 (by decide) (by decide) (by decide) (by decide)
  have hir : ∀ p, p ≤ n → hiredC (s_adds σ t c s l) (n + 1) (nI p) = hiredC σ n (nI p) := fun p hp9 => by
    show cnt _ (n + 1) = cnt _ n
    rw [cnt_f (by rw [n2]; simp [hs])]
    exact cnt_cg (fun o ho => by rw [hp 2 o ho (by decide), hp 3 o ho (by decide)])
  have far : ∀ p, farmsOfC (s_adds σ t c s l) (nI p) 96 = farmsOfC σ (nI p) 96 := fun p => cnt_cg (fun x hx => by rw [s0 0 x hx (by decide), s0 1 x hx (by decide)])
  have noh : hiredC σ n (nI n) = 0 := by
    have : ∀ m, m ≤ n → cnt (fun o => decide (per σ o 2 = nI 3) && decide (per σ o 3 = nI n)) m = 0 := by
      intro m hm9
      induction m with
      | zero => rfl
      | succ m ih =>
        rw [cnt_f, ih (by omega)]
        cases h2 : decide (per σ m 2 = nI 3) with
        | false => rfl
        | true =>
          obtain ⟨o, ho, eo⟩ := iv.hire m (by omega) (of_decide_eq_true h2)
          rw [eo, decide_eq_false (fun z => by have := (nI_eq (by omega) (by omega)).mp z; omega)]
          rfl
    exact this n (Nat.le_refl _)
  have nof : farmsOfC σ (nI n) 96 = 0 := by
    have : ∀ m, m ≤ 96 → cnt (fun x => isFarmV (sec σ x 0) && decide (sec σ x 1 = nI n)) m = 0 := by
      intro m hm9
      induction m with
      | zero => rfl
      | succ m ih =>
        rw [cnt_f, ih (by omega)]
        rcases iv.who m (by omega) with z | z | ⟨-, p, hp9, ep⟩
        · rw [z]; rfl
        · rw [z]; rfl
        · rw [ep, decide_eq_false (fun z => by have := (nI_eq (by omega) (by omega)).mp z; omega)]
          simp
    exact this 96 (Nat.le_refl _)
  refine ⟨fun p hp9 => ?_, fun p hp9 => ?_, fun x hx => ?_, fun x hx => ?_, fun x hx => ?_, fun x hx => ?_, fun a ha j hj2 hj => ?_, fun p hp9 h3 => ?_, fun x hx => ⟨fun hf p hp9 ep => ?_, ?_⟩, fun x hx => ?_, fun hw => ?_, fun p hp9 => ?_, ?_, ?_, ?_⟩
  · rw [e4] at hp9 ⊢
    rw [hir p (by omega)]
    by_cases ep : p = n
    · subst ep
      rw [uE_ne (by omega), uE_eq, noh]
    · rw [uE_ne (by omega), uE_ne (by omega), tt.hands (by omega), hn]
  · rw [e4] at hp9
    rw [far p]
    by_cases ep : p = n
    · subst ep
      rw [uE_eq, nof]
    · rw [uE_ne (by omega), uE_ne (by omega), tt.farms (by omega)]
  · rw [hee 2 (by decide) (by decide), s0 0 x hx (by decide), s0 7 x hx (by decide), a3, a4]
    exact tt.miles hx
  · rw [hee 3 (by decide) (by decide), s0 0 x hx (by decide), s0 2 x hx (by decide)]
    exact tt.ends hx
  · rw [eS 8 (by decide)] at hx
    rw [hee 6 (by decide) (by decide), hee 15 (by decide) (by decide), lw x 4 hx (by decide), lw x 5 hx (by decide)]
    exact tt.said hx
  · rw [eS 10 (by decide)] at hx
    have h := tt.due hx
    unfold DuX at h ⊢
    rw [hee 16 (by decide) (by decide), bw x 2 hx (by decide), bw x 3 hx (by decide)]
    exact h
  · rw [eS 6 (by decide)] at ha
    rw [qw a 2 ha (by decide)] at hj
    rw [hee (10 + a) (by omega) (by omega), tt.queue ha hj2 hj]
    have := qw a (3 + j) ha (by omega)
    rw [← Nat.add_assoc] at this
    exact this.symm
  · rw [e4] at hp9
    by_cases ep : p = n
    · subst ep; exact n3
    · rw [hp 2 p (by omega) (by decide)] at h3
      rw [hp 3 p (by omega) (by decide)]
      exact tt.boss (by omega) h3
  · rw [e4] at hp9
    rw [s0 0 x hx (by decide)] at hf
    rw [s0 1 x hx (by decide)] at ep
    have hpn : p < n := by
      rcases iv.who x hx with z | z | ⟨-, p2, hp2, ep2⟩
      · rw [z] at hf; exact absurd hf (by decide)
      · rw [z] at hf; exact absurd hf (by decide)
      · have := (nI_eq (by omega) (by omega)).mp (ep.symm.trans ep2)
        omega
    rw [hp 2 p hpn (by decide)]
    exact tt.own hx hf (by omega) ep
  · exact (tt.ps hx).cg (s0 0 x hx (by decide)) (s0 3 x hx (by decide)) (s0 4 x hx (by decide)) (s0 5 x hx (by decide)) a3
  · rw [eS 8 (by decide)] at hx
    have h := tt.hist hx
    unfold HiX at h ⊢
    rw [hee 4 (by decide) (by decide), hee 5 (by decide) (by decide), lw x 0 hx (by decide), lw x 3 hx (by decide), on.2.2.2]
    exact h
  · intro k hk j hj
    rw [hee 7 (by decide) (by decide), on.2.2.2]
    exact tt.rows hw hk hj
  · rw [e4] at hp9
    by_cases ep : p = n
    · subst ep
      exact ⟨m, hm, n1.trans hc⟩
    · rw [hp 1 p (by omega) (by decide)]
      exact tt.coins (by omega)
  · rw [on.2.1, on.2.1]
    exact ⟨tt.tr1, tt.tr2⟩
  · rw [eS 6 (by decide)]
    exact tt.ivd.cg (fun x hx => ⟨s0 0 x hx (by decide), s0 7 x hx (by decide)⟩) a3 a4 (fun a ha => qw a 0 ha (by decide))
  · refine ⟨fun a ha => ?_, fun k hk => ?_⟩
    · rw [eS 6 (by decide)] at ha
      rw [eS 60 (by decide)]
      exact (qw a 0 ha (by decide)).trans (tt.gh.1 a ha)
    · rw [eS 10 (by decide)] at hk
      rw [eS 61 (by decide), eS 62 (by decide), hee 16 (by decide) (by decide)]
      exact ⟨(bw k 0 hk (by decide)).trans (tt.gh.2 k hk).1, (tt.gh.2 k hk).2⟩
theorem inv1_per {n j : Nat} (hn : n < 100) (hj : j < 7) : ∃ i0, invX (0, 1, 768 + 8 * n + j) = (35, n, i0) := by
  refine ⟨if j = 0 then 1 else if j = 1 then 2 else if j = 2 then 3 else if j = 3 then 4 else if j = 6 then 7 else if j = 4 then 8 else 9, ?_⟩
  show inv1 (768 + 8 * n + j) = _
  unfold inv1
  rw [if_neg (by omega), if_pos (by omega)]
  rcases (by omega : j = 0 ∨ j = 1 ∨ j = 2 ∨ j = 3 ∨ j = 4 ∨ j = 5 ∨ j = 6) with rfl | rfl | rfl | rfl | rfl | rfl | rfl
  · rw [if_pos (by omega)]; exact t3 rfl (by omega) rfl
  · rw [if_neg (by omega), if_pos (by omega)]; exact t3 rfl (by omega) rfl
  · rw [if_neg (by omega), if_neg (by omega), if_pos (by omega)]; exact t3 rfl (by omega) rfl
  · rw [if_neg (by omega), if_neg (by omega), if_neg (by omega), if_pos (by omega)]; exact t3 rfl (by omega) rfl
  · rw [if_neg (by omega), if_neg (by omega), if_neg (by omega), if_neg (by omega), if_neg (by omega), if_pos (by omega)]; exact t3 rfl (by omega) rfl
  · rw [if_neg (by omega), if_neg (by omega), if_neg (by omega), if_neg (by omega), if_neg (by omega), if_neg (by omega)]; exact t3 rfl (by omega) rfl
  · rw [if_neg (by omega), if_neg (by omega), if_neg (by omega), if_neg (by omega), if_pos (by omega)]; exact t3 rfl (by omega) rfl
theorem adds_vx {n : Nat} (hz : SzX w S) (hn : row σ 2124 = nI n) (hn4 : S 4 w ≤ n) (hn9 : n < 100) : VX w S b (s_adds σ t c s l) (uE (uE e 0 n (nI 0)) 1 n (nI 0)) = VX w S b σ e := by
  have ho : ∀ j, j < 7 → ∀ (σ9 : MS) (v : Int32), VX w S b (sR σ9 (768 + 8 * n + j) v) e = VX w S b σ9 e := fun j hj σ9 v => by
    obtain ⟨i0, h0⟩ := inv1_per hn9 hj
    exact VX_oA hz h0 (iN_o35 hn4)
  rw [VX_oE (k0 := 35) (i0 := n) (j0 := 6) hz rfl (iN_o35 hn4), VX_oE (k0 := 35) (i0 := n) (j0 := 5) hz rfl (iN_o35 hn4)]
  unfold s_adds
  dsimp only
  rw [hn, tN_nI (by omega)]
  rw [VX_cgR (σ := sR (sR (sR (sR (sR (sR (sR σ (768 + 8 * n + 0) t) (768 + 8 * n + 1) c) (768 + 8 * n + 2) s) (768 + 8 * n + 3) (-1)) (768 + 8 * n + 4) (nI 0)) (768 + 8 * n + 5) l) (768 + 8 * n + 6) (-1)) hz (fun j hj => rowS_ne (fun z => by subst z; unfold mapR at hj; omega)) (fun a h1 _ _ _ => wA_k h1) (fun _ _ => rfl)]
  rw [ho 6 (by decide), ho 5 (by decide), ho 4 (by decide), ho 3 (by decide), ho 2 (by decide), ho 1 (by decide), ho 0 (by decide)]
theorem SzX.n4 {n : Nat} (hz : SzX w S) (hn : n ≤ 100) : SzX w (SnX S 4 w n) := by
  obtain ⟨z1, z2, z3, z4, z5, z6, z7, z8⟩ := hz
  refine ⟨z1, by rw [SnX_eq]; exact hn, ?_, ?_, ?_, ?_, ?_, ?_⟩
  · rw [SnX_ne (by omega)]; exact z3
  · rw [SnX_ne (by omega)]; exact z4
  · rw [SnX_ne (by omega)]; exact z5
  · rw [SnX_ne (by omega)]; exact z6
  · rw [SnX_ne (by omega)]; exact z7
  · exact ⟨by rw [SnX_ne (by omega), SnX_ne (by omega)]; exact z8.1, fun e9 => by rw [SnX_ne (by omega)]; exact z8.2 e9⟩
/-- a new person in world 0 is added to the list -/
theorem adds_sx (h : SX g P1 F1 A 0 S b σ e M) {n : Nat} (hn4 : n = S 4 0) (hn : row σ 2124 = nI n) (hn9 : n < 100) (hF1 : ∀ a e, F a = some e → F1 a = some e) (hP : ∀ a, P a → P1 a) (hPF : ∀ a, P a → F a ≠ none) (hq : P1 q) (hqF : F q = none) (hqM : M q = some (.inr (12, [.int (nI n), .int t, .int c, .int s, .int (-1), .int (nI 0), .int (nI 0), .int (-1), .int (nI 0), .int l]))) (hq2 : q2 = A 5 0 0 ∨ M q2 = none) (hm : n + 1 ≤ m1 ∧ m1 < 1000) (or : OrX 0 S b σ e) :
  SX g P F (A1X A 4 35 0 n q q2) 0 (SnX S 4 0 (n + 1)) b (s_adds σ t c s l) (uE (uE e 0 n (nI 0)) 1 n (nI 0)) (mset (mset M q2 (lstA g m1 (fun j => if j < n then (if j < n then some (A 35 0 j) else none) else if j = n then some q else none))) (A 4 0 0) (lstO mc1 q2 (n + 1))) := by
  subst hn4
  have hz := h.hz
  have hz1 := hz.n4 (n := S 4 0 + 1) (by omega)
  have hr := fun j => adds_row (σ := σ) (t := t) (c := c) (s := s) (l := l) (n := S 4 0) (j := j) hn (by omega)
  have hi1 : S 4 0 < SnX S 4 0 (S 4 0 + 1) 4 0 := by rw [SnX_eq]; omega
  refine SX.add1 (k := 4) (ko := 35) h (Or.inl ⟨rfl, rfl⟩) hF1 hP hPF hq hqF ?_ (adds_vx hz hn (Nat.le_refl _) hn9) (fun a ha => OnR.adds.1 a (by omega) (by omega) (by omega) (by omega)) rfl hq2 hm hz1 or
  rw [hqM, if_pos rfl]
  show _ = some (pO (VX 0 (SnX S 4 0 (S 4 0 + 1)) b (s_adds σ t c s l) _ 35 0 (S 4 0)))
  unfold pO
  rw [V35_0 hz1 hi1, V35_1 hz1 hi1, V35_2 hz1 hi1, V35_3 hz1 hi1, V35_4 hz1 hi1, V35_5 hz1 hi1, V35_6 hz1 hi1, V35_7 hz1 hi1, V35_8 hz1 hi1, V35_9 hz1 hi1]
  simp only [hr, uE_if]
  simp
  exact ⟨fun z => absurd z (by omega), fun z => absurd z (by omega), fun z => absurd z (by omega), fun z => absurd z (by omega), fun z => absurd z (by omega), fun z => absurd z (by omega), fun z => absurd z (by omega)⟩
end TP
