set_option maxRecDepth 100000
/-- a section sold under no law -/
def NsX (σ : MS) (c : Nat) : Bool := decide (sec σ c 0 = nI 3) && decide (sec σ c 6 = -1)
/-- sections not yet so sold -/
def psi (σ : MS) : Nat := cnt (fun c => !NsX σ c) 96
def MnX (σ τ : MS) : Prop := ∀ c, c < 96 → NsX σ c = true → NsX τ c = true
theorem MnX.rf {σ : MS} : MnX σ σ := fun _ _ h => h
theorem MnX.tr {σ τ υ : MS} (a : MnX σ τ) (b : MnX τ υ) : MnX σ υ := fun c hc h => b c hc (a c hc h)
theorem NsX_cg {σ τ : MS} {c : Nat} (h0 : row τ (8 * c + 0) = row σ (8 * c + 0)) (h6 : row τ (8 * c + 6) = row σ (8 * c + 6)) : NsX τ c = NsX σ c := by
  unfold NsX sec
  rw [h0, h6]
theorem MnX.rows {σ τ : MS} (h : ∀ j, j < 768 → j % 8 = 0 ∨ j % 8 = 6 → row τ j = row σ j) : MnX σ τ := fun c hc z => by
  rw [NsX_cg (h _ (by omega) (Or.inl (by omega))) (h _ (by omega) (Or.inr (by omega)))]
  exact z
def mR (j : Nat) : Prop := 768 ≤ j ∨ (j % 8 ≠ 0 ∧ j % 8 ≠ 6)
theorem MnX.R {σ τ : MS} {j : Nat} {x : Int32} (a : MnX σ τ) (hj : mR j) : MnX σ (sR τ j x) := a.tr (MnX.rows (fun i h1 h2 => rowS_ne (by unfold mR at hj; omega)))
theorem MnX.A {σ τ : MS} {k : Nat} {f : Nat → Int32} (a : MnX σ τ) (hk : k ≠ 1) : MnX σ (sA τ k f) := a.tr (MnX.rows (fun i h1 h2 => by simp [row, sA, Ne.symm hk]))
theorem MnX.up {f : Nat → MS → MS} {σ τ : MS} (hf : ∀ i τ, MnX τ (f i τ)) (a : MnX σ τ) : ∀ k, MnX σ (upto f k τ)
  | 0 => a
  | k + 1 => (MnX.up hf a k).tr (hf k _)
theorem MnX.q {f : Nat → MS → MS} {σ τ : MS} (hf : ∀ i τ, MnX τ (f i τ)) (a : MnX σ τ) : ∀ k, MnX σ (uq f k τ)
  | 0 => by rw [uq_0]; exact a
  | k + 1 => by rw [uq_s f k]; exact (MnX.q hf a k).tr (hf k _)
theorem MnX.it {p : Prop} [Decidable p] {σ τ υ : MS} (a : MnX σ τ) (b : MnX σ υ) : MnX σ (if p then τ else υ) := by
  split
  · exact a
  · exact b
theorem MnX.it2 {p : Prop} [Decidable p] {σ τ υ : MS} (a : p → MnX σ τ) (b : ¬ p → MnX σ υ) : MnX σ (if p then τ else υ) := by
  split
  · rename_i h; exact a h
  · rename_i h; exact b h
/-- a section that was not so sold may change hands -/
theorem mn_holds {σ : MS} {c : Nat} {h p : Int32} (hn : NsX σ c = false) : MnX σ (s_holds σ c h p) := fun x hx z => by
  by_cases e : x = c
  · subst e
    rw [hn] at z
    exact absurd z (by decide)
  · rw [NsX_cg (holds_row (by omega)) (holds_row (by omega))]
    exact z
theorem ns_no {σ : MS} {c : Nat} (h : ¬ sec σ c 0 = nI 3) : NsX σ c = false := by
  unfold NsX
  rw [decide_eq_false h]
  rfl
theorem ns_no6 {σ : MS} {c : Nat} (h : ¬ sec σ c 6 = -1) : NsX σ c = false := by
  unfold NsX
  rw [decide_eq_false h]
  exact Bool.and_false _
theorem mn_pays {σ τ : MS} {p : Nat} {a : Int32} (v : MnX σ τ) : MnX σ (s_pays τ p a) := v.R (Or.inl (by omega))
theorem mn_frees (p o : Nat) (σ : MS) : MnX σ (frees1 p o σ) := MnX.it MnX.rf (MnX.it MnX.rf ((MnX.rf.R (Or.inl (by omega))).R (Or.inl (by omega))))
theorem mn_loses (n : Nat) (σ : MS) (p : Nat) : MnX σ (s_loses n σ p) := MnX.it MnX.rf (MnX.it MnX.rf (MnX.up (fun i τ => mn_frees p i τ) (MnX.rf.R (Or.inl (by omega))) n))
theorem mn_undo1 {n l c : Nat} (hl : l < 1000) (σ : MS) : MnX σ (undo1 n l c σ) := by
  unfold undo1
  refine MnX.it MnX.rf (MnX.it2 (fun _ => MnX.rf) (fun h => ?_))
  have h6 : sec σ c 6 = nI l := Classical.not_not.mp h
  have e6 : ∀ (j : Nat) (x : Int32) (τ : MS), 768 ≤ j → c < 96 → NsX (sR τ j x) c = NsX τ c := fun j x τ h1 h2 => NsX_cg (rowS_ne (by omega)) (rowS_ne (by omega))
  have m1 : MnX σ (s_pays (sR σ 2118 (row σ 2118 - sec σ c 5)) (tN (sec σ c 1)) (sec σ c 5)) := mn_pays (MnX.rf.R (Or.inl (by omega)))
  refine (m1.tr ?_).tr (mn_loses _ _ _)
  intro x hx z
  by_cases e : x = c
  · subst e
    rw [show NsX (s_pays (sR σ 2118 (row σ 2118 - sec σ x 5)) (tN (sec σ x 1)) (sec σ x 5)) x = NsX σ x from (e6 _ _ _ (by omega) hx).trans (e6 _ _ _ (by omega) hx), ns_no6 (by rw [h6]; exact fun z9 => nI_m1 (by omega) z9.symm)] at z
    exact absurd z (by decide)
  · rw [NsX_cg (holds_row (by omega)) (holds_row (by omega))]
    exact z
theorem MnX.upl {f : Nat → MS → MS} {σ τ : MS} {m : Nat} (hf : ∀ i τ, i < m → MnX τ (f i τ)) (a : MnX σ τ) : ∀ k, k ≤ m → MnX σ (upto f k τ)
  | 0, _ => a
  | k + 1, hk => (MnX.upl hf a k (by omega)).tr (hf k _ (by omega))
theorem mn_undoes {n l : Nat} (hl : l < 1000) (σ : MS) : MnX σ (s_undoes n σ l) := by
  unfold s_undoes
  exact MnX.it (MnX.rf.R (Or.inl (by omega))) (MnX.up (fun i τ => mn_undo1 hl τ) (MnX.rf.R (Or.inl (by omega))) 96)
theorem mn_reads (σ : MS) (b : Nat) : MnX σ (s_reads σ b) := by
  unfold s_reads
  simp only []
  have r : ∀ τ : MS, ∀ j x, 1640 ≤ j → MnX σ τ → MnX σ (sR τ j x) := fun τ j x hj v => v.R (Or.inl (by omega))
  repeat' split
  all_goals first | exact MnX.rf | exact r _ _ _ (by omega) MnX.rf | exact r _ _ _ (by omega) (r _ _ _ (by omega) MnX.rf) | exact r _ _ _ (by omega) (r _ _ _ (by omega) (r _ _ _ (by omega) MnX.rf))
theorem mn_letter1 {n l : Nat} (hl : l < 1000) (σ : MS) : MnX σ (letter1 n l σ) := MnX.it MnX.rf (MnX.it MnX.rf (MnX.it MnX.rf (MnX.it (MnX.rf.R (Or.inl (by omega))) (mn_undoes hl _))))
theorem mn_letters {n nl nb : Nat} (hl : nl ≤ 1000) (σ : MS) : MnX σ (s_letters n nl nb σ) := MnX.up (fun i τ => mn_reads τ i) (MnX.upl (m := nl) (fun i τ hi => mn_letter1 (by omega) τ) MnX.rf nl (Nat.le_refl _)) nb
theorem mn_land1 (p : Nat) (σ : MS) : MnX σ (land1 p σ) := MnX.it MnX.rf (MnX.it MnX.rf (MnX.rf.R (Or.inl (by omega))))
theorem mn_lands (σ : MS) (n : Nat) : MnX σ (s_lands σ n) := MnX.up (fun i τ => mn_land1 i τ) MnX.rf n
theorem mn_drops {σ τ : MS} {a k : Nat} (h : PaQ τ a k) (ha : 768 ≤ a) (v : MnX σ τ) : MnX σ (drops a k τ) := v.tr (MnX.rows (fun j h1 _ => (drops_ok k τ h).2.1 j (by omega)))
theorem mn_surv1 {σ : MS} {b k : Nat} (h : PaQ σ (1720 + 15 * b) k) (h0 : 0 < k) {x : Nat} (hx : x < 96) (ex : row σ (1720 + 15 * b + 1) = nI x) (hF : FOk σ (1720 + 15 * b)) : MnX σ (surv1 (1720 + 15 * b) σ) ∧ FOk (surv1 (1720 + 15 * b) σ) (1720 + 15 * b) := by
  have hk12 := h.2.1
  obtain ⟨c, hc, ec⟩ := h.2.2 0 h0
  have ec' : row σ (1720 + 15 * b + 3) = nI c := ec
  have hw := hF k h h0
  rw [ec', tN_nI (by omega)] at hw
  by_cases hxc : x = c
  · subst hxc
    have q1 : PaQ (dug σ x) (1720 + 15 * b) k := PaQ_sR (by omega) h
    have m1 : MnX σ (dug σ x) := MnX.rf.R (Or.inr (by omega))
    by_cases h2 : sec (dug σ x) x 7 = milesV ((dug σ x).2.1 4 x) ((dug σ x).2.1 3 x)
    · rw [surv1_eq h.1 hk12 ex ec hc h2]
      have q2 : PaQ (s_holds (dug σ x) x (nI 1) (-1)) (1720 + 15 * b) k := PaQ_holds hc (by omega) q1
      refine ⟨mn_drops q2 (by omega) (m1.tr (mn_holds (ns_no ?_))), drops_fok q2⟩
      rw [show sec (dug σ x) x 0 = sec σ x 0 from rowS_ne (by omega), hw]
      decide
    · rw [surv1_ne h.1 hk12 ex ec hc h2]
      exact ⟨mn_drops q1 (by omega) m1, drops_fok q1⟩
  · rw [surv1_mv h.1 hk12 ex hx ec hc hxc]
    have q1 : PaQ (sR σ (1720 + 15 * b + 1) (nI (nearN x c))) (1720 + 15 * b) k := PaQ_sR (by omega) h
    exact ⟨mn_drops q1 (by omega) (MnX.rf.R (Or.inl (by omega))), drops_fok q1⟩
theorem mn_survL {n nl nb q nor nw b : Nat} (hb : b < 4) : ∀ (l : Nat) (σ : MS), IvG σ n nl nb q nor nw → FOk σ (1720 + 15 * b) → MnX σ (survL (1720 + 15 * b) l σ)
  | 0, _, _, _ => MnX.rf
  | l + 1, σ, v, f => by
    by_cases h : row σ (1720 + 15 * b + 2) ≤ 0
    · have e : survL (1720 + 15 * b) (l + 1) σ = σ := by simp only [survL]; rw [if_pos h]
      rw [e]
      exact MnX.rf
    · have e : survL (1720 + 15 * b) (l + 1) σ = survL (1720 + 15 * b) l (surv1 (1720 + 15 * b) σ) := by simp only [survL]; rw [if_neg h]
      rw [e]
      obtain ⟨⟨k, hk⟩, x, hx, ex⟩ := v.par b hb
      have hk0 : 0 < k := by
        rcases Nat.eq_zero_or_pos k with z | z
        · exact absurd (by rw [hk.1, z]; decide) h
        · exact z
      obtain ⟨a1, a2⟩ := mn_surv1 hk hk0 hx ex f
      exact a1.tr (mn_survL hb l _ (surv1_iv v hb h) a2)
theorem mn_surveys {σ : MS} {n nl nb q nor nw b : Nat} (hb : b < 4) (v : IvG σ n nl nb q nor nw) : MnX σ (s_surveys σ b) := by
  obtain ⟨⟨k, hk⟩, x, hx, ex⟩ := v.par b hb
  have hk12 := hk.2.1
  unfold s_surveys
  simp only []
  rw [hk.1, tN_nI (by omega)]
  exact (mn_drops hk (by omega) MnX.rf).tr (mn_survL hb _ _ (v.drops hb hk) (drops_fok hk))
theorem mn_surveysAll {σ : MS} {n nl nb q nor nw : Nat} (hq : q ≤ 4) (v : IvG σ n nl nb q nor nw) : ∀ k, k ≤ q → MnX σ (s_surveysAll k σ)
  | 0, _ => MnX.rf
  | k + 1, hk => (mn_surveysAll hq v k (by omega)).tr (mn_surveys (by omega) (upto_iv (f := survey1) (m := q) (fun i τ hi h => surveys_iv h (by omega)) v k (by omega)))
theorem mn_live1 (n nl p : Nat) (σ : MS) : MnX σ (live1 n nl p σ) := by
  simp only [live1]
  have p13 : MnX σ (sM σ n nl 2 (nI 0)) := MnX.rf.A (by decide)
  exact MnX.it p13 (MnX.it ((p13.R (Or.inl (by omega))).R (Or.inl (by omega))) (mn_pays (mn_pays p13)))
theorem mn_live3 (n nl p : Nat) (σ : MS) : MnX σ (live3 n nl p σ) := by
  unfold live3 s_seeks
  have p13 : MnX σ (sM σ n nl 2 (nI 0)) := MnX.rf.A (by decide)
  exact MnX.it MnX.rf (MnX.it p13 ((p13.R (Or.inl (by omega))).R (Or.inl (by omega))))
theorem mn_live4 (p : Nat) (σ : MS) : MnX σ (live4 p σ) := by
  unfold live4
  exact MnX.it (MnX.rf.R (Or.inl (by omega))) ((MnX.rf.R (Or.inl (by omega))).R (Or.inl (by omega)))
theorem mn_rainz (nw z : Nat) (σ : MS) : MnX σ (rainz nw z σ) := MnX.rf.R (Or.inl (by omega))
theorem mn_strays (n nl c : Nat) (σ : MS) : MnX σ (s_strays n nl c σ) := by
  unfold s_strays
  refine MnX.it MnX.rf (MnX.it MnX.rf (MnX.it MnX.rf ?_))
  simp only [strayS]
  exact MnX.it (MnX.rf.R (Or.inr (by omega))) (mn_pays (mn_pays (MnX.rf.A (by decide))))
theorem mn_end1 (c : Nat) (σ : MS) : MnX σ (end1 c σ) := by
  unfold end1
  exact MnX.it2 (fun _ => MnX.rf) (fun h => MnX.it MnX.rf (mn_holds (ns_no (by rw [Classical.not_not.mp h]; decide))))
theorem mn_yearI (n k : Nat) (σ : MS) : MnX σ (yearI n k σ) := by
  unfold yearI s_yearEnds
  refine MnX.it (MnX.q (fun i τ => MnX.rf.R (Or.inl (by omega))) (MnX.q (fun i τ => ?_) (MnX.q (fun i τ => ?_) (MnX.q (fun i τ => ?_) MnX.rf 4) 96) 96) 4) MnX.rf
  · unfold past1
    exact MnX.it MnX.rf (MnX.rf.R (Or.inr (by omega)))
  · unfold farm1
    exact MnX.it MnX.rf (MnX.it MnX.rf (mn_pays (MnX.rf.R (Or.inl (by omega)))))
  · unfold seen1
    exact MnX.it MnX.rf ((MnX.rf.R (Or.inl (by omega))).R (Or.inl (by omega)))
theorem mn_tick (n nl nw : Nat) (σ : MS) : MnX σ (t171 n nl nw σ) := by
  unfold t171
  exact (MnX.rows (fun j _ _ => congrFun (rowsW_k (by decide)) j)).R (Or.inl (by omega))
theorem psi_le {σ : MS} : psi σ ≤ 96 := by
  unfold psi
  have : ∀ (p : Nat → Bool) n, cnt p n ≤ n := fun p n => by
    induction n with
    | zero => exact Nat.le_refl _
    | succ n ih => simp only [cnt]; split <;> omega
  exact this _ _
theorem cnt_mn {p q : Nat → Bool} : ∀ {n : Nat}, (∀ i, i < n → q i = true → p i = true) → cnt q n ≤ cnt p n
  | 0, _ => Nat.le_refl _
  | n + 1, h => by
    have ih := cnt_mn (n := n) (fun i hi => h i (by omega))
    have hn := h n (by omega)
    simp only [cnt]
    cases hq : q n
    · cases p n <;> simp <;> omega
    · rw [hn hq]
      simp
      omega
theorem MnX.psi {σ τ : MS} (h : MnX σ τ) : psi τ ≤ psi σ := cnt_mn (fun c hc z => by
  have h1 := h c hc
  cases hs : NsX σ c
  · rfl
  · rw [h1 hs] at z
    exact absurd z (by decide))
/-- a sale of a lot: one section fewer -/
theorem sell_psi {σ : MS} {n nl p c : Nat} {v : Int32} (hc : c < 96) (hl : sec σ c 0 = nI 1) : MnX σ (sellS σ n nl p c v (-1)) ∧ psi (sellS σ n nl p c v (-1)) + 1 = psi σ := by
  have hr : ∀ j, j < 768 → (j < 8 * c ∨ 8 * c + 8 ≤ j) → row (sellS σ n nl p c v (-1)) j = row σ j := fun j h1 h2 => by
    simp only [sellS, s_owns]
    rw [rowS_ne (by omega), rowS_ne (by omega), rowS_ne (by omega), rowS_ne (by omega), holds_row (by omega), rowS_ne (by omega), rowS_ne (by omega)]
    unfold s_pays
    rw [rowS_ne (by omega)]
    exact rowP
  have h0 : sec (sellS σ n nl p c v (-1)) c 0 = nI 3 := by
    simp only [sellS, s_owns]
    unfold sec
    rw [rowS_ne (by omega), rowS_ne (by omega), rowS_ne (by omega), rowS_ne (by omega), holds_sec (by decide)]
    rfl
  have h6 : sec (sellS σ n nl p c v (-1)) c 6 = -1 := by
    simp only [sellS, s_owns]
    unfold sec
    rw [rowS_ne (by omega), rowS_ne (by omega), rowS_eq]
  have hn : NsX (sellS σ n nl p c v (-1)) c = true := by unfold NsX; rw [h0, h6]; decide
  have ho : NsX σ c = false := ns_no (by rw [hl]; decide)
  have hcg : ∀ i, i < 96 → i ≠ c → NsX (sellS σ n nl p c v (-1)) i = NsX σ i := fun i hi hne => NsX_cg (hr _ (by omega) (by omega)) (hr _ (by omega) (by omega))
  refine ⟨fun x hx z => ?_, ?_⟩
  · by_cases e : x = c
    · rw [e]; exact hn
    · rw [hcg x hx e]; exact z
  · have := cnt_one (p := fun c => !NsX σ c) (p' := fun i => !NsX (sellS σ n nl p c v (-1)) i) (k := c) hc (fun i hi hne => by rw [hcg i hi hne])
    rw [hn, ho] at this
    simpa [psi] using this

