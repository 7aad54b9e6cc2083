set_option maxRecDepth 100000
/-- rows that a week may touch (h: also those gone hungry) -/
def TT (h : Bool) (n nl nb q j : Nat) : Prop := j < 768 ∨ (768 ≤ j ∧ j < 768 + 8 * n ∧ (j % 8 = 1 ∨ j % 8 = 2 ∨ j % 8 = 3 ∨ j % 8 = 4)) ∨ (1568 ≤ j ∧ j < 1568 + 6 * nl) ∨ (1640 ≤ j ∧ j < 1640 + 4 * nb) ∨ (1720 ≤ j ∧ j < 1720 + 15 * q) ∨ (2104 ≤ j ∧ j < 2120) ∨ j = 2123 ∨ (h = true ∧ j = 2122)
section KP
variable {h : Bool} {n nl nb q nor nw : Nat} {σ τ υ : MS}
def KpX (h : Bool) (n nl nb q : Nat) (σ τ : MS) : Prop := ∀ j, ¬ TT h n nl nb q j → row τ j = row σ j
theorem KpX.rf : KpX h n nl nb q σ σ := fun _ _ => rfl
theorem KpX.tr (a : KpX h n nl nb q σ τ) (b : KpX h n nl nb q τ υ) : KpX h n nl nb q σ υ := fun j hj => (b j hj).trans (a j hj)
theorem KpX.R {j : Nat} {x : Int32} (a : KpX h n nl nb q σ τ) (hj : TT h n nl nb q j) : KpX h n nl nb q σ (sR τ j x) := a.tr (fun i hi => rowS_ne (fun z => hi (z ▸ hj)))
theorem KpX.A {f : Nat → Int32} (a : KpX h n nl nb q σ τ) : KpX h n nl nb q σ (sA τ 13 f) := a.tr (fun i hi => rowP)
theorem KpX.it {p : Prop} [Decidable p] (a : p → KpX h n nl nb q σ τ) (b : ¬ p → KpX h n nl nb q σ υ) : KpX h n nl nb q σ (if p then τ else υ) := by
  split
  · rename_i h; exact a h
  · rename_i h; exact b h
theorem KpX.up {f : Nat → MS → MS} {m : Nat} (hf : ∀ i τ, i < m → IvG τ n nl nb q nor nw → KpX h n nl nb q τ (f i τ)) (hv : ∀ i τ, i < m → IvG τ n nl nb q nor nw → IvG (f i τ) n nl nb q nor nw) (v : IvG σ n nl nb q nor nw) : ∀ k, k ≤ m → KpX h n nl nb q σ (upto f k σ)
  | 0, _ => KpX.rf
  | k + 1, hk => (KpX.up hf hv v k (by omega)).tr (hf k _ (by omega) (upto_iv hv v k (by omega)))
theorem KpX.uq {f : Nat → MS → MS} {m : Nat} (hf : ∀ i τ, i < m → IvG τ n nl nb q nor nw → KpX h n nl nb q τ (f i τ)) (hv : ∀ i τ, i < m → IvG τ n nl nb q nor nw → IvG (f i τ) n nl nb q nor nw) (v : IvG σ n nl nb q nor nw) : ∀ k, k ≤ m → KpX h n nl nb q σ (uq f k σ)
  | 0, _ => by rw [uq_0]; exact KpX.rf
  | k + 1, hk => by rw [uq_s f k]; exact (KpX.uq hf hv v k (by omega)).tr (hf k _ (by omega) (uq_iv hv v k (by omega)))
theorem kp_pays {p : Nat} {a : Int32} (w : KpX h n nl nb q σ τ) (hp : p < n) : KpX h n nl nb q σ (s_pays τ p a) := w.R (by unfold TT; omega)
theorem kp_holds {c : Nat} {x p : Int32} (w : KpX h n nl nb q σ τ) (hc : c < 96) : KpX h n nl nb q σ (s_holds τ c x p) := w.tr (fun j hj => holds_row (by unfold TT at hj; omega))
theorem kp_per {p k : Nat} {x : Int32} (w : KpX h n nl nb q σ τ) (hp : p < n) (hk : 1 ≤ k ∧ k ≤ 4) : KpX h n nl nb q σ (sR τ (768 + 8 * p + k) x) := w.R (by unfold TT; omega)
theorem kp_frees {p o : Nat} (ho : o < n) : KpX h n nl nb q σ (frees1 p o σ) := KpX.it (fun _ => KpX.rf) (fun _ => KpX.it (fun _ => KpX.rf) (fun _ => kp_per (kp_per KpX.rf ho (by decide)) ho (by decide)))
theorem kp_loses {p : Nat} (v : IvG σ n nl nb q nor nw) (hp : p < n) : KpX h n nl nb q σ (s_loses n σ p) := by
  refine KpX.it (fun _ => KpX.rf) (fun _ => KpX.it (fun _ => KpX.rf) (fun _ => ?_))
  exact (kp_per KpX.rf hp (by decide)).tr (KpX.up (m := n) (fun i τ hi _ => kp_frees hi) (fun i τ hi w => w.frees hi) (v.perF hp (by decide)) n (Nat.le_refl _))
theorem kp_undo1 {l c : Nat} (v : IvG σ n nl nb q nor nw) (hc : c < 96) : KpX h n nl nb q σ (undo1 n l c σ) := by
  unfold undo1
  refine KpX.it (fun _ => KpX.rf) (fun z => KpX.it (fun _ => KpX.rf) (fun _ => ?_))
  have hP := v.hP
  obtain ⟨p, hp, e⟩ := (v.who c hc).farm (by rw [Classical.not_not.mp z]; decide)
  rw [e, tN_nI (by omega)]
  have k1 : KpX h n nl nb q σ (s_holds (s_pays (sR σ 2118 (row σ 2118 - sec σ c 5)) p (sec σ c 5)) c (nI 1) (-1)) := kp_holds (kp_pays (KpX.rf.R (by unfold TT; omega)) hp) hc
  exact k1.tr (kp_loses ((v.pays2 hp).holdsN hc (Or.inr (Or.inl rfl))) hp)
theorem kp_undoes {l : Nat} (v : IvG σ n nl nb q nor nw) (hl : l < nl) : KpX h n nl nb q σ (s_undoes n σ l) := by
  have hL := v.hL
  have v1 : IvG (sR σ (1568 + 6 * l) (nI 4)) n nl nb q nor nw := v.sR1 (by unfold fr1 fr2; omega)
  have k1 : KpX h n nl nb q σ (sR σ (1568 + 6 * l) (nI 4)) := KpX.rf.R (by unfold TT; omega)
  unfold s_undoes
  exact KpX.it (fun _ => k1) (fun _ => k1.tr (KpX.up (m := 96) (fun i τ hi w => kp_undo1 w hi) (fun i τ hi w => undo1_iv w hi) v1 96 (Nat.le_refl _)))
theorem kp_reads {b : Nat} (hb : b < nb) (hB : nb ≤ 20) : KpX h n nl nb q σ (s_reads σ b) := by
  unfold s_reads
  simp only []
  have r : ∀ τ : MS, ∀ j x, TT h n nl nb q j → KpX h n nl nb q σ τ → KpX h n nl nb q σ (sR τ j x) := fun τ j x hj v => v.R hj
  repeat' split
  all_goals first | exact KpX.rf | exact r _ _ _ (by unfold TT; omega) KpX.rf | exact r _ _ _ (by unfold TT; omega) (r _ _ _ (by unfold TT; omega) KpX.rf) | exact r _ _ _ (by unfold TT; omega) (r _ _ _ (by unfold TT; omega) (r _ _ _ (by unfold TT; omega) KpX.rf))
theorem kp_letter1 {l : Nat} (v : IvG σ n nl nb q nor nw) (hl : l < nl) : KpX h n nl nb q σ (letter1 n l σ) := by
  have hL := v.hL
  exact KpX.it (fun _ => KpX.rf) (fun _ => KpX.it (fun _ => KpX.rf) (fun _ => KpX.it (fun _ => KpX.rf) (fun _ => KpX.it (fun _ => KpX.rf.R (by unfold TT; omega)) (fun _ => kp_undoes v hl))))
theorem kp_letters (v : IvG σ n nl nb q nor nw) : KpX h n nl nb q σ (s_letters n nl nb σ) := by
  have hB := v.hB
  have k1 : KpX h n nl nb q σ (upto (letter1 n) nl σ) := KpX.up (m := nl) (fun i τ hi w => kp_letter1 w hi) (fun i τ hi w => letter1_iv w hi) v nl (Nat.le_refl _)
  have v1 : IvG (upto (letter1 n) nl σ) n nl nb q nor nw := upto_iv (m := nl) (fun i τ hi w => letter1_iv w hi) v nl (Nat.le_refl _)
  exact k1.tr (KpX.up (m := nb) (fun i τ hi w => kp_reads hi hB) (fun i τ hi w => reads_iv w (by omega)) v1 nb (Nat.le_refl _))
theorem kp_lands (v : IvG σ n nl nb q nor nw) : KpX h n nl nb q σ (s_lands σ n) := by
  have : ∀ k, k ≤ n → KpX h n nl nb q σ (s_lands σ k) := fun k => by
    induction k with
    | zero => exact fun _ => KpX.rf
    | succ k ih => exact fun hk => (ih (by omega)).tr (KpX.it (fun _ => KpX.rf) (fun _ => KpX.it (fun _ => KpX.rf) (fun _ => kp_per KpX.rf (by omega) (by decide))))
  exact this n (Nat.le_refl _)
theorem surveys_row2 {b j : Nat} (hb : b < 4) (v : IvG σ n nl nb q nor nw) (hj : 768 ≤ j) (hj2 : j < 1720 + 15 * b ∨ 1720 + 15 * b + 15 ≤ j) : row (s_surveys σ b) j = row σ j := by
  obtain ⟨⟨k, hk⟩, x, hx, ex⟩ := v.par b hb
  have hk12 := hk.2.1
  unfold s_surveys
  simp only []
  rw [hk.1, tN_nI (by omega), survL_row hb hj hj2 _ _ (v.drops hb hk)]
  exact (drops_ok k σ hk).2.1 j (by omega)
theorem kp_surveys (v : IvG σ n nl nb q nor nw) : KpX h n nl nb q σ (s_surveysAll q σ) := by
  have hQ := v.hQ
  exact KpX.up (f := survey1) (m := q) (fun i τ hi w => (fun j hj => surveys_row2 (by omega) w (by unfold TT at hj; omega) (by unfold TT at hj; omega))) (fun i τ hi w => surveys_iv w (by omega)) v q (Nat.le_refl _)
theorem kp_live1 {p : Nat} (v : IvG σ n nl nb q nor nw) (hp : p < n) : KpX h n nl nb q σ (live1 n nl p σ) := by
  unfold live1
  simp only []
  have k1 : KpX h n nl nb q σ (sM σ n nl 2 (nI 0)) := KpX.rf.A
  refine KpX.it (fun _ => k1) (fun z => KpX.it (fun _ => kp_per (kp_per k1 hp (by decide)) hp (by decide)) (fun _ => ?_))
  obtain ⟨o, ho, e⟩ := v.hire p hp (Classical.not_not.mp z)
  have hP := v.hP
  rw [e, tN_nI (by omega)]
  exact kp_pays (kp_pays k1 ho) hp
theorem kp_sells {p c : Nat} (hp : p < n) (hc : c < 96) : KpX h n nl nb q σ (p_sells σ n nl p c).2 := by
  unfold p_sells
  simp only []
  split
  · exact KpX.rf.A
  · unfold sellS s_owns
    simp only []
    refine kp_per (kp_per ?_ hp (by decide)) hp (by decide)
    refine KpX.R (KpX.R (kp_holds (KpX.R (KpX.R (kp_pays (KpX.A (KpX.A KpX.rf)) hp) ?_) ?_) hc) ?_) ?_ <;> unfold TT <;> omega
theorem kp_live2 {p : Nat} (hP : n ≤ 100) (hp : p < n) : KpX h n nl nb q σ (live2 n nl p σ) := by
  unfold live2
  refine KpX.it (fun _ => KpX.rf) (fun _ => KpX.it (fun _ => KpX.rf) (fun z => ?_))
  rcases bestB_c σ 96 with e | ⟨b, hb, e⟩
  · rw [e] at z
    exact absurd (show (-1 : Int32) < 0 by decide) z
  · simp only []
    refine KpX.it (fun _ => KpX.rf.A) (fun _ => ?_)
    rw [e, tN_nI (by omega)]
    exact KpX.tr (KpX.rf.A) (kp_sells hp hb)
theorem kp_live3 {p : Nat} (hp : p < n) : KpX h n nl nb q σ (live3 n nl p σ) := by
  unfold live3 s_seeks
  exact KpX.it (fun _ => KpX.rf) (fun _ => KpX.it (fun _ => KpX.rf.A) (fun _ => kp_per (kp_per KpX.rf.A hp (by decide)) hp (by decide)))
theorem kp_live4 {p : Nat} (hp : p < n) : KpX true n nl nb q σ (live4 p σ) := by
  unfold live4
  exact KpX.it (fun _ => KpX.rf.R (by unfold TT; omega)) (fun _ => (kp_per KpX.rf hp (by decide)).R (Or.inr (Or.inr (Or.inr (Or.inr (Or.inr (Or.inr (Or.inr ⟨rfl, rfl⟩))))))))
theorem KpX.wk (a : KpX h n nl nb q σ τ) : KpX true n nl nb q σ τ := fun j hj => a j (fun z => hj (by unfold TT at z ⊢; cases h <;> simp at z ⊢ <;> omega))
theorem kp_live123 {p : Nat} (v : IvG σ n nl nb q nor nw) (hp : p < n) : KpX h n nl nb q σ (live3 n nl p (live2 n nl p (live1 n nl p σ))) :=
  ((kp_live1 v hp).tr (kp_live2 v.hP hp)).tr (kp_live3 hp)
theorem kp_livesI {p : Nat} (v : IvG σ n nl nb q nor nw) (hp : p < n) : KpX true n nl nb q σ (livesI n nl p σ) :=
  KpX.it (fun _ => KpX.rf) (fun _ => (kp_live123 v hp).tr (kp_live4 hp))
theorem kp_strays {c : Nat} (v : IvG σ n nl nb q nor nw) (hc : c < 96) : KpX h n nl nb q σ (s_strays n nl c σ) := by
  unfold s_strays
  refine KpX.it (fun _ => KpX.rf) (fun z => KpX.it (fun _ => KpX.rf) (fun _ => KpX.it (fun _ => KpX.rf) (fun _ => ?_)))
  have hP := v.hP
  obtain ⟨p, hp1, ep⟩ := (v.who c hc).past (Bool.not_eq_false _ ▸ z)
  simp only [strayS]
  refine KpX.it (fun _ => KpX.rf.R (by unfold TT; omega)) (fun z => ?_)
  rcases strayB_c (σ := σ) (p := sec σ c 1) hc 4 with e | ⟨b, hb, e, hf⟩
  · rw [e] at z
    exact absurd (show ¬ (0 : Int32) ≤ -1 by decide) z
  · obtain ⟨o, ho, eo⟩ := (v.who b hb).farm hf
    rw [ep, tN_nI (by omega), ← ep, e, tN_nI (by omega)]
    have e2 : ∀ x, sec (s_pays (sM σ n nl 4 (nI 0)) p x) b 1 = nI o := fun x => (rowS_ne (by omega)).trans eo
    rw [e2, tN_nI (by omega)]
    exact kp_pays (kp_pays KpX.rf.A hp1) ho
theorem kp_end1 {c : Nat} (hc : c < 96) : KpX h n nl nb q σ (end1 c σ) := KpX.it (fun _ => KpX.rf) (fun _ => KpX.it (fun _ => KpX.rf) (fun _ => kp_holds KpX.rf hc))
theorem kp_farm1 {c : Nat} (v : IvG σ n nl nb q nor nw) (hc : c < 96) : KpX h n nl nb q σ (farm1 n c σ) := by
  unfold farm1
  refine KpX.it (fun _ => KpX.rf) (fun z => KpX.it (fun _ => KpX.rf) (fun _ => ?_))
  have hP := v.hP
  obtain ⟨p, hp, e⟩ := (v.who c hc).farm (Bool.not_eq_false _ ▸ z)
  rw [e, tN_nI (by omega)]
  exact kp_pays (KpX.rf.R (by unfold TT; omega)) hp
theorem kp_yearI {k : Nat} (v : IvG σ n nl nb q nor nw) : KpX h n nl nb q σ (yearI n k σ) := by
  unfold yearI s_yearEnds
  refine KpX.it (fun _ => ?_) (fun _ => KpX.rf)
  have v1 := uq_iv (f := seen1) (m := 4) (fun _ _ h w => seen1_iv h w) v 4 (Nat.le_refl _)
  have v2 := uq_iv (f := farm1 n) (m := 96) (fun _ _ h w => farm1_iv h w) v1 96 (Nat.le_refl _)
  have v3 := uq_iv (f := past1) (m := 96) (fun _ _ h w => past1_iv h w) v2 96 (Nat.le_refl _)
  refine (((KpX.uq (m := 4) (fun i τ hi w => ?_) (fun _ _ h w => seen1_iv h w) v 4 (Nat.le_refl _)).tr (KpX.uq (m := 96) (fun i τ hi w => kp_farm1 w hi) (fun _ _ h w => farm1_iv h w) v1 96 (Nat.le_refl _))).tr (KpX.uq (m := 96) (fun i τ hi w => ?_) (fun _ _ h w => past1_iv h w) v2 96 (Nat.le_refl _))).tr (KpX.uq (m := 4) (fun i τ hi w => ?_) (fun _ _ h w => zero1_iv h w) v3 4 (Nat.le_refl _))
  · unfold seen1
    exact KpX.it (fun _ => KpX.rf) (fun _ => (KpX.rf.R (by unfold TT; omega)).R (by unfold TT; omega))
  · unfold past1
    exact KpX.it (fun _ => KpX.rf) (fun _ => KpX.rf.R (by unfold TT; omega))
  · exact KpX.rf.R (by unfold TT; omega)
theorem kp_tick {k : Nat} : KpX h n nl nb q σ (t171 n nl k σ) := by
  unfold t171
  exact KpX.R (fun j _ => congrFun (rowsW_k (by decide)) j) (by unfold TT; omega)
theorem kp_t45 {k : Nat} (v : IvG σ n nl nb q nor nw) : KpX h n nl nb q σ (t45 n nl k σ) := by
  unfold t45 t84 t103 t151
  have v3 := uq_iv (f := rainz k) (m := 4) (fun _ _ h w => rainz_iv h w) v 4 (Nat.le_refl _)
  have v4 := uq_iv (f := stray1 n nl) (m := 96) (fun _ _ h w => stray1_iv h w) v3 96 (Nat.le_refl _)
  have v5 := uq_iv (f := end1) (m := 96) (fun _ _ h w => end1_iv h w) v4 96 (Nat.le_refl _)
  exact ((((KpX.uq (m := 4) (fun i τ hi w => KpX.rf.R (by unfold TT; omega)) (fun _ _ h w => rainz_iv h w) v 4 (Nat.le_refl _)).tr (KpX.uq (m := 96) (fun i τ hi w => kp_strays w hi) (fun _ _ h w => stray1_iv h w) v3 96 (Nat.le_refl _))).tr (KpX.uq (m := 96) (fun i τ hi w => kp_end1 hi) (fun _ _ h w => end1_iv h w) v4 96 (Nat.le_refl _))).tr (kp_yearI v5)).tr kp_tick
theorem goes3_iv (v : IvG σ n nl nb q nor nw) : IvG (s_surveysAll q (s_letters n nl nb (s_lands σ n))) n nl nb q nor nw := surveysAll_iv (letters_iv (lands_iv v n (Nat.le_refl _)))
theorem kp_goes3 (v : IvG σ n nl nb q nor nw) : KpX h n nl nb q σ (s_surveysAll q (s_letters n nl nb (s_lands σ n))) :=
  ((kp_lands v).tr (kp_letters (lands_iv v n (Nat.le_refl _)))).tr (kp_surveys (letters_iv (lands_iv v n (Nat.le_refl _))))
theorem kp_goes {k : Nat} (v : IvG σ n nl nb q nor nw) : KpX true n nl nb q σ (s_goes n nl nb q k σ) := by
  have v1 := goes3_iv v
  have v2 := uq_iv (f := livesI n nl) (m := n) (fun _ _ h w => livesI_iv h w) v1 n (Nat.le_refl _)
  exact ((kp_goes3 v).tr (KpX.uq (m := n) (fun i τ hi w => kp_livesI w hi) (fun _ _ h w => livesI_iv h w) v1 n (Nat.le_refl _))).tr (kp_t45 v2)
/-- people gone hungry: few -/
def HuX (m : Nat) (σ : MS) : Prop := ∃ x, x ≤ m ∧ row σ 2122 = nI x
theorem HuX.kp {m : Nat} (a : HuX m σ) (k : KpX false n nl nb q σ τ) (hq : n ≤ 100 ∧ nl ≤ 12 ∧ nb ≤ 20 ∧ q ≤ 4) : HuX m τ := by
  obtain ⟨x, hx, e⟩ := a
  exact ⟨x, hx, (k 2122 (fun z => by unfold TT at z; simp at z; omega)).trans e⟩
theorem hu_livesI {m p : Nat} (v : IvG σ n nl nb q nor nw) (hp : p < n) (a : HuX m σ) : HuX (m + 1) (livesI n nl p σ) := by
  have lim : n ≤ 100 ∧ nl ≤ 12 ∧ nb ≤ 20 ∧ q ≤ 4 := ⟨v.hP, v.hL, v.hB, v.hQ⟩
  unfold livesI
  split
  · obtain ⟨x, hx, e⟩ := a; exact ⟨x, by omega, e⟩
  · unfold s_lives
    obtain ⟨x, hx, e⟩ := a.kp (kp_live123 (h := false) v hp) lim
    generalize live3 n nl p (live2 n nl p (live1 n nl p σ)) = τ at *
    unfold live4
    split
    · exact ⟨x, by omega, (rowS_ne (by decide)).trans e⟩
    · refine ⟨x + 1, by omega, ?_⟩
      dsimp only
      rw [rowS_eq, rowS_ne (by omega), e, nI_add]
theorem hu_uq {m : Nat} (v : IvG σ n nl nb q nor nw) (a : HuX m σ) : ∀ k, k ≤ n → HuX (m + k) (uq (livesI n nl) k σ)
  | 0, _ => by rw [uq_0]; exact a
  | k + 1, hk => by
    rw [uq_s _ k]
    exact hu_livesI (uq_iv (f := livesI n nl) (m := n) (fun _ _ h w => livesI_iv h w) v k (by omega)) (by omega) (hu_uq v a k (by omega))
theorem hu_goes {m k : Nat} (v : IvG σ n nl nb q nor nw) (a : HuX m σ) : HuX (m + n) (s_goes n nl nb q k σ) := by
  have lim : n ≤ 100 ∧ nl ≤ 12 ∧ nb ≤ 20 ∧ q ≤ 4 := ⟨v.hP, v.hL, v.hB, v.hQ⟩
  have v1 := goes3_iv v
  have v2 := uq_iv (f := livesI n nl) (m := n) (fun _ _ h w => livesI_iv h w) v1 n (Nat.le_refl _)
  exact (hu_uq v1 (a.kp (kp_goes3 v) lim) n (Nat.le_refl _)).kp (kp_t45 (k := k) v2) lim
end KP
