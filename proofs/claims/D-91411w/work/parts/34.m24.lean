set_option maxRecDepth 100000
theorem IvG.party {σ τ : MS} {n nl nb q nor nw b : Nat} (v : IvG σ n nl nb q nor nw) (hb : b < 4) (h : ∀ j, (j < 1720 + 15 * b ∨ 1720 + 15 * b + 15 ≤ j ∨ j = 1720 + 15 * b) → row τ j = row σ j) (hk : ∀ k, k ≠ 1 → τ.2.1 k = σ.2.1 k) (hp : Pinv τ (1720 + 15 * b)) : IvG τ n nl nb q nor nw := by
  have hP := v.hP
  have hOR := v.hOR
  have hQ := v.hQ
  have eo : ∀ p, p < n → per τ p 6 = per σ p 6 := fun p hp => h _ (by omega)
  refine ⟨(h _ (by omega)).trans v.hn, v.hP, (h _ (by omega)).trans v.hl, v.hL, (h _ (by omega)).trans v.hb, v.hB, (h _ (by omega)).trans v.hq, v.hQ, (h _ (by omega)).trans v.hor, v.hOR, (h _ (by omega)).trans v.hnw, v.hNW, Wc_cg (hk 8 (by decide)).symm (hk 9 (by decide)).symm (hk 10 (by decide)).symm v.hw, fun w hw => by rw [hk 14 (by decide)]; exact v.hF w hw, fun c hc => ?_, fun p hp => ?_, fun p hp h0 => ?_, ?_, fun o ho => ?_, fun a ha => ?_, fun a ha => ?_, fun z hz => by rw [hk 6 (by decide)]; exact v.rns z hz⟩
  · have := v.who c hc
    unfold Who at this ⊢
    rw [show sec τ c 0 = sec σ c 0 from h _ (by omega), show sec τ c 1 = sec σ c 1 from h _ (by omega)]
    exact this
  · have := v.hire p hp
    unfold Hire at this ⊢
    rw [show per τ p 2 = per σ p 2 from h _ (by omega), show per τ p 3 = per σ p 3 from h _ (by omega)]
    exact this
  · rw [eo p hp] at h0 ⊢
    exact v.ord p hp h0
  · rw [cnt_cg (p' := isOrd σ) (fun p hp => by unfold isOrd; rw [eo p hp])]
    exact v.cor
  · obtain ⟨p, hp, e⟩ := v.of_ o ho
    exact ⟨p, hp, (h _ (by omega)).trans e⟩
  · by_cases e : a = b
    · rw [e]; exact hp
    · exact Pinv_cg (fun j h1 h2 => h j (by omega)) (v.par a ha)
  · obtain ⟨x, hx, e⟩ := v.pace a ha
    exact ⟨x, hx, (h _ (by omega)).trans e⟩
theorem IvG.drops {σ : MS} {n nl nb q nor nw b k : Nat} (v : IvG σ n nl nb q nor nw) (hb : b < 4) (hq : PaQ σ (1720 + 15 * b) k) : IvG (drops (1720 + 15 * b) k σ) n nl nb q nor nw := by
  obtain ⟨-, p3, -, p5, -⟩ := drops_ok k σ hq
  obtain ⟨-, x, hx, ex⟩ := v.par b hb
  exact v.party hb (fun j hj => p3 j (by omega)) p5 (Pinv_drops hq ⟨x, hx, ex⟩)
theorem surv1_iv {σ : MS} {n nl nb q nor nw b : Nat} (v : IvG σ n nl nb q nor nw) (hb : b < 4) (h0 : ¬ row σ (1720 + 15 * b + 2) ≤ 0) : IvG (surv1 (1720 + 15 * b) σ) n nl nb q nor nw := by
  obtain ⟨⟨k, hq⟩, x, hx, ex⟩ := v.par b hb
  have hk : 0 < k := by
    rcases Nat.eq_zero_or_pos k with e | e
    · exact absurd (by rw [hq.1, e]; decide) h0
    · exact e
  obtain ⟨c, hc, ec⟩ := hq.2.2 0 hk
  have hk12 := hq.2.1
  by_cases h : x = c
  · subst h
    have v1 : IvG (dug σ x) n nl nb q nor nw := v.sR1 (by unfold fr1 fr2; omega)
    have q1 : PaQ (dug σ x) (1720 + 15 * b) k := PaQ_sR (by omega) hq
    by_cases h2 : sec (dug σ x) x 7 = milesV ((dug σ x).2.1 4 x) ((dug σ x).2.1 3 x)
    · rw [surv1_eq hq.1 hk12 ex ec hc h2]
      exact (v1.holdsN hc (Or.inr (Or.inl rfl))).drops hb (PaQ_holds hc (by omega) q1)
    · rw [surv1_ne hq.1 hk12 ex ec hc h2]
      exact v1.drops hb q1
  · rw [surv1_mv hq.1 hk12 ex hx ec hc h]
    have q1 : PaQ (sR σ (1720 + 15 * b + 1) (nI (nearN x c))) (1720 + 15 * b) k := PaQ_sR (by omega) hq
    exact (v.party hb (fun j hj => rowS_ne (by omega)) (fun k hk => by simp [sA, hk]) ⟨⟨k, q1⟩, nearN x c, nearN_lt hx hc h, rowS_eq⟩).drops hb q1
theorem survL_iv {n nl nb q nor nw b : Nat} (hb : b < 4) : ∀ (l : Nat) (σ : MS), IvG σ n nl nb q nor nw → IvG (survL (1720 + 15 * b) l σ) n nl nb q nor nw
  | 0, _, v => v
  | l + 1, σ, v => by
    simp only [survL]
    split
    · exact v
    · rename_i h
      exact survL_iv hb l _ (surv1_iv v hb h)
theorem surveys_iv {σ : MS} {n nl nb q nor nw b : Nat} (v : IvG σ n nl nb q nor nw) (hb : b < 4) : IvG (s_surveys σ b) n nl nb q nor nw := by
  obtain ⟨⟨k, hq⟩, -⟩ := v.par b hb
  have hk12 := hq.2.1
  unfold s_surveys
  simp only []
  rw [hq.1, tN_nI (by omega)]
  exact survL_iv hb _ _ (v.drops hb hq)
abbrev survey1 (b : Nat) (σ : MS) : MS := s_surveys σ b
def s_surveysAll (q : Nat) (σ : MS) : MS := upto survey1 q σ
theorem upto_iv {f : Nat → MS → MS} {n nl nb q nor nw m : Nat} (hf : ∀ i τ, i < m → IvG τ n nl nb q nor nw → IvG (f i τ) n nl nb q nor nw) {σ : MS} (v : IvG σ n nl nb q nor nw) : ∀ k, k ≤ m → IvG (upto f k σ) n nl nb q nor nw
  | 0, _ => v
  | k + 1, hk => hf k _ (by omega) (upto_iv hf v k (by omega))
set_option maxHeartbeats 4000000 in
theorem w_X9_surveysAll {g : GP} {ad : Nat → Nat} {μ : Mem} {σ : MS} {d : Nat}  {n nl nb q nor nw : Nat} (hd : 6 ≤ d) (hA : Inj ad 18) (iv : IvG σ n nl nb q nor nw) : PM g yX9_surveysAll (ws_ yX9_surveysAll cX9_surveysAll 2 none) d 0 0 [.ref (ad 0)] (mm g ad μ σ) (rQ none (mm g ad μ (s_surveysAll q σ))) := by
  refine PM.of (by decide +kernel) (Nat.le_of_ble_eq_true rfl) ?_
  show PJ g _ _ _ _ d 0 0 0 [(0, .ref (ad 0))] [] _ _
  have hQ := iv.hQ
  refine pl_iconst (pc := 0) (v := 0) dX9_surveysAll_0 (by rfl) ?_
  refine pj_istore_n (pc := 1) (lv' := [(1, _), (0, _)]) dX9_surveysAll_1 rfl (by decide) rfl ?_
  refine ind_dn (n := q) (P := fun i => IvG (upto survey1 i σ) n nl nb q nor nw → PJ g _ _ _ _ d 0 0 2 [(1, .int (nI i)), (0, .ref (ad 0))] [] (mm g ad μ (upto survey1 i σ)) _) (fun i hi ih hv => ?_) 0 (Nat.zero_le _) (iv)
  refine pl_iload_n (pc := 2) dX9_surveysAll_2 rfl rfl ?_
  refine pl_aload_n (pc := 3) dX9_surveysAll_3 rfl rfl ?_
  refine pj_getf (pc := 4) ckX9 1 q2517 dX9_surveysAll_4 (by decide) (mm_o hA) rfl ?_
  refine pl_sipush (pc := 7) (v := 2127) dX9_surveysAll_7 (by rfl) ?_
  refine pl_iald (pc := 10) (n := 2132) dX9_surveysAll_10 (mm_a hA 1 (by decide) (by decide)) (by omega) (by decide) ?_
  refine PJ.top (y := nI _) (hv.hq) ?_
  refine pl_icmp_ge (pc := 11) (tgt := 25) dX9_surveysAll_11 (by decide) (by omega) (by omega) (fun c11 => ?_) (fun c11 => ?_)
  · refine pj_vret (pc := 25) dX9_surveysAll_25 rfl ?_
    have e9 : i = q := by omega
    rw [e9]
    exact ⟨rfl, rfl⟩
  · obtain ⟨x, hx, ex⟩ := hv.pace i (by omega)
    refine pl_aload_n (pc := 14) dX9_surveysAll_14 rfl rfl ?_
    refine pl_iload_n (pc := 15) dX9_surveysAll_15 rfl rfl ?_
    refine pl_callVv (pc := 16) (As := [_]) (C2 := 0) (N2 := 0) ckX9 mdX9_surveys rfl q2757 q2759 qs66 q154 dX9_surveysAll_16 rfl rfl (Nat.le_of_ble_eq_true rfl) (mm_o hA) (w_X9_surveys (d := d - 1) (by omega) hA (by omega) ex hx (hv.par i (by omega))) (by omega) (by decide) (by decide) ?_
    refine pl_iinc1 (pc := 19) (lv' := [(1, _), (0, _)]) dX9_surveysAll_19 rfl rfl (by decide) rfl ?_
    refine pj_goto (pc := 22) (tgt := 2) dX9_surveysAll_22 (by decide) ?_
    exact ih (by omega) (surveys_iv hv (by omega))
