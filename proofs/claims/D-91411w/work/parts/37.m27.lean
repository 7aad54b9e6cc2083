set_option maxRecDepth 100000
/-- what a step leaves: all but the row of what goes on and the pile -/
def Fr (σ τ : MS) : Prop := τ.1 = σ.1 ∧ (∀ k, k ≠ 1 → k ≠ 13 → τ.2.1 k = σ.2.1 k) ∧ τ.2.2 = σ.2.2
theorem Fr.rf {σ : MS} : Fr σ σ := ⟨rfl, fun _ _ _ => rfl, rfl⟩
theorem Fr.tr {σ τ υ : MS} (a : Fr σ τ) (b : Fr τ υ) : Fr σ υ := ⟨b.1.trans a.1, fun k h1 h2 => (b.2.1 k h1 h2).trans (a.2.1 k h1 h2), b.2.2.trans a.2.2⟩
theorem Fr.R {σ τ : MS} {j : Nat} {x : Int32} (a : Fr σ τ) : Fr σ (sR τ j x) := ⟨a.1, fun k h1 h2 => (show (sR τ j x).2.1 k = τ.2.1 k by simp [sA, h1]).trans (a.2.1 k h1 h2), a.2.2⟩
theorem Fr.P {σ τ : MS} {f : Nat → Int32} (a : Fr σ τ) : Fr σ (sA τ 13 f) := ⟨a.1, fun k h1 h2 => (show (sA τ 13 f).2.1 k = τ.2.1 k by simp [sA, h2]).trans (a.2.1 k h1 h2), a.2.2⟩
theorem Fr.up {f : Nat → MS → MS} {σ τ : MS} (hf : ∀ i τ, Fr τ (f i τ)) (a : Fr σ τ) : ∀ k, Fr σ (upto f k τ)
  | 0 => a
  | k + 1 => (Fr.up hf a k).tr (hf k _)
theorem Fr.q {f : Nat → MS → MS} {σ τ : MS} (hf : ∀ i τ, Fr τ (f i τ)) (a : Fr σ τ) : ∀ k, Fr σ (uq f k τ)
  | 0 => by rw [uq_0]; exact a
  | k + 1 => by rw [uq_s f k]; exact (Fr.q hf a k).tr (hf k _)
theorem Fr.it {p : Prop} [Decidable p] {σ τ υ : MS} (a : Fr σ τ) (b : Fr σ υ) : Fr σ (if p then τ else υ) := by
  split
  · exact a
  · exact b
theorem fr_pays (σ : MS) (p : Nat) (a : Int32) : Fr σ (s_pays σ p a) := Fr.rf.R
theorem fr_owns (σ : MS) (p : Nat) : Fr σ (s_owns σ p) := Fr.rf.R.R
theorem fr_holds (σ : MS) (c : Nat) (h p : Int32) : Fr σ (s_holds σ c h p) := Fr.rf.R.R.R.R.R.R.R
theorem fr_frees (p o : Nat) (σ : MS) : Fr σ (frees1 p o σ) := Fr.it Fr.rf (Fr.it Fr.rf Fr.rf.R.R)
theorem fr_loses (n : Nat) (σ : MS) (p : Nat) : Fr σ (s_loses n σ p) := Fr.it Fr.rf (Fr.it Fr.rf (Fr.up (fun i τ => fr_frees p i τ) Fr.rf.R n))
theorem fr_undo1 (n l c : Nat) (σ : MS) : Fr σ (undo1 n l c σ) := Fr.it Fr.rf (Fr.it Fr.rf (((Fr.rf.R.tr (fr_pays _ _ _)).tr (fr_holds _ _ _ _)).tr (fr_loses _ _ _)))
theorem fr_undoes (n : Nat) (σ : MS) (l : Nat) : Fr σ (s_undoes n σ l) := by
  unfold s_undoes
  exact Fr.it Fr.rf.R (Fr.up (fun i τ => fr_undo1 n l i τ) Fr.rf.R 96)
theorem fr_reads (σ : MS) (b : Nat) : Fr σ (s_reads σ b) := by
  unfold s_reads
  simp only []
  repeat' split
  all_goals first | exact Fr.rf | exact Fr.rf.R | exact Fr.rf.R.R | exact Fr.rf.R.R.R
theorem fr_letter1 (n l : Nat) (σ : MS) : Fr σ (letter1 n l σ) := Fr.it Fr.rf (Fr.it Fr.rf (Fr.it Fr.rf (Fr.it Fr.rf.R (fr_undoes _ _ _))))
theorem fr_letters (n nl nb : Nat) (σ : MS) : Fr σ (s_letters n nl nb σ) := Fr.up (fun i τ => fr_reads τ i) (Fr.up (fun i τ => fr_letter1 n i τ) Fr.rf nl) nb
theorem fr_land1 (p : Nat) (σ : MS) : Fr σ (land1 p σ) := Fr.it Fr.rf (Fr.it Fr.rf Fr.rf.R)
theorem fr_lands (σ : MS) (n : Nat) : Fr σ (s_lands σ n) := Fr.up (fun i τ => fr_land1 i τ) Fr.rf n
theorem fr_deq (a : Nat) (σ : MS) : Fr σ (deqV a σ) := ⟨deq_arr.1, fun k h1 _ => deq_arr.2.1 k h1, deq_arr.2.2⟩
theorem fr_drops (a : Nat) : ∀ (k : Nat) (σ : MS), Fr σ (drops a k σ)
  | 0, _ => Fr.rf
  | k + 1, σ => by
    simp only [drops]
    exact Fr.it Fr.rf ((fr_deq a σ).tr (fr_drops a k _))
theorem fr_surv1 (a : Nat) (σ : MS) : Fr σ (surv1 a σ) := by
  simp only [surv1]
  exact (Fr.it Fr.rf.R (Fr.it (Fr.rf.R.tr (fr_holds _ _ _ _)) Fr.rf.R)).tr (fr_drops _ _ _)
theorem fr_survL (a : Nat) : ∀ (l : Nat) (σ : MS), Fr σ (survL a l σ)
  | 0, _ => Fr.rf
  | l + 1, σ => by
    simp only [survL]
    exact Fr.it Fr.rf ((fr_surv1 a σ).tr (fr_survL a l _))
theorem fr_surveys (σ : MS) (p : Nat) : Fr σ (s_surveys σ p) := by
  simp only [s_surveys]
  exact (fr_drops _ _ _).tr (fr_survL _ _ _)
theorem fr_surveysAll (q : Nat) (σ : MS) : Fr σ (s_surveysAll q σ) := Fr.up (fun i τ => fr_surveys τ i) Fr.rf q
theorem fr_sellS (σ : MS) (n nl p c : Nat) (v law : Int32) : Fr σ (sellS σ n nl p c v law) := by
  simp only [sellS]
  exact (((((Fr.rf.P.tr (fr_pays _ _ _)).R.R).tr (fr_holds _ _ _ _)).R).R).tr (fr_owns _ _)
theorem fr_sells (σ : MS) (n nl p c : Nat) : Fr σ (p_sells σ n nl p c).2 := by
  simp only [p_sells]
  split
  · exact Fr.rf.P
  · exact Fr.rf.P.tr (fr_sellS _ _ _ _ _ _ _)
theorem fr_seeks (σ : MS) (n p : Nat) (w : Int32) : Fr σ (s_seeks σ n p w) := Fr.it Fr.rf Fr.rf.R.R
theorem fr_live4 (p : Nat) (σ : MS) : Fr σ (live4 p σ) := Fr.it Fr.rf.R Fr.rf.R.R
theorem fr_live3 (n nl p : Nat) (σ : MS) : Fr σ (live3 n nl p σ) := Fr.it Fr.rf (Fr.rf.P.tr (fr_seeks _ _ _ _))
theorem fr_live2 (n nl p : Nat) (σ : MS) : Fr σ (live2 n nl p σ) := Fr.it Fr.rf (Fr.it Fr.rf (by simp only []; exact Fr.it Fr.rf.P (Fr.rf.P.tr (fr_sells _ _ _ _ _))))
theorem fr_live1 (n nl p : Nat) (σ : MS) : Fr σ (live1 n nl p σ) := by
  simp only [live1]
  exact Fr.it Fr.rf.P (Fr.it Fr.rf.P.R.R ((Fr.rf.P.tr (fr_pays _ _ _)).tr (fr_pays _ _ _)))
theorem fr_lives (n nl p : Nat) (σ : MS) : Fr σ (s_lives n nl p σ) := (((fr_live1 n nl p σ).tr (fr_live2 n nl p _)).tr (fr_live3 n nl p _)).tr (fr_live4 p _)
theorem fr_strayS (n nl c : Nat) (m : Int32) (σ : MS) : Fr σ (strayS n nl c m σ) := by
  simp only [strayS]
  exact Fr.it Fr.rf.R ((Fr.rf.P.tr (fr_pays _ _ _)).tr (fr_pays _ _ _))
theorem fr_strays (n nl c : Nat) (σ : MS) : Fr σ (s_strays n nl c σ) := Fr.it Fr.rf (Fr.it Fr.rf (Fr.it Fr.rf (fr_strayS _ _ _ _ _)))
theorem fr_seen1 (z : Nat) (σ : MS) : Fr σ (seen1 z σ) := Fr.it Fr.rf (Fr.rf.R.R)
theorem fr_farm1 (n c : Nat) (σ : MS) : Fr σ (farm1 n c σ) := Fr.it Fr.rf (Fr.it Fr.rf (Fr.rf.R.tr (fr_pays _ _ _)))
theorem fr_past1 (c : Nat) (σ : MS) : Fr σ (past1 c σ) := Fr.it Fr.rf Fr.rf.R
theorem fr_yearEnds (n : Nat) (σ : MS) : Fr σ (s_yearEnds n σ) := by
  unfold s_yearEnds
  exact Fr.q (fun i τ => Fr.rf.R) (Fr.q (fun i τ => fr_past1 i τ) (Fr.q (fun i τ => fr_farm1 n i τ) (Fr.q (fun i τ => fr_seen1 i τ) Fr.rf 4) 96) 96) 4
theorem fr_yearI (n k : Nat) (σ : MS) : Fr σ (yearI n k σ) := by
  unfold yearI
  exact Fr.it (fr_yearEnds n σ) Fr.rf
/-- what weeks leave -/
def FrW (nw : Nat) (σ τ : MS) : Prop := (∀ j, j ≠ 7 → j ≠ 23 → j ≠ 24 → τ.1 j = σ.1 j) ∧ (∀ k, k ≠ 1 → k ≠ 13 → k ≠ 14 → τ.2.1 k = σ.2.1 k) ∧ τ.2.2 = σ.2.2 ∧ ∀ j, j < 7 * nw → τ.2.1 14 j = σ.2.1 14 j
theorem FrW.rf {nw : Nat} {σ : MS} : FrW nw σ σ := ⟨fun _ _ _ _ => rfl, fun _ _ _ _ => rfl, rfl, fun _ _ => rfl⟩
theorem FrW.tr {nw : Nat} {σ τ υ : MS} (a : FrW nw σ τ) (b : FrW nw τ υ) : FrW nw σ υ := ⟨fun j h1 h2 h3 => (b.1 j h1 h2 h3).trans (a.1 j h1 h2 h3), fun k h1 h2 h3 => (b.2.1 k h1 h2 h3).trans (a.2.1 k h1 h2 h3), b.2.2.1.trans a.2.2.1, fun j h => (b.2.2.2 j h).trans (a.2.2.2 j h)⟩
theorem FrW.of {nw : Nat} {σ τ : MS} (a : Fr σ τ) : FrW nw σ τ := ⟨fun j _ _ _ => congrFun a.1 j, fun k h1 h2 _ => a.2.1 k h1 h2, a.2.2, fun j _ => congrFun (a.2.1 14 (by decide) (by decide)) j⟩
theorem FrW.le {nw nw' : Nat} {σ τ : MS} (h : nw ≤ nw') (a : FrW nw' σ τ) : FrW nw σ τ := ⟨a.1, a.2.1, a.2.2.1, fun j hj => a.2.2.2 j (by omega)⟩
theorem FrW.F {nw j : Nat} {σ τ : MS} {x : Int32} (hj : j = 7 ∨ j = 23 ∨ j = 24) (a : FrW nw σ τ) : FrW nw σ (sF τ j x) := ⟨fun k h1 h2 h3 => (show (sF τ j x).1 k = τ.1 k by simp only [sF, upd]; rw [if_neg (by omega)]).trans (a.1 k h1 h2 h3), a.2.1, a.2.2.1, a.2.2.2⟩
theorem frw_tick (n nl nw : Nat) (σ : MS) : FrW nw σ (t171 n nl nw σ) := by
  refine ⟨fun _ _ _ _ => rfl, fun k h1 _ h3 => (show (sR _ _ _).2.1 k = (rowsW n nl nw σ).2.1 k by simp [sA, h1]).trans (rowsW_k h3), rfl, fun j hj => ?_⟩
  rw [show (t171 n nl nw σ).2.1 14 j = (rowsW n nl nw σ).2.1 14 j by simp [t171, sA], rowsW_14, if_neg (by omega), if_neg (by omega), if_neg (by omega), if_neg (by omega), if_neg (by omega), if_neg (by omega), if_neg (by omega)]
theorem fr_goes5 (n nl nb q nw : Nat) (σ : MS) : Fr σ (uq end1 96 (uq (stray1 n nl) 96 (uq (rainz nw) 4 (uq (livesI n nl) n (s_surveysAll q (s_letters n nl nb (s_lands σ n))))))) :=
  Fr.q (fun i τ => Fr.it Fr.rf (Fr.it Fr.rf (fr_holds _ _ _ _))) (Fr.q (fun i τ => fr_strays n nl i τ) (Fr.q (fun i τ => Fr.rf.R) (Fr.q (fun i τ => Fr.it Fr.rf (fr_lives _ _ _ _)) (((fr_lands σ n).tr (fr_letters n nl nb _)).tr (fr_surveysAll q _)) n) 4) 96) 96
theorem frw_goes (n nl nb q nw : Nat) (σ : MS) : FrW nw σ (s_goes n nl nb q nw σ) := (FrW.of ((fr_goes5 n nl nb q nw σ).tr (fr_yearI n nw _))).tr (frw_tick n nl nw _)
theorem frw_weeks (n nl nb q nw : Nat) (σ : MS) : ∀ k, FrW nw σ (s_weeks n nl nb q nw k σ)
  | 0 => by rw [s_weeks, uq_0]; exact FrW.rf
  | k + 1 => by
    have ih := frw_weeks n nl nb q nw σ k
    unfold s_weeks at ih ⊢
    rw [uq_s _ k]
    exact ih.tr ((frw_goes n nl nb q (nw + k) _).le (by omega))
/-- what was kept is put back -/
theorem back_iv {σ τ : MS} {n nl nb q nor nw : Nat} (v : IvG σ n nl nb q nor nw) (fr : FrW nw σ τ) (hs : ∀ j, j < 2132 → τ.2.1 2 j = row σ j) : IvG (s_back τ) n nl nb q nor nw := by
  have hP := v.hP
  have hOR := v.hOR
  have hQ := v.hQ
  have hL := v.hL
  have h : ∀ j, j < 2132 → row (s_back τ) j = row σ j := fun j hj => (show (s_back τ).2.1 1 j = τ.2.1 2 j by simp [s_back, sA, hj]).trans (hs j hj)
  have hk : ∀ k, k ≠ 1 → k ≠ 13 → k ≠ 14 → (s_back τ).2.1 k = σ.2.1 k := fun k h1 h2 h3 => (show (s_back τ).2.1 k = τ.2.1 k by simp [s_back, sA, h1]).trans (fr.2.1 k h1 h2 h3)
  have h14 : ∀ j, (s_back τ).2.1 14 j = τ.2.1 14 j := fun j => by simp [s_back, sA]
  have eo : ∀ p, p < n → per (s_back τ) p 6 = per σ p 6 := fun p hp => h _ (by omega)
  refine ⟨(h _ (by omega)).trans v.hn, v.hP, (h _ (by omega)).trans v.hl, v.hL, (h _ (by omega)).trans v.hb, v.hB, (h _ (by omega)).trans v.hq, v.hQ, (h _ (by omega)).trans v.hor, v.hOR, (h _ (by omega)).trans v.hnw, v.hNW, Wc_cg (hk 8 (by decide) (by decide) (by decide)).symm (hk 9 (by decide) (by decide) (by decide)).symm (hk 10 (by decide) (by decide) (by decide)).symm v.hw, fun w hw => ?_, fun c hc => ?_, fun p hp => ?_, fun p hp h0 => ?_, ?_, fun o ho => ?_, fun a ha => Pinv_cg (fun j h1 h2 => h j (by omega)) (v.par a ha), fun a ha => ?_, fun z hz => by rw [hk 6 (by decide) (by decide) (by decide)]; exact v.rns z hz⟩
  · rw [h14, fr.2.2.2 _ (by omega)]
    exact v.hF w hw
  · have := v.who c hc
    unfold Who at this ⊢
    rw [show sec (s_back τ) c 0 = sec σ c 0 from h _ (by omega), show sec (s_back τ) c 1 = sec σ c 1 from h _ (by omega)]
    exact this
  · have := v.hire p hp
    unfold Hire at this ⊢
    rw [show per (s_back τ) p 2 = per σ p 2 from h _ (by omega), show per (s_back τ) p 3 = per σ p 3 from h _ (by omega)]
    exact this
  · rw [eo p hp] at h0 ⊢
    exact v.ord p hp h0
  · rw [cnt_cg (p' := isOrd σ) (fun p hp => by unfold isOrd; rw [eo p hp])]
    exact v.cor
  · obtain ⟨p, hp, e⟩ := v.of_ o ho
    exact ⟨p, hp, (h _ (by omega)).trans e⟩
  · obtain ⟨x, hx, e⟩ := v.pace a ha
    exact ⟨x, hx, (h _ (by omega)).trans e⟩
theorem saves_iv {σ : MS} {n nl nb q nor nw : Nat} (v : IvG σ n nl nb q nor nw) : IvG (s_saves σ) n nl nb q nor nw := v.keep (fun _ _ => rfl) rfl rfl rfl rfl rfl
theorem saves_2 {σ : MS} {j : Nat} (h : j < 2132) : (s_saves σ).2.1 2 j = row σ j := by simp [s_saves, sA, h]
abbrev hiredA (σ : MS) (n : Nat) : Nat := cnt (fun p => decide (per σ p 2 = nI 3)) n
def toldV (σ : MS) (n : Nat) (w : Int32) : Int32 := if w = nI 0 then nI (farmsC σ 96) else if w = nI 1 then row σ 2122 else if w = nI 2 then row σ 2118 else if w = nI 3 then row σ 2117 else if w = nI 4 then nI (hiredA σ n) else nI (hereC σ n)
noncomputable def triedS (σ : MS) (n nl nb q nw k : Nat) (a b : Int32) : MS := s_weeks n nl nb q nw k (sF (sF (s_saves (s0 σ)) 23 a) 24 b)
noncomputable def p_tried (σ : MS) (n nl nb q nw : Nat) (a b k w : Int32) : Int32 × MS :=
  if a < 0 then (nI 0, th σ 1) else if nI 1000 < a then (nI 0, th σ 1) else if b < -1 then (nI 0, th σ 1) else if nI 100 < b then (nI 0, th σ 1) else if k < nI 1 then (nI 0, th σ 1) else if nI 104 < k then (nI 0, th σ 1) else if w < 0 then (nI 0, th σ 1) else if ¬ w ≤ nI 5 then (nI 0, th σ 1) else if ¬ row (s0 σ) 2116 + k ≤ nI 1000 then (nI 0, th σ 2)
  else (toldV (triedS σ n nl nb q nw (tN k) a b) n w, s_back (sF (sF (triedS σ n nl nb q nw (tN k) a b) 23 (nI 0)) 24 (-1)))
set_option maxHeartbeats 4000000 in
theorem w_X9_told {g : GP} {ad : Nat → Nat} {μ : Mem} {σ : MS} {d : Nat} {w : Int32} {n : Nat} (hd : 4 ≤ d) (hA : Inj ad 18) (hn : row σ 2124 = nI n) (hP : n ≤ 100) : PM g yX9_told (ws_ yX9_told cX9_told 4 (some .int)) d 0 0 [.ref (ad 0), .int w] (mm g ad μ σ) (rQ (some (.int (toldV σ n w))) (mm g ad μ (σ))) := by
  refine PM.of (by decide +kernel) (Nat.le_of_ble_eq_true rfl) ?_
  show PJ g _ _ _ _ d 0 0 0 [(0, .ref (ad 0)), (1, .int w)] [] _ _
  refine pl_iconst (pc := 0) (v := 0) dX9_told_0 (by rfl) ?_
  refine pj_istore_n (pc := 1) (lv' := [(2, _), (0, _), (1, _)]) dX9_told_1 rfl (by decide) rfl ?_
  refine pl_iload_n (pc := 2) dX9_told_2 rfl rfl ?_
  refine pl_tsw (pc := 3) 0 (tgt := 36) dX9_told_3 (by rfl) (by decide) (by decide) (by rfl) (by decide) (fun c3_0 => ?_) (fun c3_0 => ?_)
  · refine pl_aload_n (pc := 36) dX9_told_36 rfl rfl ?_
    refine pl_callVd (pc := 37) (As := []) (C2 := 0) (N2 := 0) ckX9 mdX9_farms rfl q2948 q2950 qs96 q154 dX9_told_37 rfl rfl (Nat.le_of_ble_eq_true rfl) (mm_o hA) (w_X9_farms (d := d - 1) (by omega) hA) (by omega) (by decide) (by decide) ?_
    refine pj_iret (pc := 40) dX9_told_40 rfl ?_
    exact ⟨vIe (by simp [toldV, eq_true c3_0]) rfl, rfl⟩
  refine pl_tsw (pc := 3) 1 (tgt := 41) dX9_told_3 (by rfl) (by decide) (by decide) (by rfl) (by decide) (fun c3_1 => ?_) (fun c3_1 => ?_)
  · refine pl_aload_n (pc := 41) dX9_told_41 rfl rfl ?_
    refine pj_getf (pc := 42) ckX9 1 q2517 dX9_told_42 (by decide) (mm_o hA) rfl ?_
    refine pl_sipush (pc := 45) (v := 2122) dX9_told_45 (by rfl) ?_
    refine pl_iald (pc := 48) (n := 2132) dX9_told_48 (mm_a hA 1 (by decide) (by decide)) (by omega) (by decide) ?_
    refine pj_iret (pc := 49) dX9_told_49 rfl ?_
    exact ⟨vIe (by simp [toldV, c3_0, eq_true c3_1]) rfl, rfl⟩
  refine pl_tsw (pc := 3) 2 (tgt := 50) dX9_told_3 (by rfl) (by decide) (by decide) (by rfl) (by decide) (fun c3_2 => ?_) (fun c3_2 => ?_)
  · refine pl_aload_n (pc := 50) dX9_told_50 rfl rfl ?_
    refine pj_getf (pc := 51) ckX9 1 q2517 dX9_told_51 (by decide) (mm_o hA) rfl ?_
    refine pl_sipush (pc := 54) (v := 2118) dX9_told_54 (by rfl) ?_
    refine pl_iald (pc := 57) (n := 2132) dX9_told_57 (mm_a hA 1 (by decide) (by decide)) (by omega) (by decide) ?_
    refine pj_iret (pc := 58) dX9_told_58 rfl ?_
    exact ⟨vIe (by simp [toldV, c3_0, c3_1, eq_true c3_2]) rfl, rfl⟩
  refine pl_tsw (pc := 3) 3 (tgt := 59) dX9_told_3 (by rfl) (by decide) (by decide) (by rfl) (by decide) (fun c3_3 => ?_) (fun c3_3 => ?_)
  · refine pl_aload_n (pc := 59) dX9_told_59 rfl rfl ?_
    refine pj_getf (pc := 60) ckX9 1 q2517 dX9_told_60 (by decide) (mm_o hA) rfl ?_
    refine pl_sipush (pc := 63) (v := 2117) dX9_told_63 (by rfl) ?_
    refine pl_iald (pc := 66) (n := 2132) dX9_told_66 (mm_a hA 1 (by decide) (by decide)) (by omega) (by decide) ?_
    refine pj_iret (pc := 67) dX9_told_67 rfl ?_
    exact ⟨vIe (by simp [toldV, c3_0, c3_1, c3_2, eq_true c3_3]) rfl, rfl⟩
  refine pl_tsw (pc := 3) 4 (tgt := 68) dX9_told_3 (by rfl) (by decide) (by decide) (by rfl) (by decide) (fun c3_4 => ?_) (fun c3_4 => ?_)
  · refine pl_iconst (pc := 68) (v := 0) dX9_told_68 (by rfl) ?_
    refine pj_istore_n (pc := 69) (lv' := [(3, _), (2, _), (0, _), (1, _)]) dX9_told_69 rfl (by decide) rfl ?_
    refine PJ.sub [0, 1, 3, 2] rfl ?_
    refine ind_dn (n := n) (P := fun i => PJ g _ _ _ _ d 0 0 70 [(3, .int (nI i)), (2, .int (nI (hiredA σ i))), (1, .int w), (0, .ref (ad 0))] [] (mm g ad μ σ) _) (fun i hi ih => ?_) 0 (Nat.zero_le _)
    refine pl_iload_n (pc := 70) dX9_told_70 rfl rfl ?_
    refine pl_aload_n (pc := 71) dX9_told_71 rfl rfl ?_
    refine pj_getf (pc := 72) ckX9 1 q2517 dX9_told_72 (by decide) (mm_o hA) rfl ?_
    refine pl_sipush (pc := 75) (v := 2124) dX9_told_75 (by rfl) ?_
    refine pl_iald (pc := 78) (n := 2132) dX9_told_78 (mm_a hA 1 (by decide) (by decide)) (by omega) (by decide) ?_
    refine PJ.top (y := nI _) (hn) ?_
    refine pl_icmp_ge (pc := 79) (tgt := 106) dX9_told_79 (by decide) (by omega) (by omega) (fun c79 => ?_) (fun c79 => ?_)
    · refine pl_iload_n (pc := 106) dX9_told_106 rfl rfl ?_
      refine pj_iret (pc := 107) dX9_told_107 rfl ?_
      have e9 : i = n := by omega
      subst e9
      exact ⟨vIe (by simp [toldV, c3_0, c3_1, c3_2, c3_3, eq_true c3_4, c79]) rfl, rfl⟩
    · refine pl_iload_n (pc := 82) dX9_told_82 rfl rfl ?_
      refine pl_aload_n (pc := 83) dX9_told_83 rfl rfl ?_
      refine pl_iload_n (pc := 84) dX9_told_84 rfl rfl ?_
      refine pl_iconst (pc := 85) (v := 2) dX9_told_85 (by rfl) ?_
      refine pl_callVd (pc := 86) (As := [_, _]) (C2 := 0) (N2 := 0) ckX9 mdX9_per rfl q2713 q2715 qs59 q154 dX9_told_86 rfl rfl (Nat.le_of_ble_eq_true rfl) (mm_o hA) (w_X9_per (d := d - 1) (by omega) hA (by omega) (by decide)) (by omega) (by decide) (by decide) ?_
      refine pl_iconst (pc := 89) (v := 3) dX9_told_89 (by rfl) ?_
      refine pj_icmp_ne (pc := 90) (tgt := 97) dX9_told_90 (by decide) (fun c90 => ?_) (fun c90 => ?_)
      · refine pl_iconst (pc := 97) (v := 0) dX9_told_97 (by rfl) ?_
        refine pl_iadd (pc := 98) dX9_told_98 ?_
        refine pj_istore_n (pc := 99) (lv' := [(2, _), (3, _), (1, _), (0, _)]) dX9_told_99 rfl (by decide) rfl ?_
        refine pl_iinc1 (pc := 100) (lv' := [(3, _), (2, _), (1, _), (0, _)]) dX9_told_100 rfl rfl (by decide) rfl ?_
        refine pj_goto (pc := 103) (tgt := 70) dX9_told_103 (by decide) ?_
        exact PJ.conv (by simp [cnt, c79, c90]) rfl (rfl) (ih (by omega))
      · refine pl_iconst (pc := 93) (v := 1) dX9_told_93 (by rfl) ?_
        refine pj_goto (pc := 94) (tgt := 98) dX9_told_94 (by decide) ?_
        refine pl_iadd (pc := 98) dX9_told_98 ?_
        refine pj_istore_n (pc := 99) (lv' := [(2, _), (3, _), (1, _), (0, _)]) dX9_told_99 rfl (by decide) rfl ?_
        refine pl_iinc1 (pc := 100) (lv' := [(3, _), (2, _), (1, _), (0, _)]) dX9_told_100 rfl rfl (by decide) rfl ?_
        refine pj_goto (pc := 103) (tgt := 70) dX9_told_103 (by decide) ?_
        exact PJ.conv (by simp [cnt, c79, eq_true c90]) rfl (rfl) (ih (by omega))
  refine pj_tableOut (pc := 3) (tgt := 108) dX9_told_3 (by have q0 := nI_nec c3_0; have q1 := nI_nec c3_1; have q2 := nI_nec c3_2; have q3 := nI_nec c3_3; have q4 := nI_nec c3_4; omega) (by decide) ?_
  refine pl_aload_n (pc := 108) dX9_told_108 rfl rfl ?_
  refine pl_callVd (pc := 109) (As := []) (C2 := 0) (N2 := 0) ckX9 mdX9_here rfl q2952 q2954 qs97 q154 dX9_told_109 rfl rfl (Nat.le_of_ble_eq_true rfl) (mm_o hA) (w_X9_here (d := d - 1) (by omega) hA (by first | omega | assumption | exact hn | exact hl | exact hb | exact hq | exact hdr | exact has) (by first | omega | assumption | exact hn | exact hl | exact hb | exact hq | exact hdr | exact has)) (by omega) (by decide) (by decide) ?_
  refine pj_iret (pc := 112) dX9_told_112 rfl ?_
  exact ⟨vIe (by simp [toldV, c3_0, c3_1, c3_2, c3_3, c3_4]) rfl, rfl⟩
set_option maxHeartbeats 4000000 in
theorem w_X9_tried {g : GP} {ad : Nat → Nat} {μ : Mem} {σ : MS} {d : Nat} {a : Int32} {b : Int32} {k : Int32} {w : Int32} {n nl nb q nor nw : Nat} (hd : 8 ≤ d) (hA : Inj ad 18) (iv : IvG σ n nl nb q nor nw) : PM g yX9_tried (ws_ yX9_tried cX9_tried 6 (some .int)) d 0 0 [.ref (ad 0), .int a, .int b, .int k, .int w] (mm g ad μ σ) (rQ (some (.int ((p_tried σ n nl nb q nw a b k w).1))) (mm g ad μ ((p_tried σ n nl nb q nw a b k w).2))) := by
  refine PM.of (by decide +kernel) (Nat.le_of_ble_eq_true rfl) ?_
  show PJ g _ _ _ _ d 0 0 0 [(0, .ref (ad 0)), (1, .int a), (2, .int b), (3, .int k), (4, .int w)] [] _ _
  refine pl_aload_n (pc := 0) dX9_tried_0 rfl rfl ?_
  refine pl_iconst (pc := 1) (v := 0) dX9_tried_1 (by rfl) ?_
  refine pm_putI (pc := 2) 0 hA q2516 dX9_tried_2 (by decide) rfl (by rfl) (by rfl) rfl ?_
  refine pl_aload_n (pc := 5) dX9_tried_5 rfl rfl ?_
  refine pl_iload_n (pc := 6) dX9_tried_6 rfl rfl ?_
  refine pj_if_lt (pc := 7) (tgt := 50) dX9_tried_7 (by decide) (fun c7 => ?_) (fun c7 => ?_)
  · refine pl_iconst (pc := 50) (v := 1) dX9_tried_50 (by rfl) ?_
    refine pj_goto (pc := 51) (tgt := 55) dX9_tried_51 (by decide) ?_
    refine pl_iconst (pc := 55) (v := 1) dX9_tried_55 (by rfl) ?_
    refine pl_callVd (pc := 56) (As := [_, _]) (C2 := 0) (N2 := 0) ckX9 mdX9_bad rfl q2631 q2633 qs50 q154 dX9_tried_56 rfl rfl (Nat.le_of_ble_eq_true rfl) (mm_o hA) (w_bad_1 (d := d - 1) (by omega) hA) (by omega) (by decide) (by decide) ?_
    refine pj_if_ne (pc := 59) (tgt := 91) dX9_tried_59 (by decide) (fun _ => ?_) (fun h => absurd h (by decide))
    refine pl_iconst (pc := 91) (v := 0) dX9_tried_91 (by rfl) ?_
    refine pj_iret (pc := 92) dX9_tried_92 rfl ?_
    exact ⟨vIe (by simp [p_tried, triedS, c7]) rfl, congrArg (mm g ad μ) (by simp [p_tried, triedS, c7])⟩
  · refine pl_iload_n (pc := 10) dX9_tried_10 rfl rfl ?_
    refine pl_sipush (pc := 11) (v := 1000) dX9_tried_11 (by rfl) ?_
    refine pj_icmp_gt (pc := 14) (tgt := 50) dX9_tried_14 (by decide) (fun c14 => ?_) (fun c14 => ?_)
    · refine pl_iconst (pc := 50) (v := 1) dX9_tried_50 (by rfl) ?_
      refine pj_goto (pc := 51) (tgt := 55) dX9_tried_51 (by decide) ?_
      refine pl_iconst (pc := 55) (v := 1) dX9_tried_55 (by rfl) ?_
      refine pl_callVd (pc := 56) (As := [_, _]) (C2 := 0) (N2 := 0) ckX9 mdX9_bad rfl q2631 q2633 qs50 q154 dX9_tried_56 rfl rfl (Nat.le_of_ble_eq_true rfl) (mm_o hA) (w_bad_1 (d := d - 1) (by omega) hA) (by omega) (by decide) (by decide) ?_
      refine pj_if_ne (pc := 59) (tgt := 91) dX9_tried_59 (by decide) (fun _ => ?_) (fun h => absurd h (by decide))
      refine pl_iconst (pc := 91) (v := 0) dX9_tried_91 (by rfl) ?_
      refine pj_iret (pc := 92) dX9_tried_92 rfl ?_
      exact ⟨vIe (by simp [p_tried, triedS, c7, c14]) rfl, congrArg (mm g ad μ) (by simp [p_tried, triedS, c7, c14])⟩
    · refine pl_iload_n (pc := 17) dX9_tried_17 rfl rfl ?_
      refine pj_iconst (pc := 18) (v := (-1)) dX9_tried_18 (by rfl) ?_
      refine pj_icmp_lt (pc := 19) (tgt := 50) dX9_tried_19 (by decide) (fun c19 => ?_) (fun c19 => ?_)
      · refine pl_iconst (pc := 50) (v := 1) dX9_tried_50 (by rfl) ?_
        refine pj_goto (pc := 51) (tgt := 55) dX9_tried_51 (by decide) ?_
        refine pl_iconst (pc := 55) (v := 1) dX9_tried_55 (by rfl) ?_
        refine pl_callVd (pc := 56) (As := [_, _]) (C2 := 0) (N2 := 0) ckX9 mdX9_bad rfl q2631 q2633 qs50 q154 dX9_tried_56 rfl rfl (Nat.le_of_ble_eq_true rfl) (mm_o hA) (w_bad_1 (d := d - 1) (by omega) hA) (by omega) (by decide) (by decide) ?_
        refine pj_if_ne (pc := 59) (tgt := 91) dX9_tried_59 (by decide) (fun _ => ?_) (fun h => absurd h (by decide))
        refine pl_iconst (pc := 91) (v := 0) dX9_tried_91 (by rfl) ?_
        refine pj_iret (pc := 92) dX9_tried_92 rfl ?_
        exact ⟨vIe (by simp [p_tried, triedS, c7, c14, c19]) rfl, congrArg (mm g ad μ) (by simp [p_tried, triedS, c7, c14, c19])⟩
      · refine pl_iload_n (pc := 22) dX9_tried_22 rfl rfl ?_
        refine pl_bipush (pc := 23) (v := 100) dX9_tried_23 (by rfl) ?_
        refine pj_icmp_gt (pc := 25) (tgt := 50) dX9_tried_25 (by decide) (fun c25 => ?_) (fun c25 => ?_)
        · refine pl_iconst (pc := 50) (v := 1) dX9_tried_50 (by rfl) ?_
          refine pj_goto (pc := 51) (tgt := 55) dX9_tried_51 (by decide) ?_
          refine pl_iconst (pc := 55) (v := 1) dX9_tried_55 (by rfl) ?_
          refine pl_callVd (pc := 56) (As := [_, _]) (C2 := 0) (N2 := 0) ckX9 mdX9_bad rfl q2631 q2633 qs50 q154 dX9_tried_56 rfl rfl (Nat.le_of_ble_eq_true rfl) (mm_o hA) (w_bad_1 (d := d - 1) (by omega) hA) (by omega) (by decide) (by decide) ?_
          refine pj_if_ne (pc := 59) (tgt := 91) dX9_tried_59 (by decide) (fun _ => ?_) (fun h => absurd h (by decide))
          refine pl_iconst (pc := 91) (v := 0) dX9_tried_91 (by rfl) ?_
          refine pj_iret (pc := 92) dX9_tried_92 rfl ?_
          exact ⟨vIe (by simp [p_tried, triedS, c7, c14, c19, c25]) rfl, congrArg (mm g ad μ) (by simp [p_tried, triedS, c7, c14, c19, c25])⟩
        · refine pl_iload_n (pc := 28) dX9_tried_28 rfl rfl ?_
          refine pl_iconst (pc := 29) (v := 1) dX9_tried_29 (by rfl) ?_
          refine pj_icmp_lt (pc := 30) (tgt := 50) dX9_tried_30 (by decide) (fun c30 => ?_) (fun c30 => ?_)
          · refine pl_iconst (pc := 50) (v := 1) dX9_tried_50 (by rfl) ?_
            refine pj_goto (pc := 51) (tgt := 55) dX9_tried_51 (by decide) ?_
            refine pl_iconst (pc := 55) (v := 1) dX9_tried_55 (by rfl) ?_
            refine pl_callVd (pc := 56) (As := [_, _]) (C2 := 0) (N2 := 0) ckX9 mdX9_bad rfl q2631 q2633 qs50 q154 dX9_tried_56 rfl rfl (Nat.le_of_ble_eq_true rfl) (mm_o hA) (w_bad_1 (d := d - 1) (by omega) hA) (by omega) (by decide) (by decide) ?_
            refine pj_if_ne (pc := 59) (tgt := 91) dX9_tried_59 (by decide) (fun _ => ?_) (fun h => absurd h (by decide))
            refine pl_iconst (pc := 91) (v := 0) dX9_tried_91 (by rfl) ?_
            refine pj_iret (pc := 92) dX9_tried_92 rfl ?_
            exact ⟨vIe (by simp [p_tried, triedS, c7, c14, c19, c25, c30]) rfl, congrArg (mm g ad μ) (by simp [p_tried, triedS, c7, c14, c19, c25, c30])⟩
          · refine pl_iload_n (pc := 33) dX9_tried_33 rfl rfl ?_
            refine pl_bipush (pc := 34) (v := 104) dX9_tried_34 (by rfl) ?_
            refine pj_icmp_gt (pc := 36) (tgt := 50) dX9_tried_36 (by decide) (fun c36 => ?_) (fun c36 => ?_)
            · refine pl_iconst (pc := 50) (v := 1) dX9_tried_50 (by rfl) ?_
              refine pj_goto (pc := 51) (tgt := 55) dX9_tried_51 (by decide) ?_
              refine pl_iconst (pc := 55) (v := 1) dX9_tried_55 (by rfl) ?_
              refine pl_callVd (pc := 56) (As := [_, _]) (C2 := 0) (N2 := 0) ckX9 mdX9_bad rfl q2631 q2633 qs50 q154 dX9_tried_56 rfl rfl (Nat.le_of_ble_eq_true rfl) (mm_o hA) (w_bad_1 (d := d - 1) (by omega) hA) (by omega) (by decide) (by decide) ?_
              refine pj_if_ne (pc := 59) (tgt := 91) dX9_tried_59 (by decide) (fun _ => ?_) (fun h => absurd h (by decide))
              refine pl_iconst (pc := 91) (v := 0) dX9_tried_91 (by rfl) ?_
              refine pj_iret (pc := 92) dX9_tried_92 rfl ?_
              exact ⟨vIe (by simp [p_tried, triedS, c7, c14, c19, c25, c30, c36]) rfl, congrArg (mm g ad μ) (by simp [p_tried, triedS, c7, c14, c19, c25, c30, c36])⟩
            · refine pl_iload (pc := 39) dX9_tried_39 rfl ?_
              refine pj_if_lt (pc := 41) (tgt := 50) dX9_tried_41 (by decide) (fun c41 => ?_) (fun c41 => ?_)
              · refine pl_iconst (pc := 50) (v := 1) dX9_tried_50 (by rfl) ?_
                refine pj_goto (pc := 51) (tgt := 55) dX9_tried_51 (by decide) ?_
                refine pl_iconst (pc := 55) (v := 1) dX9_tried_55 (by rfl) ?_
                refine pl_callVd (pc := 56) (As := [_, _]) (C2 := 0) (N2 := 0) ckX9 mdX9_bad rfl q2631 q2633 qs50 q154 dX9_tried_56 rfl rfl (Nat.le_of_ble_eq_true rfl) (mm_o hA) (w_bad_1 (d := d - 1) (by omega) hA) (by omega) (by decide) (by decide) ?_
                refine pj_if_ne (pc := 59) (tgt := 91) dX9_tried_59 (by decide) (fun _ => ?_) (fun h => absurd h (by decide))
                refine pl_iconst (pc := 91) (v := 0) dX9_tried_91 (by rfl) ?_
                refine pj_iret (pc := 92) dX9_tried_92 rfl ?_
                exact ⟨vIe (by simp [p_tried, triedS, c7, c14, c19, c25, c30, c36, c41]) rfl, congrArg (mm g ad μ) (by simp [p_tried, triedS, c7, c14, c19, c25, c30, c36, c41])⟩
              · refine pl_iload (pc := 44) dX9_tried_44 rfl ?_
                refine pl_iconst (pc := 46) (v := 5) dX9_tried_46 (by rfl) ?_
                refine pj_icmp_le (pc := 47) (tgt := 54) dX9_tried_47 (by decide) (fun c47 => ?_) (fun c47 => ?_)
                · refine pl_iconst (pc := 54) (v := 0) dX9_tried_54 (by rfl) ?_
                  refine pl_iconst (pc := 55) (v := 1) dX9_tried_55 (by rfl) ?_
                  refine pl_callVd (pc := 56) (As := [_, _]) (C2 := 0) (N2 := 0) ckX9 mdX9_bad rfl q2631 q2633 qs50 q154 dX9_tried_56 rfl rfl (Nat.le_of_ble_eq_true rfl) (mm_o hA) (w_bad_0 (d := d - 1) (by omega) hA) (by omega) (by decide) (by decide) ?_
                  refine pj_if_ne (pc := 59) (tgt := 91) dX9_tried_59 (by decide) (fun h => absurd h (by decide)) (fun _ => ?_)
                  refine pl_aload_n (pc := 62) dX9_tried_62 rfl rfl ?_
                  refine pl_aload_n (pc := 63) dX9_tried_63 rfl rfl ?_
                  refine pj_getf (pc := 64) ckX9 1 q2517 dX9_tried_64 (by decide) (mm_o hA) rfl ?_
                  refine pl_sipush (pc := 67) (v := 2116) dX9_tried_67 (by rfl) ?_
                  refine pl_iald (pc := 70) (n := 2132) dX9_tried_70 (mm_a hA 1 (by decide) (by decide)) (by omega) (by decide) ?_
                  refine pl_iload_n (pc := 71) dX9_tried_71 rfl rfl ?_
                  refine pj_iadd (pc := 72) dX9_tried_72 ?_
                  refine pl_sipush (pc := 73) (v := 1000) dX9_tried_73 (by rfl) ?_
                  refine pj_icmp_le (pc := 76) (tgt := 83) dX9_tried_76 (by decide) (fun c76 => ?_) (fun c76 => ?_)
                  · refine pl_iconst (pc := 83) (v := 0) dX9_tried_83 (by rfl) ?_
                    refine pl_iconst (pc := 84) (v := 2) dX9_tried_84 (by rfl) ?_
                    refine pl_callVd (pc := 85) (As := [_, _]) (C2 := 0) (N2 := 0) ckX9 mdX9_bad rfl q2631 q2633 qs50 q154 dX9_tried_85 rfl rfl (Nat.le_of_ble_eq_true rfl) (mm_o hA) (w_bad_0 (d := d - 1) (by omega) hA) (by omega) (by decide) (by decide) ?_
                    refine pj_if_eq (pc := 88) (tgt := 93) dX9_tried_88 (by decide) (fun _ => ?_) (fun h => absurd h (by decide))
                    obtain ⟨j_k, hj_k, rfl⟩ := nI_of2 (n := 104) (M := nI 104) (by rfl) (fun z => c30 (Int32.lt_of_lt_of_le z (by decide))) (Int32.not_lt.mp c36)
                    have hsk : nw + j_k ≤ 1000 := (nI_leI (by omega) (by decide)).mp (by rw [← nI_add, ← (show row (s0 σ) 2116 = nI nw from iv.hnw)]; exact c76)
                    have g_k := tN_nI (n := j_k) (by omega)
                    refine pl_aload_n (pc := 93) dX9_tried_93 rfl rfl ?_
                    refine pl_callVv (pc := 94) (As := []) (C2 := 0) (N2 := 0) ckX9 mdX9_saves rfl q2745 q2747 qs63 q154 dX9_tried_94 rfl rfl (Nat.le_of_ble_eq_true rfl) (mm_o hA) (w_X9_saves (d := d - 1) (by omega) hA) (by omega) (by decide) (by decide) ?_
                    refine pl_aload_n (pc := 97) dX9_tried_97 rfl rfl ?_
                    refine pl_iload_n (pc := 98) dX9_tried_98 rfl rfl ?_
                    refine pm_putI (pc := 99) 23 hA q2539 dX9_tried_99 (by decide) rfl (by rfl) (by rfl) rfl ?_
                    refine pl_aload_n (pc := 102) dX9_tried_102 rfl rfl ?_
                    refine pl_iload_n (pc := 103) dX9_tried_103 rfl rfl ?_
                    refine pm_putI (pc := 104) 24 hA q2540 dX9_tried_104 (by decide) rfl (by rfl) (by rfl) rfl ?_
                    refine pl_iconst (pc := 107) (v := 0) dX9_tried_107 (by rfl) ?_
                    refine pj_istore (pc := 108) (lv' := [(5, _), (0, _), (1, _), (2, _), (3, _), (4, _)]) dX9_tried_108 (by decide) rfl ?_
                    refine PJ.sub [0, 5, 4, 3, 2, 1] rfl ?_
                    refine PJ.conv rfl rfl (show _ = (mm g ad μ (s_weeks n nl nb q nw 0 (sF (sF (s_saves (s0 σ)) 23 a) 24 b))) from congrArg (mm g ad μ) (by rw [s_weeks, uq_0])) ?_
                    refine ind_dn (n := j_k) (P := fun i => IvG (s_weeks n nl nb q nw i (sF (sF (s_saves (s0 σ)) 23 a) 24 b)) n nl nb q nor (nw + i) → PJ g _ _ _ _ d 0 0 110 [(5, .int (nI i)), (4, .int w), (3, .int (nI j_k)), (2, .int b), (1, .int a), (0, .ref (ad 0))] [] (mm g ad μ (s_weeks n nl nb q nw i (sF (sF (s_saves (s0 σ)) 23 a) 24 b))) _) (fun i hi ih hv => ?_) 0 (Nat.zero_le _) (by rw [s_weeks, uq_0]; exact (saves_iv iv.f0).f0.f0)
                    refine pl_iload (pc := 110) dX9_tried_110 rfl ?_
                    refine pl_iload_n (pc := 112) dX9_tried_112 rfl rfl ?_
                    refine pl_icmp_ge (pc := 113) (tgt := 126) dX9_tried_113 (by decide) (by omega) (by omega) (fun c113 => ?_) (fun c113 => ?_)
                    · refine pl_aload_n (pc := 126) dX9_tried_126 rfl rfl ?_
                      refine pl_iload (pc := 127) dX9_tried_127 rfl ?_
                      refine pl_callVd (pc := 129) (As := [_]) (C2 := 0) (N2 := 0) ckX9 mdX9_told rfl q3158 q3160 qs123 q154 dX9_tried_129 rfl rfl (Nat.le_of_ble_eq_true rfl) (mm_o hA) (w_X9_told (d := d - 1) (by omega) hA hv.hn hv.hP) (by omega) (by decide) (by decide) ?_
                      refine pj_istore (pc := 132) (lv' := [(5, _), (4, _), (3, _), (2, _), (1, _), (0, _)]) dX9_tried_132 (by decide) rfl ?_
                      refine pl_aload_n (pc := 134) dX9_tried_134 rfl rfl ?_
                      refine pl_iconst (pc := 135) (v := 0) dX9_tried_135 (by rfl) ?_
                      refine pm_putI (pc := 136) 23 hA q2539 dX9_tried_136 (by decide) rfl (by rfl) (by rfl) rfl ?_
                      refine pl_aload_n (pc := 139) dX9_tried_139 rfl rfl ?_
                      refine pj_iconst (pc := 140) (v := (-1)) dX9_tried_140 (by rfl) ?_
                      refine pm_putI (pc := 141) 24 hA q2540 dX9_tried_141 (by decide) rfl (by rfl) (by rfl) rfl ?_
                      refine pl_aload_n (pc := 144) dX9_tried_144 rfl rfl ?_
                      refine pl_callVv (pc := 145) (As := []) (C2 := 0) (N2 := 0) ckX9 mdX9_back rfl q2776 q2778 qs70 q154 dX9_tried_145 rfl rfl (Nat.le_of_ble_eq_true rfl) (mm_o hA) (w_X9_back (d := d - 1) (by omega) hA) (by omega) (by decide) (by decide) ?_
                      refine pl_iload (pc := 148) dX9_tried_148 rfl ?_
                      refine pj_iret (pc := 150) dX9_tried_150 rfl ?_
                      have e9 : i = j_k := by omega
                      subst e9
                      exact ⟨vIe (by simp [p_tried, triedS, c7, c14, c19, c25, c30, c36, c41, c47, c76, g_k, c113]) rfl, congrArg (mm g ad μ) (by simp [p_tried, triedS, c7, c14, c19, c25, c30, c36, c41, c47, c76, g_k, c113])⟩
                    · refine pl_aload_n (pc := 116) dX9_tried_116 rfl rfl ?_
                      refine pl_callVv (pc := 117) (As := []) (C2 := 0) (N2 := 0) ckX9 mdX9_goes rfl q3095 q3097 qs111 q154 dX9_tried_117 rfl rfl (Nat.le_of_ble_eq_true rfl) (mm_o hA) (w_X9_goes (d := d - 1) (by omega) hA hv (by omega)) (by omega) (by decide) (by decide) ?_
                      refine pl_iinc1 (pc := 120) (lv' := [(5, _), (4, _), (3, _), (2, _), (1, _), (0, _)]) dX9_tried_120 rfl rfl (by decide) rfl ?_
                      refine pj_goto (pc := 123) (tgt := 110) dX9_tried_123 (by decide) ?_
                      exact PJ.conv rfl rfl (congrArg (mm g ad μ) (show _ = s_weeks n nl nb q nw (i + 1) _ by unfold s_weeks; rw [uq_s _ i])) (ih (by omega) (by have h9 := goes_iv hv (by omega); unfold s_weeks at h9 ⊢; rw [uq_s _ i]; exact h9))
                  · refine pl_iconst (pc := 79) (v := 1) dX9_tried_79 (by rfl) ?_
                    refine pj_goto (pc := 80) (tgt := 84) dX9_tried_80 (by decide) ?_
                    refine pl_iconst (pc := 84) (v := 2) dX9_tried_84 (by rfl) ?_
                    refine pl_callVd (pc := 85) (As := [_, _]) (C2 := 0) (N2 := 0) ckX9 mdX9_bad rfl q2631 q2633 qs50 q154 dX9_tried_85 rfl rfl (Nat.le_of_ble_eq_true rfl) (mm_o hA) (w_bad_1 (d := d - 1) (by omega) hA) (by omega) (by decide) (by decide) ?_
                    refine pj_if_eq (pc := 88) (tgt := 93) dX9_tried_88 (by decide) (fun h => absurd h (by decide)) (fun _ => ?_)
                    refine pl_iconst (pc := 91) (v := 0) dX9_tried_91 (by rfl) ?_
                    refine pj_iret (pc := 92) dX9_tried_92 rfl ?_
                    exact ⟨vIe (by simp [p_tried, triedS, c7, c14, c19, c25, c30, c36, c41, c47, c76]) rfl, congrArg (mm g ad μ) (by simp [p_tried, triedS, c7, c14, c19, c25, c30, c36, c41, c47, c76])⟩
                · refine pl_iconst (pc := 50) (v := 1) dX9_tried_50 (by rfl) ?_
                  refine pj_goto (pc := 51) (tgt := 55) dX9_tried_51 (by decide) ?_
                  refine pl_iconst (pc := 55) (v := 1) dX9_tried_55 (by rfl) ?_
                  refine pl_callVd (pc := 56) (As := [_, _]) (C2 := 0) (N2 := 0) ckX9 mdX9_bad rfl q2631 q2633 qs50 q154 dX9_tried_56 rfl rfl (Nat.le_of_ble_eq_true rfl) (mm_o hA) (w_bad_1 (d := d - 1) (by omega) hA) (by omega) (by decide) (by decide) ?_
                  refine pj_if_ne (pc := 59) (tgt := 91) dX9_tried_59 (by decide) (fun _ => ?_) (fun h => absurd h (by decide))
                  refine pl_iconst (pc := 91) (v := 0) dX9_tried_91 (by rfl) ?_
                  refine pj_iret (pc := 92) dX9_tried_92 rfl ?_
                  exact ⟨vIe (by simp [p_tried, triedS, c7, c14, c19, c25, c30, c36, c41, c47]) rfl, congrArg (mm g ad μ) (by simp [p_tried, triedS, c7, c14, c19, c25, c30, c36, c41, c47])⟩
