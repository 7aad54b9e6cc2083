set_option maxRecDepth 100000
def PaQ (σ : MS) (a q : Nat) : Prop := row σ (a + 2) = nI q ∧ q ≤ 12 ∧ ∀ k, k < q → ∃ c, c < 96 ∧ row σ (a + 3 + k) = nI c
def drops (a : Nat) : Nat → MS → MS
  | 0, σ => σ
  | f + 1, σ => if sec σ (tN (row σ (a + 3))) 0 = 0 then σ else drops a f (deqV a σ)
theorem PaQ_deq {σ : MS} {a q : Nat} (h : PaQ σ a (q + 1)) : PaQ (deqV a σ) a q := by
  obtain ⟨h1, h2, h3⟩ := h
  refine ⟨?_, by omega, fun k hk => ?_⟩
  · rw [deq_row h1 (by omega), if_pos rfl]
  · obtain ⟨c, hc, e⟩ := h3 (k + 1) (by omega)
    refine ⟨c, hc, ?_⟩
    rw [deq_row h1 (by omega), if_neg (by omega), if_pos (by omega)]
    exact e
theorem deq_other {σ : MS} {a q j : Nat} (h : PaQ σ a (q + 1)) (hj : j < a ∨ a + 15 ≤ j ∨ j = a ∨ j = a + 1) : row (deqV a σ) j = row σ j := by
  have := h.2.1
  rw [deq_row h.1 (by omega), if_neg (by omega), if_neg (by omega)]
theorem deq_arr {a : Nat} {σ : MS} : (deqV a σ).1 = σ.1 ∧ (∀ k, k ≠ 1 → (deqV a σ).2.1 k = σ.2.1 k) ∧ (deqV a σ).2.2 = σ.2.2 := by
  have h := upto_arr a (sR σ (a + 2) (row σ (a + 2) - nI 1)) (tN (row (sR σ (a + 2) (row σ (a + 2) - nI 1)) (a + 2)))
  exact ⟨h.1, fun k hk => (h.2.1 k hk).trans (by simp [sA, hk]), h.2.2⟩
/-- dropping leaves all but this party's queue; what is left is as good -/
theorem drops_ok {a : Nat} : ∀ (q : Nat) (σ : MS), PaQ σ a q → (∃ q1, q1 ≤ q ∧ PaQ (drops a q σ) a q1 ∧ (0 < q1 → ∃ c, c < 96 ∧ row (drops a q σ) (a + 3) = nI c ∧ (a ≥ 1720 → sec σ c 0 = 0))) ∧ (∀ j, (j < a ∨ a + 15 ≤ j ∨ j = a ∨ j = a + 1) → row (drops a q σ) j = row σ j) ∧ (drops a q σ).1 = σ.1 ∧ (∀ k, k ≠ 1 → (drops a q σ).2.1 k = σ.2.1 k) ∧ (drops a q σ).2.2 = σ.2.2
  | 0, σ, h => ⟨⟨0, Nat.le_refl _, h, fun z => absurd z (Nat.lt_irrefl _)⟩, fun _ _ => rfl, rfl, fun _ _ => rfl, rfl⟩
  | q + 1, σ, h => by
    obtain ⟨c, hc, e⟩ := h.2.2 0 (by omega)
    by_cases hs : sec σ (tN (row σ (a + 3))) 0 = 0
    · have e1 : drops a (q + 1) σ = σ := by simp only [drops, if_pos hs]
      rw [e1]
      refine ⟨⟨q + 1, Nat.le_refl _, h, fun _ => ⟨c, hc, e, fun _ => ?_⟩⟩, fun _ _ => rfl, rfl, fun _ _ => rfl, rfl⟩
      have e2 : tN (row σ (a + 3)) = c := by rw [show row σ (a + 3) = nI c from e, tN_nI (by omega)]
      rw [e2] at hs
      exact hs
    · have e1 : drops a (q + 1) σ = drops a q (deqV a σ) := by simp only [drops, if_neg hs]
      obtain ⟨⟨q1, l1, p1, p2⟩, p3, p4, p5, p6⟩ := drops_ok q (deqV a σ) (PaQ_deq h)
      rw [e1]
      refine ⟨⟨q1, by omega, p1, fun z => ?_⟩, fun j hj => (p3 j hj).trans (deq_other h hj), p4.trans deq_arr.1, fun k hk => (p5 k hk).trans (deq_arr.2.1 k hk), p6.trans deq_arr.2.2⟩
      obtain ⟨c1, hc1, ec, ew⟩ := p2 z
      exact ⟨c1, hc1, ec, fun ha => (deq_other h (Or.inl (by omega))).symm.trans (ew ha)⟩
theorem drops_s {σ : MS} {a c q : Nat} (e : row σ (a + 3) = nI c) (hc : c < 96) (h : ¬ sec σ c 0 = 0) : drops a (q + 1) σ = drops a q (deqV a σ) := by
  simp only [drops]
  rw [if_neg]
  rw [e, tN_nI (by omega)]
  exact h
set_option maxHeartbeats 4000000 in
theorem w_X9_passes {g : GP} {ad : Nat → Nat} {μ : Mem} {d : Nat} (hd : 2 ≤ d) (hA : Inj ad 18) {a : Nat} (ha : 1720 ≤ a) (ha2 : a + 15 ≤ 1780) : ∀ (q : Nat) (σ : MS), PaQ σ a q → PM g yX9_passes (ws_ yX9_passes cX9_passes 2 none) d 0 0 [.ref (ad 0), .int (nI a)] (mm g ad μ σ) (rQ none (mm g ad μ (drops a q σ))) := by
  intro q σ hq
  refine PM.of (by decide +kernel) (Nat.le_of_ble_eq_true rfl) ?_
  show PJ g _ _ _ _ d 0 0 0 [(0, .ref (ad 0)), (1, .int (nI a))] [] _ _
  revert σ
  induction q with
  | zero =>
    intro σ h
    refine pl_aload_n (pc := 0) dX9_passes_0 rfl rfl ?_
    refine pj_getf (pc := 1) ckX9 1 q2517 dX9_passes_1 (by decide) (mm_o hA) rfl ?_
    refine pl_iload_n (pc := 4) dX9_passes_4 rfl rfl ?_
    refine pl_iconst (pc := 5) (v := 2) dX9_passes_5 (by rfl) ?_
    refine pl_iadd (pc := 6) dX9_passes_6 ?_
    refine pl_iald (pc := 7) (n := 2132) dX9_passes_7 (mm_a hA 1 (by decide) (by decide)) (by omega) (by decide) ?_
    refine PJ.top (y := nI _) (h.1) ?_
    refine pj_if_le (pc := 8) (tgt := 35) dX9_passes_8 (by decide) (fun _ => ?_) (fun h => absurd h (by decide))
    refine pj_vret (pc := 35) dX9_passes_35 rfl ?_
    exact ⟨rfl, rfl⟩
  | succ q ih =>
    intro σ h
    have hq12 := h.2.1
    obtain ⟨c, hc, e0⟩ := h.2.2 0 (by omega)
    have e1 : σ.2.1 1 (a + 3) = nI c := e0
    have g_c := tN_nI (n := c) (by omega)
    refine pl_aload_n (pc := 0) dX9_passes_0 rfl rfl ?_
    refine pj_getf (pc := 1) ckX9 1 q2517 dX9_passes_1 (by decide) (mm_o hA) rfl ?_
    refine pl_iload_n (pc := 4) dX9_passes_4 rfl rfl ?_
    refine pl_iconst (pc := 5) (v := 2) dX9_passes_5 (by rfl) ?_
    refine pl_iadd (pc := 6) dX9_passes_6 ?_
    refine pl_iald (pc := 7) (n := 2132) dX9_passes_7 (mm_a hA 1 (by decide) (by decide)) (by omega) (by decide) ?_
    refine PJ.top (y := nI _) (h.1) ?_
    refine pl_if_leN (pc := 8) (tgt := 35) dX9_passes_8 (by decide) (by omega) (fun c8 => ?_) (fun c8 => ?_)
    · exact absurd c8 (by omega)
    · refine pl_aload_n (pc := 11) dX9_passes_11 rfl rfl ?_
      refine pl_aload_n (pc := 12) dX9_passes_12 rfl rfl ?_
      refine pj_getf (pc := 13) ckX9 1 q2517 dX9_passes_13 (by decide) (mm_o hA) rfl ?_
      refine pl_iload_n (pc := 16) dX9_passes_16 rfl rfl ?_
      refine pl_iconst (pc := 17) (v := 3) dX9_passes_17 (by rfl) ?_
      refine pl_iadd (pc := 18) dX9_passes_18 ?_
      refine pl_iald (pc := 19) (n := 2132) dX9_passes_19 (mm_a hA 1 (by decide) (by decide)) (by omega) (by decide) ?_
      refine PJ.top (y := nI _) (e1) ?_
      refine pl_iconst (pc := 20) (v := 0) dX9_passes_20 (by rfl) ?_
      refine pl_callVd (pc := 21) (As := [_, _]) (C2 := 0) (N2 := 0) ckX9 mdX9_sec rfl q2635 q2637 qs51 q154 dX9_passes_21 rfl rfl (Nat.le_of_ble_eq_true rfl) (mm_o hA) (w_X9_sec (d := d - 1) (by omega) hA (by first | omega | assumption | exact hn | exact hl | exact hb | exact hq | exact hdr | exact has) (by first | omega | assumption | exact hn | exact hl | exact hb | exact hq | exact hdr | exact has)) (by omega) (by decide) (by decide) ?_
      refine pj_if_eq (pc := 24) (tgt := 35) dX9_passes_24 (by decide) (fun c24 => ?_) (fun c24 => ?_)
      · refine pj_vret (pc := 35) dX9_passes_35 rfl ?_
        refine ⟨rfl, congrArg (mm g ad μ) ?_⟩
        simp only [drops]
        rw [if_pos]
        rw [show row σ (a + 3) = nI c from e1, g_c]
        exact c24
      · refine pl_aload_n (pc := 27) dX9_passes_27 rfl rfl ?_
        refine pl_iload_n (pc := 28) dX9_passes_28 rfl rfl ?_
        refine pl_callVv (pc := 29) (As := [_]) (C2 := 0) (N2 := 0) ckX9 mdX9_dequeues rfl q2765 q2767 qs68 q154 dX9_passes_29 rfl rfl (Nat.le_of_ble_eq_true rfl) (mm_o hA) (w_X9_dequeues (d := d - 1) (by omega) hA ha ha2 h.1 hq12) (by omega) (by decide) (by decide) ?_
        refine pj_goto (pc := 32) (tgt := 0) dX9_passes_32 (by decide) ?_
        rw [drops_s (q := q) e0 hc c24]
        exact ih _ (PaQ_deq h)
abbrev s_holds (σ : MS) (c : Nat) (h p : Int32) : MS := sR (sR (sR (sR (sR (sR (sR σ (8 * c + 0) h) (8 * c + 1) p) (8 * c + 2) (nI 0)) (8 * c + 3) (nI 0)) (8 * c + 4) (nI 0)) (8 * c + 5) (-1)) (8 * c + 6) (-1)
theorem PaQ_sR {σ : MS} {a q j : Nat} {v : Int32} (hj : j < a + 2 ∨ a + 15 ≤ j) (h : PaQ σ a q) : PaQ (sR σ j v) a q := by
  obtain ⟨h1, h2, h3⟩ := h
  refine ⟨(rowS_ne (by omega)).trans h1, h2, fun k hk => ?_⟩
  obtain ⟨c, hc, e⟩ := h3 k hk
  exact ⟨c, hc, (rowS_ne (by omega)).trans e⟩
def surv1 (a : Nat) (σ : MS) : MS := let c := tN (row σ (a + 3)); let x := tN (row σ (a + 1)); drops a (tN (row σ (a + 2))) (if ¬ x = c then sR σ (a + 1) (nI (nearN x c)) else (let σ1 := sR σ (8 * c + 7) (row σ (8 * c + 7) + nI 1); if sec σ1 c 7 = milesV (σ1.2.1 4 c) (σ1.2.1 3 c) then s_holds σ1 c (nI 1) (-1) else σ1))
def survL (a : Nat) : Nat → MS → MS
  | 0, σ => σ
  | l + 1, σ => if row σ (a + 2) ≤ 0 then σ else survL a l (surv1 a σ)
def s_surveys (σ : MS) (p : Nat) : MS := let a := 1720 + 15 * p; let σ1 := drops a (tN (row σ (a + 2))) σ; survL a (tN (row σ1 (a + 0))) σ1
theorem survL_s {σ : MS} {a l q : Nat} (hq : row σ (a + 2) = nI q) (h0 : 0 < q) (hq2 : q < 2147483648) : survL a (l + 1) σ = survL a l (surv1 a σ) := by
  simp only [survL]
  rw [if_neg]
  rw [hq]
  exact nI_nle h0 hq2
theorem survL_e {σ : MS} {a l : Nat} (hq : row σ (a + 2) = nI 0) : survL a l σ = σ := by
  cases l with
  | zero => rfl
  | succ l => simp only [survL]; rw [if_pos]; rw [hq]; decide
theorem surv1_mv {σ : MS} {a q x c : Nat} (hq : row σ (a + 2) = nI q) (hq2 : q ≤ 12) (hx : row σ (a + 1) = nI x) (hx2 : x < 96) (hc : row σ (a + 3) = nI c) (hc2 : c < 96) (h : ¬ x = c) : surv1 a σ = drops a q (sR σ (a + 1) (nI (nearN x c))) := by
  simp only [surv1]
  rw [hq, hx, hc, tN_nI (by omega), tN_nI (by omega), tN_nI (by omega), if_pos h]
theorem surv1_dg {σ : MS} {a q c : Nat} (hq : row σ (a + 2) = nI q) (hq2 : q ≤ 12) (hx : row σ (a + 1) = nI c) (hc : row σ (a + 3) = nI c) (hc2 : c < 96) : surv1 a σ = drops a q (let σ1 := sR σ (8 * c + 7) (row σ (8 * c + 7) + nI 1); if sec σ1 c 7 = milesV (σ1.2.1 4 c) (σ1.2.1 3 c) then s_holds σ1 c (nI 1) (-1) else σ1) := by
  simp only [surv1]
  rw [hq, hx, hc, tN_nI (by omega), tN_nI (by omega), if_neg (fun h => h rfl)]
abbrev dug (σ : MS) (c : Nat) : MS := sR σ (8 * c + 7) (row σ (8 * c + 7) + nI 1)
theorem surv1_ne {σ : MS} {a q c : Nat} (hq : row σ (a + 2) = nI q) (hq2 : q ≤ 12) (hx : row σ (a + 1) = nI c) (hc : row σ (a + 3) = nI c) (hc2 : c < 96) (h : ¬ sec (dug σ c) c 7 = milesV ((dug σ c).2.1 4 c) ((dug σ c).2.1 3 c)) : surv1 a σ = drops a q (dug σ c) := by
  rw [surv1_dg hq hq2 hx hc hc2]
  exact congrArg (drops a q) (if_neg h)
theorem surv1_eq {σ : MS} {a q c : Nat} (hq : row σ (a + 2) = nI q) (hq2 : q ≤ 12) (hx : row σ (a + 1) = nI c) (hc : row σ (a + 3) = nI c) (hc2 : c < 96) (h : sec (dug σ c) c 7 = milesV ((dug σ c).2.1 4 c) ((dug σ c).2.1 3 c)) : surv1 a σ = drops a q (s_holds (dug σ c) c (nI 1) (-1)) := by
  rw [surv1_dg hq hq2 hx hc hc2]
  exact congrArg (drops a q) (if_pos h)
def Pinv (σ : MS) (a : Nat) : Prop := (∃ q, PaQ σ a q) ∧ ∃ x, x < 96 ∧ row σ (a + 1) = nI x
theorem nearN_lt {f t : Nat} (hf : f < 96) (ht : t < 96) (h : f ≠ t) : nearN f t < 96 := by
  unfold nearN
  split
  · omega
  · split
    · omega
    · split <;> omega
theorem Pinv_drops {σ : MS} {a q : Nat} (h : PaQ σ a q) (hx : ∃ x, x < 96 ∧ row σ (a + 1) = nI x) : Pinv (drops a q σ) a := by
  obtain ⟨⟨q1, -, p1, -⟩, p3, -⟩ := drops_ok q σ h
  obtain ⟨x, x1, x2⟩ := hx
  exact ⟨⟨q1, p1⟩, x, x1, (p3 _ (Or.inr (Or.inr (Or.inr rfl)))).trans x2⟩
theorem PaQ_holds {σ : MS} {a q c : Nat} {h9 p9 : Int32} (hc : c < 96) (ha : 768 ≤ a) (h : PaQ σ a q) : PaQ (s_holds σ c h9 p9) a q :=
  PaQ_sR (by omega) (PaQ_sR (by omega) (PaQ_sR (by omega) (PaQ_sR (by omega) (PaQ_sR (by omega) (PaQ_sR (by omega) (PaQ_sR (by omega) h))))))
theorem holds_row {σ : MS} {c j : Nat} {h9 p9 : Int32} (hj : j < 8 * c ∨ 8 * c + 7 ≤ j) : row (s_holds σ c h9 p9) j = row σ j := by
  rw [rowS_ne (by omega), rowS_ne (by omega), rowS_ne (by omega), rowS_ne (by omega), rowS_ne (by omega), rowS_ne (by omega), rowS_ne (by omega)]
set_option maxHeartbeats 4000000 in
theorem w_X9_surveys {g : GP} {ad : Nat → Nat} {μ : Mem} {σ : MS} {d : Nat} {p : Nat} {v : Nat} (hd : 5 ≤ d) (hA : Inj ad 18) (hp : p < 4) (hv : row σ (1720 + 15 * p + 0) = nI v) (hv9 : v ≤ 9) (hpi : Pinv σ (1720 + 15 * p)) : PM g yX9_surveys (ws_ yX9_surveys cX9_surveys 5 none) d 0 0 [.ref (ad 0), .int (nI p)] (mm g ad μ σ) (rQ none (mm g ad μ (s_surveys σ p))) := by
  refine PM.of (by decide +kernel) (Nat.le_of_ble_eq_true rfl) ?_
  show PJ g _ _ _ _ d 0 0 0 [(0, .ref (ad 0)), (1, .int (nI p))] [] _ _
  have key : ∀ (l : Nat) (σ : MS), l < 2147483648 → Pinv σ (1720 + 15 * p) → PJ g yX9_surveys.cls cX9_surveys 5 (none, yX9_surveys.name, []) d 0 0 23 [(3, .int (nI l)), (2, .int (nI (1720 + 15 * p))), (1, .int (nI p)), (0, .ref (ad 0))] [] (mm g ad μ σ) (rQ none (mm g ad μ (survL (1720 + 15 * p) l σ))) := by
    intro l
    induction l with
    | zero =>
      intro σ _ h
      refine pl_iload_n (pc := 23) dX9_surveys_23 rfl rfl ?_
      refine pj_if_le (pc := 24) (tgt := 138) dX9_surveys_24 (by decide) (fun _ => ?_) (fun h => absurd h (by decide))
      refine pj_vret (pc := 138) dX9_surveys_138 rfl ?_
      exact ⟨rfl, rfl⟩
    | succ l ih =>
      intro σ hl h
      obtain ⟨⟨q, hq⟩, x, hx, ex⟩ := h
      have hq12 := hq.2.1
      have ex1 : σ.2.1 1 (1720 + 15 * p + 1) = nI x := ex
      refine pl_iload_n (pc := 23) dX9_surveys_23 rfl rfl ?_
      refine pl_if_leN (pc := 24) (tgt := 138) dX9_surveys_24 (by decide) (by omega) (fun c24 => ?_) (fun c24 => ?_)
      · exact absurd c24 (by omega)
      · refine pl_aload_n (pc := 27) dX9_surveys_27 rfl rfl ?_
        refine pj_getf (pc := 28) ckX9 1 q2517 dX9_surveys_28 (by decide) (mm_o hA) rfl ?_
        refine pl_iload_n (pc := 31) dX9_surveys_31 rfl rfl ?_
        refine pl_iconst (pc := 32) (v := 2) dX9_surveys_32 (by rfl) ?_
        refine pl_iadd (pc := 33) dX9_surveys_33 ?_
        refine pl_iald (pc := 34) (n := 2132) dX9_surveys_34 (mm_a hA 1 (by decide) (by decide)) (by omega) (by decide) ?_
        refine PJ.top (y := nI _) (hq.1) ?_
        refine pl_if_leN (pc := 35) (tgt := 138) dX9_surveys_35 (by decide) (by omega) (fun c35 => ?_) (fun c35 => ?_)
        · refine pj_vret (pc := 138) dX9_surveys_138 rfl ?_
          exact ⟨rfl, congrArg (mm g ad μ) (survL_e (hq.1.trans (by rw [c35]))).symm⟩
        · obtain ⟨c, hc, ec⟩ := hq.2.2 0 c35
          refine pl_aload_n (pc := 38) dX9_surveys_38 rfl rfl ?_
          refine pj_getf (pc := 39) ckX9 1 q2517 dX9_surveys_39 (by decide) (mm_o hA) rfl ?_
          refine pl_iload_n (pc := 42) dX9_surveys_42 rfl rfl ?_
          refine pl_iconst (pc := 43) (v := 3) dX9_surveys_43 (by rfl) ?_
          refine pl_iadd (pc := 44) dX9_surveys_44 ?_
          refine pl_iald (pc := 45) (n := 2132) dX9_surveys_45 (mm_a hA 1 (by decide) (by decide)) (by omega) (by decide) ?_
          refine PJ.top (y := nI _) (ec) ?_
          refine pj_istore (pc := 46) (lv' := [(4, _), (3, _), (2, _), (1, _), (0, _)]) dX9_surveys_46 (by decide) rfl ?_
          refine pl_aload_n (pc := 48) dX9_surveys_48 rfl rfl ?_
          refine pj_getf (pc := 49) ckX9 1 q2517 dX9_surveys_49 (by decide) (mm_o hA) rfl ?_
          refine pl_iload_n (pc := 52) dX9_surveys_52 rfl rfl ?_
          refine pl_iconst (pc := 53) (v := 1) dX9_surveys_53 (by rfl) ?_
          refine pl_iadd (pc := 54) dX9_surveys_54 ?_
          refine pl_iald (pc := 55) (n := 2132) dX9_surveys_55 (mm_a hA 1 (by decide) (by decide)) (by omega) (by decide) ?_
          refine PJ.top (y := nI _) (ex1) ?_
          refine pl_iload (pc := 56) dX9_surveys_56 rfl ?_
          refine pl_icmp_eq (pc := 58) (tgt := 85) dX9_surveys_58 (by decide) (by omega) (by omega) (fun c58 => ?_) (fun c58 => ?_)
          · refine pl_aload_n (pc := 85) dX9_surveys_85 rfl rfl ?_
            refine pj_getf (pc := 86) ckX9 1 q2517 dX9_surveys_86 (by decide) (mm_o hA) rfl ?_
            refine pl_bipush (pc := 89) (v := 8) dX9_surveys_89 (by rfl) ?_
            refine pl_iload (pc := 91) dX9_surveys_91 rfl ?_
            refine pl_imul (pc := 93) dX9_surveys_93 ?_
            refine pl_bipush (pc := 94) (v := 7) dX9_surveys_94 (by rfl) ?_
            refine pl_iadd (pc := 96) dX9_surveys_96 ?_
            refine pj_dup2_11 (pc := 97) dX9_surveys_97 rfl rfl ?_
            refine pl_iald (pc := 98) (n := 2132) dX9_surveys_98 (mm_a hA 1 (by decide) (by decide)) (by omega) (by decide) ?_
            refine pl_iconst (pc := 99) (v := 1) dX9_surveys_99 (by rfl) ?_
            refine pj_iadd (pc := 100) dX9_surveys_100 ?_
            refine pm_iast (pc := 101) 1 hA (by decide) (by decide) rfl dX9_surveys_101 (show _ < 2132 by omega) (by decide) ?_
            refine pl_aload_n (pc := 102) dX9_surveys_102 rfl rfl ?_
            refine pl_iload (pc := 103) dX9_surveys_103 rfl ?_
            refine pl_bipush (pc := 105) (v := 7) dX9_surveys_105 (by rfl) ?_
            refine pl_callVd (pc := 107) (As := [_, _]) (C2 := 0) (N2 := 0) ckX9 mdX9_sec rfl q2635 q2637 qs51 q154 dX9_surveys_107 rfl rfl (Nat.le_of_ble_eq_true rfl) (mm_o hA) (w_X9_sec (d := d - 1) (by omega) hA hc (by decide)) (by omega) (by decide) (by decide) ?_
            refine pl_aload_n (pc := 110) dX9_surveys_110 rfl rfl ?_
            refine pl_iload (pc := 111) dX9_surveys_111 rfl ?_
            refine pl_callVd (pc := 113) (As := [_]) (C2 := 0) (N2 := 0) ckX9 mdX9_miles rfl q2684 q2686 qs55 q154 dX9_surveys_113 rfl rfl (Nat.le_of_ble_eq_true rfl) (mm_o hA) (w_X9_miles (d := d - 1) (by omega) hA hc) (by omega) (by decide) (by decide) ?_
            refine pj_icmp_ne (pc := 116) (tgt := 127) dX9_surveys_116 (by decide) (fun c116 => ?_) (fun c116 => ?_)
            · refine pl_aload_n (pc := 127) dX9_surveys_127 rfl rfl ?_
              refine pl_iload_n (pc := 128) dX9_surveys_128 rfl rfl ?_
              refine pl_callVv (pc := 129) (As := [_]) (C2 := 0) (N2 := 0) ckX9 mdX9_passes rfl q2761 q2763 qs67 q154 dX9_surveys_129 rfl rfl (Nat.le_of_ble_eq_true rfl) (mm_o hA) (w_X9_passes (d := d - 1) (by omega) hA (by omega) (by omega) q (dug σ c) (PaQ_sR (j := 8 * c + 7) (by omega) hq)) (by omega) (by decide) (by decide) ?_
              refine pl_iinc (pc := 132) (lv' := [(3, _), (4, _), (2, _), (1, _), (0, _)]) dX9_surveys_132 rfl (pk_m1 _) (by decide) rfl ?_
              refine pj_goto (pc := 135) (tgt := 23) dX9_surveys_135 (by decide) ?_
              refine PJ.sub [0, 2, 3, 4] rfl ?_
              rw [survL_s hq.1 c35 (by omega), surv1_ne hq.1 hq12 (ex.trans (congrArg nI c58)) ec hc c116]
              exact ih (drops (1720 + 15 * p) q (dug σ c)) (by omega) (Pinv_drops (PaQ_sR (j := 8 * c + 7) (by omega) hq) ⟨x, hx, (rowS_ne (k := (1720 + 15 * p) + 1) (j := 8 * c + 7) (by omega)).trans ex⟩)
            · refine pl_aload_n (pc := 119) dX9_surveys_119 rfl rfl ?_
              refine pl_iload (pc := 120) dX9_surveys_120 rfl ?_
              refine pl_iconst (pc := 122) (v := 1) dX9_surveys_122 (by rfl) ?_
              refine pj_iconst (pc := 123) (v := (-1)) dX9_surveys_123 (by rfl) ?_
              refine pl_callVv (pc := 124) (As := [_, _, _]) (C2 := 0) (N2 := 0) ckX9 mdX9_holds rfl q2772 q2774 qs69 q154 dX9_surveys_124 rfl rfl (Nat.le_of_ble_eq_true rfl) (mm_o hA) (w_X9_holds (d := d - 1) (by omega) hA hc) (by omega) (by decide) (by decide) ?_
              refine pl_aload_n (pc := 127) dX9_surveys_127 rfl rfl ?_
              refine pl_iload_n (pc := 128) dX9_surveys_128 rfl rfl ?_
              refine pl_callVv (pc := 129) (As := [_]) (C2 := 0) (N2 := 0) ckX9 mdX9_passes rfl q2761 q2763 qs67 q154 dX9_surveys_129 rfl rfl (Nat.le_of_ble_eq_true rfl) (mm_o hA) (w_X9_passes (d := d - 1) (by omega) hA (by omega) (by omega) q (s_holds (dug σ c) c (nI 1) (-1)) (PaQ_holds hc (by omega) (PaQ_sR (j := 8 * c + 7) (by omega) hq))) (by omega) (by decide) (by decide) ?_
              refine pl_iinc (pc := 132) (lv' := [(3, _), (4, _), (2, _), (1, _), (0, _)]) dX9_surveys_132 rfl (pk_m1 _) (by decide) rfl ?_
              refine pj_goto (pc := 135) (tgt := 23) dX9_surveys_135 (by decide) ?_
              refine PJ.sub [0, 2, 3, 4] rfl ?_
              rw [survL_s hq.1 c35 (by omega), surv1_eq hq.1 hq12 (ex.trans (congrArg nI c58)) ec hc c116]
              exact ih (drops (1720 + 15 * p) q (s_holds (dug σ c) c (nI 1) (-1))) (by omega) (Pinv_drops (PaQ_holds hc (by omega) (PaQ_sR (j := 8 * c + 7) (by omega) hq)) ⟨x, hx, (holds_row (j := (1720 + 15 * p) + 1) (by omega)).trans ((rowS_ne (k := (1720 + 15 * p) + 1) (j := 8 * c + 7) (by omega)).trans ex)⟩)
          · refine pl_aload_n (pc := 61) dX9_surveys_61 rfl rfl ?_
            refine pj_getf (pc := 62) ckX9 1 q2517 dX9_surveys_62 (by decide) (mm_o hA) rfl ?_
            refine pl_iload_n (pc := 65) dX9_surveys_65 rfl rfl ?_
            refine pl_iconst (pc := 66) (v := 1) dX9_surveys_66 (by rfl) ?_
            refine pl_iadd (pc := 67) dX9_surveys_67 ?_
            refine pl_aload_n (pc := 68) dX9_surveys_68 rfl rfl ?_
            refine pj_getf (pc := 69) ckX9 1 q2517 dX9_surveys_69 (by decide) (mm_o hA) rfl ?_
            refine pl_iload_n (pc := 72) dX9_surveys_72 rfl rfl ?_
            refine pl_iconst (pc := 73) (v := 1) dX9_surveys_73 (by rfl) ?_
            refine pl_iadd (pc := 74) dX9_surveys_74 ?_
            refine pl_iald (pc := 75) (n := 2132) dX9_surveys_75 (mm_a hA 1 (by decide) (by decide)) (by omega) (by decide) ?_
            refine PJ.top (y := nI _) (ex1) ?_
            refine pl_iload (pc := 76) dX9_surveys_76 rfl ?_
            refine pl_callSd (pc := 78) (As := [_, _]) (C2 := 0) (N2 := 0) mdX9_nearer q2769 q2770 q154 dX9_surveys_78 rfl rfl (Nat.le_of_ble_eq_true rfl) (w_X9_nearer (d := d - 1) (by omega) hx hc c58) (by omega) (by decide) (by decide) ?_
            refine pm_iast (pc := 81) 1 hA (by decide) (by decide) rfl dX9_surveys_81 (show _ < 2132 by omega) (by decide) ?_
            refine pj_goto (pc := 82) (tgt := 127) dX9_surveys_82 (by decide) ?_
            refine pl_aload_n (pc := 127) dX9_surveys_127 rfl rfl ?_
            refine pl_iload_n (pc := 128) dX9_surveys_128 rfl rfl ?_
            refine pl_callVv (pc := 129) (As := [_]) (C2 := 0) (N2 := 0) ckX9 mdX9_passes rfl q2761 q2763 qs67 q154 dX9_surveys_129 rfl rfl (Nat.le_of_ble_eq_true rfl) (mm_o hA) (w_X9_passes (d := d - 1) (by omega) hA (by omega) (by omega) q (sR σ ((1720 + 15 * p) + 1) (nI (nearN x c))) (PaQ_sR (j := (1720 + 15 * p) + 1) (by omega) hq)) (by omega) (by decide) (by decide) ?_
            refine pl_iinc (pc := 132) (lv' := [(3, _), (4, _), (2, _), (1, _), (0, _)]) dX9_surveys_132 rfl (pk_m1 _) (by decide) rfl ?_
            refine pj_goto (pc := 135) (tgt := 23) dX9_surveys_135 (by decide) ?_
            refine PJ.sub [0, 2, 3, 4] rfl ?_
            rw [survL_s hq.1 c35 (by omega), surv1_mv hq.1 hq12 ex hx ec hc c58]
            exact ih (drops (1720 + 15 * p) q (sR σ ((1720 + 15 * p) + 1) (nI (nearN x c)))) (by omega) (Pinv_drops (PaQ_sR (j := (1720 + 15 * p) + 1) (by omega) hq) ⟨nearN x c, nearN_lt hx hc c58, rowS_eq⟩)
  obtain ⟨⟨q, hq⟩, x, hx, ex⟩ := hpi
  have hq12 := hq.2.1
  have ev : row (drops (1720 + 15 * p) q σ) (1720 + 15 * p + 0) = nI v := ((drops_ok q σ hq).2.1 _ (Or.inr (Or.inr (Or.inl rfl)))).trans hv
  refine pl_sipush (pc := 0) (v := 1720) dX9_surveys_0 (by rfl) ?_
  refine pl_bipush (pc := 3) (v := 15) dX9_surveys_3 (by rfl) ?_
  refine pl_iload_n (pc := 5) dX9_surveys_5 rfl rfl ?_
  refine pl_imul (pc := 6) dX9_surveys_6 ?_
  refine pl_iadd (pc := 7) dX9_surveys_7 ?_
  refine pj_istore_n (pc := 8) (lv' := [(2, _), (0, _), (1, _)]) dX9_surveys_8 rfl (by decide) rfl ?_
  refine pl_aload_n (pc := 9) dX9_surveys_9 rfl rfl ?_
  refine pl_iload_n (pc := 10) dX9_surveys_10 rfl rfl ?_
  refine pl_callVv (pc := 11) (As := [_]) (C2 := 0) (N2 := 0) ckX9 mdX9_passes rfl q2761 q2763 qs67 q154 dX9_surveys_11 rfl rfl (Nat.le_of_ble_eq_true rfl) (mm_o hA) (w_X9_passes (d := d - 1) (by omega) hA (by omega) (by omega) q _ hq) (by omega) (by decide) (by decide) ?_
  refine pl_aload_n (pc := 14) dX9_surveys_14 rfl rfl ?_
  refine pj_getf (pc := 15) ckX9 1 q2517 dX9_surveys_15 (by decide) (mm_o hA) rfl ?_
  refine pl_iload_n (pc := 18) dX9_surveys_18 rfl rfl ?_
  refine pl_iconst (pc := 19) (v := 0) dX9_surveys_19 (by rfl) ?_
  refine pl_iadd (pc := 20) dX9_surveys_20 ?_
  refine pl_iald (pc := 21) (n := 2132) dX9_surveys_21 (mm_a hA 1 (by decide) (by decide)) (by omega) (by decide) ?_
  refine PJ.top (y := nI _) (ev) ?_
  refine pj_istore_n (pc := 22) (lv' := [(3, _), (2, _), (0, _), (1, _)]) dX9_surveys_22 rfl (by decide) rfl ?_
  refine PJ.sub [0, 1, 3, 2] rfl ?_
  rw [show s_surveys σ p = survL (1720 + 15 * p) v (drops (1720 + 15 * p) q (σ)) from by unfold s_surveys; simp only []; rw [hq.1, tN_nI (by omega), show row (drops (1720 + 15 * p) q σ) (1720 + 15 * p + 0) = nI v from ev, tN_nI (by omega)]]
  exact key v _ (by omega) (Pinv_drops hq ⟨x, hx, ex⟩)
