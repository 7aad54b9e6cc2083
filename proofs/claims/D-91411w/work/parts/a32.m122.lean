set_option maxRecDepth 100000
/-- a call of x that tells nothing, beside the model's -/
def CQU (codes : List String) (τ : MS) (T : MS → Mem → Prop) : OC → Mem → Prop := fun o M => ((τ.1 0 = nI 0 ∧ o = .inl none) ∨ ∃ k q E, codes[k]? = some E ∧ τ.1 0 = nI (k + 1) ∧ o = .inr (E, q)) ∧ T τ M
theorem CQU.ok {codes : List String} {r : MS} {T : MS → Mem → Prop} {M : Mem} {τ : MS} (e : r = τ) (h0 : τ.1 0 = nI 0) (hT : T τ M) : CQU codes r T (.inl none) M := by
  subst e
  exact ⟨Or.inl ⟨h0, rfl⟩, hT⟩
theorem CQU.no {codes : List String} {r : MS} {T : MS → Mem → Prop} {M : Mem} {τ : MS} {q : Nat} {E : String} (k : Nat) (e : r = τ) (hE : codes[k]? = some E) (h0 : τ.1 0 = nI (k + 1)) (hT : T τ M) : CQU codes r T (.inr (E, q)) M := by
  subst e
  exact ⟨Or.inr ⟨k, q, E, hE, h0, rfl⟩, hT⟩
theorem HoC.p1 {im : Mem} {q : Nat} {r : Nat → Int32} (h : HoC im q r) : r 1 = if r 0 ≤ nI 1 then -1 else r 1 := by
  rcases h with ⟨a, b, c, h⟩ | ⟨a, b, c, h⟩ | ⟨a, h⟩ | ⟨a, b, h⟩ | ⟨a, h⟩ | ⟨a, b, h⟩
  · rw [a, if_pos (by decide), b]
  · rw [a, if_pos (by decide), b]
  · rw [a, if_neg (by decide)]
  · rw [a, if_neg (by decide)]
  · rw [a, if_neg (by decide)]
  · rw [a, if_neg (by decide)]
theorem HoC.p2 {im : Mem} {q : Nat} {r : Nat → Int32} (h : HoC im q r) : r 2 = if isFarmV (r 0) = true then r 2 else -1 := by
  rcases h with ⟨a, b, c, h⟩ | ⟨a, b, c, h⟩ | ⟨a, h⟩ | ⟨a, b, h⟩ | ⟨a, h⟩ | ⟨a, b, h⟩
  · rw [a, if_neg (by decide), c]
  · rw [a, if_neg (by decide), c]
  · rw [a, if_pos (by decide)]
  · rw [a, if_neg (by decide), b]
  · rw [a, if_pos (by decide)]
  · rw [a, if_neg (by decide), b]
set_option maxHeartbeats 600000 in
theorem k_X1_isRain {g : GP} {μ : Mem} {d : Nat} (hd : 1 ≤ d) {v : Int32} : PM g yX1_isRain (ws_ yX1_isRain cX1_isRain 1 (some .boolean)) d 0 0 [.int v] μ (rQ (some (.int (bI (isRainV v)))) μ) := by
  refine PM.of (by decide +kernel) (Nat.le_of_ble_eq_true rfl) ?_
  refine PJ.ok (fun G => ?_)
  show PJ g _ _ _ _ d 0 0 0 [(0, .int v)] [] _ _
  refine pl_iload_n (pc := 0) dX1_isRain_0 rfl rfl ?_
  refine pj_if_lt (pc := 1) (tgt := 15) dX1_isRain_1 (by decide) (fun c1 => ?_) (fun c1 => ?_)
  · refine pl_iconst (pc := 15) (v := 0) dX1_isRain_15 (by rfl) ?_
    refine pj_zret (pc := 16) .boolean dX1_isRain_16 rfl (by rfl) ?_
    refine ⟨?_, rfl⟩
    have e9 : isRainV v = false := by simp [isRainV, c1, Int32.not_lt]
    rw [e9]
    rfl
  · refine pl_iload_n (pc := 4) dX1_isRain_4 rfl rfl ?_
    refine pl_sipush (pc := 5) (v := 500) dX1_isRain_5 (by rfl) ?_
    refine pj_icmp_gt (pc := 8) (tgt := 15) dX1_isRain_8 (by decide) (fun c8 => ?_) (fun c8 => ?_)
    · refine pl_iconst (pc := 15) (v := 0) dX1_isRain_15 (by rfl) ?_
      refine pj_zret (pc := 16) .boolean dX1_isRain_16 rfl (by rfl) ?_
      refine ⟨?_, rfl⟩
      have e9 : isRainV v = false := by simp [isRainV, c1, c8, Int32.not_lt]
      rw [e9]
      rfl
    · refine pl_iconst (pc := 11) (v := 1) dX1_isRain_11 (by rfl) ?_
      refine pj_goto (pc := 12) (tgt := 16) dX1_isRain_12 (by decide) ?_
      refine pj_zret (pc := 16) .boolean dX1_isRain_16 rfl (by rfl) ?_
      refine ⟨?_, rfl⟩
      have e9 : isRainV v = true := by simp [isRainV, c1, c8, Int32.not_lt]
      rw [e9]
      rfl
set_option maxHeartbeats 600000 in
theorem x_X1_fault {g : GP} {μ : Mem} {d : Nat} {P : Nat → Prop} {F : Mem} {A : XA} {S : Nat → Nat → Nat} {b : XS} {σ : MS} {nor nw : Nat} (s : SB g P F A 0 S b σ nw μ) (iv : IvG σ (S 4 0) (S 8 0) (S 10 0) (S 6 0) nor nw) (rs : RsX σ) (hd : 3 ≤ d)  : PM g yX1_fault (ws_ yX1_fault cX1_fault 1 (some .int)) d 1 6 [.ref (A 0 0 0)] μ (CQ [] (((s0 σ).1 13, s0 σ)) (fun τ M => SB g P F A 0 S b τ nw M)) := by
  refine PM.of (by decide +kernel) (Nat.le_of_ble_eq_true rfl) ?_
  refine PJ.ok (fun G => ?_)
  show PJ g _ _ _ _ d 1 6 0 [(0, .ref (A 0 0 0))] [] _ _
  obtain ⟨e, h, t⟩ := s
  have hS4 := h.hz.2.1
  have hS6 := h.hz.2.2.1
  have hS8 := h.hz.2.2.2.1
  have hS10 := h.hz.2.2.2.2.1
  refine pl_aload_n (pc := 0) dX1_fault_0 rfl rfl ?_
  refine pj_getf (pc := 1) ckX1 3 q856 dX1_fault_1 (by decide) (h.r0) rfl ?_
  refine pj_iret (pc := 4) dX1_fault_4 rfl ?_
  exact CQ.ok (τ := s0 σ) (by first | (simp only [sF_2, row_sF, ↓reduceIte]; first | done | rfl) | (simp [sF_2, row_sF, Int32.not_lt, Int32.not_le]; first | done | rfl)) rfl (SB.F0 ⟨_, h, t⟩)
set_option maxHeartbeats 600000 in
theorem x_X1_number {g : GP} {μ : Mem} {d : Nat} {P : Nat → Prop} {F : Mem} {A : XA} {S : Nat → Nat → Nat} {b : XS} {σ : MS} {nor nw : Nat} (s : SB g P F A 0 S b σ nw μ) (iv : IvG σ (S 4 0) (S 8 0) (S 10 0) (S 6 0) nor nw) (rs : RsX σ) {im : Nat} (him : σ.1 31 = nI im) (hIM : im ≤ 196) (hd : 3 ≤ d) {k : Int32} : PM g yX1_number (ws_ yX1_number cX1_number 2 (some .int)) d 1 6 [.ref (A 0 0 0), .int k] μ (CQ [] (p_number σ k) (fun τ M => SB g P F A 0 S b τ nw M)) := by
  refine PM.of (by decide +kernel) (Nat.le_of_ble_eq_true rfl) ?_
  refine PJ.ok (fun G => ?_)
  show PJ g _ _ _ _ d 1 6 0 [(0, .ref (A 0 0 0)), (1, .int k)] [] _ _
  obtain ⟨e, h, t⟩ := s
  have hS4 := h.hz.2.1
  have hS6 := h.hz.2.2.1
  have hS8 := h.hz.2.2.2.1
  have hS10 := h.hz.2.2.2.2.1
  refine pl_iload_n (pc := 0) dX1_number_0 rfl rfl ?_
  refine pj_if_lt (pc := 1) (tgt := 21) dX1_number_1 (by decide) (fun c1 => ?_) (fun c1 => ?_)
  · refine pj_iconst (pc := 21) (v := (-1)) dX1_number_21 (by rfl) ?_
    refine pj_iret (pc := 22) dX1_number_22 rfl ?_
    exact CQ.ok (τ := s0 σ) (by first | (simp only [p_number, (show (sF σ 0 (nI 0)).1 31 = σ.1 31 from rfl), sF_2, c1, row_sF, ↓reduceIte]; first | done | rfl) | (simp [p_number, (show (sF σ 0 (nI 0)).1 31 = σ.1 31 from rfl), sF_2, c1, row_sF, Int32.not_lt, Int32.not_le]; first | done | rfl)) rfl (SB.F0 ⟨_, h, t⟩)
  · refine pl_iload_n (pc := 4) dX1_number_4 rfl rfl ?_
    refine pl_aload_n (pc := 5) dX1_number_5 rfl rfl ?_
    refine pj_getf (pc := 6) ckX1 18 q871 dX1_number_6 (by decide) (h.r0) rfl ?_
    refine pj_icmp_ge (pc := 9) (tgt := 21) dX1_number_9 (by decide) (fun c9 => ?_) (fun c9 => ?_)
    · refine pj_iconst (pc := 21) (v := (-1)) dX1_number_21 (by rfl) ?_
      refine pj_iret (pc := 22) dX1_number_22 rfl ?_
      exact CQ.ok (τ := s0 σ) (by first | (simp only [p_number, (show (sF σ 0 (nI 0)).1 31 = σ.1 31 from rfl), sF_2, c1, c9, row_sF, ↓reduceIte]; first | done | rfl) | (simp [p_number, (show (sF σ 0 (nI 0)).1 31 = σ.1 31 from rfl), sF_2, c1, c9, row_sF, Int32.not_lt, Int32.not_le]; first | done | rfl)) rfl (SB.F0 ⟨_, h, t⟩)
    · obtain ⟨j_k, hj_k, rfl⟩ := inN_of (x := k) (n := im) (by omega) (by simp only [inN, Bool.and_eq_true, decide_eq_true_eq]; exact ⟨Int32.not_lt.mp c1, by rw [← him]; exact Int32.not_le.mp c9⟩)
      have g_k := tN_nI (n := j_k) (by omega)
      refine pl_aload_n (pc := 12) dX1_number_12 rfl rfl ?_
      refine pj_getf (pc := 13) ckX1 21 q874 dX1_number_13 (by decide) (h.r0) rfl ?_
      refine pl_iload_n (pc := 16) dX1_number_16 rfl rfl ?_
      refine pl_iald (pc := 17) (n := 196) dX1_number_17 (h.r47) (by omega) (by decide) ?_
      refine PJ.top (h.v47 (by omega)) ?_
      refine pj_goto (pc := 18) (tgt := 22) dX1_number_18 (by decide) ?_
      refine pj_iret (pc := 22) dX1_number_22 rfl ?_
      exact CQ.ok (τ := s0 σ) (by first | (simp only [p_number, (show (sF σ 0 (nI 0)).1 31 = σ.1 31 from rfl), sF_2, c1, c9, g_k, row_sF, ↓reduceIte]; first | done | rfl) | (simp [p_number, (show (sF σ 0 (nI 0)).1 31 = σ.1 31 from rfl), sF_2, c1, c9, g_k, row_sF, Int32.not_lt, Int32.not_le]; first | done | rfl)) rfl (SB.F0 ⟨_, h, t⟩)
set_option maxHeartbeats 600000 in
theorem x_X1_tear {g : GP} {μ : Mem} {d : Nat} {P : Nat → Prop} {F : Mem} {A : XA} {S : Nat → Nat → Nat} {b : XS} {σ : MS} {nor nw : Nat} (s : SB g P F A 0 S b σ nw μ) (iv : IvG σ (S 4 0) (S 8 0) (S 10 0) (S 6 0) nor nw) (rs : RsX σ) {im : Nat} (him : σ.1 31 = nI im) (hIM : im ≤ 196) (hd : 3 ≤ d) {k : Int32} {v : Int32} : PM g yX1_tear (ws_ yX1_tear cX1_tear 3 (some .int)) d 1 6 [.ref (A 0 0 0), .int k, .int v] μ (CQ [] (p_tear σ k v) (fun τ M => SB g P F A 0 S b τ nw M)) := by
  refine PM.of (by decide +kernel) (Nat.le_of_ble_eq_true rfl) ?_
  refine PJ.ok (fun G => ?_)
  show PJ g _ _ _ _ d 1 6 0 [(0, .ref (A 0 0 0)), (1, .int k), (2, .int v)] [] _ _
  obtain ⟨e, h, t⟩ := s
  have hS4 := h.hz.2.1
  have hS6 := h.hz.2.2.1
  have hS8 := h.hz.2.2.2.1
  have hS10 := h.hz.2.2.2.2.1
  refine pl_iload_n (pc := 0) dX1_tear_0 rfl rfl ?_
  refine pj_if_lt (pc := 1) (tgt := 12) dX1_tear_1 (by decide) (fun c1 => ?_) (fun c1 => ?_)
  · refine pj_iconst (pc := 12) (v := (-1)) dX1_tear_12 (by rfl) ?_
    refine pj_iret (pc := 13) dX1_tear_13 rfl ?_
    exact CQ.ok (τ := s0 σ) (by first | (simp only [p_tear, (show (sF σ 0 (nI 0)).1 31 = σ.1 31 from rfl), sF_2, c1, row_sF, ↓reduceIte]; first | done | rfl) | (simp [p_tear, (show (sF σ 0 (nI 0)).1 31 = σ.1 31 from rfl), sF_2, c1, row_sF, Int32.not_lt, Int32.not_le]; first | done | rfl)) rfl (SB.F0 ⟨_, h, t⟩)
  · refine pl_iload_n (pc := 4) dX1_tear_4 rfl rfl ?_
    refine pl_aload_n (pc := 5) dX1_tear_5 rfl rfl ?_
    refine pj_getf (pc := 6) ckX1 18 q871 dX1_tear_6 (by decide) (h.r0) rfl ?_
    refine pj_icmp_lt (pc := 9) (tgt := 14) dX1_tear_9 (by decide) (fun c9 => ?_) (fun c9 => ?_)
    · obtain ⟨j_k, hj_k, rfl⟩ := inN_of (x := k) (n := im) (by omega) (by simp only [inN, Bool.and_eq_true, decide_eq_true_eq]; exact ⟨Int32.not_lt.mp c1, by rw [← him]; exact c9⟩)
      have g_k := tN_nI (n := j_k) (by omega)
      refine pl_aload_n (pc := 14) dX1_tear_14 rfl rfl ?_
      refine pj_getf (pc := 15) ckX1 21 q874 dX1_tear_15 (by decide) (h.r0) rfl ?_
      refine pl_iload_n (pc := 18) dX1_tear_18 rfl rfl ?_
      refine pj_dup2_11 (pc := 19) dX1_tear_19 rfl rfl ?_
      refine pl_iald (pc := 20) (n := 196) dX1_tear_20 (h.r47) (by omega) (by decide) ?_
      refine PJ.top (h.v47 (by omega)) ?_
      refine pl_iload_n (pc := 21) dX1_tear_21 rfl rfl ?_
      refine pj_ixor (pc := 22) dX1_tear_22 ?_
      refine pl_iast (pc := 23) (n := 196) dX1_tear_23 (h.r47) (by omega) (by decide) ?_
      refine sxk (h.p47 (by omega)) (fun My1 y1 => ?_)
      refine pl_aload_n (pc := 24) dX1_tear_24 rfl rfl ?_
      refine pj_getf (pc := 25) ckX1 21 q874 dX1_tear_25 (by decide) (y1.r0) rfl ?_
      refine pl_iload_n (pc := 28) dX1_tear_28 rfl rfl ?_
      refine pl_iald (pc := 29) (n := 196) dX1_tear_29 (y1.r47) (by omega) (by decide) ?_
      refine PJ.top (y1.v47 (by omega)) ?_
      refine pj_iret (pc := 30) dX1_tear_30 rfl ?_
      have g8 : SX g P F A 0 S b (wA σ 17 j_k (σ.2.1 17 j_k ^^^ v)) e _ := y1
      exact CQ.ok (τ := (wA (s0 σ) 17 j_k ((s0 σ).2.1 17 j_k ^^^ v))) (by first | (simp only [p_tear, (show (sF σ 0 (nI 0)).1 31 = σ.1 31 from rfl), sF_2, c1, c9, g_k, row_sF, ↓reduceIte]; first | done | rfl) | (simp [p_tear, (show (sF σ 0 (nI 0)).1 31 = σ.1 31 from rfl), sF_2, c1, c9, g_k, row_sF, Int32.not_lt, Int32.not_le]; first | done | rfl)) rfl (SB.F0 (σ := (wA σ 17 j_k (σ.2.1 17 j_k ^^^ v))) ⟨_, g8, t.cg9 g8.hz (fun _ _ => rfl) rfl rfl rfl rfl rfl⟩)
    · refine pj_iconst (pc := 12) (v := (-1)) dX1_tear_12 (by rfl) ?_
      refine pj_iret (pc := 13) dX1_tear_13 rfl ?_
      exact CQ.ok (τ := s0 σ) (by first | (simp only [p_tear, (show (sF σ 0 (nI 0)).1 31 = σ.1 31 from rfl), sF_2, c1, c9, row_sF, ↓reduceIte]; first | done | rfl) | (simp [p_tear, (show (sF σ 0 (nI 0)).1 31 = σ.1 31 from rfl), sF_2, c1, c9, row_sF, Int32.not_lt, Int32.not_le]; first | done | rfl)) rfl (SB.F0 ⟨_, h, t⟩)
set_option maxHeartbeats 600000 in
theorem x_X1_prices {g : GP} {μ : Mem} {d : Nat} {P : Nat → Prop} {F : Mem} {A : XA} {S : Nat → Nat → Nat} {b : XS} {σ : MS} {nor nw : Nat} (s : SB g P F A 0 S b σ nw μ) (iv : IvG σ (S 4 0) (S 8 0) (S 10 0) (S 6 0) nor nw) (rs : RsX σ) (hd : 8 ≤ d) {va : Int32} {vb : Int32} {vc : Int32} : PM g yX1_prices (ws_ yX1_prices cX1_prices 4 none) d 1 6 [.ref (A 0 0 0), .int va, .int vb, .int vc] μ (CQU ["java/lang/IllegalArgumentException"] (p_prices σ va vb vc) (fun τ M => SB g P F A 0 S b τ nw M)) := by
  refine PM.of (by decide +kernel) (Nat.le_of_ble_eq_true rfl) ?_
  refine PJ.ok (fun G => ?_)
  show PJ g _ _ _ _ d 1 6 0 [(0, .ref (A 0 0 0)), (1, .int va), (2, .int vb), (3, .int vc)] [] _ _
  obtain ⟨e, h, t⟩ := s
  have hS4 := h.hz.2.1
  have hS6 := h.hz.2.2.1
  have hS8 := h.hz.2.2.2.1
  have hS10 := h.hz.2.2.2.2.1
  refine pl_iload_n (pc := 0) dX1_prices_0 rfl rfl ?_
  refine pl_iconst (pc := 1) (v := 1) dX1_prices_1 (by rfl) ?_
  refine pj_icmp_lt (pc := 2) (tgt := 40) dX1_prices_2 (by decide) (fun c2 => ?_) (fun c2 => ?_)
  · refine pl_iconst (pc := 40) (v := 0) dX1_prices_40 (by rfl) ?_
    refine pl_callSX (pc := 41) (As := [_]) (C1 := 1) (N1 := 6) (C2 := 0) (N2 := 0) (E8 := "java/lang/IllegalArgumentException") mdX1_need q1262 q1263 q125 dX1_prices_41 rfl rfl (Nat.le_of_ble_eq_true rfl) (k_X1_need_no (d := d - 1) (by omega) rfl) (by omega) (by omega) (by omega) (fun q_41 M_41 hM_41 => ?_)
    refine px_out0 rfl ?_
    exact CQU.no 0 (τ := th σ 1) (by first | (simp only [p_prices, c2, row_sF, ↓reduceIte]; first | done | rfl) | (simp [p_prices, c2, row_sF, Int32.not_lt, Int32.not_le]; first | done | rfl)) rfl rfl (SB.mono (SB.F0 (SB.F0 ⟨_, h, t⟩)) hM_41)
  · refine pl_iload_n (pc := 5) dX1_prices_5 rfl rfl ?_
    refine pl_sipush (pc := 6) (v := 1000) dX1_prices_6 (by rfl) ?_
    refine pj_icmp_gt (pc := 9) (tgt := 40) dX1_prices_9 (by decide) (fun c9 => ?_) (fun c9 => ?_)
    · refine pl_iconst (pc := 40) (v := 0) dX1_prices_40 (by rfl) ?_
      refine pl_callSX (pc := 41) (As := [_]) (C1 := 1) (N1 := 6) (C2 := 0) (N2 := 0) (E8 := "java/lang/IllegalArgumentException") mdX1_need q1262 q1263 q125 dX1_prices_41 rfl rfl (Nat.le_of_ble_eq_true rfl) (k_X1_need_no (d := d - 1) (by omega) rfl) (by omega) (by omega) (by omega) (fun q_41 M_41 hM_41 => ?_)
      refine px_out0 rfl ?_
      exact CQU.no 0 (τ := th σ 1) (by first | (simp only [p_prices, c2, c9, row_sF, ↓reduceIte]; first | done | rfl) | (simp [p_prices, c2, c9, row_sF, Int32.not_lt, Int32.not_le]; first | done | rfl)) rfl rfl (SB.mono (SB.F0 (SB.F0 ⟨_, h, t⟩)) hM_41)
    · refine pl_iload_n (pc := 12) dX1_prices_12 rfl rfl ?_
      refine pl_iconst (pc := 13) (v := 1) dX1_prices_13 (by rfl) ?_
      refine pj_icmp_lt (pc := 14) (tgt := 40) dX1_prices_14 (by decide) (fun c14 => ?_) (fun c14 => ?_)
      · refine pl_iconst (pc := 40) (v := 0) dX1_prices_40 (by rfl) ?_
        refine pl_callSX (pc := 41) (As := [_]) (C1 := 1) (N1 := 6) (C2 := 0) (N2 := 0) (E8 := "java/lang/IllegalArgumentException") mdX1_need q1262 q1263 q125 dX1_prices_41 rfl rfl (Nat.le_of_ble_eq_true rfl) (k_X1_need_no (d := d - 1) (by omega) rfl) (by omega) (by omega) (by omega) (fun q_41 M_41 hM_41 => ?_)
        refine px_out0 rfl ?_
        exact CQU.no 0 (τ := th σ 1) (by first | (simp only [p_prices, c2, c9, c14, row_sF, ↓reduceIte]; first | done | rfl) | (simp [p_prices, c2, c9, c14, row_sF, Int32.not_lt, Int32.not_le]; first | done | rfl)) rfl rfl (SB.mono (SB.F0 (SB.F0 ⟨_, h, t⟩)) hM_41)
      · refine pl_iload_n (pc := 17) dX1_prices_17 rfl rfl ?_
        refine pl_sipush (pc := 18) (v := 1000) dX1_prices_18 (by rfl) ?_
        refine pj_icmp_gt (pc := 21) (tgt := 40) dX1_prices_21 (by decide) (fun c21 => ?_) (fun c21 => ?_)
        · refine pl_iconst (pc := 40) (v := 0) dX1_prices_40 (by rfl) ?_
          refine pl_callSX (pc := 41) (As := [_]) (C1 := 1) (N1 := 6) (C2 := 0) (N2 := 0) (E8 := "java/lang/IllegalArgumentException") mdX1_need q1262 q1263 q125 dX1_prices_41 rfl rfl (Nat.le_of_ble_eq_true rfl) (k_X1_need_no (d := d - 1) (by omega) rfl) (by omega) (by omega) (by omega) (fun q_41 M_41 hM_41 => ?_)
          refine px_out0 rfl ?_
          exact CQU.no 0 (τ := th σ 1) (by first | (simp only [p_prices, c2, c9, c14, c21, row_sF, ↓reduceIte]; first | done | rfl) | (simp [p_prices, c2, c9, c14, c21, row_sF, Int32.not_lt, Int32.not_le]; first | done | rfl)) rfl rfl (SB.mono (SB.F0 (SB.F0 ⟨_, h, t⟩)) hM_41)
        · refine pl_iload_n (pc := 24) dX1_prices_24 rfl rfl ?_
          refine pl_iconst (pc := 25) (v := 1) dX1_prices_25 (by rfl) ?_
          refine pj_icmp_lt (pc := 26) (tgt := 40) dX1_prices_26 (by decide) (fun c26 => ?_) (fun c26 => ?_)
          · refine pl_iconst (pc := 40) (v := 0) dX1_prices_40 (by rfl) ?_
            refine pl_callSX (pc := 41) (As := [_]) (C1 := 1) (N1 := 6) (C2 := 0) (N2 := 0) (E8 := "java/lang/IllegalArgumentException") mdX1_need q1262 q1263 q125 dX1_prices_41 rfl rfl (Nat.le_of_ble_eq_true rfl) (k_X1_need_no (d := d - 1) (by omega) rfl) (by omega) (by omega) (by omega) (fun q_41 M_41 hM_41 => ?_)
            refine px_out0 rfl ?_
            exact CQU.no 0 (τ := th σ 1) (by first | (simp only [p_prices, c2, c9, c14, c21, c26, row_sF, ↓reduceIte]; first | done | rfl) | (simp [p_prices, c2, c9, c14, c21, c26, row_sF, Int32.not_lt, Int32.not_le]; first | done | rfl)) rfl rfl (SB.mono (SB.F0 (SB.F0 ⟨_, h, t⟩)) hM_41)
          · refine pl_iload_n (pc := 29) dX1_prices_29 rfl rfl ?_
            refine pl_sipush (pc := 30) (v := 1000) dX1_prices_30 (by rfl) ?_
            refine pj_icmp_gt (pc := 33) (tgt := 40) dX1_prices_33 (by decide) (fun c33 => ?_) (fun c33 => ?_)
            · refine pl_iconst (pc := 40) (v := 0) dX1_prices_40 (by rfl) ?_
              refine pl_callSX (pc := 41) (As := [_]) (C1 := 1) (N1 := 6) (C2 := 0) (N2 := 0) (E8 := "java/lang/IllegalArgumentException") mdX1_need q1262 q1263 q125 dX1_prices_41 rfl rfl (Nat.le_of_ble_eq_true rfl) (k_X1_need_no (d := d - 1) (by omega) rfl) (by omega) (by omega) (by omega) (fun q_41 M_41 hM_41 => ?_)
              refine px_out0 rfl ?_
              exact CQU.no 0 (τ := th σ 1) (by first | (simp only [p_prices, c2, c9, c14, c21, c26, c33, row_sF, ↓reduceIte]; first | done | rfl) | (simp [p_prices, c2, c9, c14, c21, c26, c33, row_sF, Int32.not_lt, Int32.not_le]; first | done | rfl)) rfl rfl (SB.mono (SB.F0 (SB.F0 ⟨_, h, t⟩)) hM_41)
            · refine pl_iconst (pc := 36) (v := 1) dX1_prices_36 (by rfl) ?_
              refine pj_goto (pc := 37) (tgt := 41) dX1_prices_37 (by decide) ?_
              refine pl_callSv (pc := 41) (As := [_]) (C1 := 0) (N1 := 0) (C2 := 1) (N2 := 6) mdX1_need q1262 q1263 q125 dX1_prices_41 rfl rfl (Nat.le_of_ble_eq_true rfl) (k_X1_need_ok (d := d - 1) (by omega) (by decide)) (by omega) (by omega) (by omega) ?_
              refine pl_aload_n (pc := 44) dX1_prices_44 rfl rfl ?_
              refine pj_getf (pc := 45) ckX1 12 q865 dX1_prices_45 (by decide) (h.r0) rfl ?_
              refine pl_iconst (pc := 48) (v := 0) dX1_prices_48 (by rfl) ?_
              refine pl_iload_n (pc := 49) dX1_prices_49 rfl rfl ?_
              refine pl_iast (pc := 50) (n := 3) dX1_prices_50 (h.r43) (by omega) (by decide) ?_
              refine sxk (h.p43 (by omega)) (fun My1 y1 => ?_)
              refine pl_aload_n (pc := 51) dX1_prices_51 rfl rfl ?_
              refine pj_getf (pc := 52) ckX1 12 q865 dX1_prices_52 (by decide) (y1.r0) rfl ?_
              refine pl_iconst (pc := 55) (v := 1) dX1_prices_55 (by rfl) ?_
              refine pl_iload_n (pc := 56) dX1_prices_56 rfl rfl ?_
              refine pl_iast (pc := 57) (n := 3) dX1_prices_57 (y1.r43) (by omega) (by decide) ?_
              refine sxk (y1.p43 (by omega)) (fun My2 y2 => ?_)
              refine pl_aload_n (pc := 58) dX1_prices_58 rfl rfl ?_
              refine pj_getf (pc := 59) ckX1 12 q865 dX1_prices_59 (by decide) (y2.r0) rfl ?_
              refine pl_iconst (pc := 62) (v := 2) dX1_prices_62 (by rfl) ?_
              refine pl_iload_n (pc := 63) dX1_prices_63 rfl rfl ?_
              refine pl_iast (pc := 64) (n := 3) dX1_prices_64 (y2.r43) (by omega) (by decide) ?_
              refine sxk (y2.p43 (by omega)) (fun My3 y3 => ?_)
              refine pl_aload_n (pc := 65) dX1_prices_65 rfl rfl ?_
              refine pl_iconst (pc := 66) (v := 1) dX1_prices_66 (by rfl) ?_
              refine pj_putf (pc := 67) ckX1 6 q859 dX1_prices_67 (by decide) rfl (y3.r0) rfl rfl (Nat.le_of_ble_eq_true rfl) ?_
              refine sxk (y3.p0_6) (fun My4 y4 => ?_)
              refine pj_vret (pc := 70) dX1_prices_70 rfl ?_
              have g7 : SX g P F A 0 S b (wA (wA (wA (sF σ 28 (nI 1)) 15 0 va) 15 1 vb) 15 2 vc) e _ := y4
              have g8 : SX g P F A 0 S b (wA (wA (wA (sF (s0 σ) 28 (nI 1)) 15 0 va) 15 1 vb) 15 2 vc) e _ := g7.cg (fun _ _ _ _ => rfl) (fun y hy => by rcases hy with z | z | z | z | z | z | z | z <;> (subst z; rfl)) rfl rfl
              exact CQU.ok (τ := (wA (wA (wA (sF (s0 σ) 28 (nI 1)) 15 0 va) 15 1 vb) 15 2 vc)) (by first | (simp only [p_prices, c2, c9, c14, c21, c26, c33, row_sF, ↓reduceIte]; first | done | rfl) | (simp [p_prices, c2, c9, c14, c21, c26, c33, row_sF, Int32.not_lt, Int32.not_le]; first | done | rfl)) rfl ⟨_, g8, t.cg9 g8.hz (fun _ _ => rfl) rfl rfl rfl rfl rfl⟩
set_option maxHeartbeats 600000 in
theorem x_X1_worst {g : GP} {μ : Mem} {d : Nat} {P : Nat → Prop} {F : Mem} {A : XA} {S : Nat → Nat → Nat} {b : XS} {σ : MS} {nor nw : Nat} (s : SB g P F A 0 S b σ nw μ) (iv : IvG σ (S 4 0) (S 8 0) (S 10 0) (S 6 0) nor nw) (rs : RsX σ) (hd : 8 ≤ d) {vn : Int32} {va : Int32} {vb : Int32} {vc : Int32} : PM g yX1_worst (ws_ yX1_worst cX1_worst 5 none) d 1 6 [.ref (A 0 0 0), .int vn, .int va, .int vb, .int vc] μ (CQU ["java/lang/IllegalArgumentException"] (p_worst σ vn va vb vc) (fun τ M => SB g P F A 0 S b τ nw M)) := by
  refine PM.of (by decide +kernel) (Nat.le_of_ble_eq_true rfl) ?_
  refine PJ.ok (fun G => ?_)
  show PJ g _ _ _ _ d 1 6 0 [(0, .ref (A 0 0 0)), (1, .int vn), (2, .int va), (3, .int vb), (4, .int vc)] [] _ _
  obtain ⟨e, h, t⟩ := s
  have hS4 := h.hz.2.1
  have hS6 := h.hz.2.2.1
  have hS8 := h.hz.2.2.2.1
  have hS10 := h.hz.2.2.2.2.1
  refine pl_iload_n (pc := 0) dX1_worst_0 rfl rfl ?_
  refine pl_iconst (pc := 1) (v := 1) dX1_worst_1 (by rfl) ?_
  refine pj_icmp_lt (pc := 2) (tgt := 36) dX1_worst_2 (by decide) (fun c2 => ?_) (fun c2 => ?_)
  · refine pl_iconst (pc := 36) (v := 0) dX1_worst_36 (by rfl) ?_
    refine pl_callSX (pc := 37) (As := [_]) (C1 := 1) (N1 := 6) (C2 := 0) (N2 := 0) (E8 := "java/lang/IllegalArgumentException") mdX1_need q1262 q1263 q125 dX1_worst_37 rfl rfl (Nat.le_of_ble_eq_true rfl) (k_X1_need_no (d := d - 1) (by omega) rfl) (by omega) (by omega) (by omega) (fun q_37 M_37 hM_37 => ?_)
    refine px_out0 rfl ?_
    exact CQU.no 0 (τ := th σ 1) (by first | (simp only [p_worst, c2, row_sF, ↓reduceIte]; first | done | rfl) | (simp [p_worst, c2, row_sF, Int32.not_lt, Int32.not_le]; first | done | rfl)) rfl rfl (SB.mono (SB.F0 (SB.F0 ⟨_, h, t⟩)) hM_37)
  · refine pl_iload_n (pc := 5) dX1_worst_5 rfl rfl ?_
    refine pl_iconst (pc := 6) (v := 3) dX1_worst_6 (by rfl) ?_
    refine pj_icmp_gt (pc := 7) (tgt := 36) dX1_worst_7 (by decide) (fun c7 => ?_) (fun c7 => ?_)
    · refine pl_iconst (pc := 36) (v := 0) dX1_worst_36 (by rfl) ?_
      refine pl_callSX (pc := 37) (As := [_]) (C1 := 1) (N1 := 6) (C2 := 0) (N2 := 0) (E8 := "java/lang/IllegalArgumentException") mdX1_need q1262 q1263 q125 dX1_worst_37 rfl rfl (Nat.le_of_ble_eq_true rfl) (k_X1_need_no (d := d - 1) (by omega) rfl) (by omega) (by omega) (by omega) (fun q_37 M_37 hM_37 => ?_)
      refine px_out0 rfl ?_
      exact CQU.no 0 (τ := th σ 1) (by first | (simp only [p_worst, c2, c7, row_sF, ↓reduceIte]; first | done | rfl) | (simp [p_worst, c2, c7, row_sF, Int32.not_lt, Int32.not_le]; first | done | rfl)) rfl rfl (SB.mono (SB.F0 (SB.F0 ⟨_, h, t⟩)) hM_37)
    · refine pl_iload_n (pc := 10) dX1_worst_10 rfl rfl ?_
      refine pl_callSd (pc := 11) (As := [_]) (C1 := 0) (N1 := 0) (C2 := 1) (N2 := 6) mdX1_isRain q2494 q2495 q125 dX1_worst_11 rfl rfl (Nat.le_of_ble_eq_true rfl) (k_X1_isRain (d := d - 1) (by omega)) (by omega) (by omega) (by omega) ?_
      refine pl_if_eqB (pc := 14) (tgt := 36) dX1_worst_14 (by decide) (fun c14 => ?_) (fun c14 => ?_)
      · refine pl_iconst (pc := 36) (v := 0) dX1_worst_36 (by rfl) ?_
        refine pl_callSX (pc := 37) (As := [_]) (C1 := 1) (N1 := 6) (C2 := 0) (N2 := 0) (E8 := "java/lang/IllegalArgumentException") mdX1_need q1262 q1263 q125 dX1_worst_37 rfl rfl (Nat.le_of_ble_eq_true rfl) (k_X1_need_no (d := d - 1) (by omega) rfl) (by omega) (by omega) (by omega) (fun q_37 M_37 hM_37 => ?_)
        refine px_out0 rfl ?_
        exact CQU.no 0 (τ := th σ 1) (by first | (simp only [p_worst, c2, c7, c14, row_sF, ↓reduceIte]; first | done | rfl) | (simp [p_worst, c2, c7, c14, row_sF, Int32.not_lt, Int32.not_le]; first | done | rfl)) rfl rfl (SB.mono (SB.F0 (SB.F0 ⟨_, h, t⟩)) hM_37)
      · refine pl_iload_n (pc := 17) dX1_worst_17 rfl rfl ?_
        refine pl_callSd (pc := 18) (As := [_]) (C1 := 0) (N1 := 0) (C2 := 1) (N2 := 6) mdX1_isRain q2494 q2495 q125 dX1_worst_18 rfl rfl (Nat.le_of_ble_eq_true rfl) (k_X1_isRain (d := d - 1) (by omega)) (by omega) (by omega) (by omega) ?_
        refine pl_if_eqB (pc := 21) (tgt := 36) dX1_worst_21 (by decide) (fun c21 => ?_) (fun c21 => ?_)
        · refine pl_iconst (pc := 36) (v := 0) dX1_worst_36 (by rfl) ?_
          refine pl_callSX (pc := 37) (As := [_]) (C1 := 1) (N1 := 6) (C2 := 0) (N2 := 0) (E8 := "java/lang/IllegalArgumentException") mdX1_need q1262 q1263 q125 dX1_worst_37 rfl rfl (Nat.le_of_ble_eq_true rfl) (k_X1_need_no (d := d - 1) (by omega) rfl) (by omega) (by omega) (by omega) (fun q_37 M_37 hM_37 => ?_)
          refine px_out0 rfl ?_
          exact CQU.no 0 (τ := th σ 1) (by first | (simp only [p_worst, c2, c7, c14, c21, row_sF, ↓reduceIte]; first | done | rfl) | (simp [p_worst, c2, c7, c14, c21, row_sF, Int32.not_lt, Int32.not_le]; first | done | rfl)) rfl rfl (SB.mono (SB.F0 (SB.F0 ⟨_, h, t⟩)) hM_37)
        · refine pl_iload (pc := 24) dX1_worst_24 rfl ?_
          refine pl_callSd (pc := 26) (As := [_]) (C1 := 0) (N1 := 0) (C2 := 1) (N2 := 6) mdX1_isRain q2494 q2495 q125 dX1_worst_26 rfl rfl (Nat.le_of_ble_eq_true rfl) (k_X1_isRain (d := d - 1) (by omega)) (by omega) (by omega) (by omega) ?_
          refine pl_if_eqB (pc := 29) (tgt := 36) dX1_worst_29 (by decide) (fun c29 => ?_) (fun c29 => ?_)
          · refine pl_iconst (pc := 36) (v := 0) dX1_worst_36 (by rfl) ?_
            refine pl_callSX (pc := 37) (As := [_]) (C1 := 1) (N1 := 6) (C2 := 0) (N2 := 0) (E8 := "java/lang/IllegalArgumentException") mdX1_need q1262 q1263 q125 dX1_worst_37 rfl rfl (Nat.le_of_ble_eq_true rfl) (k_X1_need_no (d := d - 1) (by omega) rfl) (by omega) (by omega) (by omega) (fun q_37 M_37 hM_37 => ?_)
            refine px_out0 rfl ?_
            exact CQU.no 0 (τ := th σ 1) (by first | (simp only [p_worst, c2, c7, c14, c21, c29, row_sF, ↓reduceIte]; first | done | rfl) | (simp [p_worst, c2, c7, c14, c21, c29, row_sF, Int32.not_lt, Int32.not_le]; first | done | rfl)) rfl rfl (SB.mono (SB.F0 (SB.F0 ⟨_, h, t⟩)) hM_37)
          · refine pl_iconst (pc := 32) (v := 1) dX1_worst_32 (by rfl) ?_
            refine pj_goto (pc := 33) (tgt := 37) dX1_worst_33 (by decide) ?_
            refine pl_callSv (pc := 37) (As := [_]) (C1 := 0) (N1 := 0) (C2 := 1) (N2 := 6) mdX1_need q1262 q1263 q125 dX1_worst_37 rfl rfl (Nat.le_of_ble_eq_true rfl) (k_X1_need_ok (d := d - 1) (by omega) (by decide)) (by omega) (by omega) (by omega) ?_
            refine pl_aload_n (pc := 40) dX1_worst_40 rfl rfl ?_
            refine pj_getf (pc := 41) ckX1 13 q866 dX1_worst_41 (by decide) (h.r0) rfl ?_
            refine pl_iconst (pc := 44) (v := 0) dX1_worst_44 (by rfl) ?_
            refine pl_iload_n (pc := 45) dX1_worst_45 rfl rfl ?_
            refine pl_iast (pc := 46) (n := 3) dX1_worst_46 (h.r44) (by omega) (by decide) ?_
            refine sxk (h.p44 (by omega)) (fun My1 y1 => ?_)
            refine pl_aload_n (pc := 47) dX1_worst_47 rfl rfl ?_
            refine pj_getf (pc := 48) ckX1 13 q866 dX1_worst_48 (by decide) (y1.r0) rfl ?_
            refine pl_iconst (pc := 51) (v := 1) dX1_worst_51 (by rfl) ?_
            refine pl_iload_n (pc := 52) dX1_worst_52 rfl rfl ?_
            refine pl_iast (pc := 53) (n := 3) dX1_worst_53 (y1.r44) (by omega) (by decide) ?_
            refine sxk (y1.p44 (by omega)) (fun My2 y2 => ?_)
            refine pl_aload_n (pc := 54) dX1_worst_54 rfl rfl ?_
            refine pj_getf (pc := 55) ckX1 13 q866 dX1_worst_55 (by decide) (y2.r0) rfl ?_
            refine pl_iconst (pc := 58) (v := 2) dX1_worst_58 (by rfl) ?_
            refine pl_iload (pc := 59) dX1_worst_59 rfl ?_
            refine pl_iast (pc := 61) (n := 3) dX1_worst_61 (y2.r44) (by omega) (by decide) ?_
            refine sxk (y2.p44 (by omega)) (fun My3 y3 => ?_)
            refine pl_aload_n (pc := 62) dX1_worst_62 rfl rfl ?_
            refine pl_iload_n (pc := 63) dX1_worst_63 rfl rfl ?_
            refine pj_putf (pc := 64) ckX1 5 q858 dX1_worst_64 (by decide) rfl (y3.r0) rfl rfl (Nat.le_of_ble_eq_true rfl) ?_
            refine sxk (y3.p0_5) (fun My4 y4 => ?_)
            refine pj_vret (pc := 67) dX1_worst_67 rfl ?_
            have g7 : SX g P F A 0 S b (wA (wA (wA (sF σ 29 vn) 16 0 va) 16 1 vb) 16 2 vc) e _ := y4
            have g8 : SX g P F A 0 S b (wA (wA (wA (sF (s0 σ) 29 vn) 16 0 va) 16 1 vb) 16 2 vc) e _ := g7.cg (fun _ _ _ _ => rfl) (fun y hy => by rcases hy with z | z | z | z | z | z | z | z <;> (subst z; rfl)) rfl rfl
            exact CQU.ok (τ := (wA (wA (wA (sF (s0 σ) 29 vn) 16 0 va) 16 1 vb) 16 2 vc)) (by first | (simp only [p_worst, c2, c7, c14, c21, c29, row_sF, ↓reduceIte]; first | done | rfl) | (simp [p_worst, c2, c7, c14, c21, c29, row_sF, Int32.not_lt, Int32.not_le]; first | done | rfl)) rfl ⟨_, g8, t.cg9 g8.hz (fun _ _ => rfl) rfl rfl rfl rfl rfl⟩
set_option maxHeartbeats 600000 in
theorem x_X1_count {g : GP} {μ : Mem} {d : Nat} {P : Nat → Prop} {F : Mem} {A : XA} {S : Nat → Nat → Nat} {b : XS} {σ : MS} {nor nw : Nat} (s : SB g P F A 0 S b σ nw μ) (iv : IvG σ (S 4 0) (S 8 0) (S 10 0) (S 6 0) nor nw) (rs : RsX σ) (h12 : S 12 0 = nor) (hd : 6 ≤ d) {k : Int32} : PM g yX1_count (ws_ yX1_count cX1_count 2 (some .int)) d 1 6 [.ref (A 0 0 0), .int k] μ (CQ [] (p_count σ (S 4 0) k) (fun τ M => SB g P F A 0 S b τ nw M)) := by
  refine PM.of (by decide +kernel) (Nat.le_of_ble_eq_true rfl) ?_
  refine PJ.ok (fun G => ?_)
  show PJ g _ _ _ _ d 1 6 0 [(0, .ref (A 0 0 0)), (1, .int k)] [] _ _
  obtain ⟨e, h, t⟩ := s
  have hS4 := h.hz.2.1
  have hS6 := h.hz.2.2.1
  have hS8 := h.hz.2.2.2.1
  have hS10 := h.hz.2.2.2.2.1
  refine pl_iload_n (pc := 0) dX1_count_0 rfl rfl ?_
  refine pl_tsw (pc := 1) 0 (tgt := 76) dX1_count_1 (by rfl) (by decide) (by decide) (by rfl) (by decide) (fun c1_0 => ?_) (fun c1_0 => ?_)
  · refine pl_aload_n (pc := 76) dX1_count_76 rfl rfl ?_
    refine pj_getf (pc := 77) ckX1 0 q853 dX1_count_77 (by decide) (h.r0) rfl ?_
    refine pj_getfN (pc := 80) ckX2 0 q726 dX1_count_80 (by decide) (h.r1) rfl ?_
    refine pj_iret (pc := 83) dX1_count_83 rfl ?_
    exact CQ.ok (τ := s0 σ) (by first | (simp only [p_count, eq_true c1_0, row_sF, ↓reduceIte]; first | done | rfl) | (simp [p_count, eq_true c1_0, row_sF, Int32.not_lt, Int32.not_le]; first | done | rfl)) rfl (SB.F0 ⟨_, h, t⟩)
  refine pl_tsw (pc := 1) 1 (tgt := 84) dX1_count_1 (by rfl) (by decide) (by decide) (by rfl) (by decide) (fun c1_1 => ?_) (fun c1_1 => ?_)
  · refine pl_aload_n (pc := 84) dX1_count_84 rfl rfl ?_
    refine pj_getf (pc := 85) ckX1 0 q853 dX1_count_85 (by decide) (h.r0) rfl ?_
    refine pj_getfN (pc := 88) ckX2 26 q773 dX1_count_88 (by decide) (h.r1) rfl ?_
    obtain ⟨m_91, c_91, l_91⟩ := h.L4
    refine pl_callVd (pc := 91) (As := []) (C1 := 0) (N1 := 0) (C2 := 1) (N2 := 6) ckJ2 mdJ2_size rfl q1049 q948 q949 q129 dX1_count_91 rfl rfl (Nat.le_of_ble_eq_true rfl) l_91.1 (k_J2_size (d := d - 1) (by omega) l_91) (by omega) (by omega) (by omega) ?_
    refine PJ.top (y := row σ 2124) (iv.hn.symm) ?_
    refine pj_iret (pc := 94) dX1_count_94 rfl ?_
    exact CQ.ok (τ := s0 σ) (by first | (simp only [p_count, c1_0, eq_true c1_1, row_sF, ↓reduceIte]; first | done | rfl) | (simp [p_count, c1_0, eq_true c1_1, row_sF, Int32.not_lt, Int32.not_le]; first | done | rfl)) rfl (SB.F0 ⟨_, h, t⟩)
  refine pl_tsw (pc := 1) 2 (tgt := 95) dX1_count_1 (by rfl) (by decide) (by decide) (by rfl) (by decide) (fun c1_2 => ?_) (fun c1_2 => ?_)
  · refine pl_aload_n (pc := 95) dX1_count_95 rfl rfl ?_
    refine pj_getf (pc := 96) ckX1 0 q853 dX1_count_96 (by decide) (h.r0) rfl ?_
    refine pl_callVd (pc := 99) (As := []) (C1 := 0) (N1 := 0) (C2 := 1) (N2 := 6) ckX2 mdX2_here rfl q1186 q1187 q1188 q126 dX1_count_99 rfl rfl (Nat.le_of_ble_eq_true rfl) (h.r1) (x_X2_here (d := d - 1) (by omega) h) (by omega) (by omega) (by omega) ?_
    refine pj_iret (pc := 102) dX1_count_102 rfl ?_
    exact CQ.ok (τ := s0 σ) (by first | (simp only [p_count, c1_0, c1_1, eq_true c1_2, row_sF, ↓reduceIte]; first | done | rfl) | (simp [p_count, c1_0, c1_1, eq_true c1_2, row_sF, Int32.not_lt, Int32.not_le]; first | done | rfl)) rfl (SB.F0 ⟨_, h, t⟩)
  refine pl_tsw (pc := 1) 3 (tgt := 103) dX1_count_1 (by rfl) (by decide) (by decide) (by rfl) (by decide) (fun c1_3 => ?_) (fun c1_3 => ?_)
  · refine pl_aload_n (pc := 103) dX1_count_103 rfl rfl ?_
    refine pj_getf (pc := 104) ckX1 0 q853 dX1_count_104 (by decide) (h.r0) rfl ?_
    refine pl_callVd (pc := 107) (As := []) (C1 := 0) (N1 := 0) (C2 := 1) (N2 := 6) ckX2 mdX2_farms rfl q1195 q1196 q1197 q126 dX1_count_107 rfl rfl (Nat.le_of_ble_eq_true rfl) (h.r1) (x_X2_farms (d := d - 1) (by omega) h) (by omega) (by omega) (by omega) ?_
    refine pj_iret (pc := 110) dX1_count_110 rfl ?_
    exact CQ.ok (τ := s0 σ) (by first | (simp only [p_count, c1_0, c1_1, c1_2, eq_true c1_3, row_sF, ↓reduceIte]; first | done | rfl) | (simp [p_count, c1_0, c1_1, c1_2, eq_true c1_3, row_sF, Int32.not_lt, Int32.not_le]; first | done | rfl)) rfl (SB.F0 ⟨_, h, t⟩)
  refine pl_tsw (pc := 1) 4 (tgt := 111) dX1_count_1 (by rfl) (by decide) (by decide) (by rfl) (by decide) (fun c1_4 => ?_) (fun c1_4 => ?_)
  · refine pl_aload_n (pc := 111) dX1_count_111 rfl rfl ?_
    refine pj_getf (pc := 112) ckX1 0 q853 dX1_count_112 (by decide) (h.r0) rfl ?_
    refine pj_getfN (pc := 115) ckX2 1 q728 dX1_count_115 (by decide) (h.r1) rfl ?_
    refine pj_iret (pc := 118) dX1_count_118 rfl ?_
    exact CQ.ok (τ := s0 σ) (by first | (simp only [p_count, c1_0, c1_1, c1_2, c1_3, eq_true c1_4, row_sF, ↓reduceIte]; first | done | rfl) | (simp [p_count, c1_0, c1_1, c1_2, c1_3, eq_true c1_4, row_sF, Int32.not_lt, Int32.not_le]; first | done | rfl)) rfl (SB.F0 ⟨_, h, t⟩)
  refine pl_tsw (pc := 1) 5 (tgt := 119) dX1_count_1 (by rfl) (by decide) (by decide) (by rfl) (by decide) (fun c1_5 => ?_) (fun c1_5 => ?_)
  · refine pl_aload_n (pc := 119) dX1_count_119 rfl rfl ?_
    refine pj_getf (pc := 120) ckX1 0 q853 dX1_count_120 (by decide) (h.r0) rfl ?_
    refine pj_getfN (pc := 123) ckX2 2 q730 dX1_count_123 (by decide) (h.r1) rfl ?_
    refine pj_iret (pc := 126) dX1_count_126 rfl ?_
    exact CQ.ok (τ := s0 σ) (by first | (simp only [p_count, c1_0, c1_1, c1_2, c1_3, c1_4, eq_true c1_5, row_sF, ↓reduceIte]; first | done | rfl) | (simp [p_count, c1_0, c1_1, c1_2, c1_3, c1_4, eq_true c1_5, row_sF, Int32.not_lt, Int32.not_le]; first | done | rfl)) rfl (SB.F0 ⟨_, h, t⟩)
  refine pl_tsw (pc := 1) 6 (tgt := 127) dX1_count_1 (by rfl) (by decide) (by decide) (by rfl) (by decide) (fun c1_6 => ?_) (fun c1_6 => ?_)
  · refine pl_aload_n (pc := 127) dX1_count_127 rfl rfl ?_
    refine pj_getf (pc := 128) ckX1 0 q853 dX1_count_128 (by decide) (h.r0) rfl ?_
    refine pj_getfN (pc := 131) ckX2 6 q737 dX1_count_131 (by decide) (h.r1) rfl ?_
    refine pj_iret (pc := 134) dX1_count_134 rfl ?_
    exact CQ.ok (τ := s0 σ) (by first | (simp only [p_count, c1_0, c1_1, c1_2, c1_3, c1_4, c1_5, eq_true c1_6, row_sF, ↓reduceIte]; first | done | rfl) | (simp [p_count, c1_0, c1_1, c1_2, c1_3, c1_4, c1_5, eq_true c1_6, row_sF, Int32.not_lt, Int32.not_le]; first | done | rfl)) rfl (SB.F0 ⟨_, h, t⟩)
  refine pl_tsw (pc := 1) 7 (tgt := 135) dX1_count_1 (by rfl) (by decide) (by decide) (by rfl) (by decide) (fun c1_7 => ?_) (fun c1_7 => ?_)
  · refine pl_aload_n (pc := 135) dX1_count_135 rfl rfl ?_
    refine pj_getf (pc := 136) ckX1 0 q853 dX1_count_136 (by decide) (h.r0) rfl ?_
    refine pj_getfN (pc := 139) ckX2 28 q777 dX1_count_139 (by decide) (h.r1) rfl ?_
    obtain ⟨m_142, c_142, l_142⟩ := h.L8
    refine pl_callVd (pc := 142) (As := []) (C1 := 0) (N1 := 0) (C2 := 1) (N2 := 6) ckJ2 mdJ2_size rfl q1049 q948 q949 q129 dX1_count_142 rfl rfl (Nat.le_of_ble_eq_true rfl) l_142.1 (k_J2_size (d := d - 1) (by omega) l_142) (by omega) (by omega) (by omega) ?_
    refine PJ.top (y := row σ 2125) (iv.hl.symm) ?_
    refine pj_iret (pc := 145) dX1_count_145 rfl ?_
    exact CQ.ok (τ := s0 σ) (by first | (simp only [p_count, c1_0, c1_1, c1_2, c1_3, c1_4, c1_5, c1_6, eq_true c1_7, row_sF, ↓reduceIte]; first | done | rfl) | (simp [p_count, c1_0, c1_1, c1_2, c1_3, c1_4, c1_5, c1_6, eq_true c1_7, row_sF, Int32.not_lt, Int32.not_le]; first | done | rfl)) rfl (SB.F0 ⟨_, h, t⟩)
  refine pl_tsw (pc := 1) 8 (tgt := 146) dX1_count_1 (by rfl) (by decide) (by decide) (by rfl) (by decide) (fun c1_8 => ?_) (fun c1_8 => ?_)
  · refine pl_aload_n (pc := 146) dX1_count_146 rfl rfl ?_
    refine pj_getf (pc := 147) ckX1 4 q857 dX1_count_147 (by decide) (h.r0) rfl ?_
    refine pj_iret (pc := 150) dX1_count_150 rfl ?_
    exact CQ.ok (τ := s0 σ) (by first | (simp only [p_count, c1_0, c1_1, c1_2, c1_3, c1_4, c1_5, c1_6, c1_7, eq_true c1_8, row_sF, ↓reduceIte]; first | done | rfl) | (simp [p_count, c1_0, c1_1, c1_2, c1_3, c1_4, c1_5, c1_6, c1_7, eq_true c1_8, row_sF, Int32.not_lt, Int32.not_le]; first | done | rfl)) rfl (SB.F0 ⟨_, h, t⟩)
  refine pl_tsw (pc := 1) 9 (tgt := 151) dX1_count_1 (by rfl) (by decide) (by decide) (by rfl) (by decide) (fun c1_9 => ?_) (fun c1_9 => ?_)
  · refine pl_aload_n (pc := 151) dX1_count_151 rfl rfl ?_
    refine pj_getf (pc := 152) ckX1 0 q853 dX1_count_152 (by decide) (h.r0) rfl ?_
    refine pj_getfN (pc := 155) ckX2 29 q779 dX1_count_155 (by decide) (h.r1) rfl ?_
    obtain ⟨m_158, c_158, l_158⟩ := h.L10
    refine pl_callVd (pc := 158) (As := []) (C1 := 0) (N1 := 0) (C2 := 1) (N2 := 6) ckJ2 mdJ2_size rfl q1049 q948 q949 q129 dX1_count_158 rfl rfl (Nat.le_of_ble_eq_true rfl) l_158.1 (k_J2_size (d := d - 1) (by omega) l_158) (by omega) (by omega) (by omega) ?_
    refine PJ.top (y := row σ 2126) (iv.hb.symm) ?_
    refine pj_iret (pc := 161) dX1_count_161 rfl ?_
    exact CQ.ok (τ := s0 σ) (by first | (simp only [p_count, c1_0, c1_1, c1_2, c1_3, c1_4, c1_5, c1_6, c1_7, c1_8, eq_true c1_9, row_sF, ↓reduceIte]; first | done | rfl) | (simp [p_count, c1_0, c1_1, c1_2, c1_3, c1_4, c1_5, c1_6, c1_7, c1_8, eq_true c1_9, row_sF, Int32.not_lt, Int32.not_le]; first | done | rfl)) rfl (SB.F0 ⟨_, h, t⟩)
  refine pl_tsw (pc := 1) 10 (tgt := 162) dX1_count_1 (by rfl) (by decide) (by decide) (by rfl) (by decide) (fun c1_10 => ?_) (fun c1_10 => ?_)
  · refine pl_aload_n (pc := 162) dX1_count_162 rfl rfl ?_
    refine pj_getf (pc := 163) ckX1 0 q853 dX1_count_163 (by decide) (h.r0) rfl ?_
    refine pj_getfN (pc := 166) ckX2 27 q775 dX1_count_166 (by decide) (h.r1) rfl ?_
    obtain ⟨m_169, c_169, l_169⟩ := h.L6
    refine pl_callVd (pc := 169) (As := []) (C1 := 0) (N1 := 0) (C2 := 1) (N2 := 6) ckJ2 mdJ2_size rfl q1049 q948 q949 q129 dX1_count_169 rfl rfl (Nat.le_of_ble_eq_true rfl) l_169.1 (k_J2_size (d := d - 1) (by omega) l_169) (by omega) (by omega) (by omega) ?_
    refine PJ.top (y := row σ 2127) (iv.hq.symm) ?_
    refine pj_iret (pc := 172) dX1_count_172 rfl ?_
    exact CQ.ok (τ := s0 σ) (by first | (simp only [p_count, c1_0, c1_1, c1_2, c1_3, c1_4, c1_5, c1_6, c1_7, c1_8, c1_9, eq_true c1_10, row_sF, ↓reduceIte]; first | done | rfl) | (simp [p_count, c1_0, c1_1, c1_2, c1_3, c1_4, c1_5, c1_6, c1_7, c1_8, c1_9, eq_true c1_10, row_sF, Int32.not_lt, Int32.not_le]; first | done | rfl)) rfl (SB.F0 ⟨_, h, t⟩)
  refine pl_tsw (pc := 1) 11 (tgt := 173) dX1_count_1 (by rfl) (by decide) (by decide) (by rfl) (by decide) (fun c1_11 => ?_) (fun c1_11 => ?_)
  · refine pl_aload_n (pc := 173) dX1_count_173 rfl rfl ?_
    refine pj_getf (pc := 174) ckX1 8 q861 dX1_count_174 (by decide) (h.r0) rfl ?_
    obtain ⟨m_177, c_177, l_177⟩ := h.L12
    refine pl_callVd (pc := 177) (As := []) (C1 := 0) (N1 := 0) (C2 := 1) (N2 := 6) ckJ2 mdJ2_size rfl q1049 q948 q949 q129 dX1_count_177 rfl rfl (Nat.le_of_ble_eq_true rfl) l_177.1 (k_J2_size (d := d - 1) (by omega) l_177) (by omega) (by omega) (by omega) ?_
    refine PJ.top (y := row σ 2128) (by rw [h12]; exact iv.hor.symm) ?_
    refine pj_iret (pc := 180) dX1_count_180 rfl ?_
    exact CQ.ok (τ := s0 σ) (by first | (simp only [p_count, c1_0, c1_1, c1_2, c1_3, c1_4, c1_5, c1_6, c1_7, c1_8, c1_9, c1_10, eq_true c1_11, row_sF, ↓reduceIte]; first | done | rfl) | (simp [p_count, c1_0, c1_1, c1_2, c1_3, c1_4, c1_5, c1_6, c1_7, c1_8, c1_9, c1_10, eq_true c1_11, row_sF, Int32.not_lt, Int32.not_le]; first | done | rfl)) rfl (SB.F0 ⟨_, h, t⟩)
  refine pl_tsw (pc := 1) 12 (tgt := 181) dX1_count_1 (by rfl) (by decide) (by decide) (by rfl) (by decide) (fun c1_12 => ?_) (fun c1_12 => ?_)
  · refine pl_aload_n (pc := 181) dX1_count_181 rfl rfl ?_
    refine pj_getf (pc := 182) ckX1 0 q853 dX1_count_182 (by decide) (h.r0) rfl ?_
    refine pj_getfN (pc := 185) ckX2 7 q739 dX1_count_185 (by decide) (h.r1) rfl ?_
    refine pj_iret (pc := 188) dX1_count_188 rfl ?_
    exact CQ.ok (τ := s0 σ) (by first | (simp only [p_count, c1_0, c1_1, c1_2, c1_3, c1_4, c1_5, c1_6, c1_7, c1_8, c1_9, c1_10, c1_11, eq_true c1_12, row_sF, ↓reduceIte]; first | done | rfl) | (simp [p_count, c1_0, c1_1, c1_2, c1_3, c1_4, c1_5, c1_6, c1_7, c1_8, c1_9, c1_10, c1_11, eq_true c1_12, row_sF, Int32.not_lt, Int32.not_le]; first | done | rfl)) rfl (SB.F0 ⟨_, h, t⟩)
  refine pl_tsw (pc := 1) 13 (tgt := 189) dX1_count_1 (by rfl) (by decide) (by decide) (by rfl) (by decide) (fun c1_13 => ?_) (fun c1_13 => ?_)
  · refine pl_aload_n (pc := 189) dX1_count_189 rfl rfl ?_
    refine pj_getf (pc := 190) ckX1 2 q855 dX1_count_190 (by decide) (h.r0) rfl ?_
    refine pj_iret (pc := 193) dX1_count_193 rfl ?_
    exact CQ.ok (τ := s0 σ) (by first | (simp only [p_count, c1_0, c1_1, c1_2, c1_3, c1_4, c1_5, c1_6, c1_7, c1_8, c1_9, c1_10, c1_11, c1_12, eq_true c1_13, row_sF, ↓reduceIte]; first | done | rfl) | (simp [p_count, c1_0, c1_1, c1_2, c1_3, c1_4, c1_5, c1_6, c1_7, c1_8, c1_9, c1_10, c1_11, c1_12, eq_true c1_13, row_sF, Int32.not_lt, Int32.not_le]; first | done | rfl)) rfl (SB.F0 ⟨_, h, t⟩)
  refine pl_tsw (pc := 1) 14 (tgt := 194) dX1_count_1 (by rfl) (by decide) (by decide) (by rfl) (by decide) (fun c1_14 => ?_) (fun c1_14 => ?_)
  · refine pl_aload_n (pc := 194) dX1_count_194 rfl rfl ?_
    refine pj_getf (pc := 195) ckX1 0 q853 dX1_count_195 (by decide) (h.r0) rfl ?_
    refine pj_getfN (pc := 198) ckX2 8 q740 dX1_count_198 (by decide) (h.r1) rfl ?_
    refine pj_iret (pc := 201) dX1_count_201 rfl ?_
    exact CQ.ok (τ := s0 σ) (by first | (simp only [p_count, c1_0, c1_1, c1_2, c1_3, c1_4, c1_5, c1_6, c1_7, c1_8, c1_9, c1_10, c1_11, c1_12, c1_13, eq_true c1_14, row_sF, ↓reduceIte]; first | done | rfl) | (simp [p_count, c1_0, c1_1, c1_2, c1_3, c1_4, c1_5, c1_6, c1_7, c1_8, c1_9, c1_10, c1_11, c1_12, c1_13, eq_true c1_14, row_sF, Int32.not_lt, Int32.not_le]; first | done | rfl)) rfl (SB.F0 ⟨_, h, t⟩)
  refine pj_tableOut (pc := 1) (tgt := 202) dX1_count_1 (by have q0 := nI_nec c1_0; have q1 := nI_nec c1_1; have q2 := nI_nec c1_2; have q3 := nI_nec c1_3; have q4 := nI_nec c1_4; have q5 := nI_nec c1_5; have q6 := nI_nec c1_6; have q7 := nI_nec c1_7; have q8 := nI_nec c1_8; have q9 := nI_nec c1_9; have q10 := nI_nec c1_10; have q11 := nI_nec c1_11; have q12 := nI_nec c1_12; have q13 := nI_nec c1_13; have q14 := nI_nec c1_14; omega) (by decide) ?_
  refine pj_iconst (pc := 202) (v := (-1)) dX1_count_202 (by rfl) ?_
  refine pj_iret (pc := 203) dX1_count_203 rfl ?_
  exact CQ.ok (τ := s0 σ) (by first | (simp only [p_count, c1_0, c1_1, c1_2, c1_3, c1_4, c1_5, c1_6, c1_7, c1_8, c1_9, c1_10, c1_11, c1_12, c1_13, c1_14, row_sF, ↓reduceIte]; first | done | rfl) | (simp [p_count, c1_0, c1_1, c1_2, c1_3, c1_4, c1_5, c1_6, c1_7, c1_8, c1_9, c1_10, c1_11, c1_12, c1_13, c1_14, row_sF, Int32.not_lt, Int32.not_le]; first | done | rfl)) rfl (SB.F0 ⟨_, h, t⟩)
set_option maxHeartbeats 600000 in
theorem x_X2_knownWeek {g : GP} {μ : Mem} {d : Nat} {P : Nat → Prop} {F : Mem} {A : XA} {w : Nat} {S : Nat → Nat → Nat} {b : XS} {σ : MS} {e : XE}(hd : 1 ≤ d) (h : SX g P F A w S b σ e μ) {nw : Nat} (hn : row σ 2116 = nI nw) : PM g yX2_knownWeek (ws_ yX2_knownWeek cX2_knownWeek 1 (some .int)) d 0 0 [.ref (A 1 w 0)] μ (rQ (some (.int (nI nw - nI 34))) μ) := by
  refine PM.of (by decide +kernel) (Nat.le_of_ble_eq_true rfl) ?_
  refine PJ.ok (fun G => ?_)
  show PJ g _ _ _ _ d 0 0 0 [(0, .ref (A 1 w 0))] [] _ _
  refine pl_aload_n (pc := 0) dX2_knownWeek_0 rfl rfl ?_
  refine pj_getf (pc := 1) ckX2 0 q725 dX2_knownWeek_1 (by decide) (h.r1) rfl ?_
  refine PJ.top (y := nI nw) (hn) ?_
  refine pl_bipush (pc := 4) (v := 34) dX2_knownWeek_4 (by rfl) ?_
  refine pj_isub (pc := 6) dX2_knownWeek_6 ?_
  refine pj_iret (pc := 7) dX2_knownWeek_7 rfl ?_
  exact ⟨rfl, rfl⟩
