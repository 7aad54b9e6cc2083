set_option maxRecDepth 100000
set_option maxHeartbeats 600000 in
theorem x_X1_pass {g : GP} {μ : Mem} {d : Nat} {P : Nat → Prop} {F : Mem} {A : XA} {S : Nat → Nat → Nat} {b : XS} {σ : MS} {nor nw : Nat} (s : SB g P F A 0 S b σ nw μ) (iv : IvG σ (S 4 0) (S 8 0) (S 10 0) (S 6 0) nor nw) (rs : RsX σ) (hd : 9 ≤ d) {v : Int32} : PM g yX1_pass (ws_ yX1_pass cX1_pass 3 (some .int)) d 1 6 [.ref (A 0 0 0), .int v] μ (CQ ["java/lang/IndexOutOfBoundsException"] (p_pass σ (S 10 0) v) (fun τ M => SB g P F A 0 S b τ nw M)) := by
  refine PM.of (by decide +kernel) (Nat.le_of_ble_eq_true rfl) ?_
  refine PJ.ok (fun G => ?_)
  show PJ g _ _ _ _ d 1 6 0 [(0, .ref (A 0 0 0)), (1, .int v)] [] _ _
  obtain ⟨e, h, t⟩ := s
  have hS4 := h.hz.2.1
  have hS6 := h.hz.2.2.1
  have hS8 := h.hz.2.2.2.1
  have hS10 := h.hz.2.2.2.2.1
  cases hap_v : inN v (S 10 0) with
  | false =>
    refine pl_aload_n (pc := 0) dX1_pass_0 rfl rfl ?_
    refine pl_iload_n (pc := 1) dX1_pass_1 rfl rfl ?_
    refine pl_callVX (pc := 2) (As := [_]) (C1 := 1) (N1 := 6) (C2 := 0) (N2 := 0) (E8 := "java/lang/IndexOutOfBoundsException") ckX1 mdX1_billOf rfl q2312 q2314 qs34 q125 dX1_pass_2 rfl rfl (Nat.le_of_ble_eq_true rfl) (h.r0) (x_X1_billOf_no (d := d - 1) (by omega) h hap_v) (by omega) (by omega) (by omega) (fun q_2 M_2 hM_2 => ?_)
    refine px_out0 rfl ?_
    exact CQ.no 0 (v := nI 0) (τ := th σ 1) (by first | (simp only [p_pass, hap_v, row_sF, ↓reduceIte]; first | done | rfl) | (simp [p_pass, hap_v, row_sF, Int32.not_lt, Int32.not_le]; first | done | rfl)) rfl rfl (SB.mono (SB.F0 (SB.F0 ⟨_, h, t⟩)) hM_2)
  | true =>
    obtain ⟨j_v, hj_v, rfl⟩ := inN_of (by omega) hap_v
    have g_v := tN_nI (n := j_v) (by omega)
    refine pl_aload_n (pc := 0) dX1_pass_0 rfl rfl ?_
    refine pl_iload_n (pc := 1) dX1_pass_1 rfl rfl ?_
    refine pl_callVd (pc := 2) (As := [_]) (C1 := 0) (N1 := 0) (C2 := 1) (N2 := 6) ckX1 mdX1_billOf rfl q2312 q2314 qs34 q125 dX1_pass_2 rfl rfl (Nat.le_of_ble_eq_true rfl) (h.r0) (x_X1_billOf_ok (d := d - 1) (by omega) h (by omega)) (by omega) (by omega) (by omega) ?_
    refine pj_astore_n (pc := 5) (lv' := [(2, _), (0, _), (1, _)]) dX1_pass_5 rfl (by decide) rfl ?_
    refine pl_aload_n (pc := 6) dX1_pass_6 rfl rfl ?_
    refine pj_getfN (pc := 7) ckX13 2 q1549 dX1_pass_7 (by decide) (h.r40 (by omega)) rfl ?_
    refine pl_iconst (pc := 10) (v := 5) dX1_pass_10 (by rfl) ?_
    refine pj_icmp_ne (pc := 11) (tgt := 16) dX1_pass_11 (by decide) (fun c11 => ?_) (fun c11 => ?_)
    · refine pl_aload_n (pc := 16) dX1_pass_16 rfl rfl ?_
      refine pj_getfN (pc := 17) ckX13 3 q1552 dX1_pass_17 (by decide) (h.r40 (by omega)) rfl ?_
      refine pj_if_eq (pc := 20) (tgt := 26) dX1_pass_20 (by decide) (fun c20 => ?_) (fun c20 => ?_)
      · have f20 : row σ (1640 + 4 * j_v + 2) ≤ 0 := by rw [c20]; decide
        refine pl_aload_n (pc := 26) dX1_pass_26 rfl rfl ?_
        refine pj_dup (pc := 27) dX1_pass_27 rfl ?_
        refine pj_getfN (pc := 28) ckX13 2 q1549 dX1_pass_28 (by decide) (h.r40 (by omega)) rfl ?_
        refine pl_iconst (pc := 31) (v := 1) dX1_pass_31 (by rfl) ?_
        refine pj_iadd (pc := 32) dX1_pass_32 ?_
        refine pj_putfN (pc := 33) ckX13 2 q1549 dX1_pass_33 (by decide) rfl (h.r40 (by omega)) rfl rfl (Nat.le_of_ble_eq_true rfl) ?_
        refine sxk (h.p40_2 (by omega)) (fun My1 y1 => ?_)
        refine pl_aload_n (pc := 36) dX1_pass_36 rfl rfl ?_
        refine pj_getfN (pc := 37) ckX13 2 q1549 dX1_pass_37 (by decide) (y1.r40 (by omega)) rfl ?_
        refine pj_iret (pc := 40) dX1_pass_40 rfl ?_
        have g8 : SX g P F A 0 S b (sR σ (1640 + 4 * j_v + 1) (row σ (1640 + 4 * j_v + 1) + nI 1)) e _ := y1
        exact CQ.ok (τ := (sR (s0 σ) (1640 + 4 * j_v + 1) (row (s0 σ) (1640 + 4 * j_v + 1) + nI 1))) (by first | (simp only [p_pass, hap_v, g_v, c11, eq_true c20, f20, row_sF, ↓reduceIte]; first | done | rfl) | (simp [p_pass, hap_v, g_v, c11, eq_true c20, f20, row_sF, Int32.not_lt, Int32.not_le]; first | done | rfl)) rfl (SB.F0 (σ := (sR σ (1640 + 4 * j_v + 1) (row σ (1640 + 4 * j_v + 1) + nI 1))) ⟨_, g8, t.cg9 g8.hz (fun j hj => rowS_ne (fun z9 => hj (by unfold fr9; omega))) (by simp [sA]) (by simp [sA]) (by simp [sA]) rfl rfl⟩)
      · have f20 : ¬ row σ (1640 + 4 * j_v + 2) ≤ 0 := by rcases (t.due hj_v).2.2 with z | z | z | z; exact absurd z c20; all_goals (rw [z]; decide)
        refine pj_bipush (pc := 23) (v := (-2)) dX1_pass_23 (by rfl) ?_
        refine pj_iret (pc := 25) dX1_pass_25 rfl ?_
        exact CQ.ok (τ := s0 σ) (by first | (simp only [p_pass, hap_v, g_v, c11, c20, f20, row_sF, ↓reduceIte]; first | done | rfl) | (simp [p_pass, hap_v, g_v, c11, c20, f20, row_sF, Int32.not_lt, Int32.not_le]; first | done | rfl)) rfl (SB.F0 ⟨_, h, t⟩)
    · refine pj_iconst (pc := 14) (v := (-1)) dX1_pass_14 (by rfl) ?_
      refine pj_iret (pc := 15) dX1_pass_15 rfl ?_
      exact CQ.ok (τ := s0 σ) (by first | (simp only [p_pass, hap_v, g_v, eq_true c11, row_sF, ↓reduceIte]; first | done | rfl) | (simp [p_pass, hap_v, g_v, eq_true c11, row_sF, Int32.not_lt, Int32.not_le]; first | done | rfl)) rfl (SB.F0 ⟨_, h, t⟩)
set_option maxHeartbeats 600000 in
theorem k_X1_pastureOf {g : GP} {μ : Mem} {d : Nat} (hd : 3 ≤ d) {a q s9 : Nat} {f r : Nat → Int32} (hp : μ a = some (pO f)) (hm : μ s9 = some (slO q)) (hq : HoC μ q r) : PM g yX1_pastureOf (ws_ yX1_pastureOf cX1_pastureOf 3 (some (.object "SettlerColony$Run"))) d 0 0 [.ref a, .ref s9] μ (rQ (some (if isPastV (r 0) = true ∧ r 1 = f 0 then .ref q else .null)) μ) := by
  refine PM.of (by decide +kernel) (Nat.le_of_ble_eq_true rfl) ?_
  refine PJ.ok (fun G => ?_)
  show PJ g _ _ _ _ d 0 0 0 [(0, .ref a), (1, .ref s9)] [] _ _
  refine pl_aload_n (pc := 0) dX1_pastureOf_0 rfl rfl ?_
  refine pl_callVd (pc := 1) (As := []) (C1 := 0) (N1 := 0) (C2 := 0) (N2 := 0) ckX8 mdX8_pasture rfl q1341 q1342 q1343 q152 dX1_pastureOf_1 rfl rfl (Nat.le_of_ble_eq_true rfl) hm (k_X8_pasture (d := d - 1) (by omega) hm hq) (by omega) (by omega) (by omega) ?_
  by_cases cP : isPastV (r 0) = true
  · rw [if_pos cP]
    refine pj_astore_n (pc := 4) (lv' := [(2, _), (0, _), (1, _)]) dX1_pastureOf_4 rfl (by decide) rfl ?_
    refine pl_aload_n (pc := 5) dX1_pastureOf_5 rfl rfl ?_
    refine pj_ifnull (pc := 6) dX1_pastureOf_6 ?_
    refine pl_aload_n (pc := 9) dX1_pastureOf_9 rfl rfl ?_
    refine ph_holder_P (pc := 10) hq cP q1803 dX1_pastureOf_10 (by omega) (Nat.le_of_ble_eq_true rfl) ?_
    refine pl_aload_n (pc := 13) dX1_pastureOf_13 rfl rfl ?_
    refine pj_getfN (pc := 14) ckX10 0 q1066 dX1_pastureOf_14 (by decide) hp rfl ?_
    refine pj_icmp_ne (pc := 17) (tgt := 24) dX1_pastureOf_17 (by decide) (fun c17 => ?_) (fun c17 => ?_)
    · refine pj_null (pc := 24) dX1_pastureOf_24 ?_
      refine pj_aret (pc := 25) dX1_pastureOf_25 rfl (Or.inl ⟨_, rfl⟩) (Or.inl rfl) ?_
      rw [if_neg (fun z9 => c17 z9.2)]
      exact ⟨rfl, rfl⟩
    · refine pl_aload_n (pc := 20) dX1_pastureOf_20 rfl rfl ?_
      refine pj_goto (pc := 21) (tgt := 25) dX1_pastureOf_21 (by decide) ?_
      refine pj_aret (pc := 25) dX1_pastureOf_25 rfl (Or.inl ⟨_, rfl⟩) (Or.inr ⟨_, rfl⟩) ?_
      rw [if_pos ⟨cP, c17⟩]
      exact ⟨rfl, rfl⟩
  · rw [if_neg cP]
    refine pj_astore_nN (pc := 4) (lv' := [(2, _), (0, _), (1, _)]) dX1_pastureOf_4 rfl (by decide) rfl ?_
    refine pl_aload_nN (pc := 5) dX1_pastureOf_5 rfl rfl ?_
    refine pj_ifnullN (pc := 6) (tgt := 24) dX1_pastureOf_6 (by decide) ?_
    refine pj_null (pc := 24) dX1_pastureOf_24 ?_
    refine pj_aret (pc := 25) dX1_pastureOf_25 rfl (Or.inl ⟨_, rfl⟩) (Or.inl rfl) ?_
    rw [if_neg (fun z9 => cP z9.1)]
    exact ⟨rfl, rfl⟩
