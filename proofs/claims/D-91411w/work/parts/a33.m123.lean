set_option maxRecDepth 100000
set_option maxHeartbeats 600000 in
theorem x_X2_passages {g : GP} {μ : Mem} {d : Nat} {P : Nat → Prop} {F : Mem} {A : XA} {S : Nat → Nat → Nat} {b : XS} {σ : MS} {e : XE}(hd : 3 ≤ d) (h : SX g P F A 0 S b σ e μ) {nw : Nat} (t : TieX 0 S σ e nw) (hn : row σ 2116 = nI nw) (hnw : nw ≤ 1000) : PM g yX2_passages (ws_ yX2_passages cX2_passages 2 (some .int)) d 0 0 [.ref (A 1 0 0)] μ (rQ (some (.int (homePassV σ nw))) μ) := by
  refine PM.of (by decide +kernel) (Nat.le_of_ble_eq_true rfl) ?_
  refine PJ.ok (fun G => ?_)
  show PJ g _ _ _ _ d 0 0 0 [(0, .ref (A 1 0 0))] [] _ _
  refine pl_aload_n (pc := 0) dX2_passages_0 rfl rfl ?_
  refine pl_callVd (pc := 1) (As := []) (C1 := 0) (N1 := 0) (C2 := 0) (N2 := 0) ckX2 mdX2_knownWeek rfl q940 q941 q942 q126 dX2_passages_1 rfl rfl (Nat.le_of_ble_eq_true rfl) (h.r1) (x_X2_knownWeek (d := d - 1) (by omega) h hn) (by omega) (by omega) (by omega) ?_
  rcases Nat.lt_or_ge nw 34 with hs11 | hs11
  · have hs9 := pk_sneg (a := nw) (b := 34) (by decide) hs11
    refine pj_istore_n (pc := 4) (lv' := [(1, _), (0, _)]) dX2_passages_4 rfl (by decide) rfl ?_
    refine pl_iload_n (pc := 5) dX2_passages_5 rfl rfl ?_
    refine pj_if_ge (pc := 6) (tgt := 13) dX2_passages_6 (by decide) (fun c6 => ?_) (fun c6 => ?_)
    · exact absurd hs9 (Int32.not_lt.mpr c6)
    · refine pl_iconst (pc := 9) (v := 0) dX2_passages_9 (by rfl) ?_
      refine pj_goto (pc := 10) (tgt := 24) dX2_passages_10 (by decide) ?_
      refine pl_aload_n (pc := 24) dX2_passages_24 rfl rfl ?_
      refine pj_getf (pc := 25) ckX2 4 q733 dX2_passages_25 (by decide) (h.r1) rfl ?_
      refine PJ.top (y := row σ 2120) (rfl) ?_
      refine pj_iadd (pc := 28) dX2_passages_28 ?_
      refine pl_aload_n (pc := 29) dX2_passages_29 rfl rfl ?_
      refine pj_getf (pc := 30) ckX2 5 q734 dX2_passages_30 (by decide) (h.r1) rfl ?_
      refine PJ.top (y := row σ 2121) (rfl) ?_
      refine pj_isub (pc := 33) dX2_passages_33 ?_
      refine pj_iret (pc := 34) dX2_passages_34 rfl ?_
      refine ⟨?_, rfl⟩
      unfold homePassV
      rw [if_pos hs11]
  · refine PJ.top (y := nI (nw - 34)) (pk_sub hs11) ?_
    refine pj_istore_n (pc := 4) (lv' := [(1, _), (0, _)]) dX2_passages_4 rfl (by decide) rfl ?_
    refine pl_iload_n (pc := 5) dX2_passages_5 rfl rfl ?_
    refine pj_if_ge (pc := 6) (tgt := 13) dX2_passages_6 (by decide) (fun _ => ?_) (fun h => absurd (nI_pos' (by omega)) h)
    refine pl_aload_n (pc := 13) dX2_passages_13 rfl rfl ?_
    refine pj_getf (pc := 14) ckX2 31 q781 dX2_passages_14 (by decide) (h.r1) rfl ?_
    refine pl_bipush (pc := 17) (v := 6) dX2_passages_17 (by rfl) ?_
    refine pl_iload_n (pc := 19) dX2_passages_19 rfl rfl ?_
    refine pl_imul (pc := 20) dX2_passages_20 ?_
    refine pl_iconst (pc := 21) (v := 5) dX2_passages_21 (by rfl) ?_
    refine pl_iadd (pc := 22) dX2_passages_22 ?_
    refine pl_iald (pc := 23) (n := 6006) dX2_passages_23 (h.r33) (by omega) (by decide) ?_
    refine PJ.top (h.v33 (by omega)) ?_
    refine PJ.top (y := σ.2.1 14 (7 * (nw - 34) + 5)) (t.rows rfl (k := nw - 34) (j := 5) (by omega) (by decide)) ?_
    refine pl_aload_n (pc := 24) dX2_passages_24 rfl rfl ?_
    refine pj_getf (pc := 25) ckX2 4 q733 dX2_passages_25 (by decide) (h.r1) rfl ?_
    refine PJ.top (y := row σ 2120) (rfl) ?_
    refine pj_iadd (pc := 28) dX2_passages_28 ?_
    refine pl_aload_n (pc := 29) dX2_passages_29 rfl rfl ?_
    refine pj_getf (pc := 30) ckX2 5 q734 dX2_passages_30 (by decide) (h.r1) rfl ?_
    refine PJ.top (y := row σ 2121) (rfl) ?_
    refine pj_isub (pc := 33) dX2_passages_33 ?_
    refine pj_iret (pc := 34) dX2_passages_34 rfl ?_
    refine ⟨?_, rfl⟩
    unfold homePassV
    rw [if_neg (Nat.not_lt.mpr hs11)]
set_option maxHeartbeats 600000 in
theorem x_X1_passages {g : GP} {μ : Mem} {d : Nat} {P : Nat → Prop} {F : Mem} {A : XA} {S : Nat → Nat → Nat} {b : XS} {σ : MS} {nor nw : Nat} (s : SB g P F A 0 S b σ nw μ) (iv : IvG σ (S 4 0) (S 8 0) (S 10 0) (S 6 0) nor nw) (rs : RsX σ) (hd : 5 ≤ d)  : PM g yX1_passages (ws_ yX1_passages cX1_passages 1 (some .int)) d 1 6 [.ref (A 0 0 0)] μ (CQ [] ((homePassV (s0 σ) nw, s0 σ)) (fun τ M => SB g P F A 0 S b τ nw M)) := by
  refine PM.of (by decide +kernel) (Nat.le_of_ble_eq_true rfl) ?_
  refine PJ.ok (fun G => ?_)
  show PJ g _ _ _ _ d 1 6 0 [(0, .ref (A 0 0 0))] [] _ _
  obtain ⟨ρ, hs0⟩ : ∃ ρ, ρ = sF σ 0 (nI 0) := ⟨_, rfl⟩
  have hs9 : s0 σ = ρ := hs0.symm
  have s1 := s.F0 (x := nI 0)
  rw [← hs0] at s1
  obtain ⟨e, h, t⟩ := s1
  have iv1 : IvG ρ (S 4 0) (S 8 0) (S 10 0) (S 6 0) nor nw := by rw [hs0]; exact iv.f0
  have rs1 : RsX ρ := by rw [hs0]; exact rs
  have h00 : ρ.1 0 = nI 0 := by rw [hs0]; rfl
  have hS4 := h.hz.2.1
  have hS6 := h.hz.2.2.1
  have hS8 := h.hz.2.2.2.1
  have hS10 := h.hz.2.2.2.2.1
  refine pl_aload_n (pc := 0) dX1_passages_0 rfl rfl ?_
  refine pj_getf (pc := 1) ckX1 0 q853 dX1_passages_1 (by decide) (h.r0) rfl ?_
  refine pl_callVd (pc := 4) (As := []) (C1 := 0) (N1 := 0) (C2 := 1) (N2 := 6) ckX2 mdX2_passages rfl q1050 q1051 q1052 q126 dX1_passages_4 rfl rfl (Nat.le_of_ble_eq_true rfl) (h.r1) (x_X2_passages (d := d - 1) (by omega) h t iv1.hnw iv1.hNW) (by omega) (by omega) (by omega) ?_
  refine pj_iret (pc := 7) dX1_passages_7 rfl ?_
  exact CQ.ok (τ := ρ) (by first | (simp only [hs9, ← hs0, ↓reduceIte]; first | done | rfl) | (simp [hs9, ← hs0, Int32.not_lt, Int32.not_le]; first | done | rfl)) h00 ⟨_, h, t⟩
set_option maxHeartbeats 600000 in
theorem x_X1_section {g : GP} {μ : Mem} {d : Nat} {P : Nat → Prop} {F : Mem} {A : XA} {S : Nat → Nat → Nat} {b : XS} {σ : MS} {nor nw : Nat} (s : SB g P F A 0 S b σ nw μ) (iv : IvG σ (S 4 0) (S 8 0) (S 10 0) (S 6 0) nor nw) (rs : RsX σ) (hd : 9 ≤ d) {c : Int32} {v : Int32} : PM g yX1_section (ws_ yX1_section cX1_section 6 (some .int)) d 1 6 [.ref (A 0 0 0), .int c, .int v] μ (CQ ["java/lang/IndexOutOfBoundsException", "java/lang/IllegalArgumentException"] (p_section σ c v) (fun τ M => SB g P F A 0 S b τ nw M)) := by
  refine PM.of (by decide +kernel) (Nat.le_of_ble_eq_true rfl) ?_
  refine PJ.ok (fun G => ?_)
  show PJ g _ _ _ _ d 1 6 0 [(0, .ref (A 0 0 0)), (1, .int c), (2, .int v)] [] _ _
  obtain ⟨ρ, hs0⟩ : ∃ ρ, ρ = sF σ 0 (nI 0) := ⟨_, rfl⟩
  have hs9 : s0 σ = ρ := hs0.symm
  have s1 := s.F0 (x := nI 0)
  rw [← hs0] at s1
  obtain ⟨e, h, t⟩ := s1
  have iv1 : IvG ρ (S 4 0) (S 8 0) (S 10 0) (S 6 0) nor nw := by rw [hs0]; exact iv.f0
  have rs1 : RsX ρ := by rw [hs0]; exact rs
  have h00 : ρ.1 0 = nI 0 := by rw [hs0]; rfl
  have hS4 := h.hz.2.1
  have hS6 := h.hz.2.2.1
  have hS8 := h.hz.2.2.2.1
  have hS10 := h.hz.2.2.2.2.1
  cases hap_c : inN c 96 with
  | false =>
    refine pl_aload_n (pc := 0) dX1_section_0 rfl rfl ?_
    refine pl_iload_n (pc := 1) dX1_section_1 rfl rfl ?_
    refine pl_callVX (pc := 2) (As := [_]) (C1 := 1) (N1 := 6) (C2 := 0) (N2 := 0) (E8 := "java/lang/IndexOutOfBoundsException") ckX1 mdX1_slotOf rfl q1239 q1241 qs7 q125 dX1_section_2 rfl rfl (Nat.le_of_ble_eq_true rfl) (h.r0) (x_X1_slotOf_no (d := d - 1) (by omega) h hap_c) (by omega) (by omega) (by omega) (fun q_2 M_2 hM_2 => ?_)
    refine px_out0 rfl ?_
    exact CQ.no 0 (v := nI 0) (τ := sF ρ 0 (nI 1)) (by rw [show sF ρ 0 (nI 1) = th σ 1 by rw [hs0]]; first | (simp only [p_section, hap_c, ↓reduceIte]; first | done | rfl) | (simp [p_section, hap_c, Int32.not_lt, Int32.not_le]; first | done | rfl)) rfl rfl (SB.mono (SB.F0 ⟨_, h, t⟩) hM_2)
  | true =>
    obtain ⟨j_c, hj_c, rfl⟩ := inN_of (by omega) hap_c
    have g_c := tN_nI (n := j_c) (by omega)
    refine pl_aload_n (pc := 0) dX1_section_0 rfl rfl ?_
    refine pl_iload_n (pc := 1) dX1_section_1 rfl rfl ?_
    obtain ⟨q_2, hm_2, hq_2, hdd_2⟩ := h.held (s := j_c) (by omega)
    refine pl_callVd (pc := 2) (As := [_]) (C1 := 0) (N1 := 0) (C2 := 1) (N2 := 6) ckX1 mdX1_slotOf rfl q1239 q1241 qs7 q125 dX1_section_2 rfl rfl (Nat.le_of_ble_eq_true rfl) (h.r0) (x_X1_slotOf_ok (d := d - 1) (by omega) h (by omega)) (by omega) (by omega) (by omega) ?_
    refine pj_astore_n (pc := 5) (lv' := [(3, _), (0, _), (1, _), (2, _)]) dX1_section_5 rfl (by decide) rfl ?_
    refine pl_iload_n (pc := 6) dX1_section_6 rfl rfl ?_
    refine pj_if_lt (pc := 7) (tgt := 20) dX1_section_7 (by decide) (fun c7 => ?_) (fun c7 => ?_)
    · refine pl_iconst (pc := 20) (v := 0) dX1_section_20 (by rfl) ?_
      refine pl_callSX (pc := 21) (As := [_]) (C1 := 1) (N1 := 6) (C2 := 0) (N2 := 0) (E8 := "java/lang/IllegalArgumentException") mdX1_need q1262 q1263 q125 dX1_section_21 rfl rfl (Nat.le_of_ble_eq_true rfl) (k_X1_need_no (d := d - 1) (by omega) rfl) (by omega) (by omega) (by omega) (fun q_21 M_21 hM_21 => ?_)
      refine px_out0 rfl ?_
      exact CQ.no 1 (v := nI 0) (τ := sF ρ 0 (nI 2)) (by rw [show sF ρ 0 (nI 2) = th σ 2 by rw [hs0]]; first | (simp only [p_section, hap_c, g_c, c7, ↓reduceIte]; first | done | rfl) | (simp [p_section, hap_c, g_c, c7, Int32.not_lt, Int32.not_le]; first | done | rfl)) rfl rfl (SB.mono (SB.F0 ⟨_, h, t⟩) hM_21)
    · refine pl_iload_n (pc := 10) dX1_section_10 rfl rfl ?_
      refine pl_bipush (pc := 11) (v := 6) dX1_section_11 (by rfl) ?_
      refine pj_icmp_gt (pc := 13) (tgt := 20) dX1_section_13 (by decide) (fun c13 => ?_) (fun c13 => ?_)
      · refine pl_iconst (pc := 20) (v := 0) dX1_section_20 (by rfl) ?_
        refine pl_callSX (pc := 21) (As := [_]) (C1 := 1) (N1 := 6) (C2 := 0) (N2 := 0) (E8 := "java/lang/IllegalArgumentException") mdX1_need q1262 q1263 q125 dX1_section_21 rfl rfl (Nat.le_of_ble_eq_true rfl) (k_X1_need_no (d := d - 1) (by omega) rfl) (by omega) (by omega) (by omega) (fun q_21 M_21 hM_21 => ?_)
        refine px_out0 rfl ?_
        exact CQ.no 1 (v := nI 0) (τ := sF ρ 0 (nI 2)) (by rw [show sF ρ 0 (nI 2) = th σ 2 by rw [hs0]]; first | (simp only [p_section, hap_c, g_c, c7, c13, ↓reduceIte]; first | done | rfl) | (simp [p_section, hap_c, g_c, c7, c13, Int32.not_lt, Int32.not_le]; first | done | rfl)) rfl rfl (SB.mono (SB.F0 ⟨_, h, t⟩) hM_21)
      · refine pl_iconst (pc := 16) (v := 1) dX1_section_16 (by rfl) ?_
        refine pj_goto (pc := 17) (tgt := 21) dX1_section_17 (by decide) ?_
        refine pl_callSv (pc := 21) (As := [_]) (C1 := 0) (N1 := 0) (C2 := 1) (N2 := 6) mdX1_need q1262 q1263 q125 dX1_section_21 rfl rfl (Nat.le_of_ble_eq_true rfl) (k_X1_need_ok (d := d - 1) (by omega) (by decide)) (by omega) (by omega) (by omega) ?_
        refine pl_aload_n (pc := 24) dX1_section_24 rfl rfl ?_
        refine pl_callVd (pc := 25) (As := []) (C1 := 0) (N1 := 0) (C2 := 1) (N2 := 6) ckX8 mdX8_holding rfl q1340 q1128 q1129 q152 dX1_section_25 rfl rfl (Nat.le_of_ble_eq_true rfl) hm_2 (k_X8_holding (d := d - 1) (by omega) hm_2 hq_2) (by omega) (by omega) (by omega) ?_
        refine pj_astore (pc := 28) (lv' := [(4, _), (3, _), (0, _), (1, _), (2, _)]) dX1_section_28 (by decide) rfl ?_
        refine pl_aload_n (pc := 30) dX1_section_30 rfl rfl ?_
        refine pl_callVd (pc := 31) (As := []) (C1 := 0) (N1 := 0) (C2 := 1) (N2 := 6) ckX8 mdX8_pasture rfl q1341 q1342 q1343 q152 dX1_section_31 rfl rfl (Nat.le_of_ble_eq_true rfl) hm_2 (k_X8_pasture (d := d - 1) (by omega) hm_2 hq_2) (by omega) (by omega) (by omega) ?_
        by_cases cP : isPastV (sec ρ j_c 0) = true
        · rw [if_pos (show isPastV (hoR ρ j_c 0) = true from cP)]
          refine pj_astore (pc := 34) (lv' := [(5, _), (4, _), (3, _), (0, _), (1, _), (2, _)]) dX1_section_34 (by decide) rfl ?_
          refine pl_iload_n (pc := 36) dX1_section_36 rfl rfl ?_
          refine pl_tsw (pc := 37) 0 (tgt := 76) dX1_section_37 (by rfl) (by decide) (by decide) (by rfl) (by decide) (fun c37_0 => ?_) (fun c37_0 => ?_)
          · refine pl_aload (pc := 76) dX1_section_76 rfl ?_
            refine ph_kind (pc := 78) hq_2 (fun G => dw_at G 0 rfl) (fun G => dw_at G 1 rfl) dX1_section_78 (by omega) (Nat.le_of_ble_eq_true rfl) ?_
            refine PJ.top ho_kind ?_
            refine pj_iret (pc := 81) dX1_section_81 rfl ?_
            exact CQ.ok (τ := ρ) (by first | (simp only [p_section, hs9, ← hs0, hap_c, g_c, c7, c13, cP, eq_true c37_0, ↓reduceIte]; first | done | rfl) | (simp [p_section, hs9, ← hs0, hap_c, g_c, c7, c13, cP, eq_true c37_0, Int32.not_lt, Int32.not_le]; first | done | rfl)) h00 ⟨_, h, t⟩
          refine pl_tsw (pc := 37) 1 (tgt := 82) dX1_section_37 (by rfl) (by decide) (by decide) (by rfl) (by decide) (fun c37_1 => ?_) (fun c37_1 => ?_)
          · refine pl_aload (pc := 82) dX1_section_82 rfl ?_
            refine ph_holder (pc := 84) hq_2 (fun G => dw_at G 2 rfl) (fun G => dw_at G 3 rfl) dX1_section_84 (by omega) (Nat.le_of_ble_eq_true rfl) ?_
            refine PJ.top ho_holder ?_
            refine PJ.top (y := if sec ρ j_c 0 ≤ nI 1 then -1 else sec ρ j_c 1) (hq_2.p1) ?_
            refine pj_iret (pc := 87) dX1_section_87 rfl ?_
            exact CQ.ok (τ := ρ) (by first | (simp only [p_section, hs9, ← hs0, hap_c, g_c, c7, c13, cP, c37_0, eq_true c37_1, ↓reduceIte]; first | done | rfl) | (simp [p_section, hs9, ← hs0, hap_c, g_c, c7, c13, cP, c37_0, eq_true c37_1, Int32.not_lt, Int32.not_le]; first | done | rfl)) h00 ⟨_, h, t⟩
          refine pl_tsw (pc := 37) 2 (tgt := 88) dX1_section_37 (by rfl) (by decide) (by decide) (by rfl) (by decide) (fun c37_2 => ?_) (fun c37_2 => ?_)
          · refine pl_aload_n (pc := 88) dX1_section_88 rfl rfl ?_
            refine pj_getf (pc := 89) ckX1 0 q853 dX1_section_89 (by decide) (h.r0) rfl ?_
            refine pj_getfN (pc := 92) ckX2 17 q758 dX1_section_92 (by decide) (h.r1) rfl ?_
            refine pl_iload_n (pc := 95) dX1_section_95 rfl rfl ?_
            refine pl_iald (pc := 96) (n := 96) dX1_section_96 (h.r20) (by omega) (by decide) ?_
            refine PJ.top (h.v20 (by omega)) ?_
            refine PJ.top (y := if sec ρ j_c 0 = nI 4 then sec ρ j_c 2 else -1) (t.ends hj_c) ?_
            refine pj_iret (pc := 97) dX1_section_97 rfl ?_
            exact CQ.ok (τ := ρ) (by first | (simp only [p_section, hs9, ← hs0, hap_c, g_c, c7, c13, cP, c37_0, c37_1, eq_true c37_2, ↓reduceIte]; first | done | rfl) | (simp [p_section, hs9, ← hs0, hap_c, g_c, c7, c13, cP, c37_0, c37_1, eq_true c37_2, Int32.not_lt, Int32.not_le]; first | done | rfl)) h00 ⟨_, h, t⟩
          refine pl_tsw (pc := 37) 3 (tgt := 98) dX1_section_37 (by rfl) (by decide) (by decide) (by rfl) (by decide) (fun c37_3 => ?_) (fun c37_3 => ?_)
          · refine pl_aload (pc := 98) dX1_section_98 rfl ?_
            refine pj_ifnonnull (pc := 100) (tgt := 107) dX1_section_100 (by decide) ?_
            refine pl_aload_n (pc := 107) dX1_section_107 rfl rfl ?_
            refine pj_getf (pc := 108) ckX1 0 q853 dX1_section_108 (by decide) (h.r0) rfl ?_
            refine pj_getfN (pc := 111) ckX2 16 q756 dX1_section_111 (by decide) (h.r1) rfl ?_
            refine pl_iload_n (pc := 114) dX1_section_114 rfl rfl ?_
            refine pl_iald (pc := 115) (n := 96) dX1_section_115 (h.r19) (by omega) (by decide) ?_
            refine PJ.top (h.v19 (by omega)) ?_
            refine pj_iret (pc := 116) dX1_section_116 rfl ?_
            exact CQ.ok (τ := ρ) (by first | (simp only [p_section, hs9, ← hs0, hap_c, g_c, c7, c13, cP, c37_0, c37_1, c37_2, eq_true c37_3, ↓reduceIte]; first | done | rfl) | (simp [p_section, hs9, ← hs0, hap_c, g_c, c7, c13, cP, c37_0, c37_1, c37_2, eq_true c37_3, Int32.not_lt, Int32.not_le]; first | done | rfl)) h00 ⟨_, h, t⟩
          refine pl_tsw (pc := 37) 4 (tgt := 117) dX1_section_37 (by rfl) (by decide) (by decide) (by rfl) (by decide) (fun c37_4 => ?_) (fun c37_4 => ?_)
          · refine pl_aload (pc := 117) dX1_section_117 rfl ?_
            refine pj_ifnonnull (pc := 119) (tgt := 126) dX1_section_119 (by decide) ?_
            refine pl_aload_n (pc := 126) dX1_section_126 rfl rfl ?_
            refine pj_getf (pc := 127) ckX1 0 q853 dX1_section_127 (by decide) (h.r0) rfl ?_
            refine pj_getfN (pc := 130) ckX2 18 q760 dX1_section_130 (by decide) (h.r1) rfl ?_
            refine pl_iload_n (pc := 133) dX1_section_133 rfl rfl ?_
            refine pl_zald (pc := 134) (n := 96) dX1_section_134 (h.r21) (by omega) (by decide) ?_
            refine PJ.top (h.v21 (by omega)) ?_
            refine pj_if_eq (pc := 135) (tgt := 142) dX1_section_135 (by decide) (fun c135 => ?_) (fun c135 => ?_)
            · refine pl_iconst (pc := 142) (v := 0) dX1_section_142 (by rfl) ?_
              refine PJ.top (y := sec ρ j_c 4) (c135.symm) ?_
              refine pj_iret (pc := 143) dX1_section_143 rfl ?_
              exact CQ.ok (τ := ρ) (by first | (simp only [p_section, hs9, ← hs0, hap_c, g_c, c7, c13, cP, c37_0, c37_1, c37_2, c37_3, eq_true c37_4, eq_true c135, ↓reduceIte]; first | done | rfl) | (simp [p_section, hs9, ← hs0, hap_c, g_c, c7, c13, cP, c37_0, c37_1, c37_2, c37_3, eq_true c37_4, eq_true c135, Int32.not_lt, Int32.not_le]; first | done | rfl)) h00 ⟨_, h, t⟩
            · refine pl_iconst (pc := 138) (v := 1) dX1_section_138 (by rfl) ?_
              refine pj_goto (pc := 139) (tgt := 143) dX1_section_139 (by decide) ?_
              refine PJ.top (y := sec ρ j_c 4) ((t.ps hj_c).2.2.2.elim (fun z => absurd z c135) (fun z => z.1.symm)) ?_
              refine pj_iret (pc := 143) dX1_section_143 rfl ?_
              exact CQ.ok (τ := ρ) (by first | (simp only [p_section, hs9, ← hs0, hap_c, g_c, c7, c13, cP, c37_0, c37_1, c37_2, c37_3, eq_true c37_4, c135, ↓reduceIte]; first | done | rfl) | (simp [p_section, hs9, ← hs0, hap_c, g_c, c7, c13, cP, c37_0, c37_1, c37_2, c37_3, eq_true c37_4, c135, Int32.not_lt, Int32.not_le]; first | done | rfl)) h00 ⟨_, h, t⟩
          refine pl_tsw (pc := 37) 5 (tgt := 144) dX1_section_37 (by rfl) (by decide) (by decide) (by rfl) (by decide) (fun c37_5 => ?_) (fun c37_5 => ?_)
          · refine pl_aload (pc := 144) dX1_section_144 rfl ?_
            refine ph_paid (pc := 146) hq_2 (fun G => dw_at G 8 rfl) (fun G => dw_at G 9 rfl) dX1_section_146 (by omega) (Nat.le_of_ble_eq_true rfl) ?_
            refine PJ.top ho_paid ?_
            refine PJ.top (y := if isFarmV (sec ρ j_c 0) = true then sec ρ j_c 5 else -1) (hq_2.p2) ?_
            refine pj_iret (pc := 149) dX1_section_149 rfl ?_
            exact CQ.ok (τ := ρ) (by first | (simp only [p_section, hs9, ← hs0, hap_c, g_c, c7, c13, cP, c37_0, c37_1, c37_2, c37_3, c37_4, eq_true c37_5, ↓reduceIte]; first | done | rfl) | (simp [p_section, hs9, ← hs0, hap_c, g_c, c7, c13, cP, c37_0, c37_1, c37_2, c37_3, c37_4, eq_true c37_5, Int32.not_lt, Int32.not_le]; first | done | rfl)) h00 ⟨_, h, t⟩
          refine pj_tableOut (pc := 37) (tgt := 150) dX1_section_37 (by have q0 := nI_nec c37_0; have q1 := nI_nec c37_1; have q2 := nI_nec c37_2; have q3 := nI_nec c37_3; have q4 := nI_nec c37_4; have q5 := nI_nec c37_5; omega) (by decide) ?_
          refine pl_aload_n (pc := 150) dX1_section_150 rfl rfl ?_
          refine pj_getf (pc := 151) ckX1 0 q853 dX1_section_151 (by decide) (h.r0) rfl ?_
          refine pj_getfN (pc := 154) ckX2 15 q754 dX1_section_154 (by decide) (h.r1) rfl ?_
          refine pl_iload_n (pc := 157) dX1_section_157 rfl rfl ?_
          refine pl_iald (pc := 158) (n := 96) dX1_section_158 (h.r18) (by omega) (by decide) ?_
          refine PJ.top (h.v18 (by omega)) ?_
          refine PJ.top (y := if sec ρ j_c 0 = 0 then milesV (ρ.2.1 4 j_c) (ρ.2.1 3 j_c) - sec ρ j_c 7 else nI 0) (t.miles hj_c) ?_
          refine pj_iret (pc := 159) dX1_section_159 rfl ?_
          exact CQ.ok (τ := ρ) (by first | (simp only [p_section, hs9, ← hs0, hap_c, g_c, c7, c13, cP, c37_0, c37_1, c37_2, c37_3, c37_4, c37_5, ↓reduceIte]; first | done | rfl) | (simp [p_section, hs9, ← hs0, hap_c, g_c, c7, c13, cP, c37_0, c37_1, c37_2, c37_3, c37_4, c37_5, Int32.not_lt, Int32.not_le]; first | done | rfl)) h00 ⟨_, h, t⟩
        · rw [if_neg (show ¬ isPastV (hoR ρ j_c 0) = true from cP)]
          refine pj_astoreN (pc := 34) (lv' := [(5, _), (4, _), (3, _), (0, _), (1, _), (2, _)]) dX1_section_34 (by decide) rfl ?_
          refine pl_iload_n (pc := 36) dX1_section_36 rfl rfl ?_
          refine pl_tsw (pc := 37) 0 (tgt := 76) dX1_section_37 (by rfl) (by decide) (by decide) (by rfl) (by decide) (fun c37_0 => ?_) (fun c37_0 => ?_)
          · refine pl_aload (pc := 76) dX1_section_76 rfl ?_
            refine ph_kind (pc := 78) hq_2 (fun G => dw_at G 0 rfl) (fun G => dw_at G 1 rfl) dX1_section_78 (by omega) (Nat.le_of_ble_eq_true rfl) ?_
            refine PJ.top ho_kind ?_
            refine pj_iret (pc := 81) dX1_section_81 rfl ?_
            exact CQ.ok (τ := ρ) (by first | (simp only [p_section, hs9, ← hs0, hap_c, g_c, c7, c13, cP, eq_true c37_0, ↓reduceIte]; first | done | rfl) | (simp [p_section, hs9, ← hs0, hap_c, g_c, c7, c13, cP, eq_true c37_0, Int32.not_lt, Int32.not_le]; first | done | rfl)) h00 ⟨_, h, t⟩
          refine pl_tsw (pc := 37) 1 (tgt := 82) dX1_section_37 (by rfl) (by decide) (by decide) (by rfl) (by decide) (fun c37_1 => ?_) (fun c37_1 => ?_)
          · refine pl_aload (pc := 82) dX1_section_82 rfl ?_
            refine ph_holder (pc := 84) hq_2 (fun G => dw_at G 2 rfl) (fun G => dw_at G 3 rfl) dX1_section_84 (by omega) (Nat.le_of_ble_eq_true rfl) ?_
            refine PJ.top ho_holder ?_
            refine PJ.top (y := if sec ρ j_c 0 ≤ nI 1 then -1 else sec ρ j_c 1) (hq_2.p1) ?_
            refine pj_iret (pc := 87) dX1_section_87 rfl ?_
            exact CQ.ok (τ := ρ) (by first | (simp only [p_section, hs9, ← hs0, hap_c, g_c, c7, c13, cP, c37_0, eq_true c37_1, ↓reduceIte]; first | done | rfl) | (simp [p_section, hs9, ← hs0, hap_c, g_c, c7, c13, cP, c37_0, eq_true c37_1, Int32.not_lt, Int32.not_le]; first | done | rfl)) h00 ⟨_, h, t⟩
          refine pl_tsw (pc := 37) 2 (tgt := 88) dX1_section_37 (by rfl) (by decide) (by decide) (by rfl) (by decide) (fun c37_2 => ?_) (fun c37_2 => ?_)
          · refine pl_aload_n (pc := 88) dX1_section_88 rfl rfl ?_
            refine pj_getf (pc := 89) ckX1 0 q853 dX1_section_89 (by decide) (h.r0) rfl ?_
            refine pj_getfN (pc := 92) ckX2 17 q758 dX1_section_92 (by decide) (h.r1) rfl ?_
            refine pl_iload_n (pc := 95) dX1_section_95 rfl rfl ?_
            refine pl_iald (pc := 96) (n := 96) dX1_section_96 (h.r20) (by omega) (by decide) ?_
            refine PJ.top (h.v20 (by omega)) ?_
            refine PJ.top (y := if sec ρ j_c 0 = nI 4 then sec ρ j_c 2 else -1) (t.ends hj_c) ?_
            refine pj_iret (pc := 97) dX1_section_97 rfl ?_
            exact CQ.ok (τ := ρ) (by first | (simp only [p_section, hs9, ← hs0, hap_c, g_c, c7, c13, cP, c37_0, c37_1, eq_true c37_2, ↓reduceIte]; first | done | rfl) | (simp [p_section, hs9, ← hs0, hap_c, g_c, c7, c13, cP, c37_0, c37_1, eq_true c37_2, Int32.not_lt, Int32.not_le]; first | done | rfl)) h00 ⟨_, h, t⟩
          refine pl_tsw (pc := 37) 3 (tgt := 98) dX1_section_37 (by rfl) (by decide) (by decide) (by rfl) (by decide) (fun c37_3 => ?_) (fun c37_3 => ?_)
          · refine pl_aloadN (pc := 98) dX1_section_98 rfl ?_
            refine pj_ifnonnullN (pc := 100) dX1_section_100 ?_
            refine pj_iconst (pc := 103) (v := (-1)) dX1_section_103 (by rfl) ?_
            refine pj_goto (pc := 104) (tgt := 116) dX1_section_104 (by decide) ?_
            refine pj_iret (pc := 116) dX1_section_116 rfl ?_
            exact CQ.ok (τ := ρ) (by first | (simp only [p_section, hs9, ← hs0, hap_c, g_c, c7, c13, cP, c37_0, c37_1, c37_2, eq_true c37_3, ↓reduceIte]; first | done | rfl) | (simp [p_section, hs9, ← hs0, hap_c, g_c, c7, c13, cP, c37_0, c37_1, c37_2, eq_true c37_3, Int32.not_lt, Int32.not_le]; first | done | rfl)) h00 ⟨_, h, t⟩
          refine pl_tsw (pc := 37) 4 (tgt := 117) dX1_section_37 (by rfl) (by decide) (by decide) (by rfl) (by decide) (fun c37_4 => ?_) (fun c37_4 => ?_)
          · refine pl_aloadN (pc := 117) dX1_section_117 rfl ?_
            refine pj_ifnonnullN (pc := 119) dX1_section_119 ?_
            refine pj_iconst (pc := 122) (v := (-1)) dX1_section_122 (by rfl) ?_
            refine pj_goto (pc := 123) (tgt := 143) dX1_section_123 (by decide) ?_
            refine pj_iret (pc := 143) dX1_section_143 rfl ?_
            exact CQ.ok (τ := ρ) (by first | (simp only [p_section, hs9, ← hs0, hap_c, g_c, c7, c13, cP, c37_0, c37_1, c37_2, c37_3, eq_true c37_4, ↓reduceIte]; first | done | rfl) | (simp [p_section, hs9, ← hs0, hap_c, g_c, c7, c13, cP, c37_0, c37_1, c37_2, c37_3, eq_true c37_4, Int32.not_lt, Int32.not_le]; first | done | rfl)) h00 ⟨_, h, t⟩
          refine pl_tsw (pc := 37) 5 (tgt := 144) dX1_section_37 (by rfl) (by decide) (by decide) (by rfl) (by decide) (fun c37_5 => ?_) (fun c37_5 => ?_)
          · refine pl_aload (pc := 144) dX1_section_144 rfl ?_
            refine ph_paid (pc := 146) hq_2 (fun G => dw_at G 8 rfl) (fun G => dw_at G 9 rfl) dX1_section_146 (by omega) (Nat.le_of_ble_eq_true rfl) ?_
            refine PJ.top ho_paid ?_
            refine PJ.top (y := if isFarmV (sec ρ j_c 0) = true then sec ρ j_c 5 else -1) (hq_2.p2) ?_
            refine pj_iret (pc := 149) dX1_section_149 rfl ?_
            exact CQ.ok (τ := ρ) (by first | (simp only [p_section, hs9, ← hs0, hap_c, g_c, c7, c13, cP, c37_0, c37_1, c37_2, c37_3, c37_4, eq_true c37_5, ↓reduceIte]; first | done | rfl) | (simp [p_section, hs9, ← hs0, hap_c, g_c, c7, c13, cP, c37_0, c37_1, c37_2, c37_3, c37_4, eq_true c37_5, Int32.not_lt, Int32.not_le]; first | done | rfl)) h00 ⟨_, h, t⟩
          refine pj_tableOut (pc := 37) (tgt := 150) dX1_section_37 (by have q0 := nI_nec c37_0; have q1 := nI_nec c37_1; have q2 := nI_nec c37_2; have q3 := nI_nec c37_3; have q4 := nI_nec c37_4; have q5 := nI_nec c37_5; omega) (by decide) ?_
          refine pl_aload_n (pc := 150) dX1_section_150 rfl rfl ?_
          refine pj_getf (pc := 151) ckX1 0 q853 dX1_section_151 (by decide) (h.r0) rfl ?_
          refine pj_getfN (pc := 154) ckX2 15 q754 dX1_section_154 (by decide) (h.r1) rfl ?_
          refine pl_iload_n (pc := 157) dX1_section_157 rfl rfl ?_
          refine pl_iald (pc := 158) (n := 96) dX1_section_158 (h.r18) (by omega) (by decide) ?_
          refine PJ.top (h.v18 (by omega)) ?_
          refine PJ.top (y := if sec ρ j_c 0 = 0 then milesV (ρ.2.1 4 j_c) (ρ.2.1 3 j_c) - sec ρ j_c 7 else nI 0) (t.miles hj_c) ?_
          refine pj_iret (pc := 159) dX1_section_159 rfl ?_
          exact CQ.ok (τ := ρ) (by first | (simp only [p_section, hs9, ← hs0, hap_c, g_c, c7, c13, cP, c37_0, c37_1, c37_2, c37_3, c37_4, c37_5, ↓reduceIte]; first | done | rfl) | (simp [p_section, hs9, ← hs0, hap_c, g_c, c7, c13, cP, c37_0, c37_1, c37_2, c37_3, c37_4, c37_5, Int32.not_lt, Int32.not_le]; first | done | rfl)) h00 ⟨_, h, t⟩
