set_option maxRecDepth 100000
set_option maxHeartbeats 600000 in
theorem x_X1_fell {g : GP} {μ : Mem} {d : Nat} {P : Nat → Prop} {F : Mem} {A : XA} {S : Nat → Nat → Nat} {b : XS} {σ : MS} {nor nw : Nat} (s : SB g P F A 0 S b σ nw μ) (iv : IvG σ (S 4 0) (S 8 0) (S 10 0) (S 6 0) nor nw) (rs : RsX σ) (hd : 8 ≤ d) {z : Int32} {w : Int32} : PM g yX1_fell (ws_ yX1_fell cX1_fell 3 (some .int)) d 1 6 [.ref (A 0 0 0), .int z, .int w] μ (CQ ["java/lang/IndexOutOfBoundsException", "java/lang/IllegalArgumentException"] (p_fell σ z w) (fun τ M => SB g P F A 0 S b τ nw M)) := by
  refine PM.of (by decide +kernel) (Nat.le_of_ble_eq_true rfl) ?_
  refine PJ.ok (fun G => ?_)
  show PJ g _ _ _ _ d 1 6 0 [(0, .ref (A 0 0 0)), (1, .int z), (2, .int w)] [] _ _
  obtain ⟨e, h, t⟩ := s
  have hS4 := h.hz.2.1
  have hS6 := h.hz.2.2.1
  have hS8 := h.hz.2.2.2.1
  have hS10 := h.hz.2.2.2.2.1
  cases hap_z : inN z 4 with
  | false =>
    refine pl_iload_n (pc := 0) dX1_fell_0 rfl rfl ?_
    refine pl_iconst (pc := 1) (v := 4) dX1_fell_1 (by rfl) ?_
    refine pl_callSX (pc := 2) (As := [_, _]) (C1 := 1) (N1 := 6) (C2 := 0) (N2 := 0) (E8 := "java/lang/IndexOutOfBoundsException") mdX1_there q1243 q1244 q125 dX1_fell_2 rfl rfl (Nat.le_of_ble_eq_true rfl) (k_X1_there_no (d := d - 1) (by omega) hap_z) (by omega) (by omega) (by omega) (fun q_2 M_2 hM_2 => ?_)
    refine px_out0 rfl ?_
    exact CQ.no 0 (v := nI 0) (τ := th σ 1) (by first | (simp only [p_fell, hap_z, row_sF, ↓reduceIte]; first | done | rfl) | (simp [p_fell, hap_z, row_sF, Int32.not_lt, Int32.not_le]; first | done | rfl)) rfl rfl (SB.mono (SB.F0 (SB.F0 ⟨_, h, t⟩)) hM_2)
  | true =>
    obtain ⟨j_z, hj_z, rfl⟩ := inN_of (by omega) hap_z
    have g_z := tN_nI (n := j_z) (by omega)
    refine pl_iload_n (pc := 0) dX1_fell_0 rfl rfl ?_
    refine pl_iconst (pc := 1) (v := 4) dX1_fell_1 (by rfl) ?_
    refine pl_callSv (pc := 2) (As := [_, _]) (C1 := 0) (N1 := 0) (C2 := 1) (N2 := 6) mdX1_there q1243 q1244 q125 dX1_fell_2 rfl rfl (Nat.le_of_ble_eq_true rfl) (k_X1_there_ok (d := d - 1) (by omega) (by omega) (by omega)) (by omega) (by omega) (by omega) ?_
    refine pl_iload_n (pc := 5) dX1_fell_5 rfl rfl ?_
    refine pj_if_lt (pc := 6) (tgt := 20) dX1_fell_6 (by decide) (fun c6 => ?_) (fun c6 => ?_)
    · refine pl_iconst (pc := 20) (v := 0) dX1_fell_20 (by rfl) ?_
      refine pl_callSX (pc := 21) (As := [_]) (C1 := 1) (N1 := 6) (C2 := 0) (N2 := 0) (E8 := "java/lang/IllegalArgumentException") mdX1_need q1262 q1263 q125 dX1_fell_21 rfl rfl (Nat.le_of_ble_eq_true rfl) (k_X1_need_no (d := d - 1) (by omega) rfl) (by omega) (by omega) (by omega) (fun q_21 M_21 hM_21 => ?_)
      refine px_out0 rfl ?_
      exact CQ.no 1 (v := nI 0) (τ := th σ 2) (by first | (simp only [p_fell, hap_z, g_z, c6, row_sF, ↓reduceIte]; first | done | rfl) | (simp [p_fell, hap_z, g_z, c6, row_sF, Int32.not_lt, Int32.not_le]; first | done | rfl)) rfl rfl (SB.mono (SB.F0 (SB.F0 ⟨_, h, t⟩)) hM_21)
    · refine pl_iload_n (pc := 9) dX1_fell_9 rfl rfl ?_
      refine pl_sipush (pc := 10) (v := 1000) dX1_fell_10 (by rfl) ?_
      refine pj_icmp_gt (pc := 13) (tgt := 20) dX1_fell_13 (by decide) (fun c13 => ?_) (fun c13 => ?_)
      · refine pl_iconst (pc := 20) (v := 0) dX1_fell_20 (by rfl) ?_
        refine pl_callSX (pc := 21) (As := [_]) (C1 := 1) (N1 := 6) (C2 := 0) (N2 := 0) (E8 := "java/lang/IllegalArgumentException") mdX1_need q1262 q1263 q125 dX1_fell_21 rfl rfl (Nat.le_of_ble_eq_true rfl) (k_X1_need_no (d := d - 1) (by omega) rfl) (by omega) (by omega) (by omega) (fun q_21 M_21 hM_21 => ?_)
        refine px_out0 rfl ?_
        exact CQ.no 1 (v := nI 0) (τ := th σ 2) (by first | (simp only [p_fell, hap_z, g_z, c6, c13, row_sF, ↓reduceIte]; first | done | rfl) | (simp [p_fell, hap_z, g_z, c6, c13, row_sF, Int32.not_lt, Int32.not_le]; first | done | rfl)) rfl rfl (SB.mono (SB.F0 (SB.F0 ⟨_, h, t⟩)) hM_21)
      · refine pl_iconst (pc := 16) (v := 1) dX1_fell_16 (by rfl) ?_
        refine pj_goto (pc := 17) (tgt := 21) dX1_fell_17 (by decide) ?_
        refine pl_callSv (pc := 21) (As := [_]) (C1 := 0) (N1 := 0) (C2 := 1) (N2 := 6) mdX1_need q1262 q1263 q125 dX1_fell_21 rfl rfl (Nat.le_of_ble_eq_true rfl) (k_X1_need_ok (d := d - 1) (by omega) (by decide)) (by omega) (by omega) (by omega) ?_
        obtain ⟨j_w, hj_w, rfl⟩ := inN_of (x := w) (n := 1001) (by omega) (by simp only [inN, Bool.and_eq_true, decide_eq_true_eq]; exact ⟨Int32.not_lt.mp c6, Int32.lt_of_le_of_lt (Int32.not_lt.mp c13) (by decide)⟩)
        have g_w := tN_nI (n := j_w) (by omega)
        obtain ⟨mn, fl, hrn, hfl⟩ := h.rain iv.rns
        refine pl_aload_n (pc := 24) dX1_fell_24 rfl rfl ?_
        refine pj_getf (pc := 25) ckX1 0 q853 dX1_fell_25 (by decide) (h.r0) rfl ?_
        refine pj_getfN (pc := 28) ckX2 21 q765 dX1_fell_28 (by decide) (h.r1) rfl ?_
        refine pl_iload_n (pc := 31) dX1_fell_31 rfl rfl ?_
        refine pl_iload_n (pc := 32) dX1_fell_32 rfl rfl ?_
        refine pl_callVd (pc := 33) (As := [_, _]) (C1 := 0) (N1 := 0) (C2 := 1) (N2 := 6) ckX7 mdX7_fell rfl q1303 q1304 q1305 q151 dX1_fell_33 rfl rfl (Nat.le_of_ble_eq_true rfl) hrn.1 (k_X7_fell (σ := s0 σ) (d := d - 1) (by omega) (z := j_z) (wk := j_w) (by omega) (by omega) hrn hfl) (by omega) (by omega) (by omega) ?_
        refine pj_iret (pc := 36) dX1_fell_36 rfl ?_
        exact CQ.ok (τ := s0 σ) (by first | (simp only [p_fell, hap_z, g_z, c6, c13, g_w, fall_rest (σ := s0 σ) rs, row_sF, ↓reduceIte]; first | done | rfl) | (simp [p_fell, hap_z, g_z, c6, c13, g_w, fall_rest (σ := s0 σ) rs, row_sF, Int32.not_lt, Int32.not_le]; first | done | rfl)) rfl (SB.F0 ⟨_, h, t⟩)
set_option maxHeartbeats 600000 in
theorem x_X1_person {g : GP} {μ : Mem} {d : Nat} {P : Nat → Prop} {F : Mem} {A : XA} {S : Nat → Nat → Nat} {b : XS} {σ : MS} {nor nw : Nat} (s : SB g P F A 0 S b σ nw μ) (iv : IvG σ (S 4 0) (S 8 0) (S 10 0) (S 6 0) nor nw) (rs : RsX σ) (hd : 9 ≤ d) {p : Int32} {w : Int32} : PM g yX1_person (ws_ yX1_person cX1_person 4 (some .int)) d 1 6 [.ref (A 0 0 0), .int p, .int w] μ (CQ ["java/lang/IndexOutOfBoundsException", "java/lang/IllegalArgumentException"] (p_person σ (S 4 0) p w) (fun τ M => SB g P F A 0 S b τ nw M)) := by
  refine PM.of (by decide +kernel) (Nat.le_of_ble_eq_true rfl) ?_
  refine PJ.ok (fun G => ?_)
  show PJ g _ _ _ _ d 1 6 0 [(0, .ref (A 0 0 0)), (1, .int p), (2, .int w)] [] _ _
  obtain ⟨e, h, t⟩ := s
  have hS4 := h.hz.2.1
  have hS6 := h.hz.2.2.1
  have hS8 := h.hz.2.2.2.1
  have hS10 := h.hz.2.2.2.2.1
  cases hap_p : inN p (S 4 0) with
  | false =>
    refine pl_aload_n (pc := 0) dX1_person_0 rfl rfl ?_
    refine pl_iload_n (pc := 1) dX1_person_1 rfl rfl ?_
    refine pl_callVX (pc := 2) (As := [_]) (C1 := 1) (N1 := 6) (C2 := 0) (N2 := 0) (E8 := "java/lang/IndexOutOfBoundsException") ckX1 mdX1_personOf rfl q1411 q1413 qs9 q125 dX1_person_2 rfl rfl (Nat.le_of_ble_eq_true rfl) (h.r0) (x_X1_personOf_no (d := d - 1) (by omega) h hap_p) (by omega) (by omega) (by omega) (fun q_2 M_2 hM_2 => ?_)
    refine px_out0 rfl ?_
    exact CQ.no 0 (v := nI 0) (τ := th σ 1) (by first | (simp only [p_person, hap_p, row_sF, ↓reduceIte]; first | done | rfl) | (simp [p_person, hap_p, row_sF, Int32.not_lt, Int32.not_le]; first | done | rfl)) rfl rfl (SB.mono (SB.F0 (SB.F0 ⟨_, h, t⟩)) hM_2)
  | true =>
    obtain ⟨j_p, hj_p, rfl⟩ := inN_of (by omega) hap_p
    have g_p := tN_nI (n := j_p) (by omega)
    refine pl_aload_n (pc := 0) dX1_person_0 rfl rfl ?_
    refine pl_iload_n (pc := 1) dX1_person_1 rfl rfl ?_
    refine pl_callVd (pc := 2) (As := [_]) (C1 := 0) (N1 := 0) (C2 := 1) (N2 := 6) ckX1 mdX1_personOf rfl q1411 q1413 qs9 q125 dX1_person_2 rfl rfl (Nat.le_of_ble_eq_true rfl) (h.r0) (x_X1_personOf_ok (d := d - 1) (by omega) h (by omega)) (by omega) (by omega) (by omega) ?_
    refine pj_astore_n (pc := 5) (lv' := [(3, _), (0, _), (1, _), (2, _)]) dX1_person_5 rfl (by decide) rfl ?_
    refine pl_iload_n (pc := 6) dX1_person_6 rfl rfl ?_
    refine pj_if_lt (pc := 7) (tgt := 20) dX1_person_7 (by decide) (fun c7 => ?_) (fun c7 => ?_)
    · refine pl_iconst (pc := 20) (v := 0) dX1_person_20 (by rfl) ?_
      refine pl_callSX (pc := 21) (As := [_]) (C1 := 1) (N1 := 6) (C2 := 0) (N2 := 0) (E8 := "java/lang/IllegalArgumentException") mdX1_need q1262 q1263 q125 dX1_person_21 rfl rfl (Nat.le_of_ble_eq_true rfl) (k_X1_need_no (d := d - 1) (by omega) rfl) (by omega) (by omega) (by omega) (fun q_21 M_21 hM_21 => ?_)
      refine px_out0 rfl ?_
      exact CQ.no 1 (v := nI 0) (τ := th σ 2) (by first | (simp only [p_person, hap_p, g_p, c7, row_sF, ↓reduceIte]; first | done | rfl) | (simp [p_person, hap_p, g_p, c7, row_sF, Int32.not_lt, Int32.not_le]; first | done | rfl)) rfl rfl (SB.mono (SB.F0 (SB.F0 ⟨_, h, t⟩)) hM_21)
    · refine pl_iload_n (pc := 10) dX1_person_10 rfl rfl ?_
      refine pl_bipush (pc := 11) (v := 8) dX1_person_11 (by rfl) ?_
      refine pj_icmp_gt (pc := 13) (tgt := 20) dX1_person_13 (by decide) (fun c13 => ?_) (fun c13 => ?_)
      · refine pl_iconst (pc := 20) (v := 0) dX1_person_20 (by rfl) ?_
        refine pl_callSX (pc := 21) (As := [_]) (C1 := 1) (N1 := 6) (C2 := 0) (N2 := 0) (E8 := "java/lang/IllegalArgumentException") mdX1_need q1262 q1263 q125 dX1_person_21 rfl rfl (Nat.le_of_ble_eq_true rfl) (k_X1_need_no (d := d - 1) (by omega) rfl) (by omega) (by omega) (by omega) (fun q_21 M_21 hM_21 => ?_)
        refine px_out0 rfl ?_
        exact CQ.no 1 (v := nI 0) (τ := th σ 2) (by first | (simp only [p_person, hap_p, g_p, c7, c13, row_sF, ↓reduceIte]; first | done | rfl) | (simp [p_person, hap_p, g_p, c7, c13, row_sF, Int32.not_lt, Int32.not_le]; first | done | rfl)) rfl rfl (SB.mono (SB.F0 (SB.F0 ⟨_, h, t⟩)) hM_21)
      · refine pl_iconst (pc := 16) (v := 1) dX1_person_16 (by rfl) ?_
        refine pj_goto (pc := 17) (tgt := 21) dX1_person_17 (by decide) ?_
        refine pl_callSv (pc := 21) (As := [_]) (C1 := 0) (N1 := 0) (C2 := 1) (N2 := 6) mdX1_need q1262 q1263 q125 dX1_person_21 rfl rfl (Nat.le_of_ble_eq_true rfl) (k_X1_need_ok (d := d - 1) (by omega) (by decide)) (by omega) (by omega) (by omega) ?_
        refine pl_iload_n (pc := 24) dX1_person_24 rfl rfl ?_
        refine pl_tsw (pc := 25) 0 (tgt := 72) dX1_person_25 (by rfl) (by decide) (by decide) (by rfl) (by decide) (fun c25_0 => ?_) (fun c25_0 => ?_)
        · refine pl_aload_n (pc := 72) dX1_person_72 rfl rfl ?_
          refine pj_getfN (pc := 73) ckX10 1 q1069 dX1_person_73 (by decide) (h.r35 (by omega)) rfl ?_
          refine pj_iret (pc := 76) dX1_person_76 rfl ?_
          exact CQ.ok (τ := s0 σ) (by first | (simp only [p_person, hap_p, g_p, c7, c13, eq_true c25_0, row_sF, ↓reduceIte]; first | done | rfl) | (simp [p_person, hap_p, g_p, c7, c13, eq_true c25_0, row_sF, Int32.not_lt, Int32.not_le]; first | done | rfl)) rfl (SB.F0 ⟨_, h, t⟩)
        refine pl_tsw (pc := 25) 1 (tgt := 77) dX1_person_25 (by rfl) (by decide) (by decide) (by rfl) (by decide) (fun c25_1 => ?_) (fun c25_1 => ?_)
        · refine pl_aload_n (pc := 77) dX1_person_77 rfl rfl ?_
          refine pj_getfN (pc := 78) ckX10 2 q1072 dX1_person_78 (by decide) (h.r35 (by omega)) rfl ?_
          refine pj_iret (pc := 81) dX1_person_81 rfl ?_
          exact CQ.ok (τ := s0 σ) (by first | (simp only [p_person, hap_p, g_p, c7, c13, c25_0, eq_true c25_1, row_sF, ↓reduceIte]; first | done | rfl) | (simp [p_person, hap_p, g_p, c7, c13, c25_0, eq_true c25_1, row_sF, Int32.not_lt, Int32.not_le]; first | done | rfl)) rfl (SB.F0 ⟨_, h, t⟩)
        refine pl_tsw (pc := 25) 2 (tgt := 82) dX1_person_25 (by rfl) (by decide) (by decide) (by rfl) (by decide) (fun c25_2 => ?_) (fun c25_2 => ?_)
        · refine pl_aload_n (pc := 82) dX1_person_82 rfl rfl ?_
          refine pj_getfN (pc := 83) ckX10 3 q1075 dX1_person_83 (by decide) (h.r35 (by omega)) rfl ?_
          refine pj_iret (pc := 86) dX1_person_86 rfl ?_
          exact CQ.ok (τ := s0 σ) (by first | (simp only [p_person, hap_p, g_p, c7, c13, c25_0, c25_1, eq_true c25_2, row_sF, ↓reduceIte]; first | done | rfl) | (simp [p_person, hap_p, g_p, c7, c13, c25_0, c25_1, eq_true c25_2, row_sF, Int32.not_lt, Int32.not_le]; first | done | rfl)) rfl (SB.F0 ⟨_, h, t⟩)
        refine pl_tsw (pc := 25) 3 (tgt := 87) dX1_person_25 (by rfl) (by decide) (by decide) (by rfl) (by decide) (fun c25_3 => ?_) (fun c25_3 => ?_)
        · refine pl_aload_n (pc := 87) dX1_person_87 rfl rfl ?_
          refine pj_getfN (pc := 88) ckX10 4 q1078 dX1_person_88 (by decide) (h.r35 (by omega)) rfl ?_
          refine PJ.top (y := if per σ j_p 2 = nI 3 then per σ j_p 3 else -1) (by rcases Classical.em (per σ j_p 2 = nI 3) with z9 | z9; exact (if_pos z9).symm; exact (t.boss hj_p z9).trans (if_neg z9).symm) ?_
          refine pj_iret (pc := 91) dX1_person_91 rfl ?_
          exact CQ.ok (τ := s0 σ) (by first | (simp only [p_person, hap_p, g_p, c7, c13, c25_0, c25_1, c25_2, eq_true c25_3, row_sF, ↓reduceIte]; first | done | rfl) | (simp [p_person, hap_p, g_p, c7, c13, c25_0, c25_1, c25_2, eq_true c25_3, row_sF, Int32.not_lt, Int32.not_le]; first | done | rfl)) rfl (SB.F0 ⟨_, h, t⟩)
        refine pl_tsw (pc := 25) 4 (tgt := 92) dX1_person_25 (by rfl) (by decide) (by decide) (by rfl) (by decide) (fun c25_4 => ?_) (fun c25_4 => ?_)
        · refine pl_aload_n (pc := 92) dX1_person_92 rfl rfl ?_
          refine pj_getfN (pc := 93) ckX10 5 q1081 dX1_person_93 (by decide) (h.r35 (by omega)) rfl ?_
          refine PJ.top (t.hands hj_p) ?_
          refine pj_iret (pc := 96) dX1_person_96 rfl ?_
          exact CQ.ok (τ := s0 σ) (by first | (simp only [p_person, hap_p, g_p, c7, c13, c25_0, c25_1, c25_2, c25_3, eq_true c25_4, row_sF, ↓reduceIte]; first | done | rfl) | (simp [p_person, hap_p, g_p, c7, c13, c25_0, c25_1, c25_2, c25_3, eq_true c25_4, row_sF, Int32.not_lt, Int32.not_le]; first | done | rfl)) rfl (SB.F0 ⟨_, h, t⟩)
        refine pl_tsw (pc := 25) 5 (tgt := 97) dX1_person_25 (by rfl) (by decide) (by decide) (by rfl) (by decide) (fun c25_5 => ?_) (fun c25_5 => ?_)
        · refine pl_aload_n (pc := 97) dX1_person_97 rfl rfl ?_
          refine pj_getfN (pc := 98) ckX10 6 q1084 dX1_person_98 (by decide) (h.r35 (by omega)) rfl ?_
          refine PJ.top (t.farms hj_p) ?_
          refine pj_iret (pc := 101) dX1_person_101 rfl ?_
          exact CQ.ok (τ := s0 σ) (by first | (simp only [p_person, hap_p, g_p, c7, c13, c25_0, c25_1, c25_2, c25_3, c25_4, eq_true c25_5, row_sF, ↓reduceIte]; first | done | rfl) | (simp [p_person, hap_p, g_p, c7, c13, c25_0, c25_1, c25_2, c25_3, c25_4, eq_true c25_5, row_sF, Int32.not_lt, Int32.not_le]; first | done | rfl)) rfl (SB.F0 ⟨_, h, t⟩)
        refine pl_tsw (pc := 25) 6 (tgt := 102) dX1_person_25 (by rfl) (by decide) (by decide) (by rfl) (by decide) (fun c25_6 => ?_) (fun c25_6 => ?_)
        · refine pl_aload_n (pc := 102) dX1_person_102 rfl rfl ?_
          refine pj_getfN (pc := 103) ckX10 7 q1086 dX1_person_103 (by decide) (h.r35 (by omega)) rfl ?_
          refine pj_iret (pc := 106) dX1_person_106 rfl ?_
          exact CQ.ok (τ := s0 σ) (by first | (simp only [p_person, hap_p, g_p, c7, c13, c25_0, c25_1, c25_2, c25_3, c25_4, c25_5, eq_true c25_6, row_sF, ↓reduceIte]; first | done | rfl) | (simp [p_person, hap_p, g_p, c7, c13, c25_0, c25_1, c25_2, c25_3, c25_4, c25_5, eq_true c25_6, row_sF, Int32.not_lt, Int32.not_le]; first | done | rfl)) rfl (SB.F0 ⟨_, h, t⟩)
        refine pl_tsw (pc := 25) 7 (tgt := 107) dX1_person_25 (by rfl) (by decide) (by decide) (by rfl) (by decide) (fun c25_7 => ?_) (fun c25_7 => ?_)
        · refine pl_aload_n (pc := 107) dX1_person_107 rfl rfl ?_
          refine pj_getfN (pc := 108) ckX10 8 q1088 dX1_person_108 (by decide) (h.r35 (by omega)) rfl ?_
          refine pj_iret (pc := 111) dX1_person_111 rfl ?_
          exact CQ.ok (τ := s0 σ) (by first | (simp only [p_person, hap_p, g_p, c7, c13, c25_0, c25_1, c25_2, c25_3, c25_4, c25_5, c25_6, eq_true c25_7, row_sF, ↓reduceIte]; first | done | rfl) | (simp [p_person, hap_p, g_p, c7, c13, c25_0, c25_1, c25_2, c25_3, c25_4, c25_5, c25_6, eq_true c25_7, row_sF, Int32.not_lt, Int32.not_le]; first | done | rfl)) rfl (SB.F0 ⟨_, h, t⟩)
        refine pj_tableOut (pc := 25) (tgt := 112) dX1_person_25 (by have q0 := nI_nec c25_0; have q1 := nI_nec c25_1; have q2 := nI_nec c25_2; have q3 := nI_nec c25_3; have q4 := nI_nec c25_4; have q5 := nI_nec c25_5; have q6 := nI_nec c25_6; have q7 := nI_nec c25_7; omega) (by decide) ?_
        refine pl_aload_n (pc := 112) dX1_person_112 rfl rfl ?_
        refine pj_getfN (pc := 113) ckX10 9 q1091 dX1_person_113 (by decide) (h.r35 (by omega)) rfl ?_
        refine pj_iret (pc := 116) dX1_person_116 rfl ?_
        exact CQ.ok (τ := s0 σ) (by first | (simp only [p_person, hap_p, g_p, c7, c13, c25_0, c25_1, c25_2, c25_3, c25_4, c25_5, c25_6, c25_7, row_sF, ↓reduceIte]; first | done | rfl) | (simp [p_person, hap_p, g_p, c7, c13, c25_0, c25_1, c25_2, c25_3, c25_4, c25_5, c25_6, c25_7, row_sF, Int32.not_lt, Int32.not_le]; first | done | rfl)) rfl (SB.F0 ⟨_, h, t⟩)
set_option maxHeartbeats 600000 in
theorem x_X1_where {g : GP} {μ : Mem} {d : Nat} {P : Nat → Prop} {F : Mem} {A : XA} {S : Nat → Nat → Nat} {b : XS} {σ : MS} {nor nw : Nat} (s : SB g P F A 0 S b σ nw μ) (iv : IvG σ (S 4 0) (S 8 0) (S 10 0) (S 6 0) nor nw) (rs : RsX σ) (hd : 9 ≤ d) {p : Int32} {w : Int32} : PM g yX1_where (ws_ yX1_where cX1_where 4 (some .int)) d 1 6 [.ref (A 0 0 0), .int p, .int w] μ (CQ ["java/lang/IndexOutOfBoundsException", "java/lang/IllegalArgumentException"] (p_where σ (S 6 0) p w) (fun τ M => SB g P F A 0 S b τ nw M)) := by
  refine PM.of (by decide +kernel) (Nat.le_of_ble_eq_true rfl) ?_
  refine PJ.ok (fun G => ?_)
  show PJ g _ _ _ _ d 1 6 0 [(0, .ref (A 0 0 0)), (1, .int p), (2, .int w)] [] _ _
  obtain ⟨e, h, t⟩ := s
  have hS4 := h.hz.2.1
  have hS6 := h.hz.2.2.1
  have hS8 := h.hz.2.2.2.1
  have hS10 := h.hz.2.2.2.2.1
  cases hap_p : inN p (S 6 0) with
  | false =>
    refine pl_aload_n (pc := 0) dX1_where_0 rfl rfl ?_
    refine pl_iload_n (pc := 1) dX1_where_1 rfl rfl ?_
    refine pl_callVX (pc := 2) (As := [_]) (C1 := 1) (N1 := 6) (C2 := 0) (N2 := 0) (E8 := "java/lang/IndexOutOfBoundsException") ckX1 mdX1_partyOf rfl q1455 q1457 qs10 q125 dX1_where_2 rfl rfl (Nat.le_of_ble_eq_true rfl) (h.r0) (x_X1_partyOf_no (d := d - 1) (by omega) h hap_p) (by omega) (by omega) (by omega) (fun q_2 M_2 hM_2 => ?_)
    refine px_out0 rfl ?_
    exact CQ.no 0 (v := nI 0) (τ := th σ 1) (by first | (simp only [p_where, hap_p, row_sF, ↓reduceIte]; first | done | rfl) | (simp [p_where, hap_p, row_sF, Int32.not_lt, Int32.not_le]; first | done | rfl)) rfl rfl (SB.mono (SB.F0 (SB.F0 ⟨_, h, t⟩)) hM_2)
  | true =>
    obtain ⟨j_p, hj_p, rfl⟩ := inN_of (by omega) hap_p
    have g_p := tN_nI (n := j_p) (by omega)
    refine pl_aload_n (pc := 0) dX1_where_0 rfl rfl ?_
    refine pl_iload_n (pc := 1) dX1_where_1 rfl rfl ?_
    refine pl_callVd (pc := 2) (As := [_]) (C1 := 0) (N1 := 0) (C2 := 1) (N2 := 6) ckX1 mdX1_partyOf rfl q1455 q1457 qs10 q125 dX1_where_2 rfl rfl (Nat.le_of_ble_eq_true rfl) (h.r0) (x_X1_partyOf_ok (d := d - 1) (by omega) h (by omega)) (by omega) (by omega) (by omega) ?_
    refine pj_astore_n (pc := 5) (lv' := [(3, _), (0, _), (1, _), (2, _)]) dX1_where_5 rfl (by decide) rfl ?_
    refine pl_iload_n (pc := 6) dX1_where_6 rfl rfl ?_
    refine pj_if_lt (pc := 7) (tgt := 19) dX1_where_7 (by decide) (fun c7 => ?_) (fun c7 => ?_)
    · refine pl_iconst (pc := 19) (v := 0) dX1_where_19 (by rfl) ?_
      refine pl_callSX (pc := 20) (As := [_]) (C1 := 1) (N1 := 6) (C2 := 0) (N2 := 0) (E8 := "java/lang/IllegalArgumentException") mdX1_need q1262 q1263 q125 dX1_where_20 rfl rfl (Nat.le_of_ble_eq_true rfl) (k_X1_need_no (d := d - 1) (by omega) rfl) (by omega) (by omega) (by omega) (fun q_20 M_20 hM_20 => ?_)
      refine px_out0 rfl ?_
      exact CQ.no 1 (v := nI 0) (τ := th σ 2) (by first | (simp only [p_where, hap_p, g_p, c7, row_sF, ↓reduceIte]; first | done | rfl) | (simp [p_where, hap_p, g_p, c7, row_sF, Int32.not_lt, Int32.not_le]; first | done | rfl)) rfl rfl (SB.mono (SB.F0 (SB.F0 ⟨_, h, t⟩)) hM_20)
    · refine pl_iload_n (pc := 10) dX1_where_10 rfl rfl ?_
      refine pl_iconst (pc := 11) (v := 2) dX1_where_11 (by rfl) ?_
      refine pj_icmp_gt (pc := 12) (tgt := 19) dX1_where_12 (by decide) (fun c12 => ?_) (fun c12 => ?_)
      · refine pl_iconst (pc := 19) (v := 0) dX1_where_19 (by rfl) ?_
        refine pl_callSX (pc := 20) (As := [_]) (C1 := 1) (N1 := 6) (C2 := 0) (N2 := 0) (E8 := "java/lang/IllegalArgumentException") mdX1_need q1262 q1263 q125 dX1_where_20 rfl rfl (Nat.le_of_ble_eq_true rfl) (k_X1_need_no (d := d - 1) (by omega) rfl) (by omega) (by omega) (by omega) (fun q_20 M_20 hM_20 => ?_)
        refine px_out0 rfl ?_
        exact CQ.no 1 (v := nI 0) (τ := th σ 2) (by first | (simp only [p_where, hap_p, g_p, c7, c12, row_sF, ↓reduceIte]; first | done | rfl) | (simp [p_where, hap_p, g_p, c7, c12, row_sF, Int32.not_lt, Int32.not_le]; first | done | rfl)) rfl rfl (SB.mono (SB.F0 (SB.F0 ⟨_, h, t⟩)) hM_20)
      · refine pl_iconst (pc := 15) (v := 1) dX1_where_15 (by rfl) ?_
        refine pj_goto (pc := 16) (tgt := 20) dX1_where_16 (by decide) ?_
        refine pl_callSv (pc := 20) (As := [_]) (C1 := 0) (N1 := 0) (C2 := 1) (N2 := 6) mdX1_need q1262 q1263 q125 dX1_where_20 rfl rfl (Nat.le_of_ble_eq_true rfl) (k_X1_need_ok (d := d - 1) (by omega) (by decide)) (by omega) (by omega) (by omega) ?_
        refine pl_iload_n (pc := 23) dX1_where_23 rfl rfl ?_
        refine pj_if_ne (pc := 24) (tgt := 34) dX1_where_24 (by decide) (fun c24 => ?_) (fun c24 => ?_)
        · refine pl_iload_n (pc := 34) dX1_where_34 rfl rfl ?_
          refine pl_iconst (pc := 35) (v := 1) dX1_where_35 (by rfl) ?_
          refine pj_icmp_ne (pc := 36) (tgt := 46) dX1_where_36 (by decide) (fun c36 => ?_) (fun c36 => ?_)
          · refine pl_aload_n (pc := 46) dX1_where_46 rfl rfl ?_
            refine pj_getfN (pc := 47) ckX11 2 q1434 dX1_where_47 (by decide) (h.r36 (by omega)) rfl ?_
            refine pj_if_ne (pc := 50) (tgt := 57) dX1_where_50 (by decide) (fun c50 => ?_) (fun c50 => ?_)
            · refine pl_aload_n (pc := 57) dX1_where_57 rfl rfl ?_
              refine pj_getfN (pc := 58) ckX11 3 q1437 dX1_where_58 (by decide) (h.r36 (by omega)) rfl ?_
              refine pl_iconst (pc := 61) (v := 0) dX1_where_61 (by rfl) ?_
              refine pl_iald (pc := 62) (n := 12) dX1_where_62 (h.r37 (by omega)) (by omega) (by decide) ?_
              refine PJ.top (h.v37 (by omega) (by omega)) ?_
              obtain ⟨⟨kq, hkq⟩, -⟩ := iv.par j_p (by omega)
              have hk0 : 0 < kq := Nat.pos_of_ne_zero (fun z => c50 (by rw [hkq.1, z]; rfl))
              refine PJ.top (y := row σ (1720 + 15 * j_p + 3)) (t.queue hj_p (by decide) (by rw [hkq.1, tN_nI (by have := hkq.2.1; omega)]; exact hk0)) ?_
              refine pj_iret (pc := 63) dX1_where_63 rfl ?_
              exact CQ.ok (τ := s0 σ) (by first | (simp only [p_where, hap_p, g_p, c7, c12, c24, c36, c50, row_sF, ↓reduceIte]; first | done | rfl) | (simp [p_where, hap_p, g_p, c7, c12, c24, c36, c50, row_sF, Int32.not_lt, Int32.not_le]; first | done | rfl)) rfl (SB.F0 ⟨_, h, t⟩)
            · refine pj_iconst (pc := 53) (v := (-1)) dX1_where_53 (by rfl) ?_
              refine pj_goto (pc := 54) (tgt := 63) dX1_where_54 (by decide) ?_
              refine pj_iret (pc := 63) dX1_where_63 rfl ?_
              exact CQ.ok (τ := s0 σ) (by first | (simp only [p_where, hap_p, g_p, c7, c12, c24, c36, eq_true c50, row_sF, ↓reduceIte]; first | done | rfl) | (simp [p_where, hap_p, g_p, c7, c12, c24, c36, eq_true c50, row_sF, Int32.not_lt, Int32.not_le]; first | done | rfl)) rfl (SB.F0 ⟨_, h, t⟩)
          · refine pl_aload_n (pc := 39) dX1_where_39 rfl rfl ?_
            refine pj_getfN (pc := 40) ckX11 2 q1434 dX1_where_40 (by decide) (h.r36 (by omega)) rfl ?_
            refine pj_goto (pc := 43) (tgt := 63) dX1_where_43 (by decide) ?_
            refine pj_iret (pc := 63) dX1_where_63 rfl ?_
            exact CQ.ok (τ := s0 σ) (by first | (simp only [p_where, hap_p, g_p, c7, c12, c24, eq_true c36, row_sF, ↓reduceIte]; first | done | rfl) | (simp [p_where, hap_p, g_p, c7, c12, c24, eq_true c36, row_sF, Int32.not_lt, Int32.not_le]; first | done | rfl)) rfl (SB.F0 ⟨_, h, t⟩)
        · refine pl_aload_n (pc := 27) dX1_where_27 rfl rfl ?_
          refine pj_getfN (pc := 28) ckX11 1 q1431 dX1_where_28 (by decide) (h.r36 (by omega)) rfl ?_
          refine pj_goto (pc := 31) (tgt := 63) dX1_where_31 (by decide) ?_
          refine pj_iret (pc := 63) dX1_where_63 rfl ?_
          exact CQ.ok (τ := s0 σ) (by first | (simp only [p_where, hap_p, g_p, c7, c12, eq_true c24, row_sF, ↓reduceIte]; first | done | rfl) | (simp [p_where, hap_p, g_p, c7, c12, eq_true c24, row_sF, Int32.not_lt, Int32.not_le]; first | done | rfl)) rfl (SB.F0 ⟨_, h, t⟩)
set_option maxHeartbeats 600000 in
theorem x_X1_fund {g : GP} {μ : Mem} {d : Nat} {P : Nat → Prop} {F : Mem} {A : XA} {S : Nat → Nat → Nat} {b : XS} {σ : MS} {nor nw : Nat} (s : SB g P F A 0 S b σ nw μ) (iv : IvG σ (S 4 0) (S 8 0) (S 10 0) (S 6 0) nor nw) (rs : RsX σ) (hd : 8 ≤ d) {v : Int32} : PM g yX1_fund (ws_ yX1_fund cX1_fund 2 (some .int)) d 1 6 [.ref (A 0 0 0), .int v] μ (CQ ["java/lang/IllegalArgumentException"] (p_fund σ v) (fun τ M => SB g P F A 0 S b τ nw M)) := by
  refine PM.of (by decide +kernel) (Nat.le_of_ble_eq_true rfl) ?_
  refine PJ.ok (fun G => ?_)
  show PJ g _ _ _ _ d 1 6 0 [(0, .ref (A 0 0 0)), (1, .int v)] [] _ _
  obtain ⟨e, h, t⟩ := s
  have hS4 := h.hz.2.1
  have hS6 := h.hz.2.2.1
  have hS8 := h.hz.2.2.2.1
  have hS10 := h.hz.2.2.2.2.1
  refine pl_iload_n (pc := 0) dX1_fund_0 rfl rfl ?_
  refine pj_if_lt (pc := 1) (tgt := 15) dX1_fund_1 (by decide) (fun c1 => ?_) (fun c1 => ?_)
  · refine pl_iconst (pc := 15) (v := 0) dX1_fund_15 (by rfl) ?_
    refine pl_callSX (pc := 16) (As := [_]) (C1 := 1) (N1 := 6) (C2 := 0) (N2 := 0) (E8 := "java/lang/IllegalArgumentException") mdX1_need q1262 q1263 q125 dX1_fund_16 rfl rfl (Nat.le_of_ble_eq_true rfl) (k_X1_need_no (d := d - 1) (by omega) rfl) (by omega) (by omega) (by omega) (fun q_16 M_16 hM_16 => ?_)
    refine px_out0 rfl ?_
    exact CQ.no 0 (v := nI 0) (τ := th σ 1) (by first | (simp only [p_fund, c1, row_sF, ↓reduceIte]; first | done | rfl) | (simp [p_fund, c1, row_sF, Int32.not_lt, Int32.not_le]; first | done | rfl)) rfl rfl (SB.mono (SB.F0 (SB.F0 ⟨_, h, t⟩)) hM_16)
  · refine pl_iload_n (pc := 4) dX1_fund_4 rfl rfl ?_
    refine pj_ldcw (pc := 5) q2295 dX1_fund_5 ?_
    refine pj_icmp_gt (pc := 8) (tgt := 15) dX1_fund_8 (by decide) (fun c8 => ?_) (fun c8 => ?_)
    · refine pl_iconst (pc := 15) (v := 0) dX1_fund_15 (by rfl) ?_
      refine pl_callSX (pc := 16) (As := [_]) (C1 := 1) (N1 := 6) (C2 := 0) (N2 := 0) (E8 := "java/lang/IllegalArgumentException") mdX1_need q1262 q1263 q125 dX1_fund_16 rfl rfl (Nat.le_of_ble_eq_true rfl) (k_X1_need_no (d := d - 1) (by omega) rfl) (by omega) (by omega) (by omega) (fun q_16 M_16 hM_16 => ?_)
      refine px_out0 rfl ?_
      exact CQ.no 0 (v := nI 0) (τ := th σ 1) (by first | (simp only [p_fund, c1, c8, row_sF, ↓reduceIte]; first | done | rfl) | (simp [p_fund, c1, c8, row_sF, Int32.not_lt, Int32.not_le]; first | done | rfl)) rfl rfl (SB.mono (SB.F0 (SB.F0 ⟨_, h, t⟩)) hM_16)
    · refine pl_iconst (pc := 11) (v := 1) dX1_fund_11 (by rfl) ?_
      refine pj_goto (pc := 12) (tgt := 16) dX1_fund_12 (by decide) ?_
      refine pl_callSv (pc := 16) (As := [_]) (C1 := 0) (N1 := 0) (C2 := 1) (N2 := 6) mdX1_need q1262 q1263 q125 dX1_fund_16 rfl rfl (Nat.le_of_ble_eq_true rfl) (k_X1_need_ok (d := d - 1) (by omega) (by decide)) (by omega) (by omega) (by omega) ?_
      refine pl_aload_n (pc := 19) dX1_fund_19 rfl rfl ?_
      refine pj_getf (pc := 20) ckX1 0 q853 dX1_fund_20 (by decide) (h.r0) rfl ?_
      refine pj_dup (pc := 23) dX1_fund_23 rfl ?_
      refine pj_getfN (pc := 24) ckX2 7 q739 dX1_fund_24 (by decide) (h.r1) rfl ?_
      refine pl_iload_n (pc := 27) dX1_fund_27 rfl rfl ?_
      refine pj_iadd (pc := 28) dX1_fund_28 ?_
      refine pj_putfN (pc := 29) ckX2 7 q739 dX1_fund_29 (by decide) rfl (h.r1) rfl rfl (Nat.le_of_ble_eq_true rfl) ?_
      refine sxk (h.p1_7) (fun My1 y1 => ?_)
      refine pl_aload_n (pc := 32) dX1_fund_32 rfl rfl ?_
      refine pj_getf (pc := 33) ckX1 0 q853 dX1_fund_33 (by decide) (y1.r0) rfl ?_
      refine pj_getfN (pc := 36) ckX2 7 q739 dX1_fund_36 (by decide) (y1.r1) rfl ?_
      refine pj_iret (pc := 39) dX1_fund_39 rfl ?_
      have g8 : SX g P F A 0 S b (sR σ 2123 (row σ 2123 + v)) e _ := y1
      exact CQ.ok (τ := sR (s0 σ) 2123 (row (s0 σ) 2123 + v)) (by first | (simp only [p_fund, c1, c8, row_sF, ↓reduceIte]; first | done | rfl) | (simp [p_fund, c1, c8, row_sF, Int32.not_lt, Int32.not_le]; first | done | rfl)) rfl (SB.F0 (σ := sR σ 2123 (row σ 2123 + v)) ⟨_, g8, t.cg g8.hz (fun j hj => rowS_ne (fun z9 => hj (by unfold fr0; omega))) (by simp [sA]) (by simp [sA]) (fun _ _ => by simp [sA]) rfl rfl⟩)
set_option maxHeartbeats 600000 in
theorem x_X1_why {g : GP} {μ : Mem} {d : Nat} {P : Nat → Prop} {F : Mem} {A : XA} {S : Nat → Nat → Nat} {b : XS} {σ : MS} {nor nw : Nat} (s : SB g P F A 0 S b σ nw μ) (iv : IvG σ (S 4 0) (S 8 0) (S 10 0) (S 6 0) nor nw) (rs : RsX σ) (hd : 8 ≤ d) {name : Int32} : PM g yX1_why (ws_ yX1_why cX1_why 2 (some .int)) d 1 6 [.ref (A 0 0 0), .int name] μ (CQ ["java/lang/IllegalArgumentException"] (p_why σ (S 8 0) name) (fun τ M => SB g P F A 0 S b τ nw M)) := by
  refine PM.of (by decide +kernel) (Nat.le_of_ble_eq_true rfl) ?_
  refine PJ.ok (fun G => ?_)
  show PJ g _ _ _ _ d 1 6 0 [(0, .ref (A 0 0 0)), (1, .int name)] [] _ _
  obtain ⟨e, h, t⟩ := s
  have hS4 := h.hz.2.1
  have hS6 := h.hz.2.2.1
  have hS8 := h.hz.2.2.2.1
  have hS10 := h.hz.2.2.2.2.1
  refine pl_iload_n (pc := 0) dX1_why_0 rfl rfl ?_
  refine pj_if_lt (pc := 1) (tgt := 14) dX1_why_1 (by decide) (fun c1 => ?_) (fun c1 => ?_)
  · refine pl_iconst (pc := 14) (v := 0) dX1_why_14 (by rfl) ?_
    refine pl_callSX (pc := 15) (As := [_]) (C1 := 1) (N1 := 6) (C2 := 0) (N2 := 0) (E8 := "java/lang/IllegalArgumentException") mdX1_need q1262 q1263 q125 dX1_why_15 rfl rfl (Nat.le_of_ble_eq_true rfl) (k_X1_need_no (d := d - 1) (by omega) rfl) (by omega) (by omega) (by omega) (fun q_15 M_15 hM_15 => ?_)
    refine px_out0 rfl ?_
    exact CQ.no 0 (v := nI 0) (τ := th σ 1) (by first | (simp only [p_why, c1, row_sF, ↓reduceIte]; first | done | rfl) | (simp [p_why, c1, row_sF, Int32.not_lt, Int32.not_le]; first | done | rfl)) rfl rfl (SB.mono (SB.F0 (SB.F0 ⟨_, h, t⟩)) hM_15)
  · refine pl_iload_n (pc := 4) dX1_why_4 rfl rfl ?_
    refine pl_bipush (pc := 5) (v := 8) dX1_why_5 (by rfl) ?_
    refine pj_icmp_ge (pc := 7) (tgt := 14) dX1_why_7 (by decide) (fun c7 => ?_) (fun c7 => ?_)
    · refine pl_iconst (pc := 14) (v := 0) dX1_why_14 (by rfl) ?_
      refine pl_callSX (pc := 15) (As := [_]) (C1 := 1) (N1 := 6) (C2 := 0) (N2 := 0) (E8 := "java/lang/IllegalArgumentException") mdX1_need q1262 q1263 q125 dX1_why_15 rfl rfl (Nat.le_of_ble_eq_true rfl) (k_X1_need_no (d := d - 1) (by omega) rfl) (by omega) (by omega) (by omega) (fun q_15 M_15 hM_15 => ?_)
      refine px_out0 rfl ?_
      exact CQ.no 0 (v := nI 0) (τ := th σ 1) (by first | (simp only [p_why, c1, c7, row_sF, ↓reduceIte]; first | done | rfl) | (simp [p_why, c1, c7, row_sF, Int32.not_lt, Int32.not_le]; first | done | rfl)) rfl rfl (SB.mono (SB.F0 (SB.F0 ⟨_, h, t⟩)) hM_15)
    · refine pl_iconst (pc := 10) (v := 1) dX1_why_10 (by rfl) ?_
      refine pj_goto (pc := 11) (tgt := 15) dX1_why_11 (by decide) ?_
      refine pl_callSv (pc := 15) (As := [_]) (C1 := 0) (N1 := 0) (C2 := 1) (N2 := 6) mdX1_need q1262 q1263 q125 dX1_why_15 rfl rfl (Nat.le_of_ble_eq_true rfl) (k_X1_need_ok (d := d - 1) (by omega) (by decide)) (by omega) (by omega) (by omega) ?_
      obtain ⟨j_name, hj_name, rfl⟩ := inN_of (x := name) (n := 8) (by omega) (by simp only [inN, Bool.and_eq_true, decide_eq_true_eq]; exact ⟨Int32.not_lt.mp c1, Int32.not_le.mp c7⟩)
      have g_name := tN_nI (n := j_name) (by omega)
      refine pl_aload_n (pc := 18) dX1_why_18 rfl rfl ?_
      refine pj_getf (pc := 19) ckX1 0 q853 dX1_why_19 (by decide) (h.r0) rfl ?_
      refine pl_iload_n (pc := 22) dX1_why_22 rfl rfl ?_
      refine pl_callVd (pc := 23) (As := [_]) (C1 := 0) (N1 := 0) (C2 := 1) (N2 := 6) ckX2 mdX2_why rfl q2287 q1712 q1713 q126 dX1_why_23 rfl rfl (Nat.le_of_ble_eq_true rfl) (h.r1) (x_X2_why (d := d - 1) (by omega) h (by omega)) (by omega) (by omega) (by omega) ?_
      refine PJ.top (y := lawI σ (S 8 0) j_name) (why_law (by omega)) ?_
      refine pj_iret (pc := 26) dX1_why_26 rfl ?_
      exact CQ.ok (τ := s0 σ) (by first | (simp only [p_why, c1, c7, g_name, row_sF, ↓reduceIte]; first | done | rfl) | (simp [p_why, c1, c7, g_name, row_sF, Int32.not_lt, Int32.not_le]; first | done | rfl)) rfl (SB.F0 ⟨_, h, t⟩)
