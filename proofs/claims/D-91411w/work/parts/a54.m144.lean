set_option maxRecDepth 100000
theorem HoC.w37 {im : Mem} {q : Nat} {r : Nat → Int32} (h : HoC im q r) (h0 : r 0 = nI 0) : im q = Option.some (.inr (37, [])) := by
  rcases h with ⟨a, b, c, h⟩ | ⟨a, b, c, h⟩ | ⟨a, h⟩ | ⟨a, b, h⟩ | ⟨a, h⟩ | ⟨a, b, h⟩
  · exact h
  all_goals (rw [a] at h0; exact absurd h0 (by decide))
theorem k_X8_lot {g : GP} {μ : Mem} {d : Nat} (hd : 8 ≤ d) (mr : modulesRight_1 (gS g) = true) {a q : Nat} {r : Nat → Int32} (hm : μ a = some (slO q)) (hq : HoC μ q r) : PM g yX8_lot (wsW_ yX8_lot cX8_lot 2 (some (.object "SettlerColony$Lot")) [(0, 7, 8, 17)]) d 3 410 [.ref a] μ (rQ (some (if r 0 = nI 0 then .null else .ref q)) μ) := by
  refine PM.ofH (by decide +kernel) (Nat.le_of_ble_eq_true rfl) ?_
  refine PJ.ok (fun G => ?_)
  show PJ g _ _ _ _ d 3 410 0 [(0, .ref a)] [] _ _
  refine pl_aload_n (pc := 0) dX8_lot_0 rfl rfl ?_
  refine pj_getf (pc := 1) ckX8 0 q626 dX8_lot_1 (by decide) hm rfl ?_
  by_cases c : r 0 = nI 0
  · rw [if_pos c]
    refine pj_castWild (pc := 4) (C1 := 0) (N1 := 0) mr dX8_lot_4 q1383 (hq.w37 c) (by omega) (by decide) (by omega) (by omega) (fun q9 => ?_)
    refine px_catch (name := "java/lang/ClassCastException") [] ⟨0, 7, 8, 17⟩ [] rfl (fun z hz => by cases hz) (by decide) (by decide) q1369 q1381 ?_
    refine pj_astore_n (pc := 8) (lv' := [(1, _), (0, _)]) dX8_lot_8 rfl (by decide) rfl ?_
    refine pj_null (pc := 9) dX8_lot_9 ?_
    refine pj_aret (pc := 10) dX8_lot_10 rfl (Or.inl ⟨_, rfl⟩) (Or.inl rfl) ?_
    exact ⟨rfl, rfl⟩
  · rw [if_neg c]
    refine ph_castLot (pc := 4) hq c q1383 dX8_lot_4 ?_
    refine pj_aret (pc := 7) dX8_lot_7 rfl (Or.inl ⟨_, rfl⟩) (Or.inr ⟨_, rfl⟩) ?_
    exact ⟨rfl, rfl⟩
def isV (h w : Int32) : Bool := if w = 0 then decide (h ≠ 0) else if w = nI 1 then isFarmV h else if w = nI 2 then isPastV h else decide (¬ h ≤ nI 1)
theorem is_wild (w : Int32) : isV (nI 0) w = false := by
  unfold isV
  split
  · decide
  · split
    · decide
    · split <;> decide
theorem p_is_ok {σ : MS} {c : Nat} {w : Int32} (hc : c < 96) (h0 : ¬ w < 0) (h3 : w ≤ nI 3) : p_is σ (nI c) w = (isV (sec (s0 σ) c 0) w, s0 σ) := by
  unfold p_is
  rw [inN_nI hc (by decide), if_neg (by decide), if_neg h0, if_neg (fun z => z h3), tN_nI (by omega)]
  rfl
theorem who_lot {σ : MS} {n c q : Nat} {im : Mem} (hq : HoC im q (hoR σ c)) (h : Who σ n c) (hn : n ≤ 100) (h0 : ¬ sec σ c 0 = nI 0) : (sec σ c 1 = -1) ↔ sec σ c 0 ≤ nI 1 := by
  rcases h with h | h | ⟨h, p, hp, e⟩
  · exact absurd h h0
  · have h1 : sec σ c 1 = -1 := by
      rcases hq with ⟨a, b, -⟩ | ⟨a, b, -⟩ | ⟨a, -⟩ | ⟨a, -⟩ | ⟨a, -⟩ | ⟨a, -⟩
      · exact b
      · exact b
      all_goals (exact absurd (h.symm.trans a) (by decide))
    rw [h, h1]
    exact ⟨fun _ => by decide, fun _ => rfl⟩
  · refine ⟨fun z => ?_, fun z => ?_⟩
    · rw [e] at z
      exact absurd z (fun y => nI_m1 (by omega) y.symm)
    · rcases h with h | h | h | h <;> (rw [h] at z; exact absurd z (by decide))
set_option maxHeartbeats 600000 in
theorem x_X1_is {g : GP} {μ : Mem} {d : Nat} {P : Nat → Prop} {F : Mem} {A : XA} {S : Nat → Nat → Nat} {b : XS} {σ : MS} {nor nw : Nat} (s : SB g P F A 0 S b σ nw μ) (iv : IvG σ (S 4 0) (S 8 0) (S 10 0) (S 6 0) nor nw) (rs : RsX σ) (mr : modulesRight_1 (gS g) = true) (hd : 12 ≤ d) {c : Int32} {v : Int32} : PM g yX1_is (ws_ yX1_is cX1_is 5 (some .boolean)) d 3 410 [.ref (A 0 0 0), .int c, .int v] μ (CQ ["java/lang/IndexOutOfBoundsException", "java/lang/IllegalArgumentException"] ((bI (p_is σ c v).1, (p_is σ c v).2)) (fun τ M => SB g P F A 0 S b τ nw M)) := by
  refine PM.of (by decide +kernel) (Nat.le_of_ble_eq_true rfl) ?_
  refine PJ.ok (fun G => ?_)
  show PJ g _ _ _ _ d 3 410 0 [(0, .ref (A 0 0 0)), (1, .int c), (2, .int v)] [] _ _
  obtain ⟨ρ, hs0⟩ : ∃ ρ, ρ = sF σ 0 (nI 0) := ⟨_, rfl⟩
  have hs9 : s0 σ = ρ := hs0.symm
  have s1 := s.F0 (x := nI 0)
  rw [← hs0] at s1
  obtain ⟨e, h, t⟩ := s1
  have iv1 : IvG ρ (S 4 0) (S 8 0) (S 10 0) (S 6 0) nor nw := by rw [hs0]; exact iv.f0
  have rs1 : RsX ρ := by rw [hs0]; exact rs
  have h00 : ρ.1 0 = nI 0 := by rw [hs0]; rfl
  have hS4 := h.hz.2.1
  have hS6 := h.hz.2.2.1
  have hS8 := h.hz.2.2.2.1
  have hS10 := h.hz.2.2.2.2.1
  cases hap_c : inN c 96 with
  | false =>
    refine pl_aload_n (pc := 0) dX1_is_0 rfl rfl ?_
    refine pl_iload_n (pc := 1) dX1_is_1 rfl rfl ?_
    refine pl_callVX (pc := 2) (As := [_]) (C1 := 1) (N1 := 6) (C2 := 0) (N2 := 0) (E8 := "java/lang/IndexOutOfBoundsException") ckX1 mdX1_slotOf rfl q1239 q1241 qs7 q125 dX1_is_2 rfl rfl (Nat.le_of_ble_eq_true rfl) (h.r0) (x_X1_slotOf_no (d := d - 1) (by omega) h hap_c) (by omega) (by omega) (by omega) (fun q_2 M_2 hM_2 => ?_)
    refine px_out0 rfl ?_
    exact CQ.no 0 (v := nI 0) (τ := sF ρ 0 (nI 1)) (by rw [show sF ρ 0 (nI 1) = th σ 1 by rw [hs0]]; first | (simp only [p_is, hs9, hap_c, ↓reduceIte]; first | done | rfl) | (simp [p_is, hs9, hap_c, Int32.not_lt, Int32.not_le]; first | done | rfl)) rfl rfl (SB.mono (SB.F0 ⟨_, h, t⟩) hM_2)
  | true =>
    obtain ⟨j_c, hj_c, rfl⟩ := inN_of (by omega) hap_c
    have g_c := tN_nI (n := j_c) (by omega)
    refine pl_aload_n (pc := 0) dX1_is_0 rfl rfl ?_
    refine pl_iload_n (pc := 1) dX1_is_1 rfl rfl ?_
    obtain ⟨q_2, hm_2, hq_2, hdd_2⟩ := h.held (s := j_c) (by omega)
    refine pl_callVd (pc := 2) (As := [_]) (C1 := 0) (N1 := 0) (C2 := 3) (N2 := 410) ckX1 mdX1_slotOf rfl q1239 q1241 qs7 q125 dX1_is_2 rfl rfl (Nat.le_of_ble_eq_true rfl) (h.r0) (x_X1_slotOf_ok (d := d - 1) (by omega) h (by omega)) (by omega) (by omega) (by omega) ?_
    refine pj_astore_n (pc := 5) (lv' := [(3, _), (0, _), (1, _), (2, _)]) dX1_is_5 rfl (by decide) rfl ?_
    refine pl_iload_n (pc := 6) dX1_is_6 rfl rfl ?_
    refine pj_if_lt (pc := 7) (tgt := 19) dX1_is_7 (by decide) (fun c7 => ?_) (fun c7 => ?_)
    · refine pl_iconst (pc := 19) (v := 0) dX1_is_19 (by rfl) ?_
      refine pl_callSX (pc := 20) (As := [_]) (C1 := 1) (N1 := 6) (C2 := 0) (N2 := 0) (E8 := "java/lang/IllegalArgumentException") mdX1_need q1262 q1263 q125 dX1_is_20 rfl rfl (Nat.le_of_ble_eq_true rfl) (k_X1_need_no (d := d - 1) (by omega) rfl) (by omega) (by omega) (by omega) (fun q_20 M_20 hM_20 => ?_)
      refine px_out0 rfl ?_
      exact CQ.no 1 (v := nI 0) (τ := sF ρ 0 (nI 2)) (by rw [show sF ρ 0 (nI 2) = th σ 2 by rw [hs0]]; first | (simp only [p_is, hs9, hap_c, g_c, c7, ↓reduceIte]; first | done | rfl) | (simp [p_is, hs9, hap_c, g_c, c7, Int32.not_lt, Int32.not_le]; first | done | rfl)) rfl rfl (SB.mono (SB.F0 ⟨_, h, t⟩) hM_20)
    · refine pl_iload_n (pc := 10) dX1_is_10 rfl rfl ?_
      refine pl_iconst (pc := 11) (v := 3) dX1_is_11 (by rfl) ?_
      refine pj_icmp_gt (pc := 12) (tgt := 19) dX1_is_12 (by decide) (fun c12 => ?_) (fun c12 => ?_)
      · refine pl_iconst (pc := 19) (v := 0) dX1_is_19 (by rfl) ?_
        refine pl_callSX (pc := 20) (As := [_]) (C1 := 1) (N1 := 6) (C2 := 0) (N2 := 0) (E8 := "java/lang/IllegalArgumentException") mdX1_need q1262 q1263 q125 dX1_is_20 rfl rfl (Nat.le_of_ble_eq_true rfl) (k_X1_need_no (d := d - 1) (by omega) rfl) (by omega) (by omega) (by omega) (fun q_20 M_20 hM_20 => ?_)
        refine px_out0 rfl ?_
        exact CQ.no 1 (v := nI 0) (τ := sF ρ 0 (nI 2)) (by rw [show sF ρ 0 (nI 2) = th σ 2 by rw [hs0]]; first | (simp only [p_is, hs9, hap_c, g_c, c7, c12, ↓reduceIte]; first | done | rfl) | (simp [p_is, hs9, hap_c, g_c, c7, c12, Int32.not_lt, Int32.not_le]; first | done | rfl)) rfl rfl (SB.mono (SB.F0 ⟨_, h, t⟩) hM_20)
      · refine pl_iconst (pc := 15) (v := 1) dX1_is_15 (by rfl) ?_
        refine pj_goto (pc := 16) (tgt := 20) dX1_is_16 (by decide) ?_
        refine pl_callSv (pc := 20) (As := [_]) (C1 := 0) (N1 := 0) (C2 := 3) (N2 := 410) mdX1_need q1262 q1263 q125 dX1_is_20 rfl rfl (Nat.le_of_ble_eq_true rfl) (k_X1_need_ok (d := d - 1) (by omega) (by decide)) (by omega) (by omega) (by omega) ?_
        refine pl_aload_n (pc := 23) dX1_is_23 rfl rfl ?_
        refine pl_callVHd (pc := 24) (As := []) (C1 := 3) (N1 := 410) (C2 := 0) (N2 := 0) ckX8 mdX8_lot rfl q1365 q1366 q1367 q152 dX1_is_24 rfl rfl (Nat.le_of_ble_eq_true rfl) hm_2 (k_X8_lot (d := d - 1) (by omega) mr hm_2 hq_2) (by omega) (by omega) (by omega) ?_
        by_cases cW : sec ρ j_c 0 = nI 0
        · rw [if_pos (show hoR ρ j_c 0 = nI 0 from cW)]
          refine pj_astoreN (pc := 27) (lv' := [(4, _), (3, _), (0, _), (1, _), (2, _)]) dX1_is_27 (by decide) rfl ?_
          refine pl_aloadN (pc := 29) dX1_is_29 rfl ?_
          refine pj_ifnonnullN (pc := 31) dX1_is_31 ?_
          refine pl_iconst (pc := 34) (v := 0) dX1_is_34 (by rfl) ?_
          refine pj_zret (pc := 35) .boolean dX1_is_35 rfl (by rfl) ?_
          exact CQ.ok (τ := ρ) (by rw [p_is_ok hj_c c7 (Int32.not_lt.mp c12), hs9, cW, is_wild]; rfl) (by exact h00) ⟨_, h, t⟩
        · rw [if_neg (show ¬ hoR ρ j_c 0 = nI 0 from cW)]
          refine pj_astore (pc := 27) (lv' := [(4, _), (3, _), (0, _), (1, _), (2, _)]) dX1_is_27 (by decide) rfl ?_
          refine pl_aload (pc := 29) dX1_is_29 rfl ?_
          refine pj_ifnonnull (pc := 31) (tgt := 36) dX1_is_31 (by decide) ?_
          refine pl_iload_n (pc := 36) dX1_is_36 rfl rfl ?_
          refine pj_if_eq (pc := 37) (tgt := 81) dX1_is_37 (by decide) (fun c37 => ?_) (fun c37 => ?_)
          · refine pl_iconst (pc := 81) (v := 1) dX1_is_81 (by rfl) ?_
            refine pj_goto (pc := 82) (tgt := 86) dX1_is_82 (by decide) ?_
            refine pj_zret (pc := 86) .boolean dX1_is_86 rfl (by rfl) ?_
            have e9 : isV (sec ρ j_c 0) v = true := by unfold isV; rw [if_pos c37]; exact decide_eq_true cW
            exact CQ.ok (τ := ρ) (by rw [p_is_ok hj_c c7 (Int32.not_lt.mp c12), hs9, e9]; rfl) (by exact h00) ⟨_, h, t⟩
          · refine pl_iload_n (pc := 40) dX1_is_40 rfl rfl ?_
            refine pl_iconst (pc := 41) (v := 1) dX1_is_41 (by rfl) ?_
            refine pj_icmp_ne (pc := 42) (tgt := 56) dX1_is_42 (by decide) (fun c42 => ?_) (fun c42 => ?_)
            · refine pl_iload_n (pc := 56) dX1_is_56 rfl rfl ?_
              refine pl_iconst (pc := 57) (v := 2) dX1_is_57 (by rfl) ?_
              refine pj_icmp_ne (pc := 58) (tgt := 72) dX1_is_58 (by decide) (fun c58 => ?_) (fun c58 => ?_)
              · refine pl_aload (pc := 72) dX1_is_72 rfl ?_
                refine ph_holder_L (pc := 74) hq_2 cW (fun G => dw_at G 14 rfl) (fun G => dw_at G 15 rfl) dX1_is_74 (by omega) (Nat.le_of_ble_eq_true rfl) ?_
                refine PJ.top ho_holder ?_
                refine pj_iconst (pc := 77) (v := (-1)) dX1_is_77 (by rfl) ?_
                refine pj_icmp_eq (pc := 78) (tgt := 85) dX1_is_78 (by decide) (fun c78 => ?_) (fun c78 => ?_)
                · refine pl_iconst (pc := 85) (v := 0) dX1_is_85 (by rfl) ?_
                  refine pj_zret (pc := 86) .boolean dX1_is_86 rfl (by rfl) ?_
                  have e9 : isV (sec ρ j_c 0) v = false := by unfold isV; rw [if_neg c37, if_neg c42, if_neg c58]; exact decide_eq_false (fun z => z ((who_lot hq_2 (iv1.who j_c hj_c) hS4 cW).mp c78))
                  exact CQ.ok (τ := ρ) (by rw [p_is_ok hj_c c7 (Int32.not_lt.mp c12), hs9, e9]; rfl) (by exact h00) ⟨_, h, t⟩
                · refine pl_iconst (pc := 81) (v := 1) dX1_is_81 (by rfl) ?_
                  refine pj_goto (pc := 82) (tgt := 86) dX1_is_82 (by decide) ?_
                  refine pj_zret (pc := 86) .boolean dX1_is_86 rfl (by rfl) ?_
                  have e9 : isV (sec ρ j_c 0) v = true := by unfold isV; rw [if_neg c37, if_neg c42, if_neg c58]; exact decide_eq_true (fun z => c78 ((who_lot hq_2 (iv1.who j_c hj_c) hS4 cW).mpr z))
                  exact CQ.ok (τ := ρ) (by rw [p_is_ok hj_c c7 (Int32.not_lt.mp c12), hs9, e9]; rfl) (by exact h00) ⟨_, h, t⟩
              · refine pl_aload (pc := 61) dX1_is_61 rfl ?_
                refine ph_isPasture_L (pc := 63) hq_2 cW (fun G => dw_at G 12 rfl) (fun G => dw_at G 13 rfl) dX1_is_63 (by omega) (Nat.le_of_ble_eq_true rfl) ?_
                refine PJ.top ho_isPasture ?_
                refine pl_if_eqB (pc := 66) (tgt := 85) dX1_is_66 (by decide) (fun c66 => ?_) (fun c66 => ?_)
                · refine pl_iconst (pc := 85) (v := 0) dX1_is_85 (by rfl) ?_
                  refine pj_zret (pc := 86) .boolean dX1_is_86 rfl (by rfl) ?_
                  have e9 : isV (sec ρ j_c 0) v = false := by unfold isV; rw [if_neg c37, if_neg c42, if_pos c58]; exact c66
                  exact CQ.ok (τ := ρ) (by rw [p_is_ok hj_c c7 (Int32.not_lt.mp c12), hs9, e9]; rfl) (by exact h00) ⟨_, h, t⟩
                · refine pj_goto (pc := 69) (tgt := 81) dX1_is_69 (by decide) ?_
                  refine pl_iconst (pc := 81) (v := 1) dX1_is_81 (by rfl) ?_
                  refine pj_goto (pc := 82) (tgt := 86) dX1_is_82 (by decide) ?_
                  refine pj_zret (pc := 86) .boolean dX1_is_86 rfl (by rfl) ?_
                  have e9 : isV (sec ρ j_c 0) v = true := by unfold isV; rw [if_neg c37, if_neg c42, if_pos c58]; exact c66
                  exact CQ.ok (τ := ρ) (by rw [p_is_ok hj_c c7 (Int32.not_lt.mp c12), hs9, e9]; rfl) (by exact h00) ⟨_, h, t⟩
            · refine pl_aload (pc := 45) dX1_is_45 rfl ?_
              refine ph_isFarm_L (pc := 47) hq_2 cW (fun G => dw_at G 10 rfl) (fun G => dw_at G 11 rfl) dX1_is_47 (by omega) (Nat.le_of_ble_eq_true rfl) ?_
              refine PJ.top ho_isFarm ?_
              refine pl_if_eqB (pc := 50) (tgt := 85) dX1_is_50 (by decide) (fun c50 => ?_) (fun c50 => ?_)
              · refine pl_iconst (pc := 85) (v := 0) dX1_is_85 (by rfl) ?_
                refine pj_zret (pc := 86) .boolean dX1_is_86 rfl (by rfl) ?_
                have e9 : isV (sec ρ j_c 0) v = false := by unfold isV; rw [if_neg c37, if_pos c42]; exact c50
                exact CQ.ok (τ := ρ) (by rw [p_is_ok hj_c c7 (Int32.not_lt.mp c12), hs9, e9]; rfl) (by exact h00) ⟨_, h, t⟩
              · refine pj_goto (pc := 53) (tgt := 81) dX1_is_53 (by decide) ?_
                refine pl_iconst (pc := 81) (v := 1) dX1_is_81 (by rfl) ?_
                refine pj_goto (pc := 82) (tgt := 86) dX1_is_82 (by decide) ?_
                refine pj_zret (pc := 86) .boolean dX1_is_86 rfl (by rfl) ?_
                have e9 : isV (sec ρ j_c 0) v = true := by unfold isV; rw [if_neg c37, if_pos c42]; exact c50
                exact CQ.ok (τ := ρ) (by rw [p_is_ok hj_c c7 (Int32.not_lt.mp c12), hs9, e9]; rfl) (by exact h00) ⟨_, h, t⟩
