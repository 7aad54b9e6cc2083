set_option maxRecDepth 100000
theorem ownP {σ : MS} {p c : Nat} : ownPastV σ p c = true ↔ isPastV (sec σ c 0) = true ∧ sec σ c 1 = nI p := by
  unfold ownPastV
  rw [Bool.and_eq_true, decide_eq_true_eq]
theorem SX.pr {g : GP} {P : Nat → Prop} {F : Mem} {A : XA} {w : Nat} {S : Nat → Nat → Nat} {b : XS} {σ : MS} {e : XE} {M : Mem} (h : SX g P F A w S b σ e M) {i : Nat} (hi : i < S 4 w) : M (A 35 w i) = some (pO (VX w S b σ e 35 w i)) := by
  obtain ⟨τ, dn, fl, hR, hz, -⟩ := h
  exact hR.gt (k := 35) (w := w) (i := i) (LvX.k35 hz.1 hi)
theorem p_stock_yes {σ : MS} {n p c : Nat} {m : Int32} (hp : p < n) (hn : n ≤ 100) (hc : c < 96) (h0 : ¬ m < 0) (h1 : m ≤ nI 1000) (ho : ownPastV (s0 σ) p c = true) (h2 : nI 2 * m ≤ per (s0 σ) p 1) (h3 : sec (s0 σ) c 3 + m ≤ nI 1000) : p_stock σ n (nI p) (nI c) m = (sec (s0 σ) c 3 + m, sR (s_pays (s0 σ) p (-(nI 2 * m))) (8 * c + 3) (sec (s0 σ) c 3 + m)) := by
  have em : -(2 : Int32) * m = -(nI 2 * m) := Int32.neg_mul _ _
  have e3 : row (s_pays (s0 σ) p (-(nI 2 * m))) (8 * c + 3) = sec (s0 σ) c 3 := rowS_ne (by omega)
  unfold p_stock
  rw [inN_nI hp (by omega), inN_nI hc (by decide), if_neg (by decide), if_neg (by decide), if_neg h0, if_neg (fun z => z h1), tN_nI (by omega), tN_nI (by omega)]
  dsimp only
  rw [if_neg (by rw [ho]; decide), if_neg (fun z => z h2), if_neg (fun z => z h3), em, e3]
  rw [show sec (sR (s_pays (s0 σ) p (-(nI 2 * m))) (8 * c + 3) (sec (s0 σ) c 3 + m)) c 3 = sec (s0 σ) c 3 + m from rowS_eq]
set_option maxHeartbeats 600000 in
theorem x_X1_stock {g : GP} {μ : Mem} {d : Nat} {P : Nat → Prop} {F : Mem} {A : XA} {S : Nat → Nat → Nat} {b : XS} {σ : MS} {nor nw : Nat} (s : SB g P F A 0 S b σ nw μ) (iv : IvG σ (S 4 0) (S 8 0) (S 10 0) (S 6 0) nor nw) (rs : RsX σ) (hd : 9 ≤ d) {p : Int32} {c : Int32} {m : Int32} : PM g yX1_stock (ws_ yX1_stock cX1_stock 7 (some .int)) d 1 6 [.ref (A 0 0 0), .int p, .int c, .int m] μ (CQ ["java/lang/IndexOutOfBoundsException", "java/lang/IllegalArgumentException"] (p_stock σ (S 4 0) p c m) (fun τ M => SB g P F A 0 S b τ nw M)) := by
  refine PM.of (by decide +kernel) (Nat.le_of_ble_eq_true rfl) ?_
  refine PJ.ok (fun G => ?_)
  show PJ g _ _ _ _ d 1 6 0 [(0, .ref (A 0 0 0)), (1, .int p), (2, .int c), (3, .int m)] [] _ _
  obtain ⟨ρ, hs0⟩ : ∃ ρ, ρ = sF σ 0 (nI 0) := ⟨_, rfl⟩
  have hs9 : s0 σ = ρ := hs0.symm
  have s1 := s.F0 (x := nI 0)
  rw [← hs0] at s1
  obtain ⟨e, h, t⟩ := s1
  have iv1 : IvG ρ (S 4 0) (S 8 0) (S 10 0) (S 6 0) nor nw := by rw [hs0]; exact iv.f0
  have rs1 : RsX ρ := by rw [hs0]; exact rs
  have h00 : ρ.1 0 = nI 0 := by rw [hs0]; rfl
  have hS4 := h.hz.2.1
  have hS6 := h.hz.2.2.1
  have hS8 := h.hz.2.2.2.1
  have hS10 := h.hz.2.2.2.2.1
  cases hap_p : inN p (S 4 0) with
  | false =>
    refine pl_aload_n (pc := 0) dX1_stock_0 rfl rfl ?_
    refine pl_iload_n (pc := 1) dX1_stock_1 rfl rfl ?_
    refine pl_callVX (pc := 2) (As := [_]) (C1 := 1) (N1 := 6) (C2 := 0) (N2 := 0) (E8 := "java/lang/IndexOutOfBoundsException") ckX1 mdX1_personOf rfl q1411 q1413 qs9 q125 dX1_stock_2 rfl rfl (Nat.le_of_ble_eq_true rfl) (h.r0) (x_X1_personOf_no (d := d - 1) (by omega) h hap_p) (by omega) (by omega) (by omega) (fun q_2 M_2 hM_2 => ?_)
    refine px_out0 rfl ?_
    exact CQ.no 0 (v := nI 0) (τ := sF ρ 0 (nI 1)) (by rw [show sF ρ 0 (nI 1) = th σ 1 by rw [hs0]]; first | (simp only [p_stock, hap_p, ↓reduceIte]; first | done | rfl) | (simp [p_stock, hap_p, Int32.not_lt, Int32.not_le]; first | done | rfl)) rfl rfl (SB.mono (SB.F0 ⟨_, h, t⟩) hM_2)
  | true =>
    obtain ⟨j_p, hj_p, rfl⟩ := inN_of (by omega) hap_p
    have g_p := tN_nI (n := j_p) (by omega)
    cases hap_c : inN c 96 with
    | false =>
      refine pl_aload_n (pc := 0) dX1_stock_0 rfl rfl ?_
      refine pl_iload_n (pc := 1) dX1_stock_1 rfl rfl ?_
      refine pl_callVd (pc := 2) (As := [_]) (C1 := 0) (N1 := 0) (C2 := 1) (N2 := 6) ckX1 mdX1_personOf rfl q1411 q1413 qs9 q125 dX1_stock_2 rfl rfl (Nat.le_of_ble_eq_true rfl) (h.r0) (x_X1_personOf_ok (d := d - 1) (by omega) h (by omega)) (by omega) (by omega) (by omega) ?_
      refine pj_astore (pc := 5) (lv' := [(4, _), (0, _), (1, _), (2, _), (3, _)]) dX1_stock_5 (by decide) rfl ?_
      refine pl_aload_n (pc := 7) dX1_stock_7 rfl rfl ?_
      refine pl_iload_n (pc := 8) dX1_stock_8 rfl rfl ?_
      refine pl_callVX (pc := 9) (As := [_]) (C1 := 1) (N1 := 6) (C2 := 0) (N2 := 0) (E8 := "java/lang/IndexOutOfBoundsException") ckX1 mdX1_slotOf rfl q1239 q1241 qs7 q125 dX1_stock_9 rfl rfl (Nat.le_of_ble_eq_true rfl) (h.r0) (x_X1_slotOf_no (d := d - 1) (by omega) h hap_c) (by omega) (by omega) (by omega) (fun q_9 M_9 hM_9 => ?_)
      refine px_out0 rfl ?_
      exact CQ.no 0 (v := nI 0) (τ := sF ρ 0 (nI 1)) (by rw [show sF ρ 0 (nI 1) = th σ 1 by rw [hs0]]; first | (simp only [p_stock, hap_p, g_p, hap_c, ↓reduceIte]; first | done | rfl) | (simp [p_stock, hap_p, g_p, hap_c, Int32.not_lt, Int32.not_le]; first | done | rfl)) rfl rfl (SB.mono (SB.F0 ⟨_, h, t⟩) hM_9)
    | true =>
      obtain ⟨j_c, hj_c, rfl⟩ := inN_of (by omega) hap_c
      have g_c := tN_nI (n := j_c) (by omega)
      refine pl_aload_n (pc := 0) dX1_stock_0 rfl rfl ?_
      refine pl_iload_n (pc := 1) dX1_stock_1 rfl rfl ?_
      refine pl_callVd (pc := 2) (As := [_]) (C1 := 0) (N1 := 0) (C2 := 1) (N2 := 6) ckX1 mdX1_personOf rfl q1411 q1413 qs9 q125 dX1_stock_2 rfl rfl (Nat.le_of_ble_eq_true rfl) (h.r0) (x_X1_personOf_ok (d := d - 1) (by omega) h (by omega)) (by omega) (by omega) (by omega) ?_
      refine pj_astore (pc := 5) (lv' := [(4, _), (0, _), (1, _), (2, _), (3, _)]) dX1_stock_5 (by decide) rfl ?_
      refine pl_aload_n (pc := 7) dX1_stock_7 rfl rfl ?_
      refine pl_iload_n (pc := 8) dX1_stock_8 rfl rfl ?_
      obtain ⟨q_9, hm_9, hq_9, hdd_9⟩ := h.held (s := j_c) (by omega)
      refine pl_callVd (pc := 9) (As := [_]) (C1 := 0) (N1 := 0) (C2 := 1) (N2 := 6) ckX1 mdX1_slotOf rfl q1239 q1241 qs7 q125 dX1_stock_9 rfl rfl (Nat.le_of_ble_eq_true rfl) (h.r0) (x_X1_slotOf_ok (d := d - 1) (by omega) h (by omega)) (by omega) (by omega) (by omega) ?_
      refine pj_astore (pc := 12) (lv' := [(5, _), (4, _), (0, _), (1, _), (2, _), (3, _)]) dX1_stock_12 (by decide) rfl ?_
      refine pl_iload_n (pc := 14) dX1_stock_14 rfl rfl ?_
      refine pj_if_lt (pc := 15) (tgt := 29) dX1_stock_15 (by decide) (fun c15 => ?_) (fun c15 => ?_)
      · refine pl_iconst (pc := 29) (v := 0) dX1_stock_29 (by rfl) ?_
        refine pl_callSX (pc := 30) (As := [_]) (C1 := 1) (N1 := 6) (C2 := 0) (N2 := 0) (E8 := "java/lang/IllegalArgumentException") mdX1_need q1262 q1263 q125 dX1_stock_30 rfl rfl (Nat.le_of_ble_eq_true rfl) (k_X1_need_no (d := d - 1) (by omega) rfl) (by omega) (by omega) (by omega) (fun q_30 M_30 hM_30 => ?_)
        refine px_out0 rfl ?_
        exact CQ.no 1 (v := nI 0) (τ := sF ρ 0 (nI 2)) (by rw [show sF ρ 0 (nI 2) = th σ 2 by rw [hs0]]; first | (simp only [p_stock, hap_p, g_p, hap_c, g_c, c15, ↓reduceIte]; first | done | rfl) | (simp [p_stock, hap_p, g_p, hap_c, g_c, c15, Int32.not_lt, Int32.not_le]; first | done | rfl)) rfl rfl (SB.mono (SB.F0 ⟨_, h, t⟩) hM_30)
      · refine pl_iload_n (pc := 18) dX1_stock_18 rfl rfl ?_
        refine pl_sipush (pc := 19) (v := 1000) dX1_stock_19 (by rfl) ?_
        refine pj_icmp_gt (pc := 22) (tgt := 29) dX1_stock_22 (by decide) (fun c22 => ?_) (fun c22 => ?_)
        · refine pl_iconst (pc := 29) (v := 0) dX1_stock_29 (by rfl) ?_
          refine pl_callSX (pc := 30) (As := [_]) (C1 := 1) (N1 := 6) (C2 := 0) (N2 := 0) (E8 := "java/lang/IllegalArgumentException") mdX1_need q1262 q1263 q125 dX1_stock_30 rfl rfl (Nat.le_of_ble_eq_true rfl) (k_X1_need_no (d := d - 1) (by omega) rfl) (by omega) (by omega) (by omega) (fun q_30 M_30 hM_30 => ?_)
          refine px_out0 rfl ?_
          exact CQ.no 1 (v := nI 0) (τ := sF ρ 0 (nI 2)) (by rw [show sF ρ 0 (nI 2) = th σ 2 by rw [hs0]]; first | (simp only [p_stock, hap_p, g_p, hap_c, g_c, c15, c22, ↓reduceIte]; first | done | rfl) | (simp [p_stock, hap_p, g_p, hap_c, g_c, c15, c22, Int32.not_lt, Int32.not_le]; first | done | rfl)) rfl rfl (SB.mono (SB.F0 ⟨_, h, t⟩) hM_30)
        · refine pl_iconst (pc := 25) (v := 1) dX1_stock_25 (by rfl) ?_
          refine pj_goto (pc := 26) (tgt := 30) dX1_stock_26 (by decide) ?_
          refine pl_callSv (pc := 30) (As := [_]) (C1 := 0) (N1 := 0) (C2 := 1) (N2 := 6) mdX1_need q1262 q1263 q125 dX1_stock_30 rfl rfl (Nat.le_of_ble_eq_true rfl) (k_X1_need_ok (d := d - 1) (by omega) (by decide)) (by omega) (by omega) (by omega) ?_
          refine pl_aload (pc := 33) dX1_stock_33 rfl ?_
          refine pl_aload (pc := 35) dX1_stock_35 rfl ?_
          refine pl_callSd (pc := 37) (As := [_, _]) (C1 := 0) (N1 := 0) (C2 := 1) (N2 := 6) mdX1_pastureOf q1836 q1837 q125 dX1_stock_37 rfl rfl (Nat.le_of_ble_eq_true rfl) (k_X1_pastureOf (d := d - 1) (by omega) (h.pr hj_p) hm_9 hq_9) (by omega) (by omega) (by omega) ?_
          by_cases cO : ownPastV ρ j_p j_c = true
          · have cO2 := ownP.mp cO
            rw [if_pos (show isPastV (hoR ρ j_c 0) = true ∧ hoR ρ j_c 1 = VX 0 S b ρ e 35 0 j_p 0 from ⟨cO2.1, cO2.2.trans (V35_0 h.hz hj_p).symm⟩)]
            refine pj_astore (pc := 40) (lv' := [(6, _), (5, _), (4, _), (0, _), (1, _), (2, _), (3, _)]) dX1_stock_40 (by decide) rfl ?_
            refine pl_aload (pc := 42) dX1_stock_42 rfl ?_
            refine pj_ifnonnull (pc := 44) (tgt := 49) dX1_stock_44 (by decide) ?_
            refine pl_aload (pc := 49) dX1_stock_49 rfl ?_
            refine pj_getfN (pc := 51) ckX10 2 q1072 dX1_stock_51 (by decide) (h.r35 (by omega)) rfl ?_
            refine pl_iconst (pc := 54) (v := 2) dX1_stock_54 (by rfl) ?_
            refine pl_iload_n (pc := 55) dX1_stock_55 rfl rfl ?_
            refine pj_imul (pc := 56) dX1_stock_56 ?_
            refine pj_icmp_ge (pc := 57) (tgt := 63) dX1_stock_57 (by decide) (fun c57 => ?_) (fun c57 => ?_)
            · refine pl_aload_n (pc := 63) dX1_stock_63 rfl rfl ?_
              refine pj_getf (pc := 64) ckX1 0 q853 dX1_stock_64 (by decide) (h.r0) rfl ?_
              refine pj_getfN (pc := 67) ckX2 16 q756 dX1_stock_67 (by decide) (h.r1) rfl ?_
              refine pl_iload_n (pc := 70) dX1_stock_70 rfl rfl ?_
              refine pl_iald (pc := 71) (n := 96) dX1_stock_71 (h.r19) (by omega) (by decide) ?_
              refine PJ.top (h.v19 (by omega)) ?_
              refine pl_iload_n (pc := 72) dX1_stock_72 rfl rfl ?_
              refine pj_iadd (pc := 73) dX1_stock_73 ?_
              refine pl_sipush (pc := 74) (v := 1000) dX1_stock_74 (by rfl) ?_
              refine pj_icmp_le (pc := 77) (tgt := 83) dX1_stock_77 (by decide) (fun c77 => ?_) (fun c77 => ?_)
              · obtain ⟨j_m, hj_m, em⟩ := inN_of (x := m) (n := 1001) (by omega) (by simp only [inN, Bool.and_eq_true, decide_eq_true_eq]; exact ⟨Int32.not_lt.mp c15, Int32.lt_of_le_of_lt (Int32.not_lt.mp c22) (by decide)⟩)
                have em2 : nI 2 * m = nI (2 * j_m) := by rw [em]; exact pk_mul 2 j_m
                obtain ⟨m_p, hm_p, em_p⟩ := t.coins hj_p
                have pt := pays_to em_p em2 hm_p (by omega) c57
                obtain ⟨ks, hks, eks, -⟩ := (t.ps hj_c).2.1
                have hs_m : ks + j_m ≤ 1000 := by
                  have z9 : nI (ks + j_m) ≤ nI 1000 := by rw [← nI_add, ← eks, ← em]; exact c77
                  exact (nI_leI (by omega) (by decide)).mp z9
                refine pl_aload (pc := 83) dX1_stock_83 rfl ?_
                refine pj_dup (pc := 85) dX1_stock_85 rfl ?_
                refine pj_getfN (pc := 86) ckX10 2 q1072 dX1_stock_86 (by decide) (h.r35 (by omega)) rfl ?_
                refine pl_iconst (pc := 89) (v := 2) dX1_stock_89 (by rfl) ?_
                refine pl_iload_n (pc := 90) dX1_stock_90 rfl rfl ?_
                refine pj_imul (pc := 91) dX1_stock_91 ?_
                refine pj_isub (pc := 92) dX1_stock_92 ?_
                refine pj_putfN (pc := 93) ckX10 2 q1072 dX1_stock_93 (by decide) rfl (h.r35 (by omega)) rfl rfl (Nat.le_of_ble_eq_true rfl) ?_
                refine sxk (h.p35_2 (by omega)) (fun My1 y1 => ?_)
                rw [pt.2] at y1
                refine pl_aload_n (pc := 96) dX1_stock_96 rfl rfl ?_
                refine pj_getf (pc := 97) ckX1 0 q853 dX1_stock_97 (by decide) (y1.r0) rfl ?_
                refine pj_getfN (pc := 100) ckX2 16 q756 dX1_stock_100 (by decide) (y1.r1) rfl ?_
                refine pl_iload_n (pc := 103) dX1_stock_103 rfl rfl ?_
                refine pj_dup2_11 (pc := 104) dX1_stock_104 rfl rfl ?_
                refine pl_iald (pc := 105) (n := 96) dX1_stock_105 (y1.r19) (by omega) (by decide) ?_
                refine PJ.top (y1.v19 (by omega)) ?_
                refine PJ.top (y := nI ks) ((rowS_ne (by omega)).trans eks) ?_
                refine pl_iload_n (pc := 106) dX1_stock_106 rfl rfl ?_
                refine pj_iadd (pc := 107) dX1_stock_107 ?_
                refine PJ.top (y := nI (ks + j_m)) (by rw [em, nI_add]) ?_
                refine pl_iast (pc := 108) (n := 96) dX1_stock_108 (y1.r19) (by omega) (by decide) ?_
                refine sxk (y1.p19 (by omega)) (fun My2 y2 => ?_)
                refine pl_aload_n (pc := 109) dX1_stock_109 rfl rfl ?_
                refine pj_getf (pc := 110) ckX1 0 q853 dX1_stock_110 (by decide) (y2.r0) rfl ?_
                refine pj_getfN (pc := 113) ckX2 16 q756 dX1_stock_113 (by decide) (y2.r1) rfl ?_
                refine pl_iload_n (pc := 116) dX1_stock_116 rfl rfl ?_
                refine pl_iald (pc := 117) (n := 96) dX1_stock_117 (y2.r19) (by omega) (by decide) ?_
                refine PJ.top (y2.v19 (by omega)) ?_
                refine PJ.top (y := nI (ks + j_m)) (rowS_eq) ?_
                refine pj_iret (pc := 118) dX1_stock_118 rfl ?_
                have e9 : sec ρ j_c 3 + m = nI (ks + j_m) := by rw [eks, em, nI_add]
                have g8 : SX g P F A 0 S b (sR (sR ρ (768 + 8 * j_p + 1) (nI (m_p - 2 * j_m))) (8 * j_c + 3) (nI (ks + j_m))) e _ := y2
                have t8 := tie_many (c := j_c) (k := ks + j_m) (coin_tie1 (m := m_p - 2 * j_m) t h.hz hj_p (by omega)) h.hz hj_c (by rw [show sec (sR ρ (768 + 8 * j_p + 1) (nI (m_p - 2 * j_m))) j_c 0 = sec ρ j_c 0 from rowS_ne (by omega)]; exact cO2.1) hs_m
                exact CQ.ok (by rw [p_stock_yes hj_p hS4 hj_c c15 (Int32.not_lt.mp c22) (by rw [hs9]; exact cO) (by rw [hs9]; exact c57) (by rw [hs9]; exact c77), hs9, pt.1, e9]) (by exact h00) ⟨_, g8, t8⟩
              · refine pj_bipush (pc := 80) (v := (-3)) dX1_stock_80 (by rfl) ?_
                refine pj_iret (pc := 82) dX1_stock_82 rfl ?_
                exact CQ.ok (τ := ρ) (by first | (simp only [p_stock, hs9, ← hs0, hap_p, g_p, hap_c, g_c, c15, c22, cO, c57, c77, ↓reduceIte]; first | done | rfl) | (simp [p_stock, hs9, ← hs0, hap_p, g_p, hap_c, g_c, c15, c22, cO, c57, c77, Int32.not_lt, Int32.not_le]; first | done | rfl)) h00 ⟨_, h, t⟩
            · refine pj_bipush (pc := 60) (v := (-2)) dX1_stock_60 (by rfl) ?_
              refine pj_iret (pc := 62) dX1_stock_62 rfl ?_
              exact CQ.ok (τ := ρ) (by first | (simp only [p_stock, hs9, ← hs0, hap_p, g_p, hap_c, g_c, c15, c22, cO, c57, ↓reduceIte]; first | done | rfl) | (simp [p_stock, hs9, ← hs0, hap_p, g_p, hap_c, g_c, c15, c22, cO, c57, Int32.not_lt, Int32.not_le]; first | done | rfl)) h00 ⟨_, h, t⟩
          · have cF : ownPastV ρ j_p j_c = false := Bool.eq_false_iff.mpr cO
            rw [if_neg (show ¬ (isPastV (hoR ρ j_c 0) = true ∧ hoR ρ j_c 1 = VX 0 S b ρ e 35 0 j_p 0) from fun z => cO (ownP.mpr ⟨z.1, z.2.trans (V35_0 h.hz hj_p)⟩))]
            refine pj_astoreN (pc := 40) (lv' := [(6, _), (5, _), (4, _), (0, _), (1, _), (2, _), (3, _)]) dX1_stock_40 (by decide) rfl ?_
            refine pl_aloadN (pc := 42) dX1_stock_42 rfl ?_
            refine pj_ifnonnullN (pc := 44) dX1_stock_44 ?_
            refine pj_iconst (pc := 47) (v := (-1)) dX1_stock_47 (by rfl) ?_
            refine pj_iret (pc := 48) dX1_stock_48 rfl ?_
            exact CQ.ok (τ := ρ) (by first | (simp only [p_stock, hs9, ← hs0, hap_p, g_p, hap_c, g_c, c15, c22, cF, ↓reduceIte]; first | done | rfl) | (simp [p_stock, hs9, ← hs0, hap_p, g_p, hap_c, g_c, c15, c22, cF, Int32.not_lt, Int32.not_le]; first | done | rfl)) h00 ⟨_, h, t⟩
set_option maxHeartbeats 600000 in
theorem x_X1_fence {g : GP} {μ : Mem} {d : Nat} {P : Nat → Prop} {F : Mem} {A : XA} {S : Nat → Nat → Nat} {b : XS} {σ : MS} {nor nw : Nat} (s : SB g P F A 0 S b σ nw μ) (iv : IvG σ (S 4 0) (S 8 0) (S 10 0) (S 6 0) nor nw) (rs : RsX σ) (hd : 9 ≤ d) {p : Int32} {c : Int32} : PM g yX1_fence (ws_ yX1_fence cX1_fence 6 (some .int)) d 1 6 [.ref (A 0 0 0), .int p, .int c] μ (CQ ["java/lang/IndexOutOfBoundsException"] (p_fence σ (S 4 0) p c) (fun τ M => SB g P F A 0 S b τ nw M)) := by
  refine PM.of (by decide +kernel) (Nat.le_of_ble_eq_true rfl) ?_
  refine PJ.ok (fun G => ?_)
  show PJ g _ _ _ _ d 1 6 0 [(0, .ref (A 0 0 0)), (1, .int p), (2, .int c)] [] _ _
  obtain ⟨ρ, hs0⟩ : ∃ ρ, ρ = sF σ 0 (nI 0) := ⟨_, rfl⟩
  have hs9 : s0 σ = ρ := hs0.symm
  have s1 := s.F0 (x := nI 0)
  rw [← hs0] at s1
  obtain ⟨e, h, t⟩ := s1
  have iv1 : IvG ρ (S 4 0) (S 8 0) (S 10 0) (S 6 0) nor nw := by rw [hs0]; exact iv.f0
  have rs1 : RsX ρ := by rw [hs0]; exact rs
  have h00 : ρ.1 0 = nI 0 := by rw [hs0]; rfl
  have hS4 := h.hz.2.1
  have hS6 := h.hz.2.2.1
  have hS8 := h.hz.2.2.2.1
  have hS10 := h.hz.2.2.2.2.1
  cases hap_p : inN p (S 4 0) with
  | false =>
    refine pl_aload_n (pc := 0) dX1_fence_0 rfl rfl ?_
    refine pl_iload_n (pc := 1) dX1_fence_1 rfl rfl ?_
    refine pl_callVX (pc := 2) (As := [_]) (C1 := 1) (N1 := 6) (C2 := 0) (N2 := 0) (E8 := "java/lang/IndexOutOfBoundsException") ckX1 mdX1_personOf rfl q1411 q1413 qs9 q125 dX1_fence_2 rfl rfl (Nat.le_of_ble_eq_true rfl) (h.r0) (x_X1_personOf_no (d := d - 1) (by omega) h hap_p) (by omega) (by omega) (by omega) (fun q_2 M_2 hM_2 => ?_)
    refine px_out0 rfl ?_
    exact CQ.no 0 (v := nI 0) (τ := sF ρ 0 (nI 1)) (by rw [show sF ρ 0 (nI 1) = th σ 1 by rw [hs0]]; first | (simp only [p_fence, hap_p, ↓reduceIte]; first | done | rfl) | (simp [p_fence, hap_p, Int32.not_lt, Int32.not_le]; first | done | rfl)) rfl rfl (SB.mono (SB.F0 ⟨_, h, t⟩) hM_2)
  | true =>
    obtain ⟨j_p, hj_p, rfl⟩ := inN_of (by omega) hap_p
    have g_p := tN_nI (n := j_p) (by omega)
    cases hap_c : inN c 96 with
    | false =>
      refine pl_aload_n (pc := 0) dX1_fence_0 rfl rfl ?_
      refine pl_iload_n (pc := 1) dX1_fence_1 rfl rfl ?_
      refine pl_callVd (pc := 2) (As := [_]) (C1 := 0) (N1 := 0) (C2 := 1) (N2 := 6) ckX1 mdX1_personOf rfl q1411 q1413 qs9 q125 dX1_fence_2 rfl rfl (Nat.le_of_ble_eq_true rfl) (h.r0) (x_X1_personOf_ok (d := d - 1) (by omega) h (by omega)) (by omega) (by omega) (by omega) ?_
      refine pj_astore_n (pc := 5) (lv' := [(3, _), (0, _), (1, _), (2, _)]) dX1_fence_5 rfl (by decide) rfl ?_
      refine pl_aload_n (pc := 6) dX1_fence_6 rfl rfl ?_
      refine pl_aload_n (pc := 7) dX1_fence_7 rfl rfl ?_
      refine pl_iload_n (pc := 8) dX1_fence_8 rfl rfl ?_
      refine pl_callVX (pc := 9) (As := [_]) (C1 := 1) (N1 := 6) (C2 := 0) (N2 := 0) (E8 := "java/lang/IndexOutOfBoundsException") ckX1 mdX1_slotOf rfl q1239 q1241 qs7 q125 dX1_fence_9 rfl rfl (Nat.le_of_ble_eq_true rfl) (h.r0) (x_X1_slotOf_no (d := d - 1) (by omega) h hap_c) (by omega) (by omega) (by omega) (fun q_9 M_9 hM_9 => ?_)
      refine px_out0 rfl ?_
      exact CQ.no 0 (v := nI 0) (τ := sF ρ 0 (nI 1)) (by rw [show sF ρ 0 (nI 1) = th σ 1 by rw [hs0]]; first | (simp only [p_fence, hap_p, g_p, hap_c, ↓reduceIte]; first | done | rfl) | (simp [p_fence, hap_p, g_p, hap_c, Int32.not_lt, Int32.not_le]; first | done | rfl)) rfl rfl (SB.mono (SB.F0 ⟨_, h, t⟩) hM_9)
    | true =>
      obtain ⟨j_c, hj_c, rfl⟩ := inN_of (by omega) hap_c
      have g_c := tN_nI (n := j_c) (by omega)
      refine pl_aload_n (pc := 0) dX1_fence_0 rfl rfl ?_
      refine pl_iload_n (pc := 1) dX1_fence_1 rfl rfl ?_
      refine pl_callVd (pc := 2) (As := [_]) (C1 := 0) (N1 := 0) (C2 := 1) (N2 := 6) ckX1 mdX1_personOf rfl q1411 q1413 qs9 q125 dX1_fence_2 rfl rfl (Nat.le_of_ble_eq_true rfl) (h.r0) (x_X1_personOf_ok (d := d - 1) (by omega) h (by omega)) (by omega) (by omega) (by omega) ?_
      refine pj_astore_n (pc := 5) (lv' := [(3, _), (0, _), (1, _), (2, _)]) dX1_fence_5 rfl (by decide) rfl ?_
      refine pl_aload_n (pc := 6) dX1_fence_6 rfl rfl ?_
      refine pl_aload_n (pc := 7) dX1_fence_7 rfl rfl ?_
      refine pl_iload_n (pc := 8) dX1_fence_8 rfl rfl ?_
      obtain ⟨q_9, hm_9, hq_9, hdd_9⟩ := h.held (s := j_c) (by omega)
      refine pl_callVd (pc := 9) (As := [_]) (C1 := 0) (N1 := 0) (C2 := 1) (N2 := 6) ckX1 mdX1_slotOf rfl q1239 q1241 qs7 q125 dX1_fence_9 rfl rfl (Nat.le_of_ble_eq_true rfl) (h.r0) (x_X1_slotOf_ok (d := d - 1) (by omega) h (by omega)) (by omega) (by omega) (by omega) ?_
      refine pl_callSd (pc := 12) (As := [_, _]) (C1 := 0) (N1 := 0) (C2 := 1) (N2 := 6) mdX1_pastureOf q1836 q1837 q125 dX1_fence_12 rfl rfl (Nat.le_of_ble_eq_true rfl) (k_X1_pastureOf (d := d - 1) (by omega) (h.pr hj_p) hm_9 hq_9) (by omega) (by omega) (by omega) ?_
      by_cases cO : ownPastV ρ j_p j_c = true
      · have cO2 := ownP.mp cO
        rw [if_pos (show isPastV (hoR ρ j_c 0) = true ∧ hoR ρ j_c 1 = VX 0 S b ρ e 35 0 j_p 0 from ⟨cO2.1, cO2.2.trans (V35_0 h.hz hj_p).symm⟩)]
        refine pj_astore (pc := 15) (lv' := [(4, _), (3, _), (0, _), (1, _), (2, _)]) dX1_fence_15 (by decide) rfl ?_
        refine pl_aload (pc := 17) dX1_fence_17 rfl ?_
        refine pj_ifnonnull (pc := 19) (tgt := 24) dX1_fence_19 (by decide) ?_
        refine pl_aload_n (pc := 24) dX1_fence_24 rfl rfl ?_
        refine pj_getf (pc := 25) ckX1 0 q853 dX1_fence_25 (by decide) (h.r0) rfl ?_
        refine pj_getfN (pc := 28) ckX2 18 q760 dX1_fence_28 (by decide) (h.r1) rfl ?_
        refine pl_iload_n (pc := 31) dX1_fence_31 rfl rfl ?_
        refine pl_zald (pc := 32) (n := 96) dX1_fence_32 (h.r21) (by omega) (by decide) ?_
        refine PJ.top (h.v21 (by omega)) ?_
        rcases (t.ps hj_c).2.2.2 with c4 | ⟨c4, -⟩
        · refine PJ.top (y := nI 0) c4 ?_
          have f4 : ¬ sec ρ j_c 4 = nI 1 := fun z => absurd (c4.symm.trans z) (by decide)
          refine pj_if_eq (pc := 33) (tgt := 39) dX1_fence_33 (by decide) (fun _ => ?_) (fun h => absurd h (by decide))
          refine pl_aload_n (pc := 39) dX1_fence_39 rfl rfl ?_
          refine pj_getfN (pc := 40) ckX10 1 q1069 dX1_fence_40 (by decide) (h.r35 (by omega)) rfl ?_
          refine PJ.top (y := per ρ j_p 0) (rfl) ?_
          refine pl_iconst (pc := 43) (v := 2) dX1_fence_43 (by rfl) ?_
          refine pj_icmp_ne (pc := 44) (tgt := 51) dX1_fence_44 (by decide) (fun c44 => ?_) (fun c44 => ?_)
          · refine pl_bipush (pc := 51) (v := 15) dX1_fence_51 (by rfl) ?_
            refine pj_istore (pc := 53) (lv' := [(5, _), (4, _), (3, _), (0, _), (1, _), (2, _)]) dX1_fence_53 (by decide) rfl ?_
            refine pl_aload_n (pc := 55) dX1_fence_55 rfl rfl ?_
            refine pj_getfN (pc := 56) ckX10 2 q1072 dX1_fence_56 (by decide) (h.r35 (by omega)) rfl ?_
            refine pl_iload (pc := 59) dX1_fence_59 rfl ?_
            refine pj_icmp_ge (pc := 61) (tgt := 67) dX1_fence_61 (by decide) (fun c61 => ?_) (fun c61 => ?_)
            · obtain ⟨m_p, hm_p, em_p⟩ := t.coins hj_p
              have pt := pays_to (v := nI 15) em_p rfl hm_p (by decide) c61
              refine pl_aload_n (pc := 67) dX1_fence_67 rfl rfl ?_
              refine pj_dup (pc := 68) dX1_fence_68 rfl ?_
              refine pj_getfN (pc := 69) ckX10 2 q1072 dX1_fence_69 (by decide) (h.r35 (by omega)) rfl ?_
              refine pl_iload (pc := 72) dX1_fence_72 rfl ?_
              refine pj_isub (pc := 74) dX1_fence_74 ?_
              refine pj_putfN (pc := 75) ckX10 2 q1072 dX1_fence_75 (by decide) rfl (h.r35 (by omega)) rfl rfl (Nat.le_of_ble_eq_true rfl) ?_
              refine sxk (h.p35_2 (by omega)) (fun My1 y1 => ?_)
              rw [pt.2] at y1
              refine pl_aload_n (pc := 78) dX1_fence_78 rfl rfl ?_
              refine pj_getf (pc := 79) ckX1 0 q853 dX1_fence_79 (by decide) (y1.r0) rfl ?_
              refine pj_getfN (pc := 82) ckX2 18 q760 dX1_fence_82 (by decide) (y1.r1) rfl ?_
              refine pl_iload_n (pc := 85) dX1_fence_85 rfl rfl ?_
              refine pl_iconst (pc := 86) (v := 1) dX1_fence_86 (by rfl) ?_
              refine pl_zast (pc := 87) (n := 96) dX1_fence_87 (y1.r21) (by omega) (by decide) ?_
              refine sxk (y1.p21 (by omega) (v := nI 1)) (fun My2 y2 => ?_)
              refine pl_iconst (pc := 88) (v := 1) dX1_fence_88 (by rfl) ?_
              refine pj_iret (pc := 89) dX1_fence_89 rfl ?_
              have g8 : SX g P F A 0 S b (sR (sR ρ (768 + 8 * j_p + 1) (nI (m_p - 15))) (8 * j_c + 4) (nI 1)) e _ := y2
              have t7 := coin_tie1 (m := m_p - 15) t h.hz hj_p (by omega)
              have k0 : ∀ j, j < 8 → j ≠ 4 → sec (sR (sR ρ (768 + 8 * j_p + 1) (nI (m_p - 15))) (8 * j_c + 4) (nI 1)) j_c j = sec ρ j_c j := fun j hj8 hj => (rowS_ne (by omega)).trans (rowS_ne (by omega))
              have t8 : TieX 0 S (sR (sR ρ (768 + 8 * j_p + 1) (nI (m_p - 15))) (8 * j_c + 4) (nI 1)) e nw := by
                refine tie_stock t7 h.hz hj_c (fun j _ _ h4 => rowS_ne h4) ?_ (by simp [sA]) (by simp [sA]) (by simp [sA]) rfl rfl
                have ps := t.ps hj_c
                unfold PsX at ps ⊢
                rw [k0 0 (by decide) (by decide), k0 3 (by decide) (by decide), k0 5 (by decide) (by decide)]
                exact ⟨ps.1, ps.2.1, by simpa [sA] using ps.2.2.1, Or.inr ⟨rowS_eq, cO2.1⟩⟩
              exact CQ.ok (by first | (simp only [p_fence, hs9, ← hs0, pt.1, hap_p, g_p, hap_c, g_c, cO, f4, c44, c61, ↓reduceIte]; first | done | rfl) | (simp [p_fence, hs9, ← hs0, pt.1, hap_p, g_p, hap_c, g_c, cO, f4, c44, c61, Int32.not_lt, Int32.not_le]; first | done | rfl)) (by exact h00) ⟨_, g8, t8⟩
            · refine pj_bipush (pc := 64) (v := (-3)) dX1_fence_64 (by rfl) ?_
              refine pj_iret (pc := 66) dX1_fence_66 rfl ?_
              exact CQ.ok (τ := ρ) (by first | (simp only [p_fence, hs9, ← hs0, hap_p, g_p, hap_c, g_c, cO, f4, c44, c61, ↓reduceIte]; first | done | rfl) | (simp [p_fence, hs9, ← hs0, hap_p, g_p, hap_c, g_c, cO, f4, c44, c61, Int32.not_lt, Int32.not_le]; first | done | rfl)) h00 ⟨_, h, t⟩
          · refine pl_iconst (pc := 47) (v := 5) dX1_fence_47 (by rfl) ?_
            refine pj_goto (pc := 48) (tgt := 53) dX1_fence_48 (by decide) ?_
            refine pj_istore (pc := 53) (lv' := [(5, _), (4, _), (3, _), (0, _), (1, _), (2, _)]) dX1_fence_53 (by decide) rfl ?_
            refine pl_aload_n (pc := 55) dX1_fence_55 rfl rfl ?_
            refine pj_getfN (pc := 56) ckX10 2 q1072 dX1_fence_56 (by decide) (h.r35 (by omega)) rfl ?_
            refine pl_iload (pc := 59) dX1_fence_59 rfl ?_
            refine pj_icmp_ge (pc := 61) (tgt := 67) dX1_fence_61 (by decide) (fun c61 => ?_) (fun c61 => ?_)
            · obtain ⟨m_p, hm_p, em_p⟩ := t.coins hj_p
              have pt := pays_to (v := nI 5) em_p rfl hm_p (by decide) c61
              refine pl_aload_n (pc := 67) dX1_fence_67 rfl rfl ?_
              refine pj_dup (pc := 68) dX1_fence_68 rfl ?_
              refine pj_getfN (pc := 69) ckX10 2 q1072 dX1_fence_69 (by decide) (h.r35 (by omega)) rfl ?_
              refine pl_iload (pc := 72) dX1_fence_72 rfl ?_
              refine pj_isub (pc := 74) dX1_fence_74 ?_
              refine pj_putfN (pc := 75) ckX10 2 q1072 dX1_fence_75 (by decide) rfl (h.r35 (by omega)) rfl rfl (Nat.le_of_ble_eq_true rfl) ?_
              refine sxk (h.p35_2 (by omega)) (fun My3 y3 => ?_)
              rw [pt.2] at y3
              refine pl_aload_n (pc := 78) dX1_fence_78 rfl rfl ?_
              refine pj_getf (pc := 79) ckX1 0 q853 dX1_fence_79 (by decide) (y3.r0) rfl ?_
              refine pj_getfN (pc := 82) ckX2 18 q760 dX1_fence_82 (by decide) (y3.r1) rfl ?_
              refine pl_iload_n (pc := 85) dX1_fence_85 rfl rfl ?_
              refine pl_iconst (pc := 86) (v := 1) dX1_fence_86 (by rfl) ?_
              refine pl_zast (pc := 87) (n := 96) dX1_fence_87 (y3.r21) (by omega) (by decide) ?_
              refine sxk (y3.p21 (by omega) (v := nI 1)) (fun My4 y4 => ?_)
              refine pl_iconst (pc := 88) (v := 1) dX1_fence_88 (by rfl) ?_
              refine pj_iret (pc := 89) dX1_fence_89 rfl ?_
              have g8 : SX g P F A 0 S b (sR (sR ρ (768 + 8 * j_p + 1) (nI (m_p - 5))) (8 * j_c + 4) (nI 1)) e _ := y4
              have t7 := coin_tie1 (m := m_p - 5) t h.hz hj_p (by omega)
              have k0 : ∀ j, j < 8 → j ≠ 4 → sec (sR (sR ρ (768 + 8 * j_p + 1) (nI (m_p - 5))) (8 * j_c + 4) (nI 1)) j_c j = sec ρ j_c j := fun j hj8 hj => (rowS_ne (by omega)).trans (rowS_ne (by omega))
              have t8 : TieX 0 S (sR (sR ρ (768 + 8 * j_p + 1) (nI (m_p - 5))) (8 * j_c + 4) (nI 1)) e nw := by
                refine tie_stock t7 h.hz hj_c (fun j _ _ h4 => rowS_ne h4) ?_ (by simp [sA]) (by simp [sA]) (by simp [sA]) rfl rfl
                have ps := t.ps hj_c
                unfold PsX at ps ⊢
                rw [k0 0 (by decide) (by decide), k0 3 (by decide) (by decide), k0 5 (by decide) (by decide)]
                exact ⟨ps.1, ps.2.1, by simpa [sA] using ps.2.2.1, Or.inr ⟨rowS_eq, cO2.1⟩⟩
              exact CQ.ok (by first | (simp only [p_fence, hs9, ← hs0, pt.1, hap_p, g_p, hap_c, g_c, cO, f4, eq_true c44, c61, ↓reduceIte]; first | done | rfl) | (simp [p_fence, hs9, ← hs0, pt.1, hap_p, g_p, hap_c, g_c, cO, f4, eq_true c44, c61, Int32.not_lt, Int32.not_le]; first | done | rfl)) (by exact h00) ⟨_, g8, t8⟩
            · refine pj_bipush (pc := 64) (v := (-3)) dX1_fence_64 (by rfl) ?_
              refine pj_iret (pc := 66) dX1_fence_66 rfl ?_
              exact CQ.ok (τ := ρ) (by first | (simp only [p_fence, hs9, ← hs0, hap_p, g_p, hap_c, g_c, cO, f4, eq_true c44, c61, ↓reduceIte]; first | done | rfl) | (simp [p_fence, hs9, ← hs0, hap_p, g_p, hap_c, g_c, cO, f4, eq_true c44, c61, Int32.not_lt, Int32.not_le]; first | done | rfl)) h00 ⟨_, h, t⟩
        · refine PJ.top (y := nI 1) c4 ?_
          refine pj_if_eq (pc := 33) (tgt := 39) dX1_fence_33 (by decide) (fun h => absurd h (by decide)) (fun _ => ?_)
          refine pj_bipush (pc := 36) (v := (-2)) dX1_fence_36 (by rfl) ?_
          refine pj_iret (pc := 38) dX1_fence_38 rfl ?_
          exact CQ.ok (τ := ρ) (by first | (simp only [p_fence, hs9, ← hs0, hap_p, g_p, hap_c, g_c, cO, c4, ↓reduceIte]; first | done | rfl) | (simp [p_fence, hs9, ← hs0, hap_p, g_p, hap_c, g_c, cO, c4, Int32.not_lt, Int32.not_le]; first | done | rfl)) h00 ⟨_, h, t⟩
      · have cF : ownPastV ρ j_p j_c = false := Bool.eq_false_iff.mpr cO
        rw [if_neg (show ¬ (isPastV (hoR ρ j_c 0) = true ∧ hoR ρ j_c 1 = VX 0 S b ρ e 35 0 j_p 0) from fun z => cO (ownP.mpr ⟨z.1, z.2.trans (V35_0 h.hz hj_p)⟩))]
        refine pj_astoreN (pc := 15) (lv' := [(4, _), (3, _), (0, _), (1, _), (2, _)]) dX1_fence_15 (by decide) rfl ?_
        refine pl_aloadN (pc := 17) dX1_fence_17 rfl ?_
        refine pj_ifnonnullN (pc := 19) dX1_fence_19 ?_
        refine pj_iconst (pc := 22) (v := (-1)) dX1_fence_22 (by rfl) ?_
        refine pj_iret (pc := 23) dX1_fence_23 rfl ?_
        exact CQ.ok (τ := ρ) (by first | (simp only [p_fence, hs9, ← hs0, hap_p, g_p, hap_c, g_c, cF, ↓reduceIte]; first | done | rfl) | (simp [p_fence, hs9, ← hs0, hap_p, g_p, hap_c, g_c, cF, Int32.not_lt, Int32.not_le]; first | done | rfl)) h00 ⟨_, h, t⟩
set_option maxHeartbeats 600000 in
theorem x_X1_hasAcre {g : GP} {μ : Mem} {d : Nat} {P : Nat → Prop} {F : Mem} {A : XA} {S : Nat → Nat → Nat} {b : XS} {σ : MS} {e : XE}(hd : 3 ≤ d) (h : SX g P F A 0 S b σ e μ) {p dr : Nat} (hp : p < S 4 0) (hdr : row σ 2131 = nI dr) (hDR : dr ≤ 12) : PM g yX1_hasAcre (ws_ yX1_hasAcre cX1_hasAcre 3 (some .boolean)) d 0 0 [.ref (A 0 0 0), .ref (A 35 0 p)] μ (rQ (some (.int (bI (acreV σ dr (nI p))))) μ) := by
  refine PM.of (by decide +kernel) (Nat.le_of_ble_eq_true rfl) ?_
  refine PJ.ok (fun G => ?_)
  show PJ g _ _ _ _ d 0 0 0 [(0, .ref (A 0 0 0)), (1, .ref (A 35 0 p))] [] _ _
  have hS4 := h.hz.2.1
  refine pl_iconst (pc := 0) (v := 0) dX1_hasAcre_0 (by rfl) ?_
  refine pj_istore_n (pc := 1) (lv' := [(2, _), (0, _), (1, _)]) dX1_hasAcre_1 rfl (by decide) rfl ?_
  refine PJ.sub [0, 2, 1] rfl ?_
  refine ind_dn (n := dr) (P := fun i => ∀ M9, μ = M9 → anyN (fun k => decide (row σ (2080 + k) = nI p)) i = false → PJ g _ _ _ _ d 0 0 2 [(2, .int (nI i)), (1, .ref (A 35 0 p)), (0, .ref (A 0 0 0))] [] M9 _) (fun i hi ih M9 e9 hs => ?_) 0 (Nat.zero_le _) _ rfl rfl
  subst e9
  refine pl_iload_n (pc := 2) dX1_hasAcre_2 rfl rfl ?_
  refine pl_aload_n (pc := 3) dX1_hasAcre_3 rfl rfl ?_
  refine pj_getf (pc := 4) ckX1 0 q853 dX1_hasAcre_4 (by decide) (h.r0) rfl ?_
  refine pj_getfN (pc := 7) ckX2 8 q740 dX1_hasAcre_7 (by decide) (h.r1) rfl ?_
  refine PJ.top (y := nI dr) hdr ?_
  refine pl_icmp_ge (pc := 10) (tgt := 37) dX1_hasAcre_10 (by decide) (by omega) (by omega) (fun c10 => ?_) (fun c10 => ?_)
  · refine pl_iconst (pc := 37) (v := 0) dX1_hasAcre_37 (by rfl) ?_
    refine pj_zret (pc := 38) .boolean dX1_hasAcre_38 rfl (by rfl) ?_
    have ei : i = dr := by omega
    subst ei
    exact ⟨vB0 hs, rfl⟩
  · refine pl_aload_n (pc := 13) dX1_hasAcre_13 rfl rfl ?_
    refine pj_getf (pc := 14) ckX1 0 q853 dX1_hasAcre_14 (by decide) (h.r0) rfl ?_
    refine pj_getfN (pc := 17) ckX2 25 q771 dX1_hasAcre_17 (by decide) (h.r1) rfl ?_
    refine pl_iload_n (pc := 20) dX1_hasAcre_20 rfl rfl ?_
    refine pl_iald (pc := 21) (n := 12) dX1_hasAcre_21 (h.r25) (by omega) (by decide) ?_
    refine PJ.top (h.v25 (by omega)) ?_
    refine pl_aload_n (pc := 22) dX1_hasAcre_22 rfl rfl ?_
    refine pj_getfN (pc := 23) ckX10 0 q1066 dX1_hasAcre_23 (by decide) (h.r35 hp) rfl ?_
    refine pj_icmp_ne (pc := 26) (tgt := 31) dX1_hasAcre_26 (by decide) (fun c26 => ?_) (fun c26 => ?_)
    · refine pl_iinc1 (pc := 31) (lv' := [(2, _), (1, _), (0, _)]) dX1_hasAcre_31 rfl rfl (by decide) rfl ?_
      refine pj_goto (pc := 34) (tgt := 2) dX1_hasAcre_34 (by decide) ?_
      exact ih (by omega) _ rfl (anyN_up hs (decide_eq_false c26))
    · refine pl_iconst (pc := 29) (v := 1) dX1_hasAcre_29 (by rfl) ?_
      refine pj_zret (pc := 30) .boolean dX1_hasAcre_30 rfl (by rfl) ?_
      exact ⟨vB1 (anyN_hit (i := i) (by omega) (decide_eq_true c26)), rfl⟩
set_option maxHeartbeats 600000 in
theorem x_X1_vote {g : GP} {μ : Mem} {d : Nat} {P : Nat → Prop} {F : Mem} {A : XA} {S : Nat → Nat → Nat} {b : XS} {σ : MS} {nor nw : Nat} (s : SB g P F A 0 S b σ nw μ) (iv : IvG σ (S 4 0) (S 8 0) (S 10 0) (S 6 0) nor nw) (rs : RsX σ) {dr : Nat} (hdr : row σ 2131 = nI dr) (hDR : dr ≤ 12) (hd : 9 ≤ d) {l : Int32} {p : Int32} {u : Bool} : PM g yX1_vote (ws_ yX1_vote cX1_vote 6 (some .int)) d 1 6 [.ref (A 0 0 0), .int l, .int p, .int (bI u)] μ (CQ ["java/lang/IndexOutOfBoundsException"] (p_vote σ (S 8 0) (S 4 0) dr l p u) (fun τ M => SB g P F A 0 S b τ nw M)) := by
  refine PM.of (by decide +kernel) (Nat.le_of_ble_eq_true rfl) ?_
  refine PJ.ok (fun G => ?_)
  show PJ g _ _ _ _ d 1 6 0 [(0, .ref (A 0 0 0)), (1, .int l), (2, .int p), (3, .int (bI u))] [] _ _
  obtain ⟨ρ, hs0⟩ : ∃ ρ, ρ = sF σ 0 (nI 0) := ⟨_, rfl⟩
  have hs9 : s0 σ = ρ := hs0.symm
  have s1 := s.F0 (x := nI 0)
  rw [← hs0] at s1
  obtain ⟨e, h, t⟩ := s1
  have iv1 : IvG ρ (S 4 0) (S 8 0) (S 10 0) (S 6 0) nor nw := by rw [hs0]; exact iv.f0
  have rs1 : RsX ρ := by rw [hs0]; exact rs
  have h00 : ρ.1 0 = nI 0 := by rw [hs0]; rfl
  have hS4 := h.hz.2.1
  have hS6 := h.hz.2.2.1
  have hS8 := h.hz.2.2.2.1
  have hS10 := h.hz.2.2.2.2.1
  have hdr1 : row ρ 2131 = nI dr := by rw [hs0]; exact hdr
  cases hap_l : inN l (S 8 0) with
  | false =>
    refine pl_aload_n (pc := 0) dX1_vote_0 rfl rfl ?_
    refine pl_iload_n (pc := 1) dX1_vote_1 rfl rfl ?_
    refine pl_callVX (pc := 2) (As := [_]) (C1 := 1) (N1 := 6) (C2 := 0) (N2 := 0) (E8 := "java/lang/IndexOutOfBoundsException") ckX1 mdX1_lawOf rfl q2248 q2250 qs33 q125 dX1_vote_2 rfl rfl (Nat.le_of_ble_eq_true rfl) (h.r0) (x_X1_lawOf_no (d := d - 1) (by omega) h hap_l) (by omega) (by omega) (by omega) (fun q_2 M_2 hM_2 => ?_)
    refine px_out0 rfl ?_
    exact CQ.no 0 (v := nI 0) (τ := sF ρ 0 (nI 1)) (by rw [show sF ρ 0 (nI 1) = th σ 1 by rw [hs0]]; first | (simp only [p_vote, hap_l, ↓reduceIte]; first | done | rfl) | (simp [p_vote, hap_l, Int32.not_lt, Int32.not_le]; first | done | rfl)) rfl rfl (SB.mono (SB.F0 ⟨_, h, t⟩) hM_2)
  | true =>
    obtain ⟨j_l, hj_l, rfl⟩ := inN_of (by omega) hap_l
    have g_l := tN_nI (n := j_l) (by omega)
    cases hap_p : inN p (S 4 0) with
    | false =>
      refine pl_aload_n (pc := 0) dX1_vote_0 rfl rfl ?_
      refine pl_iload_n (pc := 1) dX1_vote_1 rfl rfl ?_
      refine pl_callVd (pc := 2) (As := [_]) (C1 := 0) (N1 := 0) (C2 := 1) (N2 := 6) ckX1 mdX1_lawOf rfl q2248 q2250 qs33 q125 dX1_vote_2 rfl rfl (Nat.le_of_ble_eq_true rfl) (h.r0) (x_X1_lawOf_ok (d := d - 1) (by omega) h (by omega)) (by omega) (by omega) (by omega) ?_
      refine pj_astore (pc := 5) (lv' := [(4, _), (0, _), (1, _), (2, _), (3, _)]) dX1_vote_5 (by decide) rfl ?_
      refine pl_aload_n (pc := 7) dX1_vote_7 rfl rfl ?_
      refine pl_iload_n (pc := 8) dX1_vote_8 rfl rfl ?_
      refine pl_callVX (pc := 9) (As := [_]) (C1 := 1) (N1 := 6) (C2 := 0) (N2 := 0) (E8 := "java/lang/IndexOutOfBoundsException") ckX1 mdX1_personOf rfl q1411 q1413 qs9 q125 dX1_vote_9 rfl rfl (Nat.le_of_ble_eq_true rfl) (h.r0) (x_X1_personOf_no (d := d - 1) (by omega) h hap_p) (by omega) (by omega) (by omega) (fun q_9 M_9 hM_9 => ?_)
      refine px_out0 rfl ?_
      exact CQ.no 0 (v := nI 0) (τ := sF ρ 0 (nI 1)) (by rw [show sF ρ 0 (nI 1) = th σ 1 by rw [hs0]]; first | (simp only [p_vote, hap_l, g_l, hap_p, ↓reduceIte]; first | done | rfl) | (simp [p_vote, hap_l, g_l, hap_p, Int32.not_lt, Int32.not_le]; first | done | rfl)) rfl rfl (SB.mono (SB.F0 ⟨_, h, t⟩) hM_9)
    | true =>
      obtain ⟨j_p, hj_p, rfl⟩ := inN_of (by omega) hap_p
      have g_p := tN_nI (n := j_p) (by omega)
      refine pl_aload_n (pc := 0) dX1_vote_0 rfl rfl ?_
      refine pl_iload_n (pc := 1) dX1_vote_1 rfl rfl ?_
      refine pl_callVd (pc := 2) (As := [_]) (C1 := 0) (N1 := 0) (C2 := 1) (N2 := 6) ckX1 mdX1_lawOf rfl q2248 q2250 qs33 q125 dX1_vote_2 rfl rfl (Nat.le_of_ble_eq_true rfl) (h.r0) (x_X1_lawOf_ok (d := d - 1) (by omega) h (by omega)) (by omega) (by omega) (by omega) ?_
      refine pj_astore (pc := 5) (lv' := [(4, _), (0, _), (1, _), (2, _), (3, _)]) dX1_vote_5 (by decide) rfl ?_
      refine pl_aload_n (pc := 7) dX1_vote_7 rfl rfl ?_
      refine pl_iload_n (pc := 8) dX1_vote_8 rfl rfl ?_
      refine pl_callVd (pc := 9) (As := [_]) (C1 := 0) (N1 := 0) (C2 := 1) (N2 := 6) ckX1 mdX1_personOf rfl q1411 q1413 qs9 q125 dX1_vote_9 rfl rfl (Nat.le_of_ble_eq_true rfl) (h.r0) (x_X1_personOf_ok (d := d - 1) (by omega) h (by omega)) (by omega) (by omega) (by omega) ?_
      refine pj_astore (pc := 12) (lv' := [(5, _), (4, _), (0, _), (1, _), (2, _), (3, _)]) dX1_vote_12 (by decide) rfl ?_
      refine pl_aload (pc := 14) dX1_vote_14 rfl ?_
      refine pj_getfN (pc := 16) ckX12 1 q1499 dX1_vote_16 (by decide) (h.r38 (by omega)) rfl ?_
      refine pj_if_eq (pc := 19) (tgt := 24) dX1_vote_19 (by decide) (fun c19 => ?_) (fun c19 => ?_)
      · refine pl_aload (pc := 24) dX1_vote_24 rfl ?_
        refine pl_callVd (pc := 26) (As := []) (C1 := 0) (N1 := 0) (C2 := 1) (N2 := 6) ckX10 mdX10_isHere rfl q1591 q1192 q1193 q158 dX1_vote_26 rfl rfl (Nat.le_of_ble_eq_true rfl) (h.r35 (by omega)) (x_X10_isHere (d := d - 1) (by omega) h (by omega)) (by omega) (by omega) (by omega) ?_
        refine pl_if_eqB (pc := 29) (tgt := 49) dX1_vote_29 (by decide) (fun c29 => ?_) (fun c29 => ?_)
        · refine pj_bipush (pc := 49) (v := (-2)) dX1_vote_49 (by rfl) ?_
          refine pj_iret (pc := 51) dX1_vote_51 rfl ?_
          exact CQ.ok (τ := ρ) (by first | (simp only [p_vote, hs9, ← hs0, hap_l, g_l, hap_p, g_p, eq_true c19, c29, ↓reduceIte]; first | done | rfl) | (simp [p_vote, hs9, ← hs0, hap_l, g_l, hap_p, g_p, eq_true c19, c29, Int32.not_lt, Int32.not_le]; first | done | rfl)) h00 ⟨_, h, t⟩
        · refine pl_aload (pc := 32) dX1_vote_32 rfl ?_
          refine pj_getfN (pc := 34) ckX10 6 q1084 dX1_vote_34 (by decide) (h.r35 (by omega)) rfl ?_
          have cf9 : farmsOfC ρ (nI j_p) 96 ≤ 96 := cnt_le _ _
          refine PJ.top (y := nI (farmsOfC ρ (nI j_p) 96)) (t.farms hj_p) ?_
          refine pl_if_neN (pc := 37) (tgt := 52) dX1_vote_37 (by decide) (by omega) (fun c37 => ?_) (fun c37 => ?_)
          · have f37 : 0 < farmsOfC ρ (nI j_p) 96 := by omega
            refine pl_aload (pc := 52) dX1_vote_52 rfl ?_
            refine pj_getfN (pc := 54) ckX12 8 q1513 dX1_vote_54 (by decide) (h.r38 (by omega)) rfl ?_
            refine pl_iload_n (pc := 57) dX1_vote_57 rfl rfl ?_
            refine pl_zald (pc := 58) (n := 100) dX1_vote_58 (h.r39 (by omega)) (by omega) (by decide) ?_
            refine PJ.top (h.v39 (by omega) (by omega)) ?_
            refine PJ.top (y := ρ.2.1 12 (100 * j_l + j_p)) (rfl) ?_
            refine pj_if_eq (pc := 59) (tgt := 65) dX1_vote_59 (by decide) (fun c59 => ?_) (fun c59 => ?_)
            · refine pl_aload (pc := 65) dX1_vote_65 rfl ?_
              refine pj_getfN (pc := 67) ckX12 8 q1513 dX1_vote_67 (by decide) (h.r38 (by omega)) rfl ?_
              refine pl_iload_n (pc := 70) dX1_vote_70 rfl rfl ?_
              refine pl_iconst (pc := 71) (v := 1) dX1_vote_71 (by rfl) ?_
              refine pl_zast (pc := 72) (n := 100) dX1_vote_72 (h.r39 (by omega)) (by omega) (by decide) ?_
              refine sxk (h.p39 (by omega) (by omega) (v := nI 1)) (fun My1 y1 => ?_)
              refine pl_iload_n (pc := 73) dX1_vote_73 rfl rfl ?_
              refine pl_if_eqB (pc := 74) (tgt := 91) dX1_vote_74 (by decide) (fun c74 => ?_) (fun c74 => ?_)
              · refine pl_aload (pc := 91) dX1_vote_91 rfl ?_
                refine pj_dup (pc := 93) dX1_vote_93 rfl ?_
                refine pj_getfN (pc := 94) ckX12 6 q1508 dX1_vote_94 (by decide) (y1.r38 (by omega)) rfl ?_
                refine pl_iconst (pc := 97) (v := 1) dX1_vote_97 (by rfl) ?_
                refine pj_iadd (pc := 98) dX1_vote_98 ?_
                refine pj_putfN (pc := 99) ckX12 6 q1508 dX1_vote_99 (by decide) rfl (y1.r38 (by omega)) rfl rfl (Nat.le_of_ble_eq_true rfl) ?_
                refine sxk (y1.p38_6 (by omega)) (fun My2 y2 => ?_)
                refine pl_iload_n (pc := 102) dX1_vote_102 rfl rfl ?_
                refine PJ.top (y := nI 0) (by rw [c74]; rfl) ?_
                refine pj_if_eq (pc := 103) (tgt := 114) dX1_vote_103 (by decide) (fun _ => ?_) (fun h => absurd h (by decide))
                refine pl_aload (pc := 114) dX1_vote_114 rfl ?_
                refine pj_getfN (pc := 116) ckX12 6 q1508 dX1_vote_116 (by decide) (y2.r38 (by omega)) rfl ?_
                refine pj_iret (pc := 119) dX1_vote_119 rfl ?_
                have g8 : SX g P F A 0 S b (sR (wA ρ 12 (100 * j_l + j_p) (nI 1)) (1568 + 6 * j_l + 2) (row (wA ρ 12 (100 * j_l + j_p) (nI 1)) (1568 + 6 * j_l + 2) + nI 1)) e _ := y2
                exact CQ.ok (τ := (sR (wA ρ 12 (100 * j_l + j_p) (nI 1)) (1568 + 6 * j_l + 2) (row (wA ρ 12 (100 * j_l + j_p) (nI 1)) (1568 + 6 * j_l + 2) + nI 1))) (by first | (simp only [p_vote, hs9, ← hs0, hap_l, g_l, hap_p, g_p, eq_true c19, c29, c37, f37, eq_true c59, c74, ↓reduceIte]; first | done | rfl) | (simp [p_vote, hs9, ← hs0, hap_l, g_l, hap_p, g_p, eq_true c19, c29, c37, f37, eq_true c59, c74, Int32.not_lt, Int32.not_le]; first | done | rfl)) (by exact h00) ⟨_, g8, t.cg9 g8.hz (fun j hj => (rowS_ne (fun z9 => hj (by unfold fr9; omega))).trans rfl) (by simp [sA]) (by simp [sA]) (by simp [sA]) rfl rfl⟩
              · refine pl_aload (pc := 77) dX1_vote_77 rfl ?_
                refine pj_dup (pc := 79) dX1_vote_79 rfl ?_
                refine pj_getfN (pc := 80) ckX12 5 q1507 dX1_vote_80 (by decide) (y1.r38 (by omega)) rfl ?_
                refine pl_iconst (pc := 83) (v := 1) dX1_vote_83 (by rfl) ?_
                refine pj_iadd (pc := 84) dX1_vote_84 ?_
                refine pj_putfN (pc := 85) ckX12 5 q1507 dX1_vote_85 (by decide) rfl (y1.r38 (by omega)) rfl rfl (Nat.le_of_ble_eq_true rfl) ?_
                refine sxk (y1.p38_5 (by omega)) (fun My3 y3 => ?_)
                refine pj_goto (pc := 88) (tgt := 102) dX1_vote_88 (by decide) ?_
                refine pl_iload_n (pc := 102) dX1_vote_102 rfl rfl ?_
                refine PJ.top (y := nI 1) (by rw [c74]; rfl) ?_
                refine pj_if_eq (pc := 103) (tgt := 114) dX1_vote_103 (by decide) (fun h => absurd h (by decide)) (fun _ => ?_)
                refine pl_aload (pc := 106) dX1_vote_106 rfl ?_
                refine pj_getfN (pc := 108) ckX12 5 q1507 dX1_vote_108 (by decide) (y3.r38 (by omega)) rfl ?_
                refine pj_goto (pc := 111) (tgt := 119) dX1_vote_111 (by decide) ?_
                refine pj_iret (pc := 119) dX1_vote_119 rfl ?_
                have g8 : SX g P F A 0 S b (sR (wA ρ 12 (100 * j_l + j_p) (nI 1)) (1568 + 6 * j_l + 1) (row (wA ρ 12 (100 * j_l + j_p) (nI 1)) (1568 + 6 * j_l + 1) + nI 1)) e _ := y3
                exact CQ.ok (τ := (sR (wA ρ 12 (100 * j_l + j_p) (nI 1)) (1568 + 6 * j_l + 1) (row (wA ρ 12 (100 * j_l + j_p) (nI 1)) (1568 + 6 * j_l + 1) + nI 1))) (by first | (simp only [p_vote, hs9, ← hs0, hap_l, g_l, hap_p, g_p, eq_true c19, c29, c37, f37, eq_true c59, c74, ↓reduceIte]; first | done | rfl) | (simp [p_vote, hs9, ← hs0, hap_l, g_l, hap_p, g_p, eq_true c19, c29, c37, f37, eq_true c59, c74, Int32.not_lt, Int32.not_le]; first | done | rfl)) (by exact h00) ⟨_, g8, t.cg9 g8.hz (fun j hj => (rowS_ne (fun z9 => hj (by unfold fr9; omega))).trans rfl) (by simp [sA]) (by simp [sA]) (by simp [sA]) rfl rfl⟩
            · refine pj_bipush (pc := 62) (v := (-3)) dX1_vote_62 (by rfl) ?_
              refine pj_iret (pc := 64) dX1_vote_64 rfl ?_
              exact CQ.ok (τ := ρ) (by first | (simp only [p_vote, hs9, ← hs0, hap_l, g_l, hap_p, g_p, eq_true c19, c29, c37, f37, c59, ↓reduceIte]; first | done | rfl) | (simp [p_vote, hs9, ← hs0, hap_l, g_l, hap_p, g_p, eq_true c19, c29, c37, f37, c59, Int32.not_lt, Int32.not_le]; first | done | rfl)) h00 ⟨_, h, t⟩
          · have f37 : ¬ 0 < farmsOfC ρ (nI j_p) 96 := by omega
            refine pl_aload_n (pc := 40) dX1_vote_40 rfl rfl ?_
            refine pl_aload (pc := 41) dX1_vote_41 rfl ?_
            refine pl_callVd (pc := 43) (As := [_]) (C1 := 0) (N1 := 0) (C2 := 1) (N2 := 6) ckX1 mdX1_hasAcre rfl q1592 q1594 qs12 q125 dX1_vote_43 rfl rfl (Nat.le_of_ble_eq_true rfl) (h.r0) (x_X1_hasAcre (d := d - 1) (by omega) h hj_p hdr1 hDR) (by omega) (by omega) (by omega) ?_
            refine pl_if_neB (pc := 46) (tgt := 52) dX1_vote_46 (by decide) (fun c46 => ?_) (fun c46 => ?_)
            · refine pl_aload (pc := 52) dX1_vote_52 rfl ?_
              refine pj_getfN (pc := 54) ckX12 8 q1513 dX1_vote_54 (by decide) (h.r38 (by omega)) rfl ?_
              refine pl_iload_n (pc := 57) dX1_vote_57 rfl rfl ?_
              refine pl_zald (pc := 58) (n := 100) dX1_vote_58 (h.r39 (by omega)) (by omega) (by decide) ?_
              refine PJ.top (h.v39 (by omega) (by omega)) ?_
              refine PJ.top (y := ρ.2.1 12 (100 * j_l + j_p)) (rfl) ?_
              refine pj_if_eq (pc := 59) (tgt := 65) dX1_vote_59 (by decide) (fun c59 => ?_) (fun c59 => ?_)
              · refine pl_aload (pc := 65) dX1_vote_65 rfl ?_
                refine pj_getfN (pc := 67) ckX12 8 q1513 dX1_vote_67 (by decide) (h.r38 (by omega)) rfl ?_
                refine pl_iload_n (pc := 70) dX1_vote_70 rfl rfl ?_
                refine pl_iconst (pc := 71) (v := 1) dX1_vote_71 (by rfl) ?_
                refine pl_zast (pc := 72) (n := 100) dX1_vote_72 (h.r39 (by omega)) (by omega) (by decide) ?_
                refine sxk (h.p39 (by omega) (by omega) (v := nI 1)) (fun My4 y4 => ?_)
                refine pl_iload_n (pc := 73) dX1_vote_73 rfl rfl ?_
                refine pl_if_eqB (pc := 74) (tgt := 91) dX1_vote_74 (by decide) (fun c74 => ?_) (fun c74 => ?_)
                · refine pl_aload (pc := 91) dX1_vote_91 rfl ?_
                  refine pj_dup (pc := 93) dX1_vote_93 rfl ?_
                  refine pj_getfN (pc := 94) ckX12 6 q1508 dX1_vote_94 (by decide) (y4.r38 (by omega)) rfl ?_
                  refine pl_iconst (pc := 97) (v := 1) dX1_vote_97 (by rfl) ?_
                  refine pj_iadd (pc := 98) dX1_vote_98 ?_
                  refine pj_putfN (pc := 99) ckX12 6 q1508 dX1_vote_99 (by decide) rfl (y4.r38 (by omega)) rfl rfl (Nat.le_of_ble_eq_true rfl) ?_
                  refine sxk (y4.p38_6 (by omega)) (fun My5 y5 => ?_)
                  refine pl_iload_n (pc := 102) dX1_vote_102 rfl rfl ?_
                  refine PJ.top (y := nI 0) (by rw [c74]; rfl) ?_
                  refine pj_if_eq (pc := 103) (tgt := 114) dX1_vote_103 (by decide) (fun _ => ?_) (fun h => absurd h (by decide))
                  refine pl_aload (pc := 114) dX1_vote_114 rfl ?_
                  refine pj_getfN (pc := 116) ckX12 6 q1508 dX1_vote_116 (by decide) (y5.r38 (by omega)) rfl ?_
                  refine pj_iret (pc := 119) dX1_vote_119 rfl ?_
                  have g8 : SX g P F A 0 S b (sR (wA ρ 12 (100 * j_l + j_p) (nI 1)) (1568 + 6 * j_l + 2) (row (wA ρ 12 (100 * j_l + j_p) (nI 1)) (1568 + 6 * j_l + 2) + nI 1)) e _ := y5
                  exact CQ.ok (τ := (sR (wA ρ 12 (100 * j_l + j_p) (nI 1)) (1568 + 6 * j_l + 2) (row (wA ρ 12 (100 * j_l + j_p) (nI 1)) (1568 + 6 * j_l + 2) + nI 1))) (by first | (simp only [p_vote, hs9, ← hs0, hap_l, g_l, hap_p, g_p, eq_true c19, c29, eq_true c37, f37, c46, eq_true c59, c74, ↓reduceIte]; first | done | rfl) | (simp [p_vote, hs9, ← hs0, hap_l, g_l, hap_p, g_p, eq_true c19, c29, eq_true c37, f37, c46, eq_true c59, c74, Int32.not_lt, Int32.not_le]; first | done | rfl)) (by exact h00) ⟨_, g8, t.cg9 g8.hz (fun j hj => (rowS_ne (fun z9 => hj (by unfold fr9; omega))).trans rfl) (by simp [sA]) (by simp [sA]) (by simp [sA]) rfl rfl⟩
                · refine pl_aload (pc := 77) dX1_vote_77 rfl ?_
                  refine pj_dup (pc := 79) dX1_vote_79 rfl ?_
                  refine pj_getfN (pc := 80) ckX12 5 q1507 dX1_vote_80 (by decide) (y4.r38 (by omega)) rfl ?_
                  refine pl_iconst (pc := 83) (v := 1) dX1_vote_83 (by rfl) ?_
                  refine pj_iadd (pc := 84) dX1_vote_84 ?_
                  refine pj_putfN (pc := 85) ckX12 5 q1507 dX1_vote_85 (by decide) rfl (y4.r38 (by omega)) rfl rfl (Nat.le_of_ble_eq_true rfl) ?_
                  refine sxk (y4.p38_5 (by omega)) (fun My6 y6 => ?_)
                  refine pj_goto (pc := 88) (tgt := 102) dX1_vote_88 (by decide) ?_
                  refine pl_iload_n (pc := 102) dX1_vote_102 rfl rfl ?_
                  refine PJ.top (y := nI 1) (by rw [c74]; rfl) ?_
                  refine pj_if_eq (pc := 103) (tgt := 114) dX1_vote_103 (by decide) (fun h => absurd h (by decide)) (fun _ => ?_)
                  refine pl_aload (pc := 106) dX1_vote_106 rfl ?_
                  refine pj_getfN (pc := 108) ckX12 5 q1507 dX1_vote_108 (by decide) (y6.r38 (by omega)) rfl ?_
                  refine pj_goto (pc := 111) (tgt := 119) dX1_vote_111 (by decide) ?_
                  refine pj_iret (pc := 119) dX1_vote_119 rfl ?_
                  have g8 : SX g P F A 0 S b (sR (wA ρ 12 (100 * j_l + j_p) (nI 1)) (1568 + 6 * j_l + 1) (row (wA ρ 12 (100 * j_l + j_p) (nI 1)) (1568 + 6 * j_l + 1) + nI 1)) e _ := y6
                  exact CQ.ok (τ := (sR (wA ρ 12 (100 * j_l + j_p) (nI 1)) (1568 + 6 * j_l + 1) (row (wA ρ 12 (100 * j_l + j_p) (nI 1)) (1568 + 6 * j_l + 1) + nI 1))) (by first | (simp only [p_vote, hs9, ← hs0, hap_l, g_l, hap_p, g_p, eq_true c19, c29, eq_true c37, f37, c46, eq_true c59, c74, ↓reduceIte]; first | done | rfl) | (simp [p_vote, hs9, ← hs0, hap_l, g_l, hap_p, g_p, eq_true c19, c29, eq_true c37, f37, c46, eq_true c59, c74, Int32.not_lt, Int32.not_le]; first | done | rfl)) (by exact h00) ⟨_, g8, t.cg9 g8.hz (fun j hj => (rowS_ne (fun z9 => hj (by unfold fr9; omega))).trans rfl) (by simp [sA]) (by simp [sA]) (by simp [sA]) rfl rfl⟩
              · refine pj_bipush (pc := 62) (v := (-3)) dX1_vote_62 (by rfl) ?_
                refine pj_iret (pc := 64) dX1_vote_64 rfl ?_
                exact CQ.ok (τ := ρ) (by first | (simp only [p_vote, hs9, ← hs0, hap_l, g_l, hap_p, g_p, eq_true c19, c29, eq_true c37, f37, c46, c59, ↓reduceIte]; first | done | rfl) | (simp [p_vote, hs9, ← hs0, hap_l, g_l, hap_p, g_p, eq_true c19, c29, eq_true c37, f37, c46, c59, Int32.not_lt, Int32.not_le]; first | done | rfl)) h00 ⟨_, h, t⟩
            · refine pj_bipush (pc := 49) (v := (-2)) dX1_vote_49 (by rfl) ?_
              refine pj_iret (pc := 51) dX1_vote_51 rfl ?_
              exact CQ.ok (τ := ρ) (by first | (simp only [p_vote, hs9, ← hs0, hap_l, g_l, hap_p, g_p, eq_true c19, c29, eq_true c37, f37, c46, ↓reduceIte]; first | done | rfl) | (simp [p_vote, hs9, ← hs0, hap_l, g_l, hap_p, g_p, eq_true c19, c29, eq_true c37, f37, c46, Int32.not_lt, Int32.not_le]; first | done | rfl)) h00 ⟨_, h, t⟩
      · refine pj_iconst (pc := 22) (v := (-1)) dX1_vote_22 (by rfl) ?_
        refine pj_iret (pc := 23) dX1_vote_23 rfl ?_
        exact CQ.ok (τ := ρ) (by first | (simp only [p_vote, hs9, ← hs0, hap_l, g_l, hap_p, g_p, c19, ↓reduceIte]; first | done | rfl) | (simp [p_vote, hs9, ← hs0, hap_l, g_l, hap_p, g_p, c19, Int32.not_lt, Int32.not_le]; first | done | rfl)) h00 ⟨_, h, t⟩
section LW2
variable {w : Nat} {S : Nat → Nat → Nat} {σ τ : MS} {e e1 : XE} {nw l : Nat}
theorem tie_law2 (t : TieX w S σ e nw) (hz : SzX w S) (hl : l < S 8 w) (hr : ∀ j, ¬ fr0 j → j ≠ 1568 + 6 * l + 0 → j ≠ 1568 + 6 * l + 3 → row τ j = row σ j) (hh : HiX τ e1 nw l) (h4 : ∀ k, k ≠ l → e1 4 k = e 4 k) (h5 : ∀ k, k ≠ l → e1 5 k = e 5 k) (ho : ∀ a, a ≠ 4 → a ≠ 5 → e1 a = e a) (a3 : τ.2.1 3 = σ.2.1 3) (a4 : τ.2.1 4 = σ.2.1 4) (a14 : τ.2.1 14 = σ.2.1 14) (h23 : τ.1 23 = σ.1 23) (h24 : τ.1 24 = σ.1 24) : TieX w S τ e1 nw := by
  have z1 := hz.2.1
  have z6 := hz.2.2.1
  have z8 := hz.2.2.2.1
  have z10 := hz.2.2.2.2.1
  have s0 : ∀ j c, c < 96 → (j = 0 ∨ j = 1 ∨ j = 2 ∨ j = 3 ∨ j = 4 ∨ j = 5 ∨ j = 7) → sec τ c j = sec σ c j := fun j c hc hj => hr _ (fun z => by have := fr0_sec (c := c) (j := j) hc (by omega) z; omega) (by omega) (by omega)
  have hq : ∀ j a, a < S 4 w → (j = 1 ∨ j = 2 ∨ j = 3) → per τ a j = per σ a j := fun j a ha hj => hr _ (fun z => by have := fr0_per (p := a) (by omega) (by omega) z; omega) (by omega) (by omega)
  have lw : ∀ k j, k < S 8 w → j < 6 → (k ≠ l ∨ (j ≠ 0 ∧ j ≠ 3)) → lawv τ k j = lawv σ k j := fun k j hk hj hne => hr _ (by unfold fr0; omega) (by omega) (by omega)
  have bw : ∀ k j, k < S 10 w → j < 4 → row τ (1640 + 4 * k + j) = row σ (1640 + 4 * k + j) := fun k j hk hj => hr _ (by unfold fr0; omega) (by omega) (by omega)
  have qw : ∀ a j, a < S 6 w → j < 15 → row τ (1720 + 15 * a + j) = row σ (1720 + 15 * a + j) := fun a j ha hj => hr _ (by unfold fr0; omega) (by omega) (by omega)
  refine ⟨tHa_cg t (fun a ha => hq 2 a ha (by decide)) (fun a ha => hq 3 a ha (by decide)) (fun _ _ => by rw [ho 0 (by decide) (by decide)]), tFa_cg t (fun c hc => s0 0 c hc (by decide)) (fun c hc => s0 1 c hc (by decide)) (fun _ _ => by rw [ho 1 (by decide) (by decide)]), tMi_cg t (fun c hc => s0 0 c hc (by decide)) (fun c hc => s0 7 c hc (by decide)) a3 a4 (fun _ _ => by rw [ho 2 (by decide) (by decide)]), tEn_cg t (fun c hc => s0 0 c hc (by decide)) (fun c hc => s0 2 c hc (by decide)) (fun _ _ => by rw [ho 3 (by decide) (by decide)]), tSa_cg t (fun k hk => lw k 4 hk (by decide) (Or.inr (by decide))) (fun k hk => lw k 5 hk (by decide) (Or.inr (by decide))) (fun _ _ => by rw [ho 6 (by decide) (by decide)]) (fun _ _ => by rw [ho 15 (by decide) (by decide)]), tDu_cg t (fun k hk => bw k 2 hk (by decide)) (fun k hk => bw k 3 hk (by decide)) (fun _ _ => by rw [ho 16 (by decide) (by decide)]), tQu_cg t qw (fun a _ _ _ => by rw [ho (10 + a) (by omega) (by omega)]), tBo_cg t (fun a ha => hq 2 a ha (by decide)) (fun a ha => hq 3 a ha (by decide)), tOw_cg t (fun c hc => s0 0 c hc (by decide)) (fun c hc => s0 1 c hc (by decide)) (fun p hp z => (hq 2 p hp (by decide)).trans z) (fun c hc => s0 3 c hc (by decide)) (fun c hc => s0 4 c hc (by decide)) (fun c hc => s0 5 c hc (by decide)) a3, fun k hk => ?_, tRo_cg t (fun j _ => by rw [a14]) (fun _ _ => by rw [ho 7 (by decide) (by decide)]), tCo_cg t (fun a ha => hq 1 a ha (by decide)), tTr_cg t h23 h24, ?_, tGh_cg t (fun a ha => qw a 0 ha (by decide)) (fun k hk => bw k 0 hk (by decide)) (fun _ _ => by rw [ho 16 (by decide) (by decide)])⟩
  · by_cases ek : k = l
    · subst ek; exact hh
    · have := t.hist hk
      unfold HiX at this ⊢
      rw [lw k 0 hk (by decide) (Or.inl ek), lw k 3 hk (by decide) (Or.inl ek), h4 k ek, h5 k ek, a14]
      exact this
  · refine ⟨fun a ha => ?_, fun a ha => ?_⟩
    · obtain ⟨m, m1, m2, m3⟩ := t.ivd.1 a ha
      refine ⟨m, by rw [a3, a4]; exact m1, m2, fun z => ?_⟩
      rw [s0 0 a ha (by decide)] at z
      rw [s0 7 a ha (by decide)]
      exact m3 z
    · rw [qw a 0 ha (by decide)]
      exact t.ivd.2 a ha
/-- a law stands from now on -/
theorem hi_stands (h : HiX σ e nw l) (h2 : lawv σ l 0 = nI 0) (r0 : lawv τ l 0 = nI 2) (r3 : lawv τ l 3 = nI nw) (a14 : τ.2.1 14 = σ.2.1 14) (hn : nw < 2000) : HiX τ (uE e 4 l (nI nw)) nw l := by
  obtain ⟨-, c2, -, c4, -, c6⟩ := h
  have e4 : uE e 4 l (nI nw) 4 l = nI nw := uE_eq
  have e5 : uE e 4 l (nI nw) 5 l = e 5 l := uE_ne (fun z => absurd z.1 (by decide))
  have o4 := c2 (Or.inl h2)
  have o5 := c4 (by rw [h2]; decide)
  refine ⟨Or.inr (Or.inr (Or.inl r0)), fun z => ?_, fun _ => ⟨e4.trans r3.symm, nw, Nat.le_refl _, r3⟩, fun _ => e5.trans o5, fun z => ?_, fun k hk => ?_⟩
  · rw [r0] at z
    rcases z with z | z <;> exact absurd z (by decide)
  · rw [r0] at z
    exact absurd z (by decide)
  · rw [a14, e4, e5, c6 k hk, o4, o5]
    have q1 : nI k < nI nw := (nI_ltI (by omega) (by omega)).mpr hk
    unfold WasB
    simp [q1]
/-- a law has failed -/
theorem hi_fails (h : HiX σ e nw l) (h2 : lawv σ l 0 = nI 0) (r0 : lawv τ l 0 = nI 1) (a14 : τ.2.1 14 = σ.2.1 14) : HiX τ e nw l := by
  obtain ⟨-, c2, -, c4, -, c6⟩ := h
  refine ⟨Or.inr (Or.inl r0), fun _ => c2 (Or.inl h2), fun z => ?_, fun _ => c4 (by rw [h2]; decide), fun z => ?_, fun k hk => ?_⟩
  · rw [r0] at z
    rcases z with z | z | z <;> exact absurd z (by decide)
  · rw [r0] at z
    exact absurd z (by decide)
  · rw [a14]
    exact c6 k hk
end LW2
theorem close_sA13 {σ : MS} {l : Nat} {v : Int32} {f : Nat → Int32} : closeS (sA σ 13 f) l v = sA (closeS σ l v) 13 f := by
  simp only [closeS, sR_sA13, rowP]
section CL
variable {g : GP} {P : Nat → Prop} {F : Mem} {A : XA} {w : Nat} {S : Nat → Nat → Nat} {b : XS} {σ : MS} {e : XE} {M : Mem} {nw l : Nat} {v : Int32}
theorem close_row {j : Nat} : row (closeS σ l v) j = if j = 1568 + 6 * l + 3 then row σ 2116 else if j = 1568 + 6 * l + 0 then v else row σ j := by
  unfold closeS
  dsimp only
  rw [rowS_if, rowS_if, rowS_if]
  by_cases h3 : j = 1568 + 6 * l + 3
  · rw [if_pos h3, if_pos h3]
    by_cases h6 : 2116 = 1568 + 6 * l + 0
    · omega
    · rw [if_neg h6]
  · rw [if_neg h3, if_neg h3]
theorem fails_tie (y : SX g P F A w S b (wA σ 1 (1568 + 6 * l + 0) (nI 1)) e M) (t : TieX w S σ e nw) (hl : l < S 8 w) (h0 : lawv σ l 0 = nI 0) : SB g P F A w S b (closeS σ l (nI 1)) nw M := by
  have on : OnR σ (closeS σ l (nI 1)) := OnR.rf.R.R
  refine ⟨e, y.onR (fun j hj => ?_) (OnR.rf.R.sy.tr on), tie_law2 t y.hz hl (fun j _ h0 h3 => by rw [close_row, if_neg h3, if_neg h0]) (hi_fails (t.hist hl) h0 (by show row _ _ = _; rw [close_row, if_neg (by omega), if_pos rfl]) on.2.2.2) (fun _ _ => rfl) (fun _ _ => rfl) (fun _ _ _ => rfl) (on.1 3 (by decide) (by decide) (by decide) (by decide)) (on.1 4 (by decide) (by decide) (by decide) (by decide)) on.2.2.2 (on.2.1 23) (on.2.1 24)⟩
  show _ = row (sR σ (1568 + 6 * l + 0) (nI 1)) j
  have hz8 := y.hz.2.2.2.1
  rw [close_row, rowS_if, if_neg (fun z => by subst z; unfold mapR at hj; omega)]
theorem stands_tie (y : SX g P F A w S b (wA σ 1 (1568 + 6 * l + 0) (nI 2)) (uE e 4 l (nI nw)) M) (t : TieX w S σ e nw) (hl : l < S 8 w) (h0 : lawv σ l 0 = nI 0) (hn : row σ 2116 = nI nw) (hnw : nw < 2000) : SB g P F A w S b (closeS σ l (nI 2)) nw M := by
  have on : OnR σ (closeS σ l (nI 2)) := OnR.rf.R.R
  refine ⟨_, y.onR (fun j hj => ?_) (OnR.rf.R.sy.tr on), tie_law2 t y.hz hl (fun j _ h0 h3 => by rw [close_row, if_neg h3, if_neg h0]) (hi_stands (t.hist hl) h0 (by show row _ _ = _; rw [close_row, if_neg (by omega), if_pos rfl]) (by show row _ _ = _; rw [close_row, if_pos rfl]; exact hn) on.2.2.2 hnw) (fun k hk => uE_ne (fun z => hk z.2)) (fun k hk => uE_ne (fun z => hk z.2)) (fun a h4 _ => by unfold uE; rw [if_neg h4]) (on.1 3 (by decide) (by decide) (by decide) (by decide)) (on.1 4 (by decide) (by decide) (by decide) (by decide)) on.2.2.2 (on.2.1 23) (on.2.1 24)⟩
  show _ = row (sR σ (1568 + 6 * l + 0) (nI 2)) j
  have hz8 := y.hz.2.2.2.1
  rw [close_row, rowS_if, if_neg (fun z => by subst z; unfold mapR at hj; omega)]
end CL
set_option maxHeartbeats 600000 in
theorem x_X1_close {g : GP} {μ : Mem} {d : Nat} {P : Nat → Prop} {F : Mem} {A : XA} {S : Nat → Nat → Nat} {b : XS} {σ : MS} {nor nw : Nat} (s : SB g P F A 0 S b σ nw μ) (iv : IvG σ (S 4 0) (S 8 0) (S 10 0) (S 6 0) nor nw) (rs : RsX σ) (hd : 330 ≤ d) {l : Int32} : PM g yX1_close (ws_ yX1_close cX1_close 4 (some .int)) d 1 6 [.ref (A 0 0 0), .int l] μ (CQ ["java/lang/IndexOutOfBoundsException"] (p_close σ (S 4 0) (S 8 0) l) (fun τ M => SB g P F A 0 S b τ nw M)) := by
  refine PM.of (by decide +kernel) (Nat.le_of_ble_eq_true rfl) ?_
  refine PJ.ok (fun G => ?_)
  show PJ g _ _ _ _ d 1 6 0 [(0, .ref (A 0 0 0)), (1, .int l)] [] _ _
  obtain ⟨ρ, hs0⟩ : ∃ ρ, ρ = sF σ 0 (nI 0) := ⟨_, rfl⟩
  have hs9 : s0 σ = ρ := hs0.symm
  have s1 := s.F0 (x := nI 0)
  rw [← hs0] at s1
  obtain ⟨e, h, t⟩ := s1
  have iv1 : IvG ρ (S 4 0) (S 8 0) (S 10 0) (S 6 0) nor nw := by rw [hs0]; exact iv.f0
  have rs1 : RsX ρ := by rw [hs0]; exact rs
  have h00 : ρ.1 0 = nI 0 := by rw [hs0]; rfl
  have hS4 := h.hz.2.1
  have hS6 := h.hz.2.2.1
  have hS8 := h.hz.2.2.2.1
  have hS10 := h.hz.2.2.2.2.1
  cases hap_l : inN l (S 8 0) with
  | false =>
    refine pl_aload_n (pc := 0) dX1_close_0 rfl rfl ?_
    refine pl_iload_n (pc := 1) dX1_close_1 rfl rfl ?_
    refine pl_callVX (pc := 2) (As := [_]) (C1 := 1) (N1 := 6) (C2 := 0) (N2 := 0) (E8 := "java/lang/IndexOutOfBoundsException") ckX1 mdX1_lawOf rfl q2248 q2250 qs33 q125 dX1_close_2 rfl rfl (Nat.le_of_ble_eq_true rfl) (h.r0) (x_X1_lawOf_no (d := d - 1) (by omega) h hap_l) (by omega) (by omega) (by omega) (fun q_2 M_2 hM_2 => ?_)
    refine px_out0 rfl ?_
    exact CQ.no 0 (v := nI 0) (τ := sF ρ 0 (nI 1)) (by rw [show sF ρ 0 (nI 1) = th σ 1 by rw [hs0]]; first | (simp only [p_close, hap_l, ↓reduceIte]; first | done | rfl) | (simp [p_close, hap_l, Int32.not_lt, Int32.not_le]; first | done | rfl)) rfl rfl (SB.mono (SB.F0 ⟨_, h, t⟩) hM_2)
  | true =>
    obtain ⟨j_l, hj_l, rfl⟩ := inN_of (by omega) hap_l
    have g_l := tN_nI (n := j_l) (by omega)
    refine pl_aload_n (pc := 0) dX1_close_0 rfl rfl ?_
    refine pl_iload_n (pc := 1) dX1_close_1 rfl rfl ?_
    refine pl_callVd (pc := 2) (As := [_]) (C1 := 0) (N1 := 0) (C2 := 1) (N2 := 6) ckX1 mdX1_lawOf rfl q2248 q2250 qs33 q125 dX1_close_2 rfl rfl (Nat.le_of_ble_eq_true rfl) (h.r0) (x_X1_lawOf_ok (d := d - 1) (by omega) h (by omega)) (by omega) (by omega) (by omega) ?_
    refine pj_astore_n (pc := 5) (lv' := [(2, _), (0, _), (1, _)]) dX1_close_5 rfl (by decide) rfl ?_
    refine pl_aload_n (pc := 6) dX1_close_6 rfl rfl ?_
    refine pj_getfN (pc := 7) ckX12 1 q1499 dX1_close_7 (by decide) (h.r38 (by omega)) rfl ?_
    refine pj_if_eq (pc := 10) (tgt := 15) dX1_close_10 (by decide) (fun c10 => ?_) (fun c10 => ?_)
    · refine pl_aload_n (pc := 15) dX1_close_15 rfl rfl ?_
      refine pj_getfN (pc := 16) ckX12 5 q1507 dX1_close_16 (by decide) (h.r38 (by omega)) rfl ?_
      refine PJ.top (y := lawv ρ j_l 1) (rfl) ?_
      refine pl_aload_n (pc := 19) dX1_close_19 rfl rfl ?_
      refine pj_getfN (pc := 20) ckX12 6 q1508 dX1_close_20 (by decide) (h.r38 (by omega)) rfl ?_
      refine PJ.top (y := lawv ρ j_l 2) (rfl) ?_
      refine pj_icmp_le (pc := 23) (tgt := 46) dX1_close_23 (by decide) (fun c23 => ?_) (fun c23 => ?_)
      · refine pl_iconst (pc := 46) (v := 0) dX1_close_46 (by rfl) ?_
        refine pj_istore_n (pc := 47) (lv' := [(3, _), (2, _), (0, _), (1, _)]) dX1_close_47 rfl (by decide) rfl ?_
        refine pl_aload_n (pc := 48) dX1_close_48 rfl rfl ?_
        refine pl_iload_n (pc := 49) dX1_close_49 rfl rfl ?_
        refine pj_if_eq (pc := 50) (tgt := 57) dX1_close_50 (by decide) (fun _ => ?_) (fun h => absurd h (by decide))
        refine pl_iconst (pc := 57) (v := 1) dX1_close_57 (by rfl) ?_
        refine pj_putfN (pc := 58) ckX12 1 q1499 dX1_close_58 (by decide) rfl (h.r38 (by omega)) rfl rfl (Nat.le_of_ble_eq_true rfl) ?_
        refine sxk (h.p38_1 (by omega)) (fun My1 y1 => ?_)
        refine pl_iload_n (pc := 61) dX1_close_61 rfl rfl ?_
        refine pj_if_eq (pc := 62) (tgt := 76) dX1_close_62 (by decide) (fun _ => ?_) (fun h => absurd h (by decide))
        refine pl_aload_n (pc := 76) dX1_close_76 rfl rfl ?_
        refine pj_getfN (pc := 77) ckX12 1 q1499 dX1_close_77 (by decide) (y1.r38 (by omega)) rfl ?_
        refine PJ.top (y := nI 1) rowS_eq ?_
        refine pj_iret (pc := 80) dX1_close_80 rfl ?_
        have g9 := fails_tie y1 t hj_l c10
        exact CQ.ok (τ := closeS (ρ) j_l (nI 1)) (by first | (simp only [p_close, hs9, ← hs0, hap_l, g_l, eq_true c10, c23, ↓reduceIte]; first | done | rfl) | (simp [p_close, hs9, ← hs0, hap_l, g_l, eq_true c10, c23, Int32.not_lt, Int32.not_le]; first | done | rfl)) (by exact h00) (g9)
      · refine pl_aload_n (pc := 26) dX1_close_26 rfl rfl ?_
        refine pj_getfN (pc := 27) ckX12 5 q1507 dX1_close_27 (by decide) (h.r38 (by omega)) rfl ?_
        refine PJ.top (y := lawv ρ j_l 1) (rfl) ?_
        refine pl_aload_n (pc := 30) dX1_close_30 rfl rfl ?_
        refine pj_getf (pc := 31) ckX1 0 q853 dX1_close_31 (by decide) (h.r0) rfl ?_
        refine pl_iconst (pc := 34) (v := 5) dX1_close_34 (by rfl) ?_
        refine pl_iconst (pc := 35) (v := 0) dX1_close_35 (by rfl) ?_
        refine pl_callVWd (pc := 36) (As := [_, _]) (C1 := 0) (N1 := 0) (C2 := 1) (N2 := 6) ckX2 mdX2_means rfl q1782 q1708 q1709 q126 dX1_close_36 rfl rfl (Nat.le_of_ble_eq_true rfl) (h.r1) (x_X2_means (d := d - 1) (by omega) h (by omega) t.ht) (by omega) (by omega) (by omega) (fun My2 qy2 => ?_)
        obtain ⟨e_36, he_36, y2⟩ := qy2
        refine pj_icmp_lt (pc := 39) (tgt := 46) dX1_close_39 (by decide) (fun c39 => ?_) (fun c39 => ?_)
        · refine pl_iconst (pc := 46) (v := 0) dX1_close_46 (by rfl) ?_
          refine pj_istore_n (pc := 47) (lv' := [(3, _), (2, _), (0, _), (1, _)]) dX1_close_47 rfl (by decide) rfl ?_
          refine pl_aload_n (pc := 48) dX1_close_48 rfl rfl ?_
          refine pl_iload_n (pc := 49) dX1_close_49 rfl rfl ?_
          refine pj_if_eq (pc := 50) (tgt := 57) dX1_close_50 (by decide) (fun _ => ?_) (fun h => absurd h (by decide))
          refine pl_iconst (pc := 57) (v := 1) dX1_close_57 (by rfl) ?_
          refine pj_putfN (pc := 58) ckX12 1 q1499 dX1_close_58 (by decide) rfl (y2.r38 (by omega)) rfl rfl (Nat.le_of_ble_eq_true rfl) ?_
          refine sxk (y2.p38_1 (by omega)) (fun My3 y3 => ?_)
          refine pl_iload_n (pc := 61) dX1_close_61 rfl rfl ?_
          refine pj_if_eq (pc := 62) (tgt := 76) dX1_close_62 (by decide) (fun _ => ?_) (fun h => absurd h (by decide))
          refine pl_aload_n (pc := 76) dX1_close_76 rfl rfl ?_
          refine pj_getfN (pc := 77) ckX12 1 q1499 dX1_close_77 (by decide) (y3.r38 (by omega)) rfl ?_
          refine PJ.top (y := nI 1) rowS_eq ?_
          refine pj_iret (pc := 80) dX1_close_80 rfl ?_
          have g9 := fails_tie y3 (t.e9 he_36) hj_l c10
          exact CQ.ok (τ := closeS (sM ρ (S 4 0) (S 8 0) 5 (nI 0)) j_l (nI 1)) (by first | (simp only [p_close, hs9, ← hs0, hap_l, g_l, eq_true c10, c23, c39, ↓reduceIte]; first | done | rfl) | (simp [p_close, hs9, ← hs0, hap_l, g_l, eq_true c10, c23, c39, Int32.not_lt, Int32.not_le]; first | done | rfl)) (by exact h00) (by rw [close_sA13]; exact g9.P)
        · refine pl_iconst (pc := 42) (v := 1) dX1_close_42 (by rfl) ?_
          refine pj_goto (pc := 43) (tgt := 47) dX1_close_43 (by decide) ?_
          refine pj_istore_n (pc := 47) (lv' := [(3, _), (2, _), (0, _), (1, _)]) dX1_close_47 rfl (by decide) rfl ?_
          refine pl_aload_n (pc := 48) dX1_close_48 rfl rfl ?_
          refine pl_iload_n (pc := 49) dX1_close_49 rfl rfl ?_
          refine pj_if_eq (pc := 50) (tgt := 57) dX1_close_50 (by decide) (fun h => absurd h (by decide)) (fun _ => ?_)
          refine pl_iconst (pc := 53) (v := 2) dX1_close_53 (by rfl) ?_
          refine pj_goto (pc := 54) (tgt := 58) dX1_close_54 (by decide) ?_
          refine pj_putfN (pc := 58) ckX12 1 q1499 dX1_close_58 (by decide) rfl (y2.r38 (by omega)) rfl rfl (Nat.le_of_ble_eq_true rfl) ?_
          refine sxk (y2.p38_1 (by omega)) (fun My4 y4 => ?_)
          refine pl_iload_n (pc := 61) dX1_close_61 rfl rfl ?_
          refine pj_if_eq (pc := 62) (tgt := 76) dX1_close_62 (by decide) (fun h => absurd h (by decide)) (fun _ => ?_)
          refine pl_aload_n (pc := 65) dX1_close_65 rfl rfl ?_
          refine pl_aload_n (pc := 66) dX1_close_66 rfl rfl ?_
          refine pj_getf (pc := 67) ckX1 0 q853 dX1_close_67 (by decide) (y4.r0) rfl ?_
          refine pj_getfN (pc := 70) ckX2 0 q726 dX1_close_70 (by decide) (y4.r1) rfl ?_
          refine PJ.top (y := nI nw) (by rw [rowS_ne (by omega)]; exact iv1.hnw) ?_
          refine pj_putfN (pc := 73) ckX12 2 q1501 dX1_close_73 (by decide) rfl (y4.r38 (by omega)) rfl rfl (Nat.le_of_ble_eq_true rfl) ?_
          refine sxk (y4.p38_2 (by omega)) (fun My5 y5 => ?_)
          refine pl_aload_n (pc := 76) dX1_close_76 rfl rfl ?_
          refine pj_getfN (pc := 77) ckX12 1 q1499 dX1_close_77 (by decide) (y5.r38 (by omega)) rfl ?_
          refine PJ.top (y := nI 2) rowS_eq ?_
          refine pj_iret (pc := 80) dX1_close_80 rfl ?_
          have g9 := stands_tie y5 (t.e9 he_36) hj_l c10 iv1.hnw (by have := iv1.hNW; omega)
          exact CQ.ok (τ := closeS (sM ρ (S 4 0) (S 8 0) 5 (nI 0)) j_l (nI 2)) (by first | (simp only [p_close, hs9, ← hs0, hap_l, g_l, eq_true c10, c23, c39, ↓reduceIte]; first | done | rfl) | (simp [p_close, hs9, ← hs0, hap_l, g_l, eq_true c10, c23, c39, Int32.not_lt, Int32.not_le]; first | done | rfl)) (by exact h00) (by rw [close_sA13]; exact g9.P)
    · refine pj_iconst (pc := 13) (v := (-1)) dX1_close_13 (by rfl) ?_
      refine pj_iret (pc := 14) dX1_close_14 rfl ?_
      exact CQ.ok (τ := ρ) (by first | (simp only [p_close, hs9, ← hs0, hap_l, g_l, c10, ↓reduceIte]; first | done | rfl) | (simp [p_close, hs9, ← hs0, hap_l, g_l, c10, Int32.not_lt, Int32.not_le]; first | done | rfl)) h00 ⟨_, h, t⟩
/-- what was said of a law -/
def SdX (σ : MS) (l : Nat) : Prop := lawv σ l 4 = nI 0 ∨ ∃ k, k < 2000 ∧ lawv σ l 5 = nI k ∧ (lawv σ l 4 = nI 1 ∨ lawv σ l 4 = nI 2)
section SD
variable {g : GP} {P : Nat → Prop} {F : Mem} {A : XA} {w : Nat} {S : Nat → Nat → Nat} {b : XS} {σ τ : MS} {e e1 : XE} {M : Mem} {nw l : Nat} {v : Int32}
theorem tie_said (t : TieX w S σ e nw) (hz : SzX w S) (hl : l < S 8 w) (hr : ∀ j, j ≠ 1568 + 6 * l + 4 → j ≠ 1568 + 6 * l + 5 → row τ j = row σ j) (hs : e1 6 l = (if lawv τ l 4 = nI 0 then -1 else lawv τ l 5) ∧ e1 15 l = (if lawv τ l 4 = nI 1 then nI 1 else nI 0)) (h6 : ∀ k, k ≠ l → e1 6 k = e 6 k) (h15 : ∀ k, k ≠ l → e1 15 k = e 15 k) (ho : ∀ a, a ≠ 6 → a ≠ 15 → e1 a = e a) (a3 : τ.2.1 3 = σ.2.1 3) (a4 : τ.2.1 4 = σ.2.1 4) (a14 : τ.2.1 14 = σ.2.1 14) (h23 : τ.1 23 = σ.1 23) (h24 : τ.1 24 = σ.1 24) : TieX w S τ e1 nw := by
  have z1 := hz.2.1
  have z6 := hz.2.2.1
  have z8 := hz.2.2.2.1
  have z10 := hz.2.2.2.2.1
  have s0 : ∀ j c, c < 96 → j < 8 → sec τ c j = sec σ c j := fun j c hc hj => hr _ (by omega) (by omega)
  have hq : ∀ j a, a < S 4 w → j < 8 → per τ a j = per σ a j := fun j a ha hj => hr _ (by omega) (by omega)
  have lw : ∀ k j, k < S 8 w → j < 6 → (k ≠ l ∨ (j ≠ 4 ∧ j ≠ 5)) → lawv τ k j = lawv σ k j := fun k j hk hj hne => hr _ (by omega) (by omega)
  have bw : ∀ k j, k < S 10 w → j < 4 → row τ (1640 + 4 * k + j) = row σ (1640 + 4 * k + j) := fun k j hk hj => hr _ (by omega) (by omega)
  have qw : ∀ a j, a < S 6 w → j < 15 → row τ (1720 + 15 * a + j) = row σ (1720 + 15 * a + j) := fun a j ha hj => hr _ (by omega) (by omega)
  refine ⟨tHa_cg t (fun a ha => hq 2 a ha (by decide)) (fun a ha => hq 3 a ha (by decide)) (fun _ _ => by rw [ho 0 (by decide) (by decide)]), tFa_cg t (fun c hc => s0 0 c hc (by decide)) (fun c hc => s0 1 c hc (by decide)) (fun _ _ => by rw [ho 1 (by decide) (by decide)]), tMi_cg t (fun c hc => s0 0 c hc (by decide)) (fun c hc => s0 7 c hc (by decide)) a3 a4 (fun _ _ => by rw [ho 2 (by decide) (by decide)]), tEn_cg t (fun c hc => s0 0 c hc (by decide)) (fun c hc => s0 2 c hc (by decide)) (fun _ _ => by rw [ho 3 (by decide) (by decide)]), fun k hk => ?_, tDu_cg t (fun k hk => bw k 2 hk (by decide)) (fun k hk => bw k 3 hk (by decide)) (fun _ _ => by rw [ho 16 (by decide) (by decide)]), tQu_cg t qw (fun a _ _ hj => ?_), tBo_cg t (fun a ha => hq 2 a ha (by decide)) (fun a ha => hq 3 a ha (by decide)), tOw_cg t (fun c hc => s0 0 c hc (by decide)) (fun c hc => s0 1 c hc (by decide)) (fun p hp z => (hq 2 p hp (by decide)).trans z) (fun c hc => s0 3 c hc (by decide)) (fun c hc => s0 4 c hc (by decide)) (fun c hc => s0 5 c hc (by decide)) a3, tHi_cg t (fun k hk => lw k 0 hk (by decide) (Or.inr (by decide))) (fun k hk => lw k 3 hk (by decide) (Or.inr (by decide))) (fun j _ => by rw [a14]) (fun _ _ => by rw [ho 4 (by decide) (by decide)]) (fun _ _ => by rw [ho 5 (by decide) (by decide)]), tRo_cg t (fun j _ => by rw [a14]) (fun _ _ => by rw [ho 7 (by decide) (by decide)]), tCo_cg t (fun a ha => hq 1 a ha (by decide)), tTr_cg t h23 h24, t.ivd.cg (fun c hc => ⟨s0 0 c hc (by decide), s0 7 c hc (by decide)⟩) a3 a4 (fun a ha => qw a 0 ha (by decide)), tGh_cg t (fun a ha => qw a 0 ha (by decide)) (fun k hk => bw k 0 hk (by decide)) (fun _ _ => by rw [ho 16 (by decide) (by decide)])⟩
  · by_cases ek : k = l
    · subst ek; exact hs
    · rw [lw k 4 hk (by decide) (Or.inl ek), lw k 5 hk (by decide) (Or.inl ek), h6 k ek, h15 k ek]
      exact t.said hk
  · rw [ho (10 + a) (by omega) (by omega)]
theorem assent_tie {u : Bool} {x : Int32} (y : SX g P F A w S b σ (uE (uE e 6 l x) 15 l (bI u)) M) (t : TieX w S σ e nw) (hl : l < S 8 w) : SB g P F A w S b (sR (sR σ (1568 + 6 * l + 4) (if u = true then nI 1 else nI 2)) (1568 + 6 * l + 5) x) nw M := by
  have hz8 := y.hz.2.2.2.1
  have r4 : lawv (sR (sR σ (1568 + 6 * l + 4) (if u = true then nI 1 else nI 2)) (1568 + 6 * l + 5) x) l 4 = if u = true then nI 1 else nI 2 := (rowS_ne (by omega)).trans rowS_eq
  have r5 : lawv (sR (sR σ (1568 + 6 * l + 4) (if u = true then nI 1 else nI 2)) (1568 + 6 * l + 5) x) l 5 = x := rowS_eq
  refine ⟨_, y.onR (fun j hj => (rowS_ne (fun z => by subst z; unfold mapR at hj; omega)).trans (rowS_ne (fun z => by subst z; unfold mapR at hj; omega))) OnR.rf.R.R, tie_said t y.hz hl (fun j h4 h5 => (rowS_ne h5).trans (rowS_ne h4)) ?_ (fun k hk => ?_) (fun k hk => ?_) (fun a h6 h15 => ?_) (by simp [sA]) (by simp [sA]) (by simp [sA]) rfl rfl⟩
  · rw [r4, r5, uE_ne (by omega), uE_eq, uE_eq]
    cases u <;> exact ⟨rfl, rfl⟩
  · rw [uE_ne (by omega), uE_ne (by omega)]
  · rw [uE_ne (by omega), uE_ne (by omega)]
  · unfold uE
    rw [if_neg h15, if_neg h6]
end SD
theorem p_assent_yes {σ : MS} {nl l : Nat} {u : Bool} (hl : l < nl) (hL : nl ≤ 12) (h0 : lawv (s0 σ) l 0 = nI 2) (h3 : lawv (s0 σ) l 3 + nI 34 ≤ row (s0 σ) 2116) (h4 : lawv (s0 σ) l 4 ≤ 0) : p_assent σ nl (nI l) u = (row (s0 σ) 2116 + nI 34, sR (sR (s0 σ) (1568 + 6 * l + 4) (if u = true then nI 1 else nI 2)) (1568 + 6 * l + 5) (row (s0 σ) 2116 + nI 34)) := by
  have e1 : row (sR (s0 σ) (1568 + 6 * l + 4) (if u = true then nI 1 else nI 2)) 2116 = row (s0 σ) 2116 := rowS_ne (by omega)
  have e2 : row (sR (sR (s0 σ) (1568 + 6 * l + 4) (if u = true then nI 1 else nI 2)) (1568 + 6 * l + 5) (row (s0 σ) 2116 + nI 34)) 2116 = row (s0 σ) 2116 := (rowS_ne (by omega)).trans e1
  unfold p_assent
  rw [inN_nI hl (by omega), if_neg (by decide), tN_nI (by omega)]
  dsimp only
  rw [if_neg (fun z => z h0), if_neg (fun z => z h3), if_neg (fun z => z h4), e1, e2]
set_option maxHeartbeats 600000 in
theorem x_X1_assent {g : GP} {μ : Mem} {d : Nat} {P : Nat → Prop} {F : Mem} {A : XA} {S : Nat → Nat → Nat} {b : XS} {σ : MS} {nor nw : Nat} (s : SB g P F A 0 S b σ nw μ) (iv : IvG σ (S 4 0) (S 8 0) (S 10 0) (S 6 0) nor nw) (rs : RsX σ) (sd : ∀ l, l < S 8 0 → SdX σ l) (hd : 9 ≤ d) {l : Int32} {u : Bool} : PM g yX1_assent (ws_ yX1_assent cX1_assent 4 (some .int)) d 1 6 [.ref (A 0 0 0), .int l, .int (bI u)] μ (CQ ["java/lang/IndexOutOfBoundsException"] (p_assent σ (S 8 0) l u) (fun τ M => SB g P F A 0 S b τ nw M)) := by
  refine PM.of (by decide +kernel) (Nat.le_of_ble_eq_true rfl) ?_
  refine PJ.ok (fun G => ?_)
  show PJ g _ _ _ _ d 1 6 0 [(0, .ref (A 0 0 0)), (1, .int l), (2, .int (bI u))] [] _ _
  obtain ⟨ρ, hs0⟩ : ∃ ρ, ρ = sF σ 0 (nI 0) := ⟨_, rfl⟩
  have hs9 : s0 σ = ρ := hs0.symm
  have s1 := s.F0 (x := nI 0)
  rw [← hs0] at s1
  obtain ⟨e, h, t⟩ := s1
  have iv1 : IvG ρ (S 4 0) (S 8 0) (S 10 0) (S 6 0) nor nw := by rw [hs0]; exact iv.f0
  have rs1 : RsX ρ := by rw [hs0]; exact rs
  have h00 : ρ.1 0 = nI 0 := by rw [hs0]; rfl
  have hS4 := h.hz.2.1
  have hS6 := h.hz.2.2.1
  have hS8 := h.hz.2.2.2.1
  have hS10 := h.hz.2.2.2.2.1
  have sd1 : ∀ l, l < S 8 0 → SdX ρ l := by rw [hs0]; exact sd
  cases hap_l : inN l (S 8 0) with
  | false =>
    refine pl_aload_n (pc := 0) dX1_assent_0 rfl rfl ?_
    refine pl_iload_n (pc := 1) dX1_assent_1 rfl rfl ?_
    refine pl_callVX (pc := 2) (As := [_]) (C1 := 1) (N1 := 6) (C2 := 0) (N2 := 0) (E8 := "java/lang/IndexOutOfBoundsException") ckX1 mdX1_lawOf rfl q2248 q2250 qs33 q125 dX1_assent_2 rfl rfl (Nat.le_of_ble_eq_true rfl) (h.r0) (x_X1_lawOf_no (d := d - 1) (by omega) h hap_l) (by omega) (by omega) (by omega) (fun q_2 M_2 hM_2 => ?_)
    refine px_out0 rfl ?_
    exact CQ.no 0 (v := nI 0) (τ := sF ρ 0 (nI 1)) (by rw [show sF ρ 0 (nI 1) = th σ 1 by rw [hs0]]; first | (simp only [p_assent, hap_l, ↓reduceIte]; first | done | rfl) | (simp [p_assent, hap_l, Int32.not_lt, Int32.not_le]; first | done | rfl)) rfl rfl (SB.mono (SB.F0 ⟨_, h, t⟩) hM_2)
  | true =>
    obtain ⟨j_l, hj_l, rfl⟩ := inN_of (by omega) hap_l
    have g_l := tN_nI (n := j_l) (by omega)
    refine pl_aload_n (pc := 0) dX1_assent_0 rfl rfl ?_
    refine pl_iload_n (pc := 1) dX1_assent_1 rfl rfl ?_
    refine pl_callVd (pc := 2) (As := [_]) (C1 := 0) (N1 := 0) (C2 := 1) (N2 := 6) ckX1 mdX1_lawOf rfl q2248 q2250 qs33 q125 dX1_assent_2 rfl rfl (Nat.le_of_ble_eq_true rfl) (h.r0) (x_X1_lawOf_ok (d := d - 1) (by omega) h (by omega)) (by omega) (by omega) (by omega) ?_
    refine pj_astore_n (pc := 5) (lv' := [(3, _), (0, _), (1, _), (2, _)]) dX1_assent_5 rfl (by decide) rfl ?_
    refine pl_aload_n (pc := 6) dX1_assent_6 rfl rfl ?_
    refine pj_getfN (pc := 7) ckX12 1 q1499 dX1_assent_7 (by decide) (h.r38 (by omega)) rfl ?_
    refine pl_iconst (pc := 10) (v := 2) dX1_assent_10 (by rfl) ?_
    refine pj_icmp_eq (pc := 11) (tgt := 16) dX1_assent_11 (by decide) (fun c11 => ?_) (fun c11 => ?_)
    · refine pl_aload_n (pc := 16) dX1_assent_16 rfl rfl ?_
      refine pj_getf (pc := 17) ckX1 0 q853 dX1_assent_17 (by decide) (h.r0) rfl ?_
      refine pj_getfN (pc := 20) ckX2 0 q726 dX1_assent_20 (by decide) (h.r1) rfl ?_
      refine pl_aload_n (pc := 23) dX1_assent_23 rfl rfl ?_
      refine pj_getfN (pc := 24) ckX12 2 q1501 dX1_assent_24 (by decide) (h.r38 (by omega)) rfl ?_
      refine PJ.top (y := lawv ρ j_l 3) ((t.hist hj_l).2.2.1 (Or.inl c11)).1 ?_
      refine pl_bipush (pc := 27) (v := 34) dX1_assent_27 (by rfl) ?_
      refine pj_iadd (pc := 29) dX1_assent_29 ?_
      refine pj_icmp_ge (pc := 30) (tgt := 36) dX1_assent_30 (by decide) (fun c30 => ?_) (fun c30 => ?_)
      · refine pl_aload_n (pc := 36) dX1_assent_36 rfl rfl ?_
        refine pj_getfN (pc := 37) ckX12 4 q1506 dX1_assent_37 (by decide) (h.r38 (by omega)) rfl ?_
        refine pj_iconst (pc := 40) (v := (-1)) dX1_assent_40 (by rfl) ?_
        rcases sd1 j_l hj_l with d4 | ⟨kr, hkr, ekr, d4⟩
        · have f4 : lawv ρ j_l 4 ≤ 0 := by rw [d4]; decide
          refine pj_icmp_eq (pc := 41) (tgt := 47) dX1_assent_41 (by decide) (fun _ => ?_) (fun z9 => absurd (by rw [(t.said hj_l).1, if_pos d4]; first | done | rfl) z9)
          refine pl_aload_n (pc := 47) dX1_assent_47 rfl rfl ?_
          refine pl_aload_n (pc := 48) dX1_assent_48 rfl rfl ?_
          refine pj_getf (pc := 49) ckX1 0 q853 dX1_assent_49 (by decide) (h.r0) rfl ?_
          refine pj_getfN (pc := 52) ckX2 0 q726 dX1_assent_52 (by decide) (h.r1) rfl ?_
          refine pl_bipush (pc := 55) (v := 34) dX1_assent_55 (by rfl) ?_
          refine pj_iadd (pc := 57) dX1_assent_57 ?_
          refine pj_putfN (pc := 58) ckX12 4 q1506 dX1_assent_58 (by decide) rfl (h.r38 (by omega)) rfl rfl (Nat.le_of_ble_eq_true rfl) ?_
          refine sxk (h.p38_4 (by omega)) (fun My1 y1 => ?_)
          refine pl_aload_n (pc := 61) dX1_assent_61 rfl rfl ?_
          refine pl_iload_n (pc := 62) dX1_assent_62 rfl rfl ?_
          refine pj_putfN (pc := 63) ckX12 7 q1511 dX1_assent_63 (by decide) rfl (y1.r38 (by omega)) (narrow_bI _) (by cases u <;> rfl) (Nat.le_of_ble_eq_true rfl) ?_
          refine sxk (y1.p38_7 (by omega)) (fun My2 y2 => ?_)
          refine pl_aload_n (pc := 66) dX1_assent_66 rfl rfl ?_
          refine pj_getfN (pc := 67) ckX12 4 q1506 dX1_assent_67 (by decide) (y2.r38 (by omega)) rfl ?_
          refine PJ.top (y := row ρ 2116 + nI 34) ((uE_ne (by omega)).trans uE_eq) ?_
          refine pj_iret (pc := 70) dX1_assent_70 rfl ?_
          have g9 := assent_tie y2 t hj_l
          exact CQ.ok (by rw [p_assent_yes hj_l hS8 (by rw [hs9]; exact c11) (by rw [hs9]; exact c30) (by rw [hs9]; exact f4), hs9]) (by exact h00) g9
        · have f4 : ¬ lawv ρ j_l 4 ≤ 0 := by rcases d4 with z | z <;> rw [z] <;> decide
          have n4 : ¬ lawv ρ j_l 4 = nI 0 := by rcases d4 with z | z <;> rw [z] <;> decide
          refine pj_icmp_eq (pc := 41) (tgt := 47) dX1_assent_41 (by decide) (fun z9 => absurd (z9.symm.trans ((t.said hj_l).1.trans ((if_neg n4).trans ekr))) (nI_m1 hkr)) (fun _ => ?_)
          refine pj_bipush (pc := 44) (v := (-3)) dX1_assent_44 (by rfl) ?_
          refine pj_iret (pc := 46) dX1_assent_46 rfl ?_
          exact CQ.ok (τ := ρ) (by first | (simp only [p_assent, hs9, ← hs0, hap_l, g_l, eq_true c11, c30, f4, ↓reduceIte]; first | done | rfl) | (simp [p_assent, hs9, ← hs0, hap_l, g_l, eq_true c11, c30, f4, Int32.not_lt, Int32.not_le]; first | done | rfl)) h00 ⟨_, h, t⟩
      · refine pj_bipush (pc := 33) (v := (-2)) dX1_assent_33 (by rfl) ?_
        refine pj_iret (pc := 35) dX1_assent_35 rfl ?_
        exact CQ.ok (τ := ρ) (by first | (simp only [p_assent, hs9, ← hs0, hap_l, g_l, eq_true c11, c30, ↓reduceIte]; first | done | rfl) | (simp [p_assent, hs9, ← hs0, hap_l, g_l, eq_true c11, c30, Int32.not_lt, Int32.not_le]; first | done | rfl)) h00 ⟨_, h, t⟩
    · refine pj_iconst (pc := 14) (v := (-1)) dX1_assent_14 (by rfl) ?_
      refine pj_iret (pc := 15) dX1_assent_15 rfl ?_
      exact CQ.ok (τ := ρ) (by first | (simp only [p_assent, hs9, ← hs0, hap_l, g_l, c11, ↓reduceIte]; first | done | rfl) | (simp [p_assent, hs9, ← hs0, hap_l, g_l, c11, Int32.not_lt, Int32.not_le]; first | done | rfl)) h00 ⟨_, h, t⟩
set_option maxHeartbeats 600000 in
theorem x_X1_means {g : GP} {μ : Mem} {d : Nat} {P : Nat → Prop} {F : Mem} {A : XA} {S : Nat → Nat → Nat} {b : XS} {σ : MS} {nor nw : Nat} (s : SB g P F A 0 S b σ nw μ) (iv : IvG σ (S 4 0) (S 8 0) (S 10 0) (S 6 0) nor nw) (rs : RsX σ) (hd : 330 ≤ d) {n : Int32} {c : Int32} : PM g yX1_means (ws_ yX1_means cX1_means 3 (some .int)) d 1 6 [.ref (A 0 0 0), .int n, .int c] μ (CQ ["java/lang/IndexOutOfBoundsException", "java/lang/IllegalArgumentException"] (p_means σ (S 4 0) (S 8 0) n c) (fun τ M => SB g P F A 0 S b τ nw M)) := by
  refine PM.of (by decide +kernel) (Nat.le_of_ble_eq_true rfl) ?_
  refine PJ.ok (fun G => ?_)
  show PJ g _ _ _ _ d 1 6 0 [(0, .ref (A 0 0 0)), (1, .int n), (2, .int c)] [] _ _
  obtain ⟨ρ, hs0⟩ : ∃ ρ, ρ = sF σ 0 (nI 0) := ⟨_, rfl⟩
  have hs9 : s0 σ = ρ := hs0.symm
  have s1 := s.F0 (x := nI 0)
  rw [← hs0] at s1
  obtain ⟨e, h, t⟩ := s1
  have iv1 : IvG ρ (S 4 0) (S 8 0) (S 10 0) (S 6 0) nor nw := by rw [hs0]; exact iv.f0
  have rs1 : RsX ρ := by rw [hs0]; exact rs
  have h00 : ρ.1 0 = nI 0 := by rw [hs0]; rfl
  have hS4 := h.hz.2.1
  have hS6 := h.hz.2.2.1
  have hS8 := h.hz.2.2.2.1
  have hS10 := h.hz.2.2.2.2.1
  refine pl_iload_n (pc := 0) dX1_means_0 rfl rfl ?_
  refine pj_iconst (pc := 1) (v := (-1)) dX1_means_1 (by rfl) ?_
  refine pj_icmp_eq (pc := 2) (tgt := 11) dX1_means_2 (by decide) (fun c2 => ?_) (fun c2 => ?_)
  · have f0 : ¬ (0 : Int32) ≤ c := by rw [c2]; decide
    refine pl_iload_n (pc := 11) dX1_means_11 rfl rfl ?_
    refine pj_if_lt (pc := 12) (tgt := 25) dX1_means_12 (by decide) (fun c12 => ?_) (fun c12 => ?_)
    · refine pl_iconst (pc := 25) (v := 0) dX1_means_25 (by rfl) ?_
      refine pl_callSX (pc := 26) (As := [_]) (C1 := 1) (N1 := 6) (C2 := 0) (N2 := 0) (E8 := "java/lang/IllegalArgumentException") mdX1_need q1262 q1263 q125 dX1_means_26 rfl rfl (Nat.le_of_ble_eq_true rfl) (k_X1_need_no (d := d - 1) (by omega) rfl) (by omega) (by omega) (by omega) (fun q_26 M_26 hM_26 => ?_)
      refine px_out0 rfl ?_
      exact CQ.no 1 (v := nI 0) (τ := sF ρ 0 (nI 2)) (by rw [show sF ρ 0 (nI 2) = th σ 2 by rw [hs0]]; first | (simp only [p_means, eq_true c2, f0, c12, ↓reduceIte]; first | done | rfl) | (simp [p_means, eq_true c2, f0, c12, Int32.not_lt, Int32.not_le]; first | done | rfl)) rfl rfl (SB.mono (SB.F0 ⟨_, h, t⟩) hM_26)
    · refine pl_iload_n (pc := 15) dX1_means_15 rfl rfl ?_
      refine pl_bipush (pc := 16) (v := 8) dX1_means_16 (by rfl) ?_
      refine pj_icmp_ge (pc := 18) (tgt := 25) dX1_means_18 (by decide) (fun c18 => ?_) (fun c18 => ?_)
      · refine pl_iconst (pc := 25) (v := 0) dX1_means_25 (by rfl) ?_
        refine pl_callSX (pc := 26) (As := [_]) (C1 := 1) (N1 := 6) (C2 := 0) (N2 := 0) (E8 := "java/lang/IllegalArgumentException") mdX1_need q1262 q1263 q125 dX1_means_26 rfl rfl (Nat.le_of_ble_eq_true rfl) (k_X1_need_no (d := d - 1) (by omega) rfl) (by omega) (by omega) (by omega) (fun q_26 M_26 hM_26 => ?_)
        refine px_out0 rfl ?_
        exact CQ.no 1 (v := nI 0) (τ := sF ρ 0 (nI 2)) (by rw [show sF ρ 0 (nI 2) = th σ 2 by rw [hs0]]; first | (simp only [p_means, eq_true c2, f0, c12, c18, ↓reduceIte]; first | done | rfl) | (simp [p_means, eq_true c2, f0, c12, c18, Int32.not_lt, Int32.not_le]; first | done | rfl)) rfl rfl (SB.mono (SB.F0 ⟨_, h, t⟩) hM_26)
      · refine pl_iconst (pc := 21) (v := 1) dX1_means_21 (by rfl) ?_
        refine pj_goto (pc := 22) (tgt := 26) dX1_means_22 (by decide) ?_
        refine pl_callSv (pc := 26) (As := [_]) (C1 := 0) (N1 := 0) (C2 := 1) (N2 := 6) mdX1_need q1262 q1263 q125 dX1_means_26 rfl rfl (Nat.le_of_ble_eq_true rfl) (k_X1_need_ok (d := d - 1) (by omega) (by decide)) (by omega) (by omega) (by omega) ?_
        obtain ⟨j_n, hj_n, rfl⟩ := inN_of (x := n) (n := 8) (by omega) (by simp only [inN, Bool.and_eq_true, decide_eq_true_eq]; exact ⟨Int32.not_lt.mp c12, Int32.not_le.mp c18⟩)
        have g_n := tN_nI (n := j_n) (by omega)
        refine pl_aload_n (pc := 29) dX1_means_29 rfl rfl ?_
        refine pj_getf (pc := 30) ckX1 0 q853 dX1_means_30 (by decide) (h.r0) rfl ?_
        refine pl_iload_n (pc := 33) dX1_means_33 rfl rfl ?_
        refine pl_iload_n (pc := 34) dX1_means_34 rfl rfl ?_
        refine pj_iconst (pc := 35) (v := (-1)) dX1_means_35 (by rfl) ?_
        refine pj_icmp_ne (pc := 36) (tgt := 43) dX1_means_36 (by decide) (fun z9 => absurd c2 z9) (fun _ => ?_)
        refine pl_iconst (pc := 39) (v := 0) dX1_means_39 (by rfl) ?_
        refine pj_goto (pc := 40) (tgt := 52) dX1_means_40 (by decide) ?_
        refine pl_callVWd (pc := 52) (As := [_, _]) (C1 := 0) (N1 := 0) (C2 := 1) (N2 := 6) ckX2 mdX2_means rfl q1782 q1708 q1709 q126 dX1_means_52 rfl rfl (Nat.le_of_ble_eq_true rfl) (h.r1) (x_X2_means (d := d - 1) (by omega) h (by omega) t.ht) (by omega) (by omega) (by omega) (fun My1 qy1 => ?_)
        obtain ⟨e_52, he_52, y1⟩ := qy1
        refine pj_iret (pc := 55) dX1_means_55 rfl ?_
        exact CQ.ok (τ := sM ρ (S 4 0) (S 8 0) j_n (nI 0)) (by first | (simp only [p_means, hs9, ← hs0, eq_true c2, f0, c12, c18, g_n, ↓reduceIte]; first | done | rfl) | (simp [p_means, hs9, ← hs0, eq_true c2, f0, c12, c18, g_n, Int32.not_lt, Int32.not_le]; first | done | rfl)) (by exact h00) (SB.P ⟨_, y1, (t.e9 he_52)⟩)
  · rcases Bool.eq_false_or_eq_true (inN c 96) with hap_c | hap_c
    · obtain ⟨j_c, hj_c, rfl⟩ := inN_of (by omega) hap_c
      have g_c := tN_nI (n := j_c) (by omega)
      have f0 : (0 : Int32) ≤ nI j_c := nI_pos' (by omega)
      refine pl_aload_n (pc := 5) dX1_means_5 rfl rfl ?_
      refine pl_iload_n (pc := 6) dX1_means_6 rfl rfl ?_
      obtain ⟨q_7, hm_7, hq_7, hdd_7⟩ := h.held (s := j_c) (by omega)
      refine pl_callVd (pc := 7) (As := [_]) (C1 := 0) (N1 := 0) (C2 := 1) (N2 := 6) ckX1 mdX1_slotOf rfl q1239 q1241 qs7 q125 dX1_means_7 rfl rfl (Nat.le_of_ble_eq_true rfl) (h.r0) (x_X1_slotOf_ok (d := d - 1) (by omega) h (by omega)) (by omega) (by omega) (by omega) ?_
      refine pj_pop (pc := 10) dX1_means_10 rfl ?_
      refine pl_iload_n (pc := 11) dX1_means_11 rfl rfl ?_
      refine pj_if_lt (pc := 12) (tgt := 25) dX1_means_12 (by decide) (fun c12 => ?_) (fun c12 => ?_)
      · refine pl_iconst (pc := 25) (v := 0) dX1_means_25 (by rfl) ?_
        refine pl_callSX (pc := 26) (As := [_]) (C1 := 1) (N1 := 6) (C2 := 0) (N2 := 0) (E8 := "java/lang/IllegalArgumentException") mdX1_need q1262 q1263 q125 dX1_means_26 rfl rfl (Nat.le_of_ble_eq_true rfl) (k_X1_need_no (d := d - 1) (by omega) rfl) (by omega) (by omega) (by omega) (fun q_26 M_26 hM_26 => ?_)
        refine px_out0 rfl ?_
        exact CQ.no 1 (v := nI 0) (τ := sF ρ 0 (nI 2)) (by rw [show sF ρ 0 (nI 2) = th σ 2 by rw [hs0]]; first | (simp only [p_means, c2, hap_c, g_c, f0, c12, ↓reduceIte]; first | done | rfl) | (simp [p_means, c2, hap_c, g_c, f0, c12, Int32.not_lt, Int32.not_le]; first | done | rfl)) rfl rfl (SB.mono (SB.F0 ⟨_, h, t⟩) hM_26)
      · refine pl_iload_n (pc := 15) dX1_means_15 rfl rfl ?_
        refine pl_bipush (pc := 16) (v := 8) dX1_means_16 (by rfl) ?_
        refine pj_icmp_ge (pc := 18) (tgt := 25) dX1_means_18 (by decide) (fun c18 => ?_) (fun c18 => ?_)
        · refine pl_iconst (pc := 25) (v := 0) dX1_means_25 (by rfl) ?_
          refine pl_callSX (pc := 26) (As := [_]) (C1 := 1) (N1 := 6) (C2 := 0) (N2 := 0) (E8 := "java/lang/IllegalArgumentException") mdX1_need q1262 q1263 q125 dX1_means_26 rfl rfl (Nat.le_of_ble_eq_true rfl) (k_X1_need_no (d := d - 1) (by omega) rfl) (by omega) (by omega) (by omega) (fun q_26 M_26 hM_26 => ?_)
          refine px_out0 rfl ?_
          exact CQ.no 1 (v := nI 0) (τ := sF ρ 0 (nI 2)) (by rw [show sF ρ 0 (nI 2) = th σ 2 by rw [hs0]]; first | (simp only [p_means, c2, hap_c, g_c, f0, c12, c18, ↓reduceIte]; first | done | rfl) | (simp [p_means, c2, hap_c, g_c, f0, c12, c18, Int32.not_lt, Int32.not_le]; first | done | rfl)) rfl rfl (SB.mono (SB.F0 ⟨_, h, t⟩) hM_26)
        · refine pl_iconst (pc := 21) (v := 1) dX1_means_21 (by rfl) ?_
          refine pj_goto (pc := 22) (tgt := 26) dX1_means_22 (by decide) ?_
          refine pl_callSv (pc := 26) (As := [_]) (C1 := 0) (N1 := 0) (C2 := 1) (N2 := 6) mdX1_need q1262 q1263 q125 dX1_means_26 rfl rfl (Nat.le_of_ble_eq_true rfl) (k_X1_need_ok (d := d - 1) (by omega) (by decide)) (by omega) (by omega) (by omega) ?_
          obtain ⟨j_n, hj_n, rfl⟩ := inN_of (x := n) (n := 8) (by omega) (by simp only [inN, Bool.and_eq_true, decide_eq_true_eq]; exact ⟨Int32.not_lt.mp c12, Int32.not_le.mp c18⟩)
          have g_n := tN_nI (n := j_n) (by omega)
          refine pl_aload_n (pc := 29) dX1_means_29 rfl rfl ?_
          refine pj_getf (pc := 30) ckX1 0 q853 dX1_means_30 (by decide) (h.r0) rfl ?_
          refine pl_iload_n (pc := 33) dX1_means_33 rfl rfl ?_
          refine pl_iload_n (pc := 34) dX1_means_34 rfl rfl ?_
          refine pj_iconst (pc := 35) (v := (-1)) dX1_means_35 (by rfl) ?_
          refine pj_icmp_ne (pc := 36) (tgt := 43) dX1_means_36 (by decide) (fun _ => ?_) (fun z9 => absurd z9 c2)
          refine pl_aload_n (pc := 43) dX1_means_43 rfl rfl ?_
          refine pj_getf (pc := 44) ckX1 0 q853 dX1_means_44 (by decide) (h.r0) rfl ?_
          refine pj_getfN (pc := 47) ckX2 13 q750 dX1_means_47 (by decide) (h.r1) rfl ?_
          refine pl_iload_n (pc := 50) dX1_means_50 rfl rfl ?_
          refine pl_bald (pc := 51) (n := 96) dX1_means_51 (h.r27) (by omega) (by decide) ?_
          refine PJ.top (h.v27 (by omega)) ?_
          refine pl_callVWd (pc := 52) (As := [_, _]) (C1 := 0) (N1 := 0) (C2 := 1) (N2 := 6) ckX2 mdX2_means rfl q1782 q1708 q1709 q126 dX1_means_52 rfl rfl (Nat.le_of_ble_eq_true rfl) (h.r1) (x_X2_means (d := d - 1) (by omega) h (by omega) t.ht) (by omega) (by omega) (by omega) (fun My2 qy2 => ?_)
          obtain ⟨e_52, he_52, y2⟩ := qy2
          refine pj_iret (pc := 55) dX1_means_55 rfl ?_
          exact CQ.ok (τ := sM ρ (S 4 0) (S 8 0) j_n (ρ.2.1 3 j_c)) (by first | (simp only [p_means, hs9, ← hs0, c2, hap_c, g_c, f0, c12, c18, g_n, ↓reduceIte]; first | done | rfl) | (simp [p_means, hs9, ← hs0, c2, hap_c, g_c, f0, c12, c18, g_n, Int32.not_lt, Int32.not_le]; first | done | rfl)) (by exact h00) (SB.P ⟨_, y2, (t.e9 he_52)⟩)
    · refine pl_aload_n (pc := 5) dX1_means_5 rfl rfl ?_
      refine pl_iload_n (pc := 6) dX1_means_6 rfl rfl ?_
      refine pl_callVX (pc := 7) (As := [_]) (C1 := 1) (N1 := 6) (C2 := 0) (N2 := 0) (E8 := "java/lang/IndexOutOfBoundsException") ckX1 mdX1_slotOf rfl q1239 q1241 qs7 q125 dX1_means_7 rfl rfl (Nat.le_of_ble_eq_true rfl) (h.r0) (x_X1_slotOf_no (d := d - 1) (by omega) h hap_c) (by omega) (by omega) (by omega) (fun q_7 M_7 hM_7 => ?_)
      refine px_out0 rfl ?_
      exact CQ.no 0 (v := nI 0) (τ := sF ρ 0 (nI 1)) (by rw [show sF ρ 0 (nI 1) = th σ 1 by rw [hs0]]; first | (simp only [p_means, c2, hap_c, ↓reduceIte]; first | done | rfl) | (simp [p_means, c2, hap_c, Int32.not_lt, Int32.not_le]; first | done | rfl)) rfl rfl (SB.mono (SB.F0 ⟨_, h, t⟩) hM_7)
