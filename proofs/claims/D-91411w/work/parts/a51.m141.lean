set_option maxRecDepth 100000
set_option maxHeartbeats 600000 in
theorem x_X1_draw {g : GP} {μ : Mem} {d : Nat} {P : Nat → Prop} {F : Mem} {A : XA} {S : Nat → Nat → Nat} {b : XS} {σ : MS} {nor nw : Nat} (s : SB g P F A 0 S b σ nw μ) (iv : IvG σ (S 4 0) (S 8 0) (S 10 0) (S 6 0) nor nw) (rs : RsX σ) {dr : Nat} (hdr : row σ 2131 = nI dr) (ak : AkX S σ nor) (has : row σ 2130 = nI (S 14 0)) (hsum : S 14 0 + dr ≤ 12) (hd : 9 ≤ d) {v : Int32} : PM g yX1_draw (ws_ yX1_draw cX1_draw 6 (some .int)) d 1 6 [.ref (A 0 0 0), .int v] μ (CQ ["java/lang/IllegalArgumentException"] (p_draw σ (S 14 0) v) (fun τ M => ∃ S1, row τ 2130 = nI (S1 14 0) ∧ (∀ x, x ≠ 14 → ∀ y, S1 x y = S x y) ∧ SB g P F A 0 S1 b τ nw M)) := by
  refine PM.of (by decide +kernel) (Nat.le_of_ble_eq_true rfl) ?_
  refine PJ.ok (fun G => ?_)
  show PJ g _ _ _ _ d 1 6 0 [(0, .ref (A 0 0 0)), (1, .int v)] [] _ _
  obtain ⟨ρ, hs0⟩ : ∃ ρ, ρ = sF σ 0 (nI 0) := ⟨_, rfl⟩
  have hs9 : s0 σ = ρ := hs0.symm
  have s1 := s.F0 (x := nI 0)
  rw [← hs0] at s1
  obtain ⟨e, h, t⟩ := s1
  have iv1 : IvG ρ (S 4 0) (S 8 0) (S 10 0) (S 6 0) nor nw := by rw [hs0]; exact iv.f0
  have rs1 : RsX ρ := by rw [hs0]; exact rs
  have h00 : ρ.1 0 = nI 0 := by rw [hs0]; rfl
  have hS4 := h.hz.2.1
  have hS6 := h.hz.2.2.1
  have hS8 := h.hz.2.2.2.1
  have hS10 := h.hz.2.2.2.2.1
  have hdr1 : row ρ 2131 = nI dr := by rw [hs0]; exact hdr
  have ak1 : AkX S ρ nor := by rw [hs0]; exact ak.cg (fun _ _ _ => rfl)
  have has1 : row ρ 2130 = nI (S 14 0) := by rw [hs0]; exact has
  have hOR := iv1.hOR
  refine pl_iconst (pc := 0) (v := 1) dX1_draw_0 (by rfl) ?_
  refine pj_istore_n (pc := 1) (lv' := [(2, _), (0, _), (1, _)]) dX1_draw_1 rfl (by decide) rfl ?_
  refine pl_iconst (pc := 2) (v := 2) dX1_draw_2 (by rfl) ?_
  refine pj_istore_n (pc := 3) (lv' := [(3, _), (2, _), (0, _), (1, _)]) dX1_draw_3 rfl (by decide) rfl ?_
  refine PJ.sub [0, 1, 3, 2] rfl ?_
  refine ind_dn (n := (S 14 0 - 1)) (P := fun i => PJ g _ _ _ _ d 1 6 4 [(3, .int (nI (i + 2))), (2, .int (nI (fac (i + 1)))), (1, .int v), (0, .ref (A 0 0 0))] [] μ _) (fun i hi ih => ?_) 0 (Nat.zero_le _)
  refine pl_iload_n (pc := 4) dX1_draw_4 rfl rfl ?_
  refine pl_aload_n (pc := 5) dX1_draw_5 rfl rfl ?_
  refine pj_getf (pc := 6) ckX1 9 q862 dX1_draw_6 (by decide) (h.r0) rfl ?_
  obtain ⟨m_9, c_9, l_9⟩ := h.L14
  refine pl_callVd (pc := 9) (As := []) (C1 := 0) (N1 := 0) (C2 := 1) (N2 := 6) ckJ2 mdJ2_size rfl q1049 q948 q949 q129 dX1_draw_9 rfl rfl (Nat.le_of_ble_eq_true rfl) l_9.1 (k_J2_size (d := d - 1) (by omega) l_9) (by omega) (by omega) (by omega) ?_
  refine pl_icmp_gt (pc := 12) (tgt := 25) dX1_draw_12 (by decide) (by omega) (by omega) (fun c12 => ?_) (fun c12 => ?_)
  · have e25 : fac (i + 1) = fac (S 14 0) := by
      by_cases z : S 14 0 = 0
      · have zi : i = 0 := by omega
        rw [z, zi]; rfl
      · rw [show i + 1 = S 14 0 by omega]
    rw [e25]
    have fln := fac_lt (S 14 0) (by omega)
    refine pl_iload_n (pc := 25) dX1_draw_25 rfl rfl ?_
    refine pj_if_lt (pc := 26) (tgt := 38) dX1_draw_26 (by decide) (fun c26 => ?_) (fun c26 => ?_)
    · refine pl_iconst (pc := 38) (v := 0) dX1_draw_38 (by rfl) ?_
      refine pl_callSX (pc := 39) (As := [_]) (C1 := 1) (N1 := 6) (C2 := 0) (N2 := 0) (E8 := "java/lang/IllegalArgumentException") mdX1_need q1262 q1263 q125 dX1_draw_39 rfl rfl (Nat.le_of_ble_eq_true rfl) (k_X1_need_no (d := d - 1) (by omega) rfl) (by omega) (by omega) (by omega) (fun q_39 M_39 hM_39 => ?_)
      refine px_out0 rfl ?_
      exact CQ.no 0 (v := nI 0) (τ := sF ρ 0 (nI 1)) (by rw [show sF ρ 0 (nI 1) = th σ 1 by rw [hs0]]; first | (simp only [p_draw, hs9, c12, c26, ↓reduceIte]; first | done | rfl) | (simp [p_draw, hs9, c12, c26, Int32.not_lt, Int32.not_le]; first | done | rfl)) rfl rfl (⟨S, has1, fun _ _ _ => rfl, SB.mono (SB.F0 ⟨_, h, t⟩) hM_39⟩)
    · refine pl_iload_n (pc := 29) dX1_draw_29 rfl rfl ?_
      refine pl_iload_n (pc := 30) dX1_draw_30 rfl rfl ?_
      refine pj_icmp_ge (pc := 31) (tgt := 38) dX1_draw_31 (by decide) (fun c31 => ?_) (fun c31 => ?_)
      · refine pl_iconst (pc := 38) (v := 0) dX1_draw_38 (by rfl) ?_
        refine pl_callSX (pc := 39) (As := [_]) (C1 := 1) (N1 := 6) (C2 := 0) (N2 := 0) (E8 := "java/lang/IllegalArgumentException") mdX1_need q1262 q1263 q125 dX1_draw_39 rfl rfl (Nat.le_of_ble_eq_true rfl) (k_X1_need_no (d := d - 1) (by omega) rfl) (by omega) (by omega) (by omega) (fun q_39 M_39 hM_39 => ?_)
        refine px_out0 rfl ?_
        exact CQ.no 0 (v := nI 0) (τ := sF ρ 0 (nI 1)) (by rw [show sF ρ 0 (nI 1) = th σ 1 by rw [hs0]]; first | (simp only [p_draw, hs9, c12, c26, c31, ↓reduceIte]; first | done | rfl) | (simp [p_draw, hs9, c12, c26, c31, Int32.not_lt, Int32.not_le]; first | done | rfl)) rfl rfl (⟨S, has1, fun _ _ _ => rfl, SB.mono (SB.F0 ⟨_, h, t⟩) hM_39⟩)
      · refine pl_iconst (pc := 34) (v := 1) dX1_draw_34 (by rfl) ?_
        refine pj_goto (pc := 35) (tgt := 39) dX1_draw_35 (by decide) ?_
        refine pl_callSv (pc := 39) (As := [_]) (C1 := 0) (N1 := 0) (C2 := 1) (N2 := 6) mdX1_need q1262 q1263 q125 dX1_draw_39 rfl rfl (Nat.le_of_ble_eq_true rfl) (k_X1_need_ok (d := d - 1) (by omega) (by decide)) (by omega) (by omega) (by omega) ?_
        obtain ⟨j_v, hj_v, rfl⟩ := inN_of (x := v) (n := (fac (S 14 0))) (by omega) (by simp only [inN, Bool.and_eq_true, decide_eq_true_eq]; exact ⟨Int32.not_lt.mp c26, Int32.not_le.mp c31⟩)
        have g_v := tN_nI (n := j_v) (by omega)
        refine pl_aload_n (pc := 42) dX1_draw_42 rfl rfl ?_
        refine pj_getf (pc := 43) ckX1 9 q862 dX1_draw_43 (by decide) (h.r0) rfl ?_
        obtain ⟨m_46, c_46, l_46⟩ := h.L14
        refine pl_callVd (pc := 46) (As := []) (C1 := 0) (N1 := 0) (C2 := 1) (N2 := 6) ckJ2 mdJ2_size rfl q1049 q948 q949 q129 dX1_draw_46 rfl rfl (Nat.le_of_ble_eq_true rfl) l_46.1 (k_J2_size (d := d - 1) (by omega) l_46) (by omega) (by omega) (by omega) ?_
        refine pj_istore_n (pc := 49) (lv' := [(3, _), (2, _), (1, _), (0, _)]) dX1_draw_49 rfl (by decide) rfl ?_
        refine pl_iload_n (pc := 50) dX1_draw_50 rfl rfl ?_
        refine pj_istore (pc := 51) (lv' := [(4, _), (3, _), (2, _), (1, _), (0, _)]) dX1_draw_51 (by decide) rfl ?_
        obtain ⟨S0, rfl⟩ : ∃ S0, S0 = S := ⟨S, rfl⟩
        obtain ⟨n0, hn0⟩ : ∃ n0, n0 = S0 14 0 := ⟨_, rfl⟩
        rw [← hn0]
        rw [← hn0] at hj_v fln hsum
        refine ind_dn (n := n0) (P := fun i => ∀ M9 S τ L, S = SnX S0 14 0 (n0 - i) → L < fac (n0 - i) → drawF n0 j_v ρ = drawF (n0 - i) L τ → SX g P F A 0 S b τ e M9 → row τ 2131 = nI (dr + i) → (∀ j, j < n0 - i → ∃ p, p < S0 4 0 ∧ row τ (2092 + j) = nI p) → (∀ j, (j < 2080 ∨ 2104 ≤ j) → j ≠ 2131 → row τ j = row ρ j) → OnR ρ τ → PJ g _ _ _ _ d 1 6 53 [(4, .int (nI L)), (3, .int (nI n0)), (2, .int (nI (fac (n0 - i)))), (1, .int (nI j_v)), (0, .ref (A 0 0 0))] [] M9 _) (fun i hi ih M9 S τ L hSS hL hdF h9 h31 hel9 hro on9 => ?_) 0 (Nat.zero_le _) _ S0 ρ j_v (by rw [Nat.sub_zero, hn0]; exact SnX_id.symm) hj_v rfl h hdr1 (by rw [Nat.sub_zero, hn0]; exact ak1.2.2.2) (fun _ _ _ => rfl) OnR.rf
        have h14i : S 14 0 = n0 - i := by rw [hSS]; exact SnX_eq
        have h4i : S 4 0 = S0 4 0 := by rw [hSS]; exact SnX_ne (by omega)
        have h12i : S 12 0 = S0 12 0 := by rw [hSS]; exact SnX_ne (by omega)
        have h8i : S 8 1 ≤ S 8 0 := by rw [hSS, SnX_ne (by omega), SnX_ne (by omega)]; exact ak1.1
        refine pl_aload_n (pc := 53) dX1_draw_53 rfl rfl ?_
        refine pj_getf (pc := 54) ckX1 9 q862 dX1_draw_54 (by decide) (h9.r0) rfl ?_
        obtain ⟨m_57, c_57, l_57⟩ := h9.L14
        refine pl_callVd (pc := 57) (As := []) (C1 := 0) (N1 := 0) (C2 := 1) (N2 := 6) ckJ2 mdJ2_isEmpty rfl q1671 q1672 q1673 q129 dX1_draw_57 rfl rfl (Nat.le_of_ble_eq_true rfl) l_57.1 (k_J2_isEmpty (d := d - 1) (by omega) l_57) (by omega) (by omega) (by omega) ?_
        refine pl_if_neB (pc := 60) (tgt := 131) dX1_draw_60 (by decide) (fun c60 => ?_) (fun c60 => ?_)
        · refine pl_iload_n (pc := 131) dX1_draw_131 rfl rfl ?_
          refine pj_iret (pc := 132) dX1_draw_132 rfl ?_
          have hz0 : S 14 0 = 0 := of_decide_eq_true c60
          have ei : n0 - i = 0 := by omega
          rw [ei] at hdF hSS
          have hdF2 : drawF n0 j_v ρ = τ := hdF
          have g8 := SX.onR (σ1 := sR τ 2130 (nI 0)) h9 (fun j hj => rowS_ne (fun z => by subst z; unfold mapR at hj; omega)) OnR.rf.R
          have t8 : TieX 0 S0 (sR τ 2130 (nI 0)) e nw := t.cg h.hz (fun j hj => (rowS_ne (fun z => hj (by unfold fr0; omega))).trans (hro j (by unfold fr0 at hj; omega) (fun z => hj (by unfold fr0; omega)))) (on9.1 3 (by decide) (by decide) (by decide) (by decide)) (on9.1 4 (by decide) (by decide) (by decide) (by decide)) (fun _ _ => congrFun on9.2.2.2 _) (on9.2.1 23) (on9.2.1 24)
          exact CQ.ok (τ := sR τ 2130 (nI 0)) (by unfold p_draw; rw [if_neg (Int32.not_lt.mpr (nI_pos' (by omega))), if_neg (fun z => z (nI_lt hj_v (by omega))), g_v, hs9, hdF2]) ((on9.2.1 0).trans h00) ⟨S, by rw [hz0]; exact rowS_eq, fun x hx y => by rw [hSS]; exact SnX_ne (fun z => hx z.1), _, g8, by rw [hSS]; exact t8.sz (fun x hx y => SnX_ne (by omega))⟩
        · have hne : ¬ S 14 0 = 0 := of_decide_eq_false c60
          obtain ⟨kk, hkk⟩ : ∃ kk, n0 - i = kk + 1 := ⟨n0 - i - 1, by omega⟩
          have fk0 := fac_pos kk
          have fk1 := fac_lt kk (by omega)
          have fk2 := fac_lt (kk + 1) (by omega)
          have hL2 : L < fac (kk + 1) := by rw [← hkk]; exact hL
          have hpl : L / fac kk < kk + 1 := Nat.div_lt_of_lt_mul (by rw [Nat.mul_comm]; exact hL2)
          have hml : L % fac kk < fac kk := Nat.mod_lt _ fk0
          rw [hkk]
          refine pl_iload_n (pc := 63) dX1_draw_63 rfl rfl ?_
          refine pl_aload_n (pc := 64) dX1_draw_64 rfl rfl ?_
          refine pj_getf (pc := 65) ckX1 9 q862 dX1_draw_65 (by decide) (h9.r0) rfl ?_
          obtain ⟨m_68, c_68, l_68⟩ := h9.L14
          refine pl_callVd (pc := 68) (As := []) (C1 := 0) (N1 := 0) (C2 := 1) (N2 := 6) ckJ2 mdJ2_size rfl q1049 q948 q949 q129 dX1_draw_68 rfl rfl (Nat.le_of_ble_eq_true rfl) l_68.1 (k_J2_size (d := d - 1) (by omega) l_68) (by omega) (by omega) (by omega) ?_
          refine PJ.top (y := nI (kk + 1)) (by rw [h14i, hkk]) ?_
          refine pl_idiv (pc := 71) dX1_draw_71 fk2 (by omega) (by omega) ?_
          refine PJ.top (y := nI (fac kk)) (by rw [fac_div]) ?_
          refine pj_istore_n (pc := 72) (lv' := [(2, _), (4, _), (3, _), (1, _), (0, _)]) dX1_draw_72 rfl (by decide) rfl ?_
          refine pl_aload_n (pc := 73) dX1_draw_73 rfl rfl ?_
          refine pj_getf (pc := 74) ckX1 9 q862 dX1_draw_74 (by decide) (h9.r0) rfl ?_
          refine pl_iload (pc := 77) dX1_draw_77 rfl ?_
          refine pl_iload_n (pc := 79) dX1_draw_79 rfl rfl ?_
          refine pl_idiv (pc := 80) dX1_draw_80 (by omega) fk0 fk1 ?_
          have or9 : OrX 0 S b τ e := or_ask h9.hz h8i (by rw [h12i, ak1.2.1]; exact hOR) (by omega) (fun j hj => by
              have hj2 : j < nor := by rw [← ak1.2.1, ← h12i]; exact hj
              obtain ⟨p, hp, e7⟩ := iv1.of_ j hj2
              exact ⟨p, by omega, (hro _ (Or.inl (by omega)) (by omega)).trans e7⟩) (fun j hj => by
              obtain ⟨p, hp, e7⟩ := hel9 j (by omega)
              exact ⟨p, by omega, e7⟩)
          obtain ⟨m_81, c_81, l_81, b_81, el_81, ne_81⟩ := h9.LA14 or9.2.2
          have lm := l_81.2.2.1
          obtain ⟨p9, hp9, ep9⟩ := hel9 (L / fac kk) (by omega)
          have fp9 : (fun j => if j < S 14 0 then some (A 35 0 (tN (VX 0 S b τ e 15 0 0 j))) else none) (L / fac kk) = some (A 35 0 p9) := by
            dsimp only
            rw [if_pos (by omega), V15 h9.hz (by omega), ep9, tN_nI (by omega)]
          refine pl_callVd (pc := 81) (As := [_]) (C1 := 0) (N1 := 0) (C2 := 1) (N2 := 6) ckJ2 mdJ2_remove rfl q1675 q1676 q1677 q129 dX1_draw_81 rfl rfl (Nat.le_of_ble_eq_true rfl) l_81.1 (k_J2_remove (d := d - 1) (by omega) l_81 (show L / fac kk < S 14 0 by omega) fp9 (fun j hj => if_neg (Nat.not_lt.mpr hj)) el_81 ne_81) (by omega) (by omega) (by omega) ?_
          refine sxk (h9.rm14 (k := kk) (by omega) (by omega) hpl ⟨by omega, b_81.2⟩ or9) (fun My1 y1 => ?_)
          have hp9x : p9 < SnX S 14 0 kk 4 0 := by rw [SnX_ne (by omega)]; omega
          have r31 : row (upto (shfA (L / fac kk)) (kk - L / fac kk) τ) 2131 = nI (dr + i) := by rw [shf_row, if_neg (by omega)]; exact h31
          refine pj_castS (pc := 84) ckX10 q1047 dX1_draw_84 (y1.r35 hp9x) ?_
          refine pj_astore (pc := 87) (lv' := [(5, _), (2, _), (4, _), (3, _), (1, _), (0, _)]) dX1_draw_87 (by decide) rfl ?_
          refine pl_iload (pc := 89) dX1_draw_89 rfl ?_
          refine pl_iload_n (pc := 91) dX1_draw_91 rfl rfl ?_
          refine pl_irem (pc := 92) dX1_draw_92 (by omega) fk0 fk1 ?_
          refine pj_istore (pc := 93) (lv' := [(4, _), (5, _), (2, _), (3, _), (1, _), (0, _)]) dX1_draw_93 (by decide) rfl ?_
          refine pl_aload_n (pc := 95) dX1_draw_95 rfl rfl ?_
          refine pj_getf (pc := 96) ckX1 0 q853 dX1_draw_96 (by decide) (y1.r0) rfl ?_
          refine pj_getfN (pc := 99) ckX2 25 q771 dX1_draw_99 (by decide) (y1.r1) rfl ?_
          refine pl_aload_n (pc := 102) dX1_draw_102 rfl rfl ?_
          refine pj_getf (pc := 103) ckX1 0 q853 dX1_draw_103 (by decide) (y1.r0) rfl ?_
          refine pj_getfN (pc := 106) ckX2 8 q740 dX1_draw_106 (by decide) (y1.r1) rfl ?_
          refine PJ.top (y := nI (dr + i)) r31 ?_
          refine pl_aload (pc := 109) dX1_draw_109 rfl ?_
          refine pj_getfN (pc := 111) ckX10 0 q1066 dX1_draw_111 (by decide) (y1.r35 hp9x) rfl ?_
          refine pl_iast (pc := 114) (n := 12) dX1_draw_114 (y1.r25) (by omega) (by decide) ?_
          refine sxk (y1.p25 (by omega)) (fun My2 y2 => ?_)
          refine pl_aload_n (pc := 115) dX1_draw_115 rfl rfl ?_
          refine pj_getf (pc := 116) ckX1 0 q853 dX1_draw_116 (by decide) (y2.r0) rfl ?_
          refine pj_dup (pc := 119) dX1_draw_119 rfl ?_
          refine pj_getfN (pc := 120) ckX2 8 q740 dX1_draw_120 (by decide) (y2.r1) rfl ?_
          refine PJ.top (y := nI (dr + i)) ((rowS_ne (by omega)).trans r31) ?_
          refine pl_iconst (pc := 123) (v := 1) dX1_draw_123 (by rfl) ?_
          refine pl_iadd (pc := 124) dX1_draw_124 ?_
          refine pj_putfN (pc := 125) ckX2 8 q740 dX1_draw_125 (by decide) rfl (y2.r1) rfl rfl (Nat.le_of_ble_eq_true rfl) ?_
          refine sxk (y2.p1_8) (fun My3 y3 => ?_)
          refine pj_goto (pc := 128) (tgt := 53) dX1_draw_128 (by decide) ?_
          refine PJ.sub [0, 3, 2, 4, 5] rfl ?_
          have y9 := SX.onR (σ1 := dr1 kk (L / fac kk) τ) y3 (fun j _ => (dr1_row h31 (by omega) hpl (by omega) j).trans (by rw [ep9]; first | done | rfl)) (((OnR.shf _).R.R).sy.tr OnR.dr1)
          have ek : n0 - (i + 1) = kk := by omega
          have ih9 := ih (by omega)
          rw [ek] at ih9
          exact ih9 _ (SnX S 14 0 kk) (dr1 kk (L / fac kk) τ) (L % fac kk) (by rw [hSS]; exact SnX_two) hml (hdF.trans (by rw [hkk]; rfl)) y9 (dr1_2131 (dr := dr + i) h31 (by omega) hpl (by omega)) (dr1_el (dr := dr + i) h31 (by omega) hpl (by omega) (by rw [← hkk]; exact hel9)) (fun j h1 h2 => (dr1_o h31 (by omega) hpl (by omega) h1 h2).trans (hro j h1 h2)) (on9.tr OnR.dr1)
  · refine pl_iload_n (pc := 15) dX1_draw_15 rfl rfl ?_
    refine pl_iload_n (pc := 16) dX1_draw_16 rfl rfl ?_
    refine pl_imul (pc := 17) dX1_draw_17 ?_
    refine PJ.top (y := nI (fac (i + 1 + 1))) (by rw [fac_s (i + 1)]) ?_
    refine pj_istore_n (pc := 18) (lv' := [(2, _), (3, _), (1, _), (0, _)]) dX1_draw_18 rfl (by decide) rfl ?_
    refine pl_iinc1 (pc := 19) (lv' := [(3, _), (2, _), (1, _), (0, _)]) dX1_draw_19 rfl rfl (by decide) rfl ?_
    refine pj_goto (pc := 22) (tgt := 4) dX1_draw_22 (by decide) ?_
    exact ih (by omega)
