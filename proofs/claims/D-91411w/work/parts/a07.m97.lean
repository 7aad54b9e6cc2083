set_option maxRecDepth 100000
theorem live1_skip {σ : MS} {n nl p : Nat} (h : ¬ per σ p 2 = nI 3) : live1 n nl p σ = sM σ n nl 2 (nI 0) := by
  unfold live1
  exact if_pos h
theorem live2_own {σ : MS} {n nl p : Nat} (h : per σ p 2 = nI 4) : live2 n nl p σ = σ := by
  unfold live2
  exact if_pos h
theorem live3_skip {σ : MS} {n nl p : Nat} (h : ¬ per σ p 2 = nI 2) : live3 n nl p σ = σ := by
  unfold live3
  exact if_pos h
theorem livesI_no {σ : MS} {n nl p : Nat} (h : decide (nI 2 ≤ per σ p 2) = false) : livesI n nl p σ = σ := by
  unfold livesI
  exact if_pos h
theorem livesI_yes {σ : MS} {n nl p : Nat} (h : decide (nI 2 ≤ per σ p 2) = true) : livesI n nl p σ = s_lives n nl p σ := by
  unfold livesI
  rw [h]
  exact if_neg (by decide)
set_option maxHeartbeats 600000 in
theorem x_X2_works {g : GP} {μ : Mem} {d : Nat} {P : Nat → Prop} {F : Mem} {A : XA} {w : Nat} {S : Nat → Nat → Nat} {b : XS} {σ : MS} {nor nw : Nat} (hd : 345 ≤ d) (s : SB g P F A w S b σ nw μ) (iv : IvG σ (S 4 w) (S 8 w) (S 10 w) (S 6 w) nor nw)  : PM g yX2_works (ws_ yX2_works cX2_works 3 none) d (S 4 w) (3 * S 4 w) [.ref (A 1 w 0)] μ (WQ none (SB g P F A w S b (uq (livesI (S 4 w) (S 8 w)) (S 4 w) σ) nw)) := by
  refine PM.of (by decide +kernel) (Nat.le_of_ble_eq_true rfl) ?_
  refine PJ.ok (fun G => ?_)
  show PJ g _ _ _ _ d (S 4 w) (3 * S 4 w) 0 [(0, .ref (A 1 w 0))] [] _ _
  obtain ⟨e, h, t⟩ := s
  have hS4 := h.hz.2.1
  have hS6 := h.hz.2.2.1
  have hS8 := h.hz.2.2.2.1
  have hS10 := h.hz.2.2.2.2.1
  refine pl_iconst (pc := 0) (v := 0) dX2_works_0 (by rfl) ?_
  refine pj_istore_n (pc := 1) (lv' := [(1, _), (0, _)]) dX2_works_1 rfl (by decide) rfl ?_
  refine ind_dn (n := (S 4 w)) (P := fun i => ∀ M9 τ, τ = uq (livesI (S 4 w) (S 8 w)) i σ → SB g P F A w S b τ nw M9 → IvG τ (S 4 w) (S 8 w) (S 10 w) (S 6 w) nor nw → PJ g _ _ _ _ d (S 4 w - i) (3 * (S 4 w - i)) 2 [(1, .int (nI i)), (0, .ref (A 1 w 0))] [] M9 _) (fun i hi ih M9 τ hτ s9 iv9 => ?_) 0 (Nat.zero_le _) _ σ (uq_0 _ _).symm ⟨e, h, t⟩ iv
  obtain ⟨e9, h9, t9⟩ := s9
  refine pl_iload_n (pc := 2) dX2_works_2 rfl rfl ?_
  refine pl_aload_n (pc := 3) dX2_works_3 rfl rfl ?_
  refine pj_getf (pc := 4) ckX2 26 q772 dX2_works_4 (by decide) (h9.r1) rfl ?_
  obtain ⟨m_7, c_7, l_7⟩ := h9.L4
  refine pl_callVd (pc := 7) (As := []) (C1 := 0) (N1 := 0) (C2 := (S 4 w - i)) (N2 := (3 * (S 4 w - i))) ckJ2 mdJ2_size rfl q947 q948 q949 q129 dX2_works_7 rfl rfl (Nat.le_of_ble_eq_true rfl) l_7.1 (k_J2_size (d := d - 1) (by omega) l_7) (by omega) (by omega) (by omega) ?_
  refine pl_icmp_ge (pc := 10) (tgt := 120) dX2_works_10 (by decide) (by omega) (by omega) (fun c10 => ?_) (fun c10 => ?_)
  · refine pj_vret (pc := 120) dX2_works_120 rfl ?_
    have ei : i = S 4 w := by omega
    subst ei
    rw [← hτ]
    exact ⟨rfl, _, h9, t9⟩
  · refine pl_aload_n (pc := 13) dX2_works_13 rfl rfl ?_
    refine pj_getf (pc := 14) ckX2 26 q772 dX2_works_14 (by decide) (h9.r1) rfl ?_
    refine pl_iload_n (pc := 17) dX2_works_17 rfl rfl ?_
    obtain ⟨m_18, c_18, l_18⟩ := h9.L4
    refine pl_callVd (pc := 18) (As := [_]) (C1 := 0) (N1 := 0) (C2 := (S 4 w - i)) (N2 := (3 * (S 4 w - i))) ckJ2 mdJ2_get rfl q707 q708 q709 q129 dX2_works_18 rfl rfl (Nat.le_of_ble_eq_true rfl) l_18.1 (k_J2_get (d := d - 1) (by omega) l_18 (j := _) (by omega) (if_pos (by omega))) (by omega) (by omega) (by omega) ?_
    refine pj_castS (pc := 21) ckX10 q1190 dX2_works_21 (h9.r35 (by omega)) ?_
    refine pj_astore_n (pc := 24) (lv' := [(2, _), (1, _), (0, _)]) dX2_works_24 rfl (by decide) rfl ?_
    refine pl_aload_n (pc := 25) dX2_works_25 rfl rfl ?_
    refine pl_callVd (pc := 26) (As := []) (C1 := 0) (N1 := 0) (C2 := (S 4 w - i)) (N2 := (3 * (S 4 w - i))) ckX10 mdX10_isHere rfl q1191 q1192 q1193 q158 dX2_works_26 rfl rfl (Nat.le_of_ble_eq_true rfl) (h9.r35 (by omega)) (x_X10_isHere (d := d - 1) (by omega) h9 (by omega)) (by omega) (by omega) (by omega) ?_
    refine pl_if_neB (pc := 29) (tgt := 35) dX2_works_29 (by decide) (fun c29 => ?_) (fun c29 => ?_)
    · have hi9 : i < S 4 w := by omega
      have k74 : ∀ M8 τ1, SB g P F A w S b τ1 nw M8 → IvG τ1 (S 4 w) (S 8 w) (S 10 w) (S 6 w) nor nw → live3 (S 4 w) (S 8 w) i (live2 (S 4 w) (S 8 w) i (live1 (S 4 w) (S 8 w) i τ)) = τ1 → PJ g yX2_works.cls cX2_works 3 (none, yX2_works.name, []) d (S 4 w - (i + 1)) (3 * (S 4 w - (i + 1))) 74 [(2, .ref (A 35 w i)), (1, .int (nI i)), (0, .ref (A 1 w 0))] [] M8 (WQ none (SB g P F A w S b (uq (livesI (S 4 w) (S 8 w)) (S 4 w) σ) nw)) := by
        intro M8 τ1 s8 iv8 e1
        obtain ⟨e8, h8, t8⟩ := s8
        refine pl_aload_n (pc := 74) dX2_works_74 rfl rfl ?_
        refine pj_getf (pc := 75) ckX2 1 q727 dX2_works_75 (by decide) (h8.r1) rfl ?_
        refine pj_if_le (pc := 78) (tgt := 94) dX2_works_78 (by decide) (fun c78 => ?_) (fun c78 => ?_)
        · refine pl_aload_n (pc := 94) dX2_works_94 rfl rfl ?_
          refine pj_dup (pc := 95) dX2_works_95 rfl ?_
          refine pj_getfN (pc := 96) ckX10 8 q1089 dX2_works_96 (by decide) (h8.r35 (show i < S 4 w by omega)) rfl ?_
          refine pl_iconst (pc := 99) (v := 1) dX2_works_99 (by rfl) ?_
          refine pj_iadd (pc := 100) dX2_works_100 ?_
          refine pj_putfN (pc := 101) ckX10 8 q1089 dX2_works_101 (by decide) rfl (h8.r35 (show i < S 4 w by omega)) rfl rfl (Nat.le_of_ble_eq_true rfl) ?_
          refine sxk (h8.p35_8 (show i < S 4 w by omega)) (fun My1 y1 => ?_)
          refine pl_aload_n (pc := 104) dX2_works_104 rfl rfl ?_
          refine pj_dup (pc := 105) dX2_works_105 rfl ?_
          refine pj_getf (pc := 106) ckX2 6 q736 dX2_works_106 (by decide) (y1.r1) rfl ?_
          refine pl_iconst (pc := 109) (v := 1) dX2_works_109 (by rfl) ?_
          refine pj_iadd (pc := 110) dX2_works_110 ?_
          refine pj_putf (pc := 111) ckX2 6 q736 dX2_works_111 (by decide) rfl (y1.r1) rfl rfl (Nat.le_of_ble_eq_true rfl) ?_
          refine sxk (y1.p1_6) (fun My2 y2 => ?_)
          refine pl_iinc1 (pc := 114) (lv' := [(1, _), (2, _), (0, _)]) dX2_works_114 rfl rfl (by decide) rfl ?_
          refine pj_goto (pc := 117) (tgt := 2) dX2_works_117 (by decide) ?_
          refine PJ.sub [0, 2] rfl ?_
          have el : uq (livesI (S 4 w) (S 8 w)) (i + 1) σ = live4 i τ1 := by rw [uq_s, ← hτ, livesI_yes c29]; unfold s_lives; rw [e1]
          have e4 : live4 i τ1 = sR (sR τ1 (768 + 8 * i + 4) (per τ1 i 4 + nI 1)) 2122 (row (sR τ1 (768 + 8 * i + 4) (per τ1 i 4 + nI 1)) 2122 + nI 1) := if_neg (fun z => z c78)
          have iv7 := live4_iv (p := i) iv8 (by omega)
          rw [e4] at iv7
          exact ih (by omega) _ _ (by rw [el, e4]) (y2.SB (t8.cg y2.hz (fun j hj => by rw [rowS_ne (fun z => hj (by unfold fr0; omega)), rowS_ne (fun z => hj (by unfold fr0; omega))]) (by simp [sA]) (by simp [sA]) (fun j _ => by simp [sA]) rfl rfl)) iv7
        · refine pl_aload_n (pc := 81) dX2_works_81 rfl rfl ?_
          refine pj_dup (pc := 82) dX2_works_82 rfl ?_
          refine pj_getf (pc := 83) ckX2 1 q727 dX2_works_83 (by decide) (h8.r1) rfl ?_
          refine pl_iconst (pc := 86) (v := 1) dX2_works_86 (by rfl) ?_
          refine pj_isub (pc := 87) dX2_works_87 ?_
          refine pj_putf (pc := 88) ckX2 1 q727 dX2_works_88 (by decide) rfl (h8.r1) rfl rfl (Nat.le_of_ble_eq_true rfl) ?_
          refine sxk (h8.p1_1) (fun My3 y3 => ?_)
          refine pj_goto (pc := 91) (tgt := 114) dX2_works_91 (by decide) ?_
          refine pl_iinc1 (pc := 114) (lv' := [(1, _), (2, _), (0, _)]) dX2_works_114 rfl rfl (by decide) rfl ?_
          refine pj_goto (pc := 117) (tgt := 2) dX2_works_117 (by decide) ?_
          refine PJ.sub [0, 2] rfl ?_
          have el : uq (livesI (S 4 w) (S 8 w)) (i + 1) σ = live4 i τ1 := by rw [uq_s, ← hτ, livesI_yes c29]; unfold s_lives; rw [e1]
          have e4 : live4 i τ1 = sR τ1 2117 (row τ1 2117 - nI 1) := if_pos c78
          have iv7 := live4_iv (p := i) iv8 (by omega)
          rw [e4] at iv7
          exact ih (by omega) _ _ (by rw [el, e4]) (y3.SB (t8.cg y3.hz (fun j hj => rowS_ne (fun z => hj (by unfold fr0; omega))) (by simp [sA]) (by simp [sA]) (fun j _ => by simp [sA]) rfl rfl)) iv7
      have k61 : ∀ M8 τ1, SB g P F A w S b τ1 nw M8 → IvG τ1 (S 4 w) (S 8 w) (S 10 w) (S 6 w) nor nw → live2 (S 4 w) (S 8 w) i (live1 (S 4 w) (S 8 w) i τ) = τ1 → PJ g yX2_works.cls cX2_works 3 (none, yX2_works.name, []) d (S 4 w - (i + 1)) (3 * (S 4 w - (i + 1))) 61 [(2, .ref (A 35 w i)), (1, .int (nI i)), (0, .ref (A 1 w 0))] [] M8 (WQ none (SB g P F A w S b (uq (livesI (S 4 w) (S 8 w)) (S 4 w) σ) nw)) := by
        intro M8 τ1 s8 iv8 e1
        obtain ⟨e8, h8, t8⟩ := s8
        refine pl_aload_n (pc := 61) dX2_works_61 rfl rfl ?_
        refine pj_getfN (pc := 62) ckX10 3 q1074 dX2_works_62 (by decide) (h8.r35 (show i < S 4 w by omega)) rfl ?_
        refine pl_iconst (pc := 65) (v := 2) dX2_works_65 (by rfl) ?_
        refine pj_icmp_ne (pc := 66) (tgt := 74) dX2_works_66 (by decide) (fun c66 => ?_) (fun c66 => ?_)
        · exact k74 _ _ ⟨_, h8, t8⟩ iv8 (by rw [e1]; exact live3_skip c66)
        · refine pl_aload_n (pc := 69) dX2_works_69 rfl rfl ?_
          refine pl_aload_n (pc := 70) dX2_works_70 rfl rfl ?_
          refine pl_callVWv (pc := 71) (As := [_]) (C1 := 0) (N1 := 0) (C2 := (S 4 w - (i + 1))) (N2 := (3 * (S 4 w - (i + 1)))) ckX2 mdX2_seeks rfl q2414 q2416 qs43 q126 dX2_works_71 rfl rfl (Nat.le_of_ble_eq_true rfl) (h8.r1) (x_X2_seeks (d := d - 1) (by omega) ⟨_, h8, t8⟩ iv8 hi9 c66) (by omega) (by omega) (by omega) (fun My4 qy4 => ?_)
          exact k74 _ _ qy4 (live3_iv iv8 hi9) (by rw [e1])
      have k48 : ∀ M8 τ1, SB g P F A w S b τ1 nw M8 → IvG τ1 (S 4 w) (S 8 w) (S 10 w) (S 6 w) nor nw → live1 (S 4 w) (S 8 w) i τ = τ1 → PJ g yX2_works.cls cX2_works 3 (none, yX2_works.name, []) d (S 4 w - i) (3 * (S 4 w - i)) 48 [(2, .ref (A 35 w i)), (1, .int (nI i)), (0, .ref (A 1 w 0))] [] M8 (WQ none (SB g P F A w S b (uq (livesI (S 4 w) (S 8 w)) (S 4 w) σ) nw)) := by
        intro M8 τ1 s8 iv8 e1
        obtain ⟨e8, h8, t8⟩ := s8
        refine pl_aload_n (pc := 48) dX2_works_48 rfl rfl ?_
        refine pj_getfN (pc := 49) ckX10 3 q1074 dX2_works_49 (by decide) (h8.r35 (show i < S 4 w by omega)) rfl ?_
        refine pl_iconst (pc := 52) (v := 4) dX2_works_52 (by rfl) ?_
        refine pj_icmp_eq (pc := 53) (tgt := 61) dX2_works_53 (by decide) (fun c53 => ?_) (fun c53 => ?_)
        · refine PJ.widen (C1 := S 4 w - (i + 1)) (N1 := 3 * (S 4 w - (i + 1))) (by omega) (by omega) ?_
          exact k61 _ _ ⟨_, h8, t8⟩ iv8 (by rw [e1]; exact live2_own c53)
        · refine pl_aload_n (pc := 56) dX2_works_56 rfl rfl ?_
          refine pl_aload_n (pc := 57) dX2_works_57 rfl rfl ?_
          refine pl_callVWv (pc := 58) (As := [_]) (C1 := 1) (N1 := 3) (C2 := (S 4 w - (i + 1))) (N2 := (3 * (S 4 w - (i + 1)))) ckX2 mdX2_wants rfl q2403 q2405 qs41 q126 dX2_works_58 rfl rfl (Nat.le_of_ble_eq_true rfl) (h8.r1) (x_X2_wants (d := d - 1) (by omega) ⟨_, h8, t8⟩ iv8 hi9 c53) (by omega) (by omega) (by omega) (fun My5 qy5 => ?_)
          exact k61 _ _ qy5 (live2_iv iv8 hi9) (by rw [e1])
      refine pl_aload_n (pc := 35) dX2_works_35 rfl rfl ?_
      refine pj_getfN (pc := 36) ckX10 3 q1074 dX2_works_36 (by decide) (h9.r35 (by omega)) rfl ?_
      refine pl_iconst (pc := 39) (v := 3) dX2_works_39 (by rfl) ?_
      refine pj_icmp_ne (pc := 40) (tgt := 48) dX2_works_40 (by decide) (fun c40 => ?_) (fun c40 => ?_)
      · exact k48 _ _ (SB.P ⟨_, h9, t9⟩) iv9.sA1 (live1_skip c40)
      · refine pl_aload_n (pc := 43) dX2_works_43 rfl rfl ?_
        refine pl_aload_n (pc := 44) dX2_works_44 rfl rfl ?_
        refine pl_callVWv (pc := 45) (As := [_]) (C1 := 0) (N1 := 0) (C2 := (S 4 w - i)) (N2 := (3 * (S 4 w - i))) ckX2 mdX2_isPaid rfl q2399 q2401 qs40 q126 dX2_works_45 rfl rfl (Nat.le_of_ble_eq_true rfl) (h9.r1) (x_X2_isPaid (d := d - 1) (by omega) ⟨_, h9, t9⟩ iv9 hi9 c40) (by omega) (by omega) (by omega) (fun My6 qy6 => ?_)
        exact k48 _ _ qy6 (live1_iv iv9 hi9) rfl
    · refine pj_goto (pc := 32) (tgt := 114) dX2_works_32 (by decide) ?_
      refine pl_iinc1 (pc := 114) (lv' := [(1, _), (2, _), (0, _)]) dX2_works_114 rfl rfl (by decide) rfl ?_
      refine pj_goto (pc := 117) (tgt := 2) dX2_works_117 (by decide) ?_
      refine PJ.sub [0, 2] rfl ?_
      refine PJ.widen (C1 := S 4 w - (i + 1)) (N1 := 3 * (S 4 w - (i + 1))) (by omega) (by omega) ?_
      exact ih (by omega) _ _ (by rw [uq_s, ← hτ, livesI_no c29]) ⟨_, h9, t9⟩ iv9
