set_option maxRecDepth 100000
theorem sum100 {n : Nat} {m : Int32} (hn : n ≤ 100) : (nI n).toInt64 + m.toInt64 ≤ 100 ↔ m ≤ nI 100 - nI n := by
  rw [pk_sub hn, Int64.le_iff_toInt_le, Int32.le_iff_toInt_le, Int64.toInt_add, Int32.toInt_toInt64, Int32.toInt_toInt64, nI_toInt (by omega), nI_toInt (by omega)]
  have h1 := m.toInt_lt
  have h2 := m.le_toInt
  rw [Int.bmod_eq_of_le (by omega) (by omega)]
  have e : (100 : Int64).toInt = 100 := by decide
  rw [e]
  omega
def AkX (S : Nat → Nat → Nat) (σ : MS) (nor : Nat) : Prop := S 8 1 ≤ S 8 0 ∧ S 12 0 = nor ∧ S 14 0 ≤ 12 ∧ ∀ j, j < S 14 0 → ∃ p, p < S 4 0 ∧ row σ (2092 + j) = nI p
theorem or_of {S : Nat → Nat → Nat} {b : XS} {σ : MS} {e : XE} {nl nb q nor nw : Nat} (hz : SzX 0 S) (iv : IvG σ (S 4 0) nl nb q nor nw) (ak : AkX S σ nor) : OrX 0 S b σ e := by
  have h4 := hz.2.1
  have hOR := iv.hOR
  refine ⟨ak.1, fun j hj => ?_, fun j hj => ?_⟩
  · have hj2 : j < nor := by rw [← ak.2.1]; exact hj
    obtain ⟨p, hp, e9⟩ := iv.of_ j hj2
    rw [V13 hz (by omega), show row σ (1780 + 3 * j + 0) = nI p from e9, tN_nI (by omega)]
    exact hp
  · have h14 := ak.2.2.1
    obtain ⟨p, hp, e9⟩ := ak.2.2.2 j hj
    rw [V15 hz (by omega), e9, tN_nI (by omega)]
    exact hp
theorem AkX.cg {S : Nat → Nat → Nat} {σ τ : MS} {nor : Nat} (h : AkX S σ nor) (hr : ∀ j, 2092 ≤ j → j < 2104 → row τ j = row σ j) : AkX S τ nor := by
  refine ⟨h.1, h.2.1, h.2.2.1, fun j hj => ?_⟩
  have := h.2.2.1
  rw [hr _ (by omega) (by omega)]
  exact h.2.2.2 j hj
theorem SnX_two {S : Nat → Nat → Nat} {k w m n : Nat} : SnX (SnX S k w m) k w n = SnX S k w n := by
  funext x y
  unfold SnX
  by_cases h : x = k ∧ y = w
  · rw [if_pos h, if_pos h]
  · rw [if_neg h, if_neg h, if_neg h]
theorem AkX.n4 {S : Nat → Nat → Nat} {σ : MS} {nor n : Nat} (h : AkX S σ nor) (hn : S 4 0 ≤ n) : AkX (SnX S 4 0 n) σ nor := by
  refine ⟨by rw [SnX_ne (by omega), SnX_ne (by omega)]; exact h.1, by rw [SnX_ne (by omega)]; exact h.2.1, by rw [SnX_ne (by omega)]; exact h.2.2.1, fun j hj => ?_⟩
  rw [SnX_ne (by omega)] at hj
  obtain ⟨p, hp, e⟩ := h.2.2.2 j hj
  exact ⟨p, by rw [SnX_eq]; omega, e⟩
theorem p_people_ok {σ : MS} {n j : Nat} {m t c : Int32} (h0 : ¬ t < 0) (h1 : ¬ nI 3 < t) (h2 : ¬ c < 0) (h3 : c ≤ 1000000) (hm : m = nI j) (hj : j + n ≤ 100) : p_people σ n m t c = (nI n, upto (fun _ σ => s_adds σ t c (nI 0) (-1)) j (s0 σ)) := by
  subst hm
  have e9 : nI 100 - nI n = nI (100 - n) := pk_sub (by omega)
  unfold p_people
  rw [if_neg h0, if_neg h1, if_neg h2, if_neg (fun z => z h3), if_neg (fun z => z (by rw [e9]; exact (nI_leI (by omega) (by omega)).mpr (by omega))), if_neg (fun z => z (nI_pos' (by omega))), tN_nI (by omega)]
theorem own_keep {F : Mem} {q : Nat} {c : va_E} (h : F q = none) : ∀ a e, F a = some e → mset F q c a = some e := fun a e he => by
  rw [mset_n (fun z => by rw [z, h] at he; cases he)]
  exact he
set_option maxHeartbeats 600000 in
theorem x_X1_people {g : GP} {μ : Mem} {d : Nat} {P : Nat → Prop} {F : Mem} {A : XA} {S : Nat → Nat → Nat} {b : XS} {σ : MS} {nor nw : Nat} (s : SB g P F A 0 S b σ nw μ) (iv : IvG σ (S 4 0) (S 8 0) (S 10 0) (S 6 0) nor nw) (rs : RsX σ) (ak : AkX S σ nor) (hd : 12 ≤ d) {m : Int32} {t9 : Int32} {c : Int32} : PM g yX1_people (ws_ yX1_people cX1_people 6 (some .int)) d 200 16100 [.ref (A 0 0 0), .int m, .int t9, .int c] μ (CQ ["java/lang/IllegalArgumentException"] (p_people σ (S 4 0) m t9 c) (fun τ M => ∃ A1 n1, n1 ≤ 100 ∧ row τ 2124 = nI n1 ∧ SB g P F A1 0 (SnX S 4 0 n1) b τ nw M)) := by
  refine PM.of (by decide +kernel) (Nat.le_of_ble_eq_true rfl) ?_
  refine PJ.ok (fun G => ?_)
  show PJ g _ _ _ _ d 200 16100 0 [(0, .ref (A 0 0 0)), (1, .int m), (2, .int t9), (3, .int c)] [] _ _
  obtain ⟨ρ, hs0⟩ : ∃ ρ, ρ = sF σ 0 (nI 0) := ⟨_, rfl⟩
  have hs9 : s0 σ = ρ := hs0.symm
  have s1 := s.F0 (x := nI 0)
  rw [← hs0] at s1
  obtain ⟨e, h, t⟩ := s1
  have iv1 : IvG ρ (S 4 0) (S 8 0) (S 10 0) (S 6 0) nor nw := by rw [hs0]; exact iv.f0
  have rs1 : RsX ρ := by rw [hs0]; exact rs
  have h00 : ρ.1 0 = nI 0 := by rw [hs0]; rfl
  have hS4 := h.hz.2.1
  have hS6 := h.hz.2.2.1
  have hS8 := h.hz.2.2.2.1
  have hS10 := h.hz.2.2.2.2.1
  have ak1 : AkX S ρ nor := by rw [hs0]; exact ak.cg (fun _ _ _ => rfl)
  refine pl_iload_n (pc := 0) dX1_people_0 rfl rfl ?_
  refine pj_if_lt (pc := 1) (tgt := 23) dX1_people_1 (by decide) (fun c1 => ?_) (fun c1 => ?_)
  · refine pl_iconst (pc := 23) (v := 0) dX1_people_23 (by rfl) ?_
    refine pl_callSX (pc := 24) (As := [_]) (C1 := 1) (N1 := 6) (C2 := 0) (N2 := 0) (E8 := "java/lang/IllegalArgumentException") mdX1_need q1262 q1263 q125 dX1_people_24 rfl rfl (Nat.le_of_ble_eq_true rfl) (k_X1_need_no (d := d - 1) (by omega) rfl) (by omega) (by omega) (by omega) (fun q_24 M_24 hM_24 => ?_)
    refine px_out0 rfl ?_
    exact CQ.no 0 (v := nI 0) (τ := sF ρ 0 (nI 1)) (by rw [show sF ρ 0 (nI 1) = th σ 1 by rw [hs0]]; first | (simp only [p_people, hs9, c1, ↓reduceIte]; first | done | rfl) | (simp [p_people, hs9, c1, Int32.not_lt, Int32.not_le]; first | done | rfl)) rfl rfl (⟨A, S 4 0, hS4, iv1.hn, by rw [SnX_id]; exact SB.mono (SB.F0 ⟨_, h, t⟩) hM_24⟩)
  · refine pl_iload_n (pc := 4) dX1_people_4 rfl rfl ?_
    refine pl_iconst (pc := 5) (v := 3) dX1_people_5 (by rfl) ?_
    refine pj_icmp_gt (pc := 6) (tgt := 23) dX1_people_6 (by decide) (fun c6 => ?_) (fun c6 => ?_)
    · refine pl_iconst (pc := 23) (v := 0) dX1_people_23 (by rfl) ?_
      refine pl_callSX (pc := 24) (As := [_]) (C1 := 1) (N1 := 6) (C2 := 0) (N2 := 0) (E8 := "java/lang/IllegalArgumentException") mdX1_need q1262 q1263 q125 dX1_people_24 rfl rfl (Nat.le_of_ble_eq_true rfl) (k_X1_need_no (d := d - 1) (by omega) rfl) (by omega) (by omega) (by omega) (fun q_24 M_24 hM_24 => ?_)
      refine px_out0 rfl ?_
      exact CQ.no 0 (v := nI 0) (τ := sF ρ 0 (nI 1)) (by rw [show sF ρ 0 (nI 1) = th σ 1 by rw [hs0]]; first | (simp only [p_people, hs9, c1, c6, ↓reduceIte]; first | done | rfl) | (simp [p_people, hs9, c1, c6, Int32.not_lt, Int32.not_le]; first | done | rfl)) rfl rfl (⟨A, S 4 0, hS4, iv1.hn, by rw [SnX_id]; exact SB.mono (SB.F0 ⟨_, h, t⟩) hM_24⟩)
    · refine pl_iload_n (pc := 9) dX1_people_9 rfl rfl ?_
      refine pj_if_lt (pc := 10) (tgt := 23) dX1_people_10 (by decide) (fun c10 => ?_) (fun c10 => ?_)
      · refine pl_iconst (pc := 23) (v := 0) dX1_people_23 (by rfl) ?_
        refine pl_callSX (pc := 24) (As := [_]) (C1 := 1) (N1 := 6) (C2 := 0) (N2 := 0) (E8 := "java/lang/IllegalArgumentException") mdX1_need q1262 q1263 q125 dX1_people_24 rfl rfl (Nat.le_of_ble_eq_true rfl) (k_X1_need_no (d := d - 1) (by omega) rfl) (by omega) (by omega) (by omega) (fun q_24 M_24 hM_24 => ?_)
        refine px_out0 rfl ?_
        exact CQ.no 0 (v := nI 0) (τ := sF ρ 0 (nI 1)) (by rw [show sF ρ 0 (nI 1) = th σ 1 by rw [hs0]]; first | (simp only [p_people, hs9, c1, c6, c10, ↓reduceIte]; first | done | rfl) | (simp [p_people, hs9, c1, c6, c10, Int32.not_lt, Int32.not_le]; first | done | rfl)) rfl rfl (⟨A, S 4 0, hS4, iv1.hn, by rw [SnX_id]; exact SB.mono (SB.F0 ⟨_, h, t⟩) hM_24⟩)
      · refine pl_iload_n (pc := 13) dX1_people_13 rfl rfl ?_
        refine pj_ldc (pc := 14) q1402 dX1_people_14 ?_
        refine pj_icmp_gt (pc := 16) (tgt := 23) dX1_people_16 (by decide) (fun c16 => ?_) (fun c16 => ?_)
        · refine pl_iconst (pc := 23) (v := 0) dX1_people_23 (by rfl) ?_
          refine pl_callSX (pc := 24) (As := [_]) (C1 := 1) (N1 := 6) (C2 := 0) (N2 := 0) (E8 := "java/lang/IllegalArgumentException") mdX1_need q1262 q1263 q125 dX1_people_24 rfl rfl (Nat.le_of_ble_eq_true rfl) (k_X1_need_no (d := d - 1) (by omega) rfl) (by omega) (by omega) (by omega) (fun q_24 M_24 hM_24 => ?_)
          refine px_out0 rfl ?_
          exact CQ.no 0 (v := nI 0) (τ := sF ρ 0 (nI 1)) (by rw [show sF ρ 0 (nI 1) = th σ 1 by rw [hs0]]; first | (simp only [p_people, hs9, c1, c6, c10, c16, ↓reduceIte]; first | done | rfl) | (simp [p_people, hs9, c1, c6, c10, c16, Int32.not_lt, Int32.not_le]; first | done | rfl)) rfl rfl (⟨A, S 4 0, hS4, iv1.hn, by rw [SnX_id]; exact SB.mono (SB.F0 ⟨_, h, t⟩) hM_24⟩)
        · refine pl_iconst (pc := 19) (v := 1) dX1_people_19 (by rfl) ?_
          refine pj_goto (pc := 20) (tgt := 24) dX1_people_20 (by decide) ?_
          refine pl_callSv (pc := 24) (As := [_]) (C1 := 0) (N1 := 0) (C2 := 200) (N2 := 16100) mdX1_need q1262 q1263 q125 dX1_people_24 rfl rfl (Nat.le_of_ble_eq_true rfl) (k_X1_need_ok (d := d - 1) (by omega) (by decide)) (by omega) (by omega) (by omega) ?_
          refine pl_aload_n (pc := 27) dX1_people_27 rfl rfl ?_
          refine pj_getf (pc := 28) ckX1 0 q853 dX1_people_28 (by decide) (h.r0) rfl ?_
          refine pj_getfN (pc := 31) ckX2 26 q773 dX1_people_31 (by decide) (h.r1) rfl ?_
          obtain ⟨m_34, c_34, l_34⟩ := h.L4
          refine pl_callVd (pc := 34) (As := []) (C1 := 0) (N1 := 0) (C2 := 200) (N2 := 16100) ckJ2 mdJ2_size rfl q1049 q948 q949 q129 dX1_people_34 rfl rfl (Nat.le_of_ble_eq_true rfl) l_34.1 (k_J2_size (d := d - 1) (by omega) l_34) (by omega) (by omega) (by omega) ?_
          refine pj_i2l (pc := 37) dX1_people_37 rfl ?_
          refine pl_iload_n (pc := 38) dX1_people_38 rfl rfl ?_
          refine pj_i2l (pc := 39) dX1_people_39 rfl ?_
          refine pj_ladd (pc := 40) dX1_people_40 ?_
          refine pj_ldc2 (pc := 41) q1403 dX1_people_41 ?_
          refine pj_lcmp (pc := 44) dX1_people_44 ?_
          refine pj_if_le (pc := 45) (tgt := 50) dX1_people_45 (by decide) (fun c45 => ?_) (fun c45 => ?_)
          · have f45 : m ≤ nI 100 - nI (S 4 0) := (sum100 hS4).mp ((lg_cmp_le _ _).mp c45)
            refine pl_iload_n (pc := 50) dX1_people_50 rfl rfl ?_
            refine pj_if_ge (pc := 51) (tgt := 57) dX1_people_51 (by decide) (fun c51 => ?_) (fun c51 => ?_)
            · obtain ⟨n0, hn0⟩ : ∃ n0, n0 = S 4 0 := ⟨_, rfl⟩
              obtain ⟨j_m, hj_m, em⟩ := inN_of (x := m) (n := 101) (by omega) (by
                have z9 : m ≤ nI (100 - S 4 0) := by rw [← pk_sub hS4]; exact f45
                simp only [inN, Bool.and_eq_true, decide_eq_true_eq]
                exact ⟨c51, Int32.lt_of_le_of_lt z9 (nI_lt (by omega) (by omega))⟩)
              have hjm : j_m + n0 ≤ 100 := by
                have z9 : nI j_m ≤ nI (100 - S 4 0) := by rw [← em, ← pk_sub hS4]; exact f45
                have z8 := (nI_leI (by omega) (by omega)).mp z9
                omega
              obtain ⟨mc, hmc, emc⟩ := inN_of (x := c) (n := 1000001) (by omega) (by
                simp only [inN, Bool.and_eq_true, decide_eq_true_eq]
                exact ⟨Int32.not_lt.mp c10, Int32.lt_of_le_of_lt (Int32.not_lt.mp c16) (by decide)⟩)
              refine pl_aload_n (pc := 57) dX1_people_57 rfl rfl ?_
              refine pj_getf (pc := 58) ckX1 0 q853 dX1_people_58 (by decide) (h.r0) rfl ?_
              refine pj_getfN (pc := 61) ckX2 26 q773 dX1_people_61 (by decide) (h.r1) rfl ?_
              obtain ⟨m_64, c_64, l_64⟩ := h.L4
              refine pl_callVd (pc := 64) (As := []) (C1 := 0) (N1 := 0) (C2 := 200) (N2 := 16100) ckJ2 mdJ2_size rfl q1049 q948 q949 q129 dX1_people_64 rfl rfl (Nat.le_of_ble_eq_true rfl) l_64.1 (k_J2_size (d := d - 1) (by omega) l_64) (by omega) (by omega) (by omega) ?_
              refine PJ.top (y := nI n0) (by rw [hn0]) ?_
              refine pj_istore (pc := 67) (lv' := [(4, _), (0, _), (1, _), (2, _), (3, _)]) dX1_people_67 (by decide) rfl ?_
              refine pl_iconst (pc := 69) (v := 0) dX1_people_69 (by rfl) ?_
              refine pj_istore (pc := 70) (lv' := [(5, _), (4, _), (0, _), (1, _), (2, _), (3, _)]) dX1_people_70 (by decide) rfl ?_
              rw [em]
              obtain ⟨S0, rfl⟩ : ∃ S0, S0 = S := ⟨S, rfl⟩
              refine PJ.widen (C1 := 2 * (100 - 0)) (N1 := 161 * (100 - 0)) (by omega) (by omega) ?_
              refine PJ.sub [0, 1, 5, 4, 3, 2] rfl ?_
              refine ind_dn (n := j_m) (P := fun i => ∀ M9 A S τ, S = SnX S0 4 0 (n0 + i) → τ = upto (fun _ s => s_adds s t9 c (nI 0) (-1)) i ρ → SB g P F A 0 S b τ nw M9 → IvG τ (S 4 0) (S 8 0) (S 10 0) (S 6 0) nor nw → AkX S τ nor → τ.1 = ρ.1 → PJ g _ _ _ _ d (2 * (100 - i)) (161 * (100 - i)) 72 [(5, .int (nI i)), (4, .int (nI n0)), (3, .int c), (2, .int t9), (1, .int (nI j_m)), (0, .ref (A 0 0 0))] [] M9 _) (fun i hi ih M9 A S τ hSS hτ s9 iv9 ak9 f9 => ?_) 0 (Nat.zero_le _) _ A S0 ρ (by rw [hn0]; exact SnX_id.symm) rfl ⟨_, h, t⟩ iv1 ak1 rfl
              obtain ⟨e9, h9, t9e⟩ := s9
              have hS4 := h9.hz.2.1
              have h4i : S 4 0 = n0 + i := by rw [hSS]; exact SnX_eq
              refine pl_iload (pc := 72) dX1_people_72 rfl ?_
              refine pl_iload_n (pc := 74) dX1_people_74 rfl rfl ?_
              refine pl_icmp_ge (pc := 75) (tgt := 114) dX1_people_75 (by decide) (by omega) (by omega) (fun c75 => ?_) (fun c75 => ?_)
              · refine pl_iload (pc := 114) dX1_people_114 rfl ?_
                refine pj_iret (pc := 116) dX1_people_116 rfl ?_
                have ei : i = j_m := by omega
                subst ei
                refine CQ.ok (τ := τ) (by rw [p_people_ok c1 c6 c10 (Int32.not_lt.mp c16) rfl (by omega), hs9, ← hτ, hn0]) (by rw [f9]; exact h00) ⟨A, n0 + i, by omega, by rw [← h4i]; exact iv9.hn, ?_⟩
                rw [← hSS]
                exact ⟨_, h9, t9e⟩
              · refine pl_aload_n (pc := 78) dX1_people_78 rfl rfl ?_
                refine pj_getf (pc := 79) ckX1 0 q853 dX1_people_79 (by decide) (h9.r0) rfl ?_
                refine pj_getfN (pc := 82) ckX2 26 q773 dX1_people_82 (by decide) (h9.r1) rfl ?_
                refine pj_new (pc := 85) (C1 := (2 * (100 - i) - 1)) (N1 := (161 * (100 - i) - 10)) ckX10 q1047 q1059 q158 dX1_people_85 _ dfX10 (by omega) (by omega) (fun q_85 hn_85 gq_85 => ?_)
                refine sxh (h9.fresh hn_85) (fun y1 => ?_)
                refine pj_dup (pc := 88) dX1_people_88 rfl ?_
                refine pl_aload_n (pc := 89) dX1_people_89 rfl rfl ?_
                refine pj_getf (pc := 90) ckX1 0 q853 dX1_people_90 (by decide) (y1.r0) rfl ?_
                refine pj_getfN (pc := 93) ckX2 26 q773 dX1_people_93 (by decide) (y1.r1) rfl ?_
                obtain ⟨m_96, c_96, l_96⟩ := y1.L4
                refine pl_callVd (pc := 96) (As := []) (C1 := 0) (N1 := 0) (C2 := (2 * (100 - i) - 1)) (N2 := (161 * (100 - i) - 10)) ckJ2 mdJ2_size rfl q1049 q948 q949 q129 dX1_people_96 rfl rfl (Nat.le_of_ble_eq_true rfl) l_96.1 (k_J2_size (d := d - 1) (by omega) l_96) (by omega) (by omega) (by omega) ?_
                refine pl_iload_n (pc := 99) dX1_people_99 rfl rfl ?_
                refine pl_iload_n (pc := 100) dX1_people_100 rfl rfl ?_
                refine pl_callIv (pc := 101) (As := [_, _, _]) (C1 := 0) (N1 := 0) (C2 := (2 * (100 - i) - 1)) (N2 := (161 * (100 - i) - 10)) mdX10_init rfl q1060 q1061 q158 dX1_people_101 rfl rfl (Nat.le_of_ble_eq_true rfl) (k_X10_init (d := d - 1) (by omega) (f := fun _ => 0) mset_s) (by omega) (by omega) (by omega) ?_
                refine PJ.mem mset_m ?_
                obtain ⟨ow_101, fq_101⟩ := h9.own hn_85 (c := (.inr (12, [.int (nI (S 4 0)), .int t9, .int c, .int (nI 0), .int (-1), .int (nI 0), .int (nI 0), .int (-1), .int (nI 0), .int (-1)])))
                refine sxf ow_101 mset_s (fun My2 y2 hc_101 => ?_)
                obtain ⟨m_104, c_104, l_104, b_104, el_104, ne_104⟩ := y2.LA4
                refine pl_add (pc := 104) (C1 := (2 * (100 - (i + 1)))) (N1 := (161 * (100 - (i + 1)))) q1114 dX1_people_104 (by omega) l_104 (by omega) b_104 (fun j hj => if_neg (by omega)) el_104 hc_101 rfl q3237 (ne_oo hc_101 l_104.1 (by decide)) ne_104 (Nat.le_of_ble_eq_true rfl) (by omega) (by omega) (fun q2 m1 mc1 hq2 hm1 hm2 => ?_)
                refine sxk (adds_sx (t := t9) (c := c) (s := nI 0) (l := -1) y2 rfl iv9.hn (by omega) (own_keep fq_101) (fun _ z => Or.inl z) h9.pf (Or.inr rfl) fq_101 hc_101 hq2 ⟨hm1, hm2⟩ (or_of h9.hz iv9 ak9)) (fun My3 y3 => ?_)
                refine pj_pop (pc := 107) dX1_people_107 rfl ?_
                refine pl_iinc1 (pc := 108) (lv' := [(5, _), (4, _), (3, _), (2, _), (1, _), (0, _)]) dX1_people_108 rfl rfl (by decide) rfl ?_
                refine pj_goto (pc := 111) (tgt := 72) dX1_people_111 (by decide) ?_
                exact ih (by omega) _ (A1X A 4 35 0 (S 4 0) q_85 q2) (SnX S 4 0 (S 4 0 + 1)) _ (by rw [h4i, hSS]; exact SnX_two) (by show _ = s_adds (upto _ i ρ) t9 c (nI 0) (-1); rw [← hτ]) ⟨_, y3, tie_adds t9e h9.hz rfl iv9 (by omega) (by decide) emc (by omega)⟩ (by rw [SnX_eq, SnX_ne (by omega), SnX_ne (by omega), SnX_ne (by omega)]; exact adds_iv iv9 (by omega) (by decide)) ((ak9.cg (fun j h1 h2 => by rw [adds_row iv9.hn (by omega), if_neg (by omega), if_neg (by omega), if_neg (by omega), if_neg (by omega), if_neg (by omega), if_neg (by omega), if_neg (by omega), if_neg (by omega)])).n4 (Nat.le_succ _)) f9
            · refine pj_bipush (pc := 54) (v := (-2)) dX1_people_54 (by rfl) ?_
              refine pj_iret (pc := 56) dX1_people_56 rfl ?_
              exact CQ.ok (τ := ρ) (by first | (simp only [p_people, hs9, ← hs0, c1, c6, c10, c16, c45, f45, c51, ↓reduceIte]; first | done | rfl) | (simp [p_people, hs9, ← hs0, c1, c6, c10, c16, c45, f45, c51, Int32.not_lt, Int32.not_le]; first | done | rfl)) (by exact h00) ⟨A, S 4 0, hS4, iv1.hn, by rw [SnX_id]; exact ⟨_, h, t⟩⟩
          · have f45 : ¬ m ≤ nI 100 - nI (S 4 0) := fun z => c45 ((lg_cmp_le _ _).mpr ((sum100 hS4).mpr z))
            refine pj_iconst (pc := 48) (v := (-1)) dX1_people_48 (by rfl) ?_
            refine pj_iret (pc := 49) dX1_people_49 rfl ?_
            exact CQ.ok (τ := ρ) (by first | (simp only [p_people, hs9, ← hs0, c1, c6, c10, c16, c45, f45, ↓reduceIte]; first | done | rfl) | (simp [p_people, hs9, ← hs0, c1, c6, c10, c16, c45, f45, Int32.not_lt, Int32.not_le]; first | done | rfl)) (by exact h00) ⟨A, S 4 0, hS4, iv1.hn, by rw [SnX_id]; exact ⟨_, h, t⟩⟩
