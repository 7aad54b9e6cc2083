set_option maxRecDepth 100000
theorem nat_rec {P : Nat → Prop} (h0 : P 0) (hs : ∀ f, P f → P (f + 1)) : ∀ n, P n
  | 0 => h0
  | n + 1 => hs n (nat_rec h0 hs n)
def quN (τ : MS) (i : Nat) : Nat := sumN (fun a => tN (row τ (1720 + 15 * a + 2))) i
theorem quN_s {τ : MS} {i m : Nat} (h : row τ (1720 + 15 * i + 2) = nI m) (hm : m ≤ 12) : quN τ (i + 1) = quN τ i + m := by
  show quN τ i + tN (row τ (1720 + 15 * i + 2)) = _
  rw [h, tN_nI (by omega)]
theorem quN_q {τ : MS} : ∀ q, (∀ a, a < q → ∃ m, m ≤ 12 ∧ row τ (1720 + 15 * a + 2) = nI m) → quN τ q ≤ 12 * q ∧ (quN τ q = 0 → queuedV τ q = false) ∧ (¬ quN τ q = 0 → queuedV τ q = true)
  | 0, _ => ⟨Nat.le_refl _, fun _ => rfl, fun z => absurd rfl z⟩
  | q + 1, h => by
    obtain ⟨i1, i2, i3⟩ := quN_q q (fun a ha => h a (by omega))
    obtain ⟨m, hm, em⟩ := h q (by omega)
    rw [quN_s em hm]
    have eq : queuedV τ (q + 1) = (queuedV τ q || decide (¬ row τ (1720 + 15 * q + 2) ≤ 0)) := rfl
    rw [eq, em]
    refine ⟨by omega, fun z => ?_, fun z => ?_⟩
    · have m0 : m = 0 := by omega
      subst m0
      rw [i2 (by omega)]
      decide
    · by_cases hq : quN τ q = 0
      · have m1 : 0 < m := by omega
        rw [decide_eq_true (show ¬ nI m ≤ 0 from fun y => by have := (nI_leI (a := m) (b := 0) (by omega) (by decide)).mp y; omega), Bool.or_true]
      · rw [i3 hq, Bool.true_or]
theorem p_lot_wild {σ : MS} {q c : Nat} (hc : c < 96) (h : sec (s0 σ) c 0 = 0) : p_lot σ q (nI c) = (if sec (lotR q c (s_saves (s0 σ))).2 c 0 = 0 then -1 else nI (lotR q c (s_saves (s0 σ))).1, s_back (lotR q c (s_saves (s0 σ))).2) := by
  unfold p_lot
  rw [inN_nI hc (by decide), if_neg (by decide), tN_nI (by omega), if_neg (fun z => z h)]
theorem lotF_fr {n nl nb q nor nw c : Nat} {σ0 : MS} : ∀ (f k : Nat) (σ : MS), IvG σ n nl nb q nor nw → Fr σ0 σ → Fr σ0 (lotF q c f k σ).2
  | 0, _, _, _, h => h
  | f + 1, k, σ, v, h => by
    unfold lotF
    split
    · exact h
    · split
      · exact h
      · exact lotF_fr f (k + 1) _ (surveysAll_iv v) (h.tr (fr_surveysAll _ _))
theorem lot_iv {σ : MS} {n nl nb q nor nw : Nat} {c : Int32} (v : IvG σ n nl nb q nor nw) : IvG (p_lot σ q c).2 n nl nb q nor nw := by
  have v0 := v.f0 (j := 0) (x := nI 0)
  unfold p_lot
  by_cases c1 : inN c 96 = false
  · rw [if_pos c1]; with_reducible exact v0.f0
  · rw [if_neg c1]
    by_cases c2 : ¬ sec (s0 σ) (tN c) 0 = 0
    · rw [if_pos c2]; with_reducible exact v0
    · rw [if_neg c2]
      have fr := lotF_fr (σ0 := s_saves (s0 σ)) (c := tN c) (PhiS (s_saves (s0 σ)) + 1) 0 _ (saves_iv v0) Fr.rf
      exact back_iv (saves_iv v0) (FrW.of fr) (fun j hj => (congrFun (fr.2.1 2 (by decide) (by decide)) j).trans (saves_2 hj))
set_option maxHeartbeats 600000 in
theorem x_X1_lot {g : GP} {μ : Mem} {d : Nat} {P : Nat → Prop} {F : Mem} {A : XA} {S : Nat → Nat → Nat} {b : XS} {σ : MS} {nor nw : Nat} (s : SB g P F A 0 S b σ nw μ) (iv : IvG σ (S 4 0) (S 8 0) (S 10 0) (S 6 0) nor nw) (rs : RsX σ) (ak : AkX S σ nor) (bs : BsX S b) (hd : 13 ≤ d) {c : Int32} : PM g yX1_lot (ws_ yX1_lot cX1_lot 6 (some .int)) d 288 22988 [.ref (A 0 0 0), .int c] μ (CQ ["java/lang/IndexOutOfBoundsException"] (p_lot σ (S 6 0) c) (fun τ M => ∃ A1 S1 b1, SqP S S1 ∧ BsX S1 b1 ∧ SB g P F A1 0 S1 b1 τ nw M)) := by
  refine PM.of (by decide +kernel) (Nat.le_of_ble_eq_true rfl) ?_
  refine PJ.ok (fun G => ?_)
  show PJ g _ _ _ _ d 288 22988 0 [(0, .ref (A 0 0 0)), (1, .int c)] [] _ _
  obtain ⟨ρ, hs0⟩ : ∃ ρ, ρ = sF σ 0 (nI 0) := ⟨_, rfl⟩
  have hs9 : s0 σ = ρ := hs0.symm
  have s1 := s.F0 (x := nI 0)
  rw [← hs0] at s1
  obtain ⟨e, h, t⟩ := s1
  have iv1 : IvG ρ (S 4 0) (S 8 0) (S 10 0) (S 6 0) nor nw := by rw [hs0]; exact iv.f0
  have rs1 : RsX ρ := by rw [hs0]; exact rs
  have h00 : ρ.1 0 = nI 0 := by rw [hs0]; rfl
  have hS4 := h.hz.2.1
  have hS6 := h.hz.2.2.1
  have hS8 := h.hz.2.2.2.1
  have hS10 := h.hz.2.2.2.2.1
  have ak1 : AkX S ρ nor := by rw [hs0]; exact ak.cg (fun _ _ _ => rfl)
  cases hap_c : inN c 96 with
  | false =>
    refine pl_aload_n (pc := 0) dX1_lot_0 rfl rfl ?_
    refine pl_iload_n (pc := 1) dX1_lot_1 rfl rfl ?_
    refine pl_callVX (pc := 2) (As := [_]) (C1 := 1) (N1 := 6) (C2 := 0) (N2 := 0) (E8 := "java/lang/IndexOutOfBoundsException") ckX1 mdX1_slotOf rfl q1239 q1241 qs7 q125 dX1_lot_2 rfl rfl (Nat.le_of_ble_eq_true rfl) (h.r0) (x_X1_slotOf_no (d := d - 1) (by omega) h hap_c) (by omega) (by omega) (by omega) (fun q_2 M_2 hM_2 => ?_)
    refine px_out0 rfl ?_
    exact CQ.no 0 (v := nI 0) (τ := sF ρ 0 (nI 1)) (by rw [show sF ρ 0 (nI 1) = th σ 1 by rw [hs0]]; first | (simp only [p_lot, hs9, hap_c, ↓reduceIte]; first | done | rfl) | (simp [p_lot, hs9, hap_c, Int32.not_lt, Int32.not_le]; first | done | rfl)) rfl rfl (⟨A, S, b, SqP.rf, bs, SB.mono (SB.F0 ⟨_, h, t⟩) hM_2⟩)
  | true =>
    obtain ⟨j_c, hj_c, rfl⟩ := inN_of (by omega) hap_c
    have g_c := tN_nI (n := j_c) (by omega)
    refine pl_aload_n (pc := 0) dX1_lot_0 rfl rfl ?_
    refine pl_iload_n (pc := 1) dX1_lot_1 rfl rfl ?_
    obtain ⟨q_2, hm_2, hq_2, hdd_2⟩ := h.held (s := j_c) (by omega)
    refine pl_callVd (pc := 2) (As := [_]) (C1 := 0) (N1 := 0) (C2 := 288) (N2 := 22988) ckX1 mdX1_slotOf rfl q1239 q1241 qs7 q125 dX1_lot_2 rfl rfl (Nat.le_of_ble_eq_true rfl) (h.r0) (x_X1_slotOf_ok (d := d - 1) (by omega) h (by omega)) (by omega) (by omega) (by omega) ?_
    refine pl_callVd (pc := 5) (As := []) (C1 := 0) (N1 := 0) (C2 := 288) (N2 := 22988) ckX8 mdX8_isWild rfl q1270 q1271 q1272 q152 dX1_lot_5 rfl rfl (Nat.le_of_ble_eq_true rfl) hm_2 (k_X8_isWild (d := d - 1) (by omega) hm_2 hq_2) (by omega) (by omega) (by omega) ?_
    refine PJ.top (ho_isWild) ?_
    refine pl_if_neB (pc := 8) (tgt := 13) dX1_lot_8 (by decide) (fun c8 => ?_) (fun c8 => ?_)
    · have d8 : sec ρ j_c 0 = 0 := of_decide_eq_true c8
      have hcs := CsT_le h.hz
      refine pl_aload_n (pc := 13) dX1_lot_13 rfl rfl ?_
      refine pj_getf (pc := 14) ckX1 1 q854 dX1_lot_14 (by decide) (h.r0) rfl ?_
      refine pl_aload_n (pc := 17) dX1_lot_17 rfl rfl ?_
      refine pj_getf (pc := 18) ckX1 0 q853 dX1_lot_18 (by decide) (h.r0) rfl ?_
      refine pl_callVWd (pc := 21) (As := [_]) (C1 := (CsT S)) (N1 := (NsT S)) (C2 := 0) (N2 := 0) ckX2 mdX2_set rfl q1473 q1474 q1475 q126 dX1_lot_21 rfl rfl (Nat.le_of_ble_eq_true rfl) (h.r1b (y := 1) (by decide)) (x_set1 (d := d - 1) (by omega) h t iv1 ak1 bs) (by omega) (by omega) (by omega) (fun My1 qy1 => ?_)
      obtain ⟨A1, S1, b1, e1, eA, ss, hb1, y1, t1⟩ := qy1
      rw [← eA.2.2]
      refine pj_astore_n (pc := 24) (lv' := [(2, _), (0, _), (1, _)]) dX1_lot_24 rfl (by decide) rfl ?_
      refine pl_iconst (pc := 25) (v := 0) dX1_lot_25 (by rfl) ?_
      refine pj_istore_n (pc := 26) (lv' := [(3, _), (2, _), (0, _), (1, _)]) dX1_lot_26 rfl (by decide) rfl ?_
      have gT : SX g P F A1 1 S1 b1 (s_saves ρ) e1 _ := SX.cg y1 (fun a9 h2 _ _ => if_neg h2) (fun x hx => by rcases hx with z | z | z | z | z | z | z | z <;> subst z <;> first | rfl | exact rs1.1 | exact rs1.2.1 | exact rs1.2.2) rfl rfl
      have tT : TieX 1 S1 (s_saves ρ) e1 nw := t1.cg gT.hz (fun _ _ => rfl) rfl rfl (fun _ _ => rfl) rs1.2.1 rs1.2.2
      have ivT : IvG (s_saves ρ) (S1 4 1) (S1 8 1) (S1 10 1) (S1 6 1) nor nw := by rw [ss.2.1, ss.2.2.2.1, ss.2.2.2.2.1, ss.2.2.1]; exact saves_iv iv1
      have hph : PhiS (s_saves ρ) ≤ 40000 := phi_le ivT tT.ivd
      obtain ⟨R, hR0⟩ : ∃ R, R = lotR (S1 6 1) j_c (s_saves ρ) := ⟨_, rfl⟩
      refine PJ.sub [0, 1, 3] rfl ?_
      refine nat_rec (P := fun f => ∀ M9 k τ, SB g P F A1 1 S1 b1 τ nw M9 → IvG τ (S1 4 1) (S1 8 1) (S1 10 1) (S1 6 1) nor nw → PhiS τ < f → k + f ≤ 50000 → lotF (S1 6 1) j_c f k τ = R → Fr (s_saves ρ) τ → PJ g _ _ _ _ d 0 0 27 [(3, .int (nI k)), (2, .ref (A1 1 1 0)), (1, .int (nI j_c))] [] M9 _) (fun M9 k τ _ _ h9 _ _ _ => absurd h9 (Nat.not_lt_zero _)) (fun f ih M9 k τ s9 iv9 hf hk hR fr9 => ?_) (PhiS (s_saves ρ) + 1) _ 0 (s_saves ρ) ⟨_, gT, tT⟩ ivT (Nat.lt_succ_self _) (by omega) hR0.symm Fr.rf
      obtain ⟨e9, h9, t9⟩ := s9
      have ihf := ih
      have hQ4 := h9.hz.2.2.1
      refine pl_aload_n (pc := 27) dX1_lot_27 rfl rfl ?_
      refine pj_getfN (pc := 28) ckX2 12 q748 dX1_lot_28 (by decide) (h9.r1) rfl ?_
      refine pl_iload_n (pc := 31) dX1_lot_31 rfl rfl ?_
      obtain ⟨m_32, c_32, l_32⟩ := h9.L2
      refine pl_callVd (pc := 32) (As := [_]) (C1 := 0) (N1 := 0) (C2 := 0) (N2 := 0) ckJ2 mdJ2_get rfl q1054 q708 q709 q129 dX1_lot_32 rfl rfl (Nat.le_of_ble_eq_true rfl) l_32.1 (k_J2_get (d := d - 1) (by omega) l_32 (j := j_c) (by rw [h9.hz.s2]; omega) (if_pos (by rw [h9.hz.s2]; omega))) (by omega) (by omega) (by omega) ?_
      obtain ⟨q_32, hm_32, hq_32, hdd_32⟩ := h9.held (s := j_c) (by omega)
      refine pj_castS (pc := 35) ckX8 q1261 dX1_lot_35 hm_32 ?_
      refine pl_callVd (pc := 38) (As := []) (C1 := 0) (N1 := 0) (C2 := 0) (N2 := 0) ckX8 mdX8_isWild rfl q1270 q1271 q1272 q152 dX1_lot_38 rfl rfl (Nat.le_of_ble_eq_true rfl) hm_32 (k_X8_isWild (d := d - 1) (by omega) hm_32 hq_32) (by omega) (by omega) (by omega) ?_
      refine PJ.top (ho_isWild) ?_
      refine pl_if_eqB (pc := 41) (tgt := 138) dX1_lot_41 (by decide) (fun c41 => ?_) (fun c41 => ?_)
      · refine pl_iload_n (pc := 138) dX1_lot_138 rfl rfl ?_
        refine pj_iret (pc := 139) dX1_lot_139 rfl ?_
        have d41 : ¬ sec τ j_c 0 = 0 := of_decide_eq_false c41
        have eR : R = (k, τ) := by rw [← hR]; simp only [lotF]; rw [if_pos d41]
        have fw : Fr (s_saves ρ) τ := fr9
        have hS8e : S1 8 1 = S1 8 0 := by rw [ss.2.2.2.1, ss.1 8 0 (by omega)]
        have e2 : τ.2.1 2 = (s_saves ρ).2.1 2 := fw.2.1 2 (by decide) (by decide)
        have er : ∀ j, j < 2132 → row (s_back τ) j = row ρ j := fun j hj => (back_row hj).trans ((congrFun e2 j).trans (saves_2 hj))
        have ea : ∀ a, a ≠ 1 → a ≠ 2 → a ≠ 13 → a ≠ 14 → (s_back τ).2.1 a = ρ.2.1 a := fun a h1 h2 h3 h4 => (if_neg h1).trans ((fw.2.1 a h1 h3).trans (if_neg h2))
        obtain ⟨b2, hb2, g2⟩ := h9.toZero (b := b) (σ := ρ) (e := e) (ss.sz h.hz).2 hS8e (fun k i => by rw [hb1, VX_s0 (fun x => ss.1 x 0 (by omega))]) (fun a h1 h2 h3 h4 => (fw.2.1 a h1 h3).trans (if_neg h2)) fw.2.2
        have g3 := g2.cgR (σ1 := s_back τ) (fun j hj => er j (mapR_lt hj)) ea (fun x _ => congrFun fw.1 x) fw.2.2
        have t3 : TieX 0 S1 (s_back τ) e nw := (t.s0 ss.1).cgL (ss.sz h.hz).2 (fun j hj _ => er j hj) (ea 3 (by decide) (by decide) (by decide) (by decide)) (ea 4 (by decide) (by decide) (by decide) (by decide)) (fun j _ => congrFun (fw.2.1 14 (by decide) (by decide)) j) (congrFun fw.1 23) (congrFun fw.1 24)
        rw [ss.2.2.1] at hR0
        refine CQ.ok (τ := s_back τ) (by rw [p_lot_wild hj_c (by rw [hs9]; exact d8), hs9, ← hR0, eR]; rw [if_neg d41]) ((congrFun fw.1 0).trans h00) ⟨A1, S1, b2, ss.1, BsX.of h9 t9 ss hb2, _, g3, t3⟩
      · have d41 : sec τ j_c 0 = 0 := of_decide_eq_true c41
        have hpar : ∀ a, a < S1 6 1 → ∃ m, m ≤ 12 ∧ row τ (1720 + 15 * a + 2) = nI m := fun a ha => by
          obtain ⟨⟨m, hm⟩, -⟩ := iv9.par a (by omega)
          exact ⟨m, hm.2.1, hm.1⟩
        refine pl_iconst (pc := 44) (v := 0) dX1_lot_44 (by rfl) ?_
        refine pj_istore (pc := 45) (lv' := [(4, _), (3, _), (2, _), (1, _)]) dX1_lot_45 (by decide) rfl ?_
        refine pl_iconst (pc := 47) (v := 0) dX1_lot_47 (by rfl) ?_
        refine pj_istore (pc := 48) (lv' := [(5, _), (4, _), (3, _), (2, _), (1, _)]) dX1_lot_48 (by decide) rfl ?_
        refine ind_dn (n := (S1 6 1)) (P := fun i => PJ g _ _ _ _ d 0 0 50 [(5, .int (nI i)), (4, .int (nI (quN τ i))), (3, .int (nI k)), (2, .ref (A1 1 1 0)), (1, .int (nI j_c))] [] M9 _) (fun i hi ih => ?_) 0 (Nat.zero_le _)
        refine pl_iload (pc := 50) dX1_lot_50 rfl ?_
        refine pl_aload_n (pc := 52) dX1_lot_52 rfl rfl ?_
        refine pj_getfN (pc := 53) ckX2 27 q775 dX1_lot_53 (by decide) (h9.r1) rfl ?_
        obtain ⟨m_56, c_56, l_56⟩ := h9.L6
        refine pl_callVd (pc := 56) (As := []) (C1 := 0) (N1 := 0) (C2 := 0) (N2 := 0) ckJ2 mdJ2_size rfl q1049 q948 q949 q129 dX1_lot_56 rfl rfl (Nat.le_of_ble_eq_true rfl) l_56.1 (k_J2_size (d := d - 1) (by omega) l_56) (by omega) (by omega) (by omega) ?_
        refine pl_icmp_ge (pc := 59) (tgt := 88) dX1_lot_59 (by decide) (by omega) (by omega) (fun c59 => ?_) (fun c59 => ?_)
        · have ei : i = S1 6 1 := by omega
          subst ei
          have hqu := (quN_q (τ := τ) (S1 6 1) hpar).1
          refine pl_iload (pc := 88) dX1_lot_88 rfl ?_
          refine pl_if_neN (pc := 90) (tgt := 95) dX1_lot_90 (by decide) (by omega) (fun c90 => ?_) (fun c90 => ?_)
          · refine pl_iconst (pc := 95) (v := 0) dX1_lot_95 (by rfl) ?_
            refine pj_istore (pc := 96) (lv' := [(5, _), (4, _), (3, _), (2, _), (1, _)]) dX1_lot_96 (by decide) rfl ?_
            refine PJ.sub [0, 2, 3, 4] rfl ?_
            refine ind_dn (n := (S1 6 1)) (P := fun i => ∀ M9 υ, υ = s_surveysAll i τ → SB g P F A1 1 S1 b1 υ nw M9 → IvG υ (S1 4 1) (S1 8 1) (S1 10 1) (S1 6 1) nor nw → PJ g _ _ _ _ d 0 0 98 [(5, .int (nI i)), (3, .int (nI k)), (2, .ref (A1 1 1 0)), (1, .int (nI j_c))] [] M9 _) (fun i hi ih M9 υ hυ sc ivc => ?_) 0 (Nat.zero_le _) _ τ rfl ⟨_, h9, t9⟩ iv9
            obtain ⟨ec, hc, tc⟩ := sc
            refine pl_iload (pc := 98) dX1_lot_98 rfl ?_
            refine pl_aload_n (pc := 100) dX1_lot_100 rfl rfl ?_
            refine pj_getfN (pc := 101) ckX2 27 q775 dX1_lot_101 (by decide) (hc.r1) rfl ?_
            obtain ⟨m_104, c_104, l_104⟩ := hc.L6
            refine pl_callVd (pc := 104) (As := []) (C1 := 0) (N1 := 0) (C2 := 0) (N2 := 0) ckJ2 mdJ2_size rfl q1049 q948 q949 q129 dX1_lot_104 rfl rfl (Nat.le_of_ble_eq_true rfl) l_104.1 (k_J2_size (d := d - 1) (by omega) l_104) (by omega) (by omega) (by omega) ?_
            refine pl_icmp_ge (pc := 107) (tgt := 132) dX1_lot_107 (by decide) (by omega) (by omega) (fun c107 => ?_) (fun c107 => ?_)
            · refine pl_iinc1 (pc := 132) (lv' := [(3, _), (5, _), (2, _), (1, _)]) dX1_lot_132 rfl rfl (by decide) rfl ?_
              refine pj_goto (pc := 135) (tgt := 27) dX1_lot_135 (by decide) ?_
              refine PJ.sub [0, 2, 3] rfl ?_
              have ei8 : i = S1 6 1 := by omega
              have eυ : υ = s_surveysAll (S1 6 1) τ := by rw [hυ, ei8]
              have ph := surveysAll_phi (S1 6 1) τ (Nat.le_refl _) iv9 t9.ivd
              have qt := (quN_q (τ := τ) (S1 6 1) hpar).2.2 (by omega)
              have hp2 := ph.2.2.1 qt
              rw [← eυ] at hp2
              exact ihf _ (k + 1) υ ⟨_, hc, tc⟩ ivc (by omega) (by omega) (by rw [← hR, eυ]; simp only [lotF]; rw [if_neg (fun z => z d41), if_neg (by rw [qt]; decide)]) (by rw [eυ]; exact fr9.tr (fr_surveysAll _ _))
            · refine pl_aload_n (pc := 110) dX1_lot_110 rfl rfl ?_
              refine pl_aload_n (pc := 111) dX1_lot_111 rfl rfl ?_
              refine pj_getfN (pc := 112) ckX2 27 q775 dX1_lot_112 (by decide) (hc.r1) rfl ?_
              refine pl_iload (pc := 115) dX1_lot_115 rfl ?_
              obtain ⟨m_117, c_117, l_117⟩ := hc.L6
              refine pl_callVd (pc := 117) (As := [_]) (C1 := 0) (N1 := 0) (C2 := 0) (N2 := 0) ckJ2 mdJ2_get rfl q1054 q708 q709 q129 dX1_lot_117 rfl rfl (Nat.le_of_ble_eq_true rfl) l_117.1 (k_J2_get (d := d - 1) (by omega) l_117 (j := i) (by omega) (if_pos (by omega))) (by omega) (by omega) (by omega) ?_
              refine pj_castS (pc := 120) ckX11 q1422 dX1_lot_120 (hc.r36 (by omega)) ?_
              refine pl_callVNWv (pc := 123) (As := [_]) (C1 := 0) (N1 := 0) (C2 := 0) (N2 := 0) ckX2 mdX2_surveys q1566 q1568 qs11 q126 dX1_lot_123 rfl rfl (Nat.le_of_ble_eq_true rfl) (hc.r1) (x_X2_surveys (d := d - 1) (by omega) ⟨_, hc, tc⟩ ivc (by omega)) (by omega) (by omega) (by omega) (fun My2 qy2 => ?_)
              refine pl_iinc1 (pc := 126) (lv' := [(5, _), (3, _), (2, _), (1, _)]) dX1_lot_126 rfl rfl (by decide) rfl ?_
              refine pj_goto (pc := 129) (tgt := 98) dX1_lot_129 (by decide) ?_
              exact ih (by omega) _ _ (by show _ = s_surveys (s_surveysAll i τ) i; rw [← hυ]) qy2 (surveys_iv ivc (by omega))
          · refine pj_iconst (pc := 93) (v := (-1)) dX1_lot_93 (by rfl) ?_
            refine pj_iret (pc := 94) dX1_lot_94 rfl ?_
            have eR : R = (k, τ) := by rw [← hR]; simp only [lotF]; rw [if_neg (fun z => z d41), if_pos ((quN_q (τ := τ) (S1 6 1) hpar).2.1 c90)]
            have fw : Fr (s_saves ρ) τ := fr9
            have hS8e : S1 8 1 = S1 8 0 := by rw [ss.2.2.2.1, ss.1 8 0 (by omega)]
            have e2 : τ.2.1 2 = (s_saves ρ).2.1 2 := fw.2.1 2 (by decide) (by decide)
            have er : ∀ j, j < 2132 → row (s_back τ) j = row ρ j := fun j hj => (back_row hj).trans ((congrFun e2 j).trans (saves_2 hj))
            have ea : ∀ a, a ≠ 1 → a ≠ 2 → a ≠ 13 → a ≠ 14 → (s_back τ).2.1 a = ρ.2.1 a := fun a h1 h2 h3 h4 => (if_neg h1).trans ((fw.2.1 a h1 h3).trans (if_neg h2))
            obtain ⟨b2, hb2, g2⟩ := h9.toZero (b := b) (σ := ρ) (e := e) (ss.sz h.hz).2 hS8e (fun k i => by rw [hb1, VX_s0 (fun x => ss.1 x 0 (by omega))]) (fun a h1 h2 h3 h4 => (fw.2.1 a h1 h3).trans (if_neg h2)) fw.2.2
            have g3 := g2.cgR (σ1 := s_back τ) (fun j hj => er j (mapR_lt hj)) ea (fun x _ => congrFun fw.1 x) fw.2.2
            have t3 : TieX 0 S1 (s_back τ) e nw := (t.s0 ss.1).cgL (ss.sz h.hz).2 (fun j hj _ => er j hj) (ea 3 (by decide) (by decide) (by decide) (by decide)) (ea 4 (by decide) (by decide) (by decide) (by decide)) (fun j _ => congrFun (fw.2.1 14 (by decide) (by decide)) j) (congrFun fw.1 23) (congrFun fw.1 24)
            rw [ss.2.2.1] at hR0
            refine CQ.ok (τ := s_back τ) (by rw [p_lot_wild hj_c (by rw [hs9]; exact d8), hs9, ← hR0, eR]; rw [if_pos d41]) ((congrFun fw.1 0).trans h00) ⟨A1, S1, b2, ss.1, BsX.of h9 t9 ss hb2, _, g3, t3⟩
        · refine pl_iload (pc := 62) dX1_lot_62 rfl ?_
          refine pl_aload_n (pc := 64) dX1_lot_64 rfl rfl ?_
          refine pj_getfN (pc := 65) ckX2 27 q775 dX1_lot_65 (by decide) (h9.r1) rfl ?_
          refine pl_iload (pc := 68) dX1_lot_68 rfl ?_
          obtain ⟨m_70, c_70, l_70⟩ := h9.L6
          refine pl_callVd (pc := 70) (As := [_]) (C1 := 0) (N1 := 0) (C2 := 0) (N2 := 0) ckJ2 mdJ2_get rfl q1054 q708 q709 q129 dX1_lot_70 rfl rfl (Nat.le_of_ble_eq_true rfl) l_70.1 (k_J2_get (d := d - 1) (by omega) l_70 (j := i) (by omega) (if_pos (by omega))) (by omega) (by omega) (by omega) ?_
          refine pj_castS (pc := 73) ckX11 q1422 dX1_lot_73 (h9.r36 (by omega)) ?_
          refine pj_getfN (pc := 76) ckX11 2 q1434 dX1_lot_76 (by decide) (h9.r36 (by omega)) rfl ?_
          obtain ⟨m_79, hm_79, em_79⟩ := hpar i (by omega)
          refine PJ.top (y := nI m_79) em_79 ?_
          refine pl_iadd (pc := 79) dX1_lot_79 ?_
          refine pj_istore (pc := 80) (lv' := [(4, _), (5, _), (3, _), (2, _), (1, _)]) dX1_lot_80 (by decide) rfl ?_
          refine pl_iinc1 (pc := 82) (lv' := [(5, _), (4, _), (3, _), (2, _), (1, _)]) dX1_lot_82 rfl rfl (by decide) rfl ?_
          refine pj_goto (pc := 85) (tgt := 50) dX1_lot_85 (by decide) ?_
          rw [← quN_s em_79 hm_79]
          exact ih (by omega)
    · refine pl_iconst (pc := 11) (v := 0) dX1_lot_11 (by rfl) ?_
      refine pj_iret (pc := 12) dX1_lot_12 rfl ?_
      exact CQ.ok (τ := ρ) (by unfold p_lot; rw [inN_nI hj_c (by decide), if_neg (by decide), g_c, hs9, if_pos (show ¬ sec ρ j_c 0 = 0 from of_decide_eq_false c8)]) (by exact h00) ⟨A, S, b, SqP.rf, bs, _, h, t⟩
