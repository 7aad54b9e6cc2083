set_option maxRecDepth 100000
theorem uE_r {e : XE} {k x a : Nat} {v : Int32} (h : a ≠ k) : uE e k x v a = e a := by
  funext j
  exact uE_ne (fun z => h z.1)
theorem AkX.ss {S S2 : Nat → Nat → Nat} {σ τ : MS} {nor : Nat} (ak : AkX S σ nor) (ss : SsP S S2) (h : ∀ j, j < 12 → row τ (2092 + j) = row σ (2092 + j)) : AkX S2 τ nor := by
  obtain ⟨a1, a2, a3, a4⟩ := ak
  obtain ⟨s0, s4, s6, s8, s10, -⟩ := ss
  refine ⟨by rw [s8, s0 8 0 (by omega)]; exact Nat.le_refl _, (s0 12 0 (by omega)).trans a2, by rw [s0 14 0 (by omega)]; exact a3, fun j hj => ?_⟩
  rw [s0 14 0 (by omega)] at hj
  obtain ⟨p, hp, ep⟩ := a4 j hj
  exact ⟨p, by rw [s0 4 0 (by omega)]; exact hp, (h j (by omega)).trans ep⟩
theorem mxv {m0 y h : Int32} {r : Nat} (hm : m0 = if r = 0 then -1 else y) (hx : -1 < h) : (if m0 < h then h else m0) = if r = 0 then h else if h ≤ y then y else h := by
  subst hm
  by_cases z : r = 0
  · rw [if_pos z, if_pos z, if_pos hx]
  · rw [if_neg z, if_neg z, max_le]
theorem lt_mx {m0 h : Int32} (hx : -1 < h) : -1 < (if m0 < h then h else m0) := by
  by_cases z : m0 < h
  · rw [if_pos z]; exact hx
  · rw [if_neg z]; exact Int32.lt_of_lt_of_le hx (Int32.not_lt.mp z)
theorem HuX.rw2 {σ τ : MS} {m : Nat} (h : HuX m σ) (hr : row τ 2122 = row σ 2122) : HuX m τ := by
  obtain ⟨x, hx, e⟩ := h
  exact ⟨x, hx, hr.trans e⟩
theorem HuX.pos {σ : MS} {m : Nat} (h : HuX m σ) (hm : m < 2147483648) : -1 < row σ 2122 := by
  obtain ⟨x, hx, e⟩ := h
  rw [e]
  exact Int32.lt_of_lt_of_le (b := 0) (by decide) (nI_pos' (by omega))

set_option maxHeartbeats 600000 in
theorem x_X1_goesOn {g : GP} {μ : Mem} {d : Nat} {P : Nat → Prop} {F : Mem} {A A0 : XA} {S S0 : Nat → Nat → Nat} {b : XS} {e : XE} {σ1 υ0 : MS} {n nl nb q nor nw wm st p : Nat} (hd : 347 ≤ d) (hi : GoI g P F n nl nb q nor nw σ1 S0 A0 A S b e υ0 μ) (hS0 : S0 4 0 = n ∧ S0 8 0 = nl ∧ S0 10 0 = nb ∧ S0 6 0 = q) (v1 : IvG σ1 n nl nb q nor nw) (hs : ∀ j, j < 2132 → σ1.2.1 2 j = row σ1 j) (hwm : σ1.1 29 = nI wm) (hw1 : 1 ≤ wm) (hw3 : wm ≤ 3) (hpr : ∀ i, i < 3 → ∃ k, 1 ≤ k ∧ k ≤ 1000 ∧ σ1.2.1 15 i = nI k) (hwr : ∀ r, r < 3 → ¬ σ1.2.1 16 r < 0) (hu : HuX (100 * nw) σ1) (hb9 : nw + 13 * st ≤ 1000) (hst : st ≤ 2) (h18 : ∀ k, k < st → e 18 k = nI (plIx st p k)) (hpx : ∀ k, k < st → plIx st p k < 3) : PM g yX1_goesOn (ws_ yX1_goesOn cX1_goesOn 6 none) d (CsT S + 96 * wm) (NsT S + 288 * wm) [.ref (A 0 0 0), .int (nI st)] μ ((WQ none (fun M => ∃ A1 S1 b1 e1, GoI g P F n nl nb q nor nw σ1 S0 A0 A1 S1 b1 e1 (rainsF n nl nb q nw st wm p υ0).2.2 M ∧ CsT S1 = 0 ∧ NsT S1 = 0 ∧ (∀ a, a ≠ 8 → e1 a = e a) ∧ e1 8 0 = (rainsF n nl nb q nw st wm p υ0).1 ∧ e1 8 1 = (rainsF n nl nb q nw st wm p υ0).2.1 ∧ -1 < e1 8 0))) := by
  refine PM.of (by decide +kernel) (Nat.le_of_ble_eq_true rfl) ?_
  refine PJ.ok (fun G => ?_)
  show PJ g _ _ _ _ d (CsT S + 96 * wm) (NsT S + 288 * wm) 0 [(0, .ref (A 0 0 0)), (1, .int (nI st))] [] _ _
  obtain ⟨h, t, eA0, sq0, bs, ak, pl, hrow, h24⟩ := hi
  obtain ⟨s4, s8, s10, s6⟩ := hS0
  have hP := v1.hP
  have hNW := v1.hNW
  obtain ⟨e0, he0⟩ : ∃ e9, e9 = e := ⟨_, rfl⟩
  rw [← he0] at h18
  refine pl_aload_n (pc := 0) dX1_goesOn_0 rfl rfl ?_
  refine pj_iconst (pc := 1) (v := (-1)) dX1_goesOn_1 (by rfl) ?_
  refine pj_putf (pc := 2) ckX1 16 q869 dX1_goesOn_2 (by decide) rfl (h.r0) rfl rfl (Nat.le_of_ble_eq_true rfl) ?_
  refine sxk (h.p0_16) (fun My1 y1 => ?_)
  refine pl_iconst (pc := 5) (v := 0) dX1_goesOn_5 (by rfl) ?_
  refine pj_istore_n (pc := 6) (lv' := [(2, _), (0, _), (1, _)]) dX1_goesOn_6 rfl (by decide) rfl ?_
  have gi0 : GoI g P F n nl nb q nor nw σ1 S0 A0 A S b (uE e 8 0 (-1)) υ0 _ := ⟨y1, t.eP h.hz (EP.u (Or.inl rfl) EP.rf), eA0, sq0, bs, ak, pl, hrow, h24⟩
  refine PJ.widen (C1 := CsT S + 96 * (wm - 0)) (N1 := NsT S + 288 * (wm - 0)) (by omega) (by omega) ?_
  refine PJ.sub [0, 2, 1] rfl ?_
  refine ind_dn (n := wm) (P := fun r => ∀ M9 A S b e υ, υ = (uq (rainF n nl nb q nw st p) r (nI 0, nI 0, υ0)).2.2 → GoI g P F n nl nb q nor nw σ1 S0 A0 A S b e υ M9 → (∀ a, a ≠ 8 → e a = e0 a) → e 8 0 = (if r = 0 then -1 else (uq (rainF n nl nb q nw st p) r (nI 0, nI 0, υ0)).1) → (r ≠ 0 → e 8 1 = (uq (rainF n nl nb q nw st p) r (nI 0, nI 0, υ0)).2.1) → (r ≠ 0 → CsT S = 0 ∧ NsT S = 0 ∧ -1 < e 8 0) → PJ g _ _ _ _ d (CsT S + 96 * (wm - r)) (NsT S + 288 * (wm - r)) 7 [(2, .int (nI r)), (1, .int (nI st)), (0, .ref (A 0 0 0))] [] M9 _) (fun r hr ih M9 A S b e υ hυ gi he hm hf hc => ?_) 0 (Nat.zero_le _) _ A S b (uE e 8 0 (-1)) υ0 (by rw [uq_0]) gi0 (fun a ha => by rw [uE_r ha, he0]) (by rw [if_pos rfl]; exact uE_eq) (fun z => absurd rfl z) (fun z => absurd rfl z)
  have ihr := ih
  have gi9 := gi
  obtain ⟨hr, t, eA0, sq0, bs, ak, pl, hrow, h24⟩ := gi
  have hr29 : (RsT υ).1 29 = nI wm := (pl.2.1 29 (by decide) (by decide) (by decide)).trans hwm
  have e16u : υ.2.1 16 = σ1.2.1 16 := pl.2.2.1 16 (by decide) (by decide) (by decide)
  have e15u : υ.2.1 15 = σ1.2.1 15 := pl.2.2.1 15 (by decide) (by decide) (by decide)
  refine pl_iload_n (pc := 7) dX1_goesOn_7 rfl rfl ?_
  refine pl_aload_n (pc := 8) dX1_goesOn_8 rfl rfl ?_
  refine pj_getf (pc := 9) ckX1 5 q858 dX1_goesOn_9 (by decide) (hr.r0) rfl ?_
  refine PJ.top (y := nI wm) hr29 ?_
  refine pl_icmp_ge (pc := 12) (tgt := 135) dX1_goesOn_12 (by decide) (by omega) (by omega) (fun c12 => ?_) (fun c12 => ?_)
  · refine pj_vret (pc := 135) dX1_goesOn_135 rfl ?_
    have er9 : r = wm := by omega
    rw [er9] at hυ hm hf hc
    rw [if_neg (by omega)] at hm
    exact ⟨rfl, A, S, b, e, (by unfold rainsF; rw [← hυ]; exact gi9), (hc (by omega)).1, (hc (by omega)).2.1, fun a ha => (he a ha).trans (congrFun he0 a), hm, hf (by omega), (hc (by omega)).2.2⟩
  · refine pl_aload_n (pc := 15) dX1_goesOn_15 rfl rfl ?_
    refine pj_getf (pc := 16) ckX1 1 q854 dX1_goesOn_16 (by decide) (hr.r0) rfl ?_
    refine pl_aload_n (pc := 19) dX1_goesOn_19 rfl rfl ?_
    refine pj_getf (pc := 20) ckX1 0 q853 dX1_goesOn_20 (by decide) (hr.r0) rfl ?_
    have e40 : S 4 0 = n := (sq0 4 0 (by omega)).trans s4
    have e80 : S 8 0 = nl := (sq0 8 0 (by omega)).trans s8
    have e100 : S 10 0 = nb := (sq0 10 0 (by omega)).trans s10
    have e60 : S 6 0 = q := (sq0 6 0 (by omega)).trans s6
    refine pl_callVWd (pc := 23) (As := [_]) (C1 := (CsT S)) (N1 := (NsT S)) (C2 := (96 * (wm - r))) (N2 := (288 * (wm - r))) ckX2 mdX2_set rfl q1473 q1474 q1475 q126 dX1_goesOn_23 rfl rfl (Nat.le_of_ble_eq_true rfl) (hr.r1b (y := 1) (by decide)) (x_set1 (d := d - 1) (by omega) hr t (by rw [e40, e80, e100, e60]; exact pl.1.f0.f0) ak bs) (by omega) (by omega) (by omega) (fun My2 qy2 => ?_)
    obtain ⟨A2, S2, b2, e2, eA2, ss, hb2, y2, t2⟩ := qy2
    rw [← eA2.1, ← eA2.2.2]
    refine pj_astore_n (pc := 26) (lv' := [(3, _), (2, _), (1, _), (0, _)]) dX1_goesOn_26 rfl (by decide) rfl ?_
    refine pl_aload_n (pc := 27) dX1_goesOn_27 rfl rfl ?_
    refine pl_aload_n (pc := 28) dX1_goesOn_28 rfl rfl ?_
    refine pj_getf (pc := 29) ckX1 13 q866 dX1_goesOn_29 (by decide) (y2.r0b) rfl ?_
    refine pl_iload_n (pc := 32) dX1_goesOn_32 rfl rfl ?_
    refine pl_iald (pc := 33) (n := 3) dX1_goesOn_33 (y2.r44b) (by omega) (by decide) ?_
    refine PJ.top (SX.v44b hr.hz hb2 (by omega)) ?_
    refine pj_putfN (pc := 34) ckX2 11 q746 dX1_goesOn_34 (by decide) rfl (y2.r1) rfl rfl (Nat.le_of_ble_eq_true rfl) ?_
    refine sxk (y2.p1_11) (fun My3 y3 => ?_)
    refine pl_iconst (pc := 37) (v := 0) dX1_goesOn_37 (by rfl) ?_
    refine pj_istore (pc := 38) (lv' := [(4, _), (3, _), (2, _), (1, _), (0, _)]) dX1_goesOn_38 (by decide) rfl ?_
    have hcs := CsT_ss ss
    have q4 : S2 4 1 = n := ss.2.1.trans e40
    have q6 : S2 6 1 = q := ss.2.2.1.trans e60
    have q8 : S2 8 1 = nl := ss.2.2.2.1.trans e80
    have q10 : S2 10 1 = nb := ss.2.2.2.2.1.trans e100
    have gx : SX g P F A2 1 S2 b2 (sF (sF υ 7 (υ.2.1 16 r)) 23 (nI 0)) e2 _ := SX.cg y3 (fun _ _ _ _ => rfl) (fun x hx => by rcases hx with z | z | z | z | z | z | z | z <;> subst z <;> first | rfl | exact h24) rfl rfl
    have tx : TieX 1 S2 (sF (sF υ 7 (υ.2.1 16 r)) 23 (nI 0)) e2 (nw + 13 * 0) := t2.cg gx.hz (fun _ _ => rfl) rfl rfl (fun _ _ => rfl) rfl h24
    have hux : HuX (100 * (nw + 13 * 0)) (sF υ 7 (υ.2.1 16 r)) := HuX.rw2 hu (hrow 2122 (by decide))
    have w_0 := psi_le (σ := (sF υ 7 (υ.2.1 16 r)))
    refine PJ.widen (C1 := psi (sF υ 7 (υ.2.1 16 r)) + 96 * (wm - (r + 1))) (N1 := 3 * psi (sF υ 7 (υ.2.1 16 r)) + 288 * (wm - (r + 1))) (by omega) (by omega) ?_
    refine ind_dn (n := st) (P := fun i => ∀ M9 e2 z τ, τ = uq (stepP n nl nb q nw st p) i (sF υ 7 (υ.2.1 16 r)) → SX g P F A2 1 S2 b2 (sF τ 23 z) e2 M9 → TieX 1 S2 (sF τ 23 z) e2 (nw + 13 * i) → IvG τ n nl nb q nor (nw + 13 * i) → FrW nw σ1 τ → (∀ x, x ≠ 23 → τ.1 x = (sF υ 7 (υ.2.1 16 r)).1 x) → HuX (100 * (nw + 13 * i)) τ → PJ g _ _ _ _ d (psi τ + 96 * (wm - (r + 1))) (3 * psi τ + 288 * (wm - (r + 1))) 40 [(4, .int (nI i)), (3, .ref (A2 1 1 0)), (2, .int (nI r)), (1, .int (nI st)), (0, .ref (A2 0 0 0))] [] M9 _) (fun i hi ih M9 e2 z τ hτ h9 t9 iv9 fw9 f9 hu9 => ?_) 0 (Nat.zero_le _) _ _ (nI 0) _ (uq_0 _ _).symm gx tx pl.1.f0 (pl.2.F (Or.inl rfl)) (fun _ _ => rfl) hux
    have ihi := ih
    refine pl_iload (pc := 40) dX1_goesOn_40 rfl ?_
    refine pl_iload_n (pc := 42) dX1_goesOn_42 rfl rfl ?_
    refine pl_icmp_ge (pc := 43) (tgt := 88) dX1_goesOn_43 (by decide) (by omega) (by omega) (fun c43 => ?_) (fun c43 => ?_)
    · have ei : i = st := by omega
      rw [ei] at hτ
      have hB : τ = rainB n nl nb q nw st p r υ := hτ
      have e2b : τ.2.1 2 = σ1.2.1 2 := fw9.2.1 2 (by decide) (by decide) (by decide)
      have er : ∀ j, j < 2132 → row (s_back τ) j = row σ1 j := fun j hj => (back_row hj).trans ((congrFun e2b j).trans (hs j hj))
      have hS8e : S2 8 1 = S2 8 0 := by rw [ss.2.2.2.1, ss.1 8 0 (by omega)]
      have ear : ∀ a, a ≠ 1 → a ≠ 13 → a ≠ 14 → τ.2.1 a = υ.2.1 a := fun a h1 h2 h3 => (fw9.2.1 a h1 h2 h3).trans (pl.2.2.1 a h1 h2 h3).symm
      have elr : τ.2.2 = υ.2.2 := fw9.2.2.1.trans pl.2.2.2.1.symm
      obtain ⟨b3, hb3, g2⟩ := h9.toZero (b := b) (σ := RsT υ) (e := e) (ss.sz hr.hz).2 hS8e (fun k i => by rw [hb2, VX_s0 (fun x => ss.1 x 0 (by omega))]) (fun a h1 h2 h3 h4 => ear a h1 h3 h4) elr
      have g3 := g2.cgR (σ1 := RsT (s_back τ)) (fun j hj => (er j (mapR_lt hj)).trans (hrow j (mapR_lt hj)).symm) (fun a h1 h2 h3 h4 => (if_neg h1).trans (ear a h1 h3 h4)) (fun x hx => by rcases hx with z | z | z | z | z | z | z | z <;> subst z <;> first | rfl | exact f9 9 (by decide) | exact f9 13 (by decide) | exact f9 29 (by decide) | exact f9 28 (by decide) | exact f9 31 (by decide) | exact f9 24 (by decide)) elr
      have t3 : TieX 0 S2 (RsT (s_back τ)) e nw := (t.s0 ss.1).cgL (ss.sz hr.hz).2 (fun j hj _ => (er j hj).trans (hrow j hj).symm) (ear 3 (by decide) (by decide) (by decide)) (ear 4 (by decide) (by decide) (by decide)) (fun j hj => (fw9.2.2.2 j hj).trans (pl.2.2.2.2 j hj).symm) rfl (f9 24 (by decide))
      have hcs := CsT_ss ss
      refine pl_aload_n (pc := 88) dX1_goesOn_88 rfl rfl ?_
      refine pl_iload_n (pc := 89) dX1_goesOn_89 rfl rfl ?_
      refine pl_if_neN (pc := 90) (tgt := 100) dX1_goesOn_90 (by decide) (by omega) (fun c90 => ?_) (fun c90 => ?_)
      · refine pl_aload_n (pc := 100) dX1_goesOn_100 rfl rfl ?_
        refine pj_getf (pc := 101) ckX1 17 q870 dX1_goesOn_101 (by decide) (g3.r0) rfl ?_
        refine pl_aload_n (pc := 104) dX1_goesOn_104 rfl rfl ?_
        refine pl_callVd (pc := 105) (As := []) (C1 := 0) (N1 := 0) (C2 := (psi τ + 96 * (wm - (r + 1)))) (N2 := (3 * psi τ + 288 * (wm - (r + 1)))) ckX2 mdX2_farms rfl q1195 q1196 q1197 q126 dX1_goesOn_105 rfl rfl (Nat.le_of_ble_eq_true rfl) (g3.r1b (y := 1) (by decide)) (x_X2_farms (d := d - 1) (by omega) h9) (by omega) (by omega) (by omega) ?_
        refine pj_mmin (pc := 108) q1046 dX1_goesOn_108 (by omega) (Nat.le_of_ble_eq_true rfl) ?_
        refine pj_putf (pc := 111) ckX1 17 q870 dX1_goesOn_111 (by decide) rfl (g3.r0) rfl rfl (Nat.le_of_ble_eq_true rfl) ?_
        refine sxk (g3.p0_17) (fun My4 y4 => ?_)
        refine pl_aload_n (pc := 114) dX1_goesOn_114 rfl rfl ?_
        refine pl_aload_n (pc := 115) dX1_goesOn_115 rfl rfl ?_
        refine pj_getf (pc := 116) ckX1 16 q869 dX1_goesOn_116 (by decide) (y4.r0) rfl ?_
        refine pl_aload_n (pc := 119) dX1_goesOn_119 rfl rfl ?_
        refine pj_getfN (pc := 120) ckX2 6 q737 dX1_goesOn_120 (by decide) (y4.r1b (y := 1) (by decide)) rfl ?_
        refine PJ.top (y := row τ 2122) (show _ = row (sF τ 23 z) 2122 from v6b (nw := nw) h9.hz hb3) ?_
        refine pj_mmax (pc := 123) q2508 dX1_goesOn_123 (by omega) (Nat.le_of_ble_eq_true rfl) ?_
        refine pj_putf (pc := 126) ckX1 16 q869 dX1_goesOn_126 (by decide) rfl (y4.r0) rfl rfl (Nat.le_of_ble_eq_true rfl) ?_
        refine sxk (y4.p0_16) (fun My5 y5 => ?_)
        refine pl_iinc1 (pc := 129) (lv' := [(2, _), (4, _), (3, _), (1, _), (0, _)]) dX1_goesOn_129 rfl rfl (by decide) rfl ?_
        refine pj_goto (pc := 132) (tgt := 7) dX1_goesOn_132 (by decide) ?_
        refine PJ.sub [0, 3, 4] rfl ?_
        have hs9 := (uq_s (rainF n nl nb q nw st p) r (nI 0, nI 0, υ0)).trans (rainF_s hυ hB)
        refine PJ.widen (C1 := CsT S2 + 96 * (wm - (r + 1))) (N1 := NsT S2 + 288 * (wm - (r + 1))) (by omega) (by omega) ?_
        refine ihr (by omega) _ A2 S2 b3 _ (s_back τ) (by rw [hs9]) ⟨y5, t3.eP g3.hz (EP.u (Or.inl rfl) (EP.u (Or.inl rfl) EP.rf)), ⟨eA2.1.trans eA0.1, eA2.2.1.trans eA0.2.1, eA2.2.2.trans eA0.2.2⟩, fun x y hn => (ss.1 x y hn).trans (sq0 x y hn), BsX.of h9 t9 ss hb3, ak.ss ss (fun j hj => (er _ (by omega)).trans (hrow _ (by omega)).symm), planB_iv v1 hs ⟨iv9, fw9⟩, er, (f9 24 (by decide)).trans h24⟩ (fun a ha => by rw [uE_r ha, uE_r ha]; exact he a ha) ?_ ?_ (fun _ => ⟨(CsT_ss ss).1, (CsT_ss ss).2, by rw [uE_eq]; exact lt_mx (hu9.pos (by omega))⟩)
        · rw [if_neg (Nat.succ_ne_zero r), hs9, uE_eq, uE_ne (by omega)]
          exact mxv hm (hu9.pos (by omega))
        · intro _
          rw [hs9, uE_ne (by omega), uE_eq]
          exact (by rw [← hf (by omega)]; exact min_le.trans (if_neg (show ¬ r = 0 by omega)).symm)
      · refine pl_aload_n (pc := 93) dX1_goesOn_93 rfl rfl ?_
        refine pl_callVd (pc := 94) (As := []) (C1 := 0) (N1 := 0) (C2 := (psi τ + 96 * (wm - (r + 1)))) (N2 := (3 * psi τ + 288 * (wm - (r + 1)))) ckX2 mdX2_farms rfl q1195 q1196 q1197 q126 dX1_goesOn_94 rfl rfl (Nat.le_of_ble_eq_true rfl) (g3.r1b (y := 1) (by decide)) (x_X2_farms (d := d - 1) (by omega) h9) (by omega) (by omega) (by omega) ?_
        refine pj_goto (pc := 97) (tgt := 111) dX1_goesOn_97 (by decide) ?_
        refine pj_putf (pc := 111) ckX1 17 q870 dX1_goesOn_111 (by decide) rfl (g3.r0) rfl rfl (Nat.le_of_ble_eq_true rfl) ?_
        refine sxk (g3.p0_17) (fun My6 y6 => ?_)
        refine pl_aload_n (pc := 114) dX1_goesOn_114 rfl rfl ?_
        refine pl_aload_n (pc := 115) dX1_goesOn_115 rfl rfl ?_
        refine pj_getf (pc := 116) ckX1 16 q869 dX1_goesOn_116 (by decide) (y6.r0) rfl ?_
        refine pl_aload_n (pc := 119) dX1_goesOn_119 rfl rfl ?_
        refine pj_getfN (pc := 120) ckX2 6 q737 dX1_goesOn_120 (by decide) (y6.r1b (y := 1) (by decide)) rfl ?_
        refine PJ.top (y := row τ 2122) (show _ = row (sF τ 23 z) 2122 from v6b (nw := nw) h9.hz hb3) ?_
        refine pj_mmax (pc := 123) q2508 dX1_goesOn_123 (by omega) (Nat.le_of_ble_eq_true rfl) ?_
        refine pj_putf (pc := 126) ckX1 16 q869 dX1_goesOn_126 (by decide) rfl (y6.r0) rfl rfl (Nat.le_of_ble_eq_true rfl) ?_
        refine sxk (y6.p0_16) (fun My7 y7 => ?_)
        refine pl_iinc1 (pc := 129) (lv' := [(2, _), (4, _), (3, _), (1, _), (0, _)]) dX1_goesOn_129 rfl rfl (by decide) rfl ?_
        refine pj_goto (pc := 132) (tgt := 7) dX1_goesOn_132 (by decide) ?_
        refine PJ.sub [0, 3, 4] rfl ?_
        have hs9 := (uq_s (rainF n nl nb q nw st p) r (nI 0, nI 0, υ0)).trans (rainF_s hυ hB)
        refine PJ.widen (C1 := CsT S2 + 96 * (wm - (r + 1))) (N1 := NsT S2 + 288 * (wm - (r + 1))) (by omega) (by omega) ?_
        refine ihr (by omega) _ A2 S2 b3 _ (s_back τ) (by rw [hs9]) ⟨y7, t3.eP g3.hz (EP.u (Or.inl rfl) (EP.u (Or.inl rfl) EP.rf)), ⟨eA2.1.trans eA0.1, eA2.2.1.trans eA0.2.1, eA2.2.2.trans eA0.2.2⟩, fun x y hn => (ss.1 x y hn).trans (sq0 x y hn), BsX.of h9 t9 ss hb3, ak.ss ss (fun j hj => (er _ (by omega)).trans (hrow _ (by omega)).symm), planB_iv v1 hs ⟨iv9, fw9⟩, er, (f9 24 (by decide)).trans h24⟩ (fun a ha => by rw [uE_r ha, uE_r ha]; exact he a ha) ?_ ?_ (fun _ => ⟨(CsT_ss ss).1, (CsT_ss ss).2, by rw [uE_eq]; exact lt_mx (hu9.pos (by omega))⟩)
        · rw [if_neg (Nat.succ_ne_zero r), hs9, uE_eq, uE_ne (by omega)]
          exact mxv hm (hu9.pos (by omega))
        · intro _
          rw [hs9, uE_ne (by omega), uE_eq]
          exact (if_pos (show r = 0 by omega)).symm
    · refine pl_aload_n (pc := 46) dX1_goesOn_46 rfl rfl ?_
      refine pl_aload_n (pc := 47) dX1_goesOn_47 rfl rfl ?_
      refine pj_getf (pc := 48) ckX1 12 q865 dX1_goesOn_48 (by decide) (h9.r0b) rfl ?_
      refine pl_aload_n (pc := 51) dX1_goesOn_51 rfl rfl ?_
      refine pj_getf (pc := 52) ckX1 15 q868 dX1_goesOn_52 (by decide) (h9.r0b) rfl ?_
      refine pl_iload (pc := 55) dX1_goesOn_55 rfl ?_
      refine pl_iald (pc := 57) (n := 2) dX1_goesOn_57 (h9.r46b) (by omega) (by decide) ?_
      refine PJ.top (SX.v46b hr.hz hb2 (by omega)) ?_
      have hpx9 := hpx i (by omega)
      refine PJ.top (y := nI (plIx st p i)) ((congrFun (he 18 (by decide)) i).trans (h18 i (by omega))) ?_
      refine pl_iald (pc := 58) (n := 3) dX1_goesOn_58 (h9.r43b) (by omega) (by decide) ?_
      refine PJ.top (SX.v43b hr.hz hb2 (by omega)) ?_
      obtain ⟨kp, hk1, hk2, ekp⟩ := hpr _ hpx9
      have e15 : τ.2.1 15 = σ1.2.1 15 := fw9.2.1 15 (by decide) (by decide) (by decide)
      refine PJ.top (y := nI kp) ((congrFun e15u _).trans ekp) ?_
      refine pj_putfN (pc := 59) ckX2 9 q742 dX1_goesOn_59 (by decide) rfl (h9.r1) rfl rfl (Nat.le_of_ble_eq_true rfl) ?_
      refine sxk (h9.p1_9) (fun My8 y8 => ?_)
      refine pl_iconst (pc := 62) (v := 0) dX1_goesOn_62 (by rfl) ?_
      refine pj_istore (pc := 63) (lv' := [(5, _), (4, _), (3, _), (2, _), (1, _), (0, _)]) dX1_goesOn_63 (by decide) rfl ?_
      have g5 : SX g P F A2 1 S2 b2 (sF τ 23 (nI kp)) e2 My8 := by rw [← sF_F (x := z)]; exact y8
      have t5 : TieX 1 S2 (sF τ 23 (nI kp)) e2 (nw + 13 * i) := (t9.tr (a := nI kp) (c := -1) (Or.inr ⟨kp, hk2, rfl⟩) (Or.inl rfl)).cg g5.hz (fun _ _ => rfl) rfl rfl (fun _ _ => rfl) rfl ((f9 24 (by decide)).trans h24)
      have tr5 : ∀ τ2 : MS, τ2.1 = (sF τ 23 (nI kp)).1 → TrO τ2 := fun τ2 f => ⟨by rw [f, sF_eq]; exact fun z => by have := (nI_leI (a := kp) (b := 0) (by omega) (by decide)).mp z; omega, by rw [f, sF_eq]; exact Or.inr ⟨kp, hk2, rfl⟩⟩
      have h75 : ∀ τ2 : MS, τ2.1 = (sF τ 23 (nI kp)).1 → ¬ τ2.1 7 < 0 := fun τ2 f => by rw [f, sF_ne (by decide), f9 7 (by decide), sF_eq, e16u]; exact hwr r (by omega)
      refine PJ.widen (C1 := psi (sF τ 23 (nI kp)) + 96 * (wm - (r + 1))) (N1 := 3 * psi (sF τ 23 (nI kp)) + 288 * (wm - (r + 1))) (by rw [psi_F]; omega) (by rw [psi_F]; omega) ?_
      refine ind_dn (n := 13) (P := fun k => ∀ M9 τ2, τ2 = s_weeks n nl nb q (nw + 13 * i) k (sF τ 23 (nI kp)) → SB g P F A2 1 S2 b2 τ2 (nw + 13 * i + k) M9 → IvG τ2 n nl nb q nor (nw + 13 * i + k) → τ2.1 = (sF τ 23 (nI kp)).1 → HuX (100 * (nw + 13 * i + k)) τ2 → PJ g _ _ _ _ d (psi τ2 + 96 * (wm - (r + 1))) (3 * psi τ2 + 288 * (wm - (r + 1))) 65 [(5, .int (nI k)), (4, .int (nI i)), (3, .ref (A2 1 1 0)), (2, .int (nI r)), (1, .int (nI st)), (0, .ref (A2 0 0 0))] [] M9 _) (fun k hk ih M8 τ2 hτ2 s8 iv8 f8 hu8 => ?_) 0 (Nat.zero_le _) _ _ (by unfold s_weeks; rw [uq_0]) ⟨_, g5, t5⟩ iv9.f0 rfl hu9
      obtain ⟨e8, h8, t8⟩ := s8
      refine pl_iload (pc := 65) dX1_goesOn_65 rfl ?_
      refine pl_bipush (pc := 67) (v := 13) dX1_goesOn_67 (by rfl) ?_
      refine pl_icmp_ge (pc := 69) (tgt := 82) dX1_goesOn_69 (by decide) (by omega) (by omega) (fun c69 => ?_) (fun c69 => ?_)
      · refine pl_iinc1 (pc := 82) (lv' := [(4, _), (5, _), (3, _), (2, _), (1, _), (0, _)]) dX1_goesOn_82 rfl rfl (by decide) rfl ?_
        refine pj_goto (pc := 85) (tgt := 40) dX1_goesOn_85 (by decide) ?_
        refine PJ.sub [0, 2, 3, 4, 5] rfl ?_
        have ek : k = 13 := by omega
        subst ek
        have f23 : τ2.1 23 = nI kp := by rw [f8]; exact sF_eq
        have e13 : nw + 13 * i + 13 = nw + 13 * (i + 1) := by omega
        rw [e13] at t8 iv8 hu8
        have h8s : SX g P F A2 1 S2 b2 (sF τ2 23 (nI kp)) e8 M8 := by rw [sF_id f23]; exact h8
        have t8s : TieX 1 S2 (sF τ2 23 (nI kp)) e8 (nw + 13 * (i + 1)) := by rw [sF_id f23]; exact t8
        have fw8 : FrW nw σ1 τ2 := by rw [hτ2]; exact (fw9.F (Or.inr (Or.inl rfl))).tr ((frw_weeks n nl nb q (nw + 13 * i) _ 13).le (by omega))
        exact ihi (by omega) _ _ (nI kp) τ2 (by rw [uq_s, ← hτ]; unfold stepP; rw [e15, ekp]; exact hτ2) h8s t8s iv8 fw8 (fun x hx => by rw [f8, sF_ne hx]; exact f9 x hx) hu8
      · refine pl_aload_n (pc := 72) dX1_goesOn_72 rfl rfl ?_
        have tr8 := tr5 τ2 f8
        have w_g := (mn_goes (nw := nw + 13 * i + k) tr8 iv8).psi
        refine pl_callVWv (pc := 73) (As := []) (C1 := (psi τ2 - psi (s_goes n nl nb q (nw + 13 * i + k) τ2))) (N1 := (3 * (psi τ2 - psi (s_goes n nl nb q (nw + 13 * i + k) τ2)))) (C2 := (psi (s_goes n nl nb q (nw + 13 * i + k) τ2) + 96 * (wm - (r + 1)))) (N2 := (3 * psi (s_goes n nl nb q (nw + 13 * i + k) τ2) + 288 * (wm - (r + 1)))) ckX2 mdX2_passes rfl q2349 q2350 q2351 q126 dX1_goesOn_73 rfl rfl (Nat.le_of_ble_eq_true rfl) (h8.r1) (x_X2_passesN (d := d - 1) (by omega) ⟨_, h8, t8⟩ q4 q8 q10 q6 iv8 (by omega) (Or.inr (h75 τ2 f8)) tr8) (by omega) (by omega) (by omega) (fun My9 qy9 => ?_)
        refine pl_iinc1 (pc := 76) (lv' := [(5, _), (4, _), (3, _), (2, _), (1, _), (0, _)]) dX1_goesOn_76 rfl rfl (by decide) rfl ?_
        refine pj_goto (pc := 79) (tgt := 65) dX1_goesOn_79 (by decide) ?_
        exact ih (by omega) _ _ (by unfold s_weeks; rw [uq_s]; show _ = s_goes _ _ _ _ _ (s_weeks _ _ _ _ _ k _); rw [← hτ2]) qy9 (goes_iv iv8 (by omega)) (goes_1.trans f8) ((hu_goes (k := nw + 13 * i + k) iv8 hu8).le (by omega))
