set_option maxRecDepth 100000
theorem w4 {w : Int32} (h : ¬ w < 0) (h2 : ¬ nI 3 < w) : w = nI 0 ∨ w = nI 1 ∨ w = nI 2 ∨ w = nI 3 := by
  obtain ⟨j, hj, rfl⟩ := nI_of2 (n := 3) (M := nI 3) (by rfl) h (Int32.not_lt.mp h2)
  rcases (by omega : j = 0 ∨ j = 1 ∨ j = 2 ∨ j = 3) with rfl | rfl | rfl | rfl
  · exact Or.inl rfl
  · exact Or.inr (Or.inl rfl)
  · exact Or.inr (Or.inr (Or.inl rfl))
  · exact Or.inr (Or.inr (Or.inr rfl))
set_option maxHeartbeats 600000 in
theorem x_X1_planned {g : GP} {μ : Mem} {d : Nat} {P : Nat → Prop} {F : Mem} {A : XA} {S : Nat → Nat → Nat} {b : XS} {σ : MS} {nor nw : Nat} (s : SB g P F A 0 S b σ nw μ) (iv : IvG σ (S 4 0) (S 8 0) (S 10 0) (S 6 0) nor nw) (rs : RsX σ) {wm : Nat} (ak : AkX S σ nor) (bs : BsX S b) (hwm : σ.1 29 = nI wm) (hw3 : wm ≤ 3) (hpr : σ.1 28 = 0 ∨ ∀ i, i < 3 → ∃ k, 1 ≤ k ∧ k ≤ 1000 ∧ σ.2.1 15 i = nI k) (hwr : ∀ r, r < 3 → ¬ σ.2.1 16 r < 0) (hu : HuX (100 * nw) σ) (hd : 349 ≤ d) {ps : Int32} {wh : Int32} : PM g yX1_planned (ws_ yX1_planned cX1_planned 6 (some .int)) d 2880 30764 [.ref (A 0 0 0), .int ps, .int wh] μ (CQ ["java/lang/IllegalArgumentException", "java/lang/IllegalStateException"] (p_planned σ (S 4 0) (S 8 0) (S 10 0) (S 6 0) nw wm ps wh) (fun τ M => ∃ A1 S1 b1, SqP S S1 ∧ BsX S1 b1 ∧ SB g P F A1 0 S1 b1 τ nw M)) := by
  refine PM.of (by decide +kernel) (Nat.le_of_ble_eq_true rfl) ?_
  refine PJ.ok (fun G => ?_)
  show PJ g _ _ _ _ d 2880 30764 0 [(0, .ref (A 0 0 0)), (1, .int ps), (2, .int wh)] [] _ _
  obtain ⟨ρ, hs0⟩ : ∃ ρ, ρ = sF σ 0 (nI 0) := ⟨_, rfl⟩
  have hs9 : s0 σ = ρ := hs0.symm
  have s1 := s.F0 (x := nI 0)
  rw [← hs0] at s1
  obtain ⟨e, h, t⟩ := s1
  have iv1 : IvG ρ (S 4 0) (S 8 0) (S 10 0) (S 6 0) nor nw := by rw [hs0]; exact iv.f0
  have rs1 : RsX ρ := by rw [hs0]; exact rs
  have h00 : ρ.1 0 = nI 0 := by rw [hs0]; rfl
  have hS4 := h.hz.2.1
  have hS6 := h.hz.2.2.1
  have hS8 := h.hz.2.2.2.1
  have hS10 := h.hz.2.2.2.2.1
  have ak1 : AkX S ρ nor := by rw [hs0]; exact ak.cg (fun _ _ _ => rfl)
  have hwm1 : ρ.1 29 = nI wm := by rw [hs0]; exact hwm
  have hNW := iv1.hNW
  obtain ⟨n, hn⟩ : ∃ z, z = S 4 0 := ⟨_, rfl⟩
  obtain ⟨nl, hnl⟩ : ∃ z, z = S 8 0 := ⟨_, rfl⟩
  obtain ⟨nb, hnb⟩ : ∃ z, z = S 10 0 := ⟨_, rfl⟩
  obtain ⟨q, hnq⟩ : ∃ z, z = S 6 0 := ⟨_, rfl⟩
  rw [← hn, ← hnl, ← hnb, ← hnq] at iv1 ⊢
  rcases (show ps = nI 1 ∨ ps = nI 2 ∨ (¬ ps = nI 1 ∧ ¬ ps = nI 2) by
      by_cases z1 : ps = nI 1
      · exact Or.inl z1
      · by_cases z2 : ps = nI 2
        · exact Or.inr (Or.inl z2)
        · exact Or.inr (Or.inr ⟨z1, z2⟩)) with rfl | rfl | ⟨hps1, hps2⟩
  · have hps9 := hs9
    refine pl_iload_n (pc := 0) dX1_planned_0 rfl rfl ?_
    refine pl_iconst (pc := 1) (v := 1) dX1_planned_1 (by rfl) ?_
    refine pj_icmp_eq (pc := 2) (tgt := 10) dX1_planned_2 (by decide) (fun _ => ?_) (fun h => absurd h (by decide))
    refine pl_iload_n (pc := 10) dX1_planned_10 rfl rfl ?_
    refine pj_if_lt (pc := 11) (tgt := 23) dX1_planned_11 (by decide) (fun c11 => ?_) (fun c11 => ?_)
    · refine pl_iconst (pc := 23) (v := 0) dX1_planned_23 (by rfl) ?_
      refine pl_callSX (pc := 24) (As := [_]) (C1 := 1) (N1 := 6) (C2 := 0) (N2 := 0) (E8 := "java/lang/IllegalArgumentException") mdX1_need q1262 q1263 q125 dX1_planned_24 rfl rfl (Nat.le_of_ble_eq_true rfl) (k_X1_need_no (d := d - 1) (by omega) rfl) (by omega) (by omega) (by omega) (fun q_24 M_24 hM_24 => ?_)
      refine px_out0 rfl ?_
      exact CQ.no 0 (v := nI 0) (τ := sF ρ 0 (nI 1)) (by rw [show sF ρ 0 (nI 1) = th σ 1 by rw [hs0]]; exact (by rw [planned_st (Or.inl rfl)]; simp [hs9, c11, Int32.not_lt, Int32.not_le])) rfl rfl (⟨A, S, b, SqP.rf, bs, SB.mono (SB.F0 ⟨_, h, t⟩) hM_24⟩)
    · refine pl_iload_n (pc := 14) dX1_planned_14 rfl rfl ?_
      refine pl_iconst (pc := 15) (v := 3) dX1_planned_15 (by rfl) ?_
      refine pj_icmp_gt (pc := 16) (tgt := 23) dX1_planned_16 (by decide) (fun c16 => ?_) (fun c16 => ?_)
      · refine pl_iconst (pc := 23) (v := 0) dX1_planned_23 (by rfl) ?_
        refine pl_callSX (pc := 24) (As := [_]) (C1 := 1) (N1 := 6) (C2 := 0) (N2 := 0) (E8 := "java/lang/IllegalArgumentException") mdX1_need q1262 q1263 q125 dX1_planned_24 rfl rfl (Nat.le_of_ble_eq_true rfl) (k_X1_need_no (d := d - 1) (by omega) rfl) (by omega) (by omega) (by omega) (fun q_24 M_24 hM_24 => ?_)
        refine px_out0 rfl ?_
        exact CQ.no 0 (v := nI 0) (τ := sF ρ 0 (nI 1)) (by rw [show sF ρ 0 (nI 1) = th σ 1 by rw [hs0]]; exact (by rw [planned_st (Or.inl rfl)]; simp [hs9, c11, c16, Int32.not_lt, Int32.not_le])) rfl rfl (⟨A, S, b, SqP.rf, bs, SB.mono (SB.F0 ⟨_, h, t⟩) hM_24⟩)
      · refine pl_iconst (pc := 19) (v := 1) dX1_planned_19 (by rfl) ?_
        refine pj_goto (pc := 20) (tgt := 24) dX1_planned_20 (by decide) ?_
        refine pl_callSv (pc := 24) (As := [_]) (C1 := 0) (N1 := 0) (C2 := 2880) (N2 := 30764) mdX1_need q1262 q1263 q125 dX1_planned_24 rfl rfl (Nat.le_of_ble_eq_true rfl) (k_X1_need_ok (d := d - 1) (by omega) (by decide)) (by omega) (by omega) (by omega) ?_
        refine pl_aload_n (pc := 27) dX1_planned_27 rfl rfl ?_
        refine pj_getf (pc := 28) ckX1 0 q853 dX1_planned_28 (by decide) (h.r0) rfl ?_
        refine pj_getfN (pc := 31) ckX2 0 q726 dX1_planned_31 (by decide) (h.r1) rfl ?_
        refine pl_bipush (pc := 34) (v := 13) dX1_planned_34 (by rfl) ?_
        refine pl_iload_n (pc := 36) dX1_planned_36 rfl rfl ?_
        refine pl_imul (pc := 37) dX1_planned_37 ?_
        refine PJ.top (y := nI 13 * nI 1) (pk_mul 13 1).symm ?_
        refine pj_iadd (pc := 38) dX1_planned_38 ?_
        refine pl_sipush (pc := 39) (v := 1000) dX1_planned_39 (by rfl) ?_
        refine pj_icmp_gt (pc := 42) (tgt := 49) dX1_planned_42 (by decide) (fun c42 => ?_) (fun c42 => ?_)
        · refine pl_iconst (pc := 49) (v := 0) dX1_planned_49 (by rfl) ?_
          refine pl_callSX (pc := 50) (As := [_]) (C1 := 1) (N1 := 6) (C2 := 0) (N2 := 0) (E8 := "java/lang/IllegalStateException") mdX1_right q2331 q2332 q125 dX1_planned_50 rfl rfl (Nat.le_of_ble_eq_true rfl) (k_X1_right_no (d := d - 1) (by omega) rfl) (by omega) (by omega) (by omega) (fun q_50 M_50 hM_50 => ?_)
          refine px_out0 rfl ?_
          exact CQ.no 1 (v := nI 0) (τ := sF ρ 0 (nI 2)) (by rw [show sF ρ 0 (nI 2) = th σ 2 by rw [hs0]]; exact (by rw [planned_st (Or.inl rfl)]; simp [hs9, c11, c16, c42, Int32.not_lt, Int32.not_le])) rfl rfl (⟨A, S, b, SqP.rf, bs, SB.mono (SB.F0 ⟨_, h, t⟩) hM_50⟩)
        · refine pl_iconst (pc := 45) (v := 1) dX1_planned_45 (by rfl) ?_
          refine pj_goto (pc := 46) (tgt := 50) dX1_planned_46 (by decide) ?_
          refine pl_callSv (pc := 50) (As := [_]) (C1 := 0) (N1 := 0) (C2 := 2880) (N2 := 30764) mdX1_right q2331 q2332 q125 dX1_planned_50 rfl rfl (Nat.le_of_ble_eq_true rfl) (k_X1_right_ok (d := d - 1) (by omega) (by decide)) (by omega) (by omega) (by omega) ?_
          refine pl_aload_n (pc := 53) dX1_planned_53 rfl rfl ?_
          refine pj_getf (pc := 54) ckX1 6 q859 dX1_planned_54 (by decide) (h.r0) rfl ?_
          refine pj_if_eq (pc := 57) (tgt := 67) dX1_planned_57 (by decide) (fun c57 => ?_) (fun c57 => ?_)
          · refine pj_iconst (pc := 67) (v := (-1)) dX1_planned_67 (by rfl) ?_
            refine pj_iret (pc := 68) dX1_planned_68 rfl ?_
            exact CQ.ok (τ := ρ) (by rw [planned_st (Or.inl rfl), if_neg c11, if_neg (fun z => z (Int32.not_lt.mp c16)), if_neg (fun z => z (by rw [hs9]; exact Int32.not_lt.mp c42)), hs9]; rw [if_pos c57]) h00 ⟨A, S, b, SqP.rf, bs, _, h, t⟩
          · refine pl_aload_n (pc := 60) dX1_planned_60 rfl rfl ?_
            refine pj_getf (pc := 61) ckX1 5 q858 dX1_planned_61 (by decide) (h.r0) rfl ?_
            refine PJ.top (y := nI wm) hwm1 ?_
            refine pl_if_neN (pc := 64) (tgt := 69) dX1_planned_64 (by decide) (by omega) (fun c64 => ?_) (fun c64 => ?_)
            · have hz1 := CsT_le h.hz
              have w1 : 1 ≤ wm := by omega
              have hb9 : nw + 13 * 1 ≤ 1000 := (nI_leI (by omega) (by decide)).mp (by rw [← nI_add, ← pk_mul, ← iv1.hnw]; exact Int32.not_lt.mp c42)
              have hpr2 : ∀ i, i < 3 → ∃ k, 1 ≤ k ∧ k ≤ 1000 ∧ (s_saves ρ).2.1 15 i = nI k := by rw [hs0]; exact hpr.resolve_left (fun z => c57 (by rw [hs0]; exact z))
              have hwr2 : ∀ r, r < 3 → ¬ (s_saves ρ).2.1 16 r < 0 := by rw [hs0]; exact hwr
              have hu2 : HuX (100 * nw) (s_saves ρ) := by rw [hs0]; exact hu.rw2 rfl
              obtain ⟨S0, hS0⟩ : ∃ S9, S9 = S := ⟨_, rfl⟩
              obtain ⟨A0, hA0⟩ : ∃ A9, A9 = A := ⟨_, rfl⟩
              have hSS : S0 4 0 = n ∧ S0 8 0 = nl ∧ S0 10 0 = nb ∧ S0 6 0 = q := by rw [hS0]; exact ⟨hn.symm, hnl.symm, hnb.symm, hnq.symm⟩
              have gi0 : GoI g P F n nl nb q nor nw (s_saves ρ) S0 A0 A S b e (s_saves ρ) _ := ⟨SX.cg h (fun a9 h2 _ _ => if_neg h2) (fun x hx => by rcases hx with z | z | z | z | z | z | z | z <;> subst z <;> first | rfl | exact rs1.1.symm | exact rs1.2.1.symm) rfl rfl, t.cg h.hz (fun _ _ => rfl) rfl rfl (fun _ _ => rfl) rs1.2.1.symm rfl, by rw [hA0]; exact ⟨rfl, rfl, rfl⟩, by rw [hS0]; exact SqP.rf, bs, ak1.cg (fun _ _ _ => rfl), ⟨saves_iv iv1, FrW.rf⟩, fun _ _ => rfl, rs1.2.2⟩
              refine pj_iconst (pc := 69) (v := (-1)) dX1_planned_69 (by rfl) ?_
              refine pj_istore_n (pc := 70) (lv' := [(3, _), (0, _), (1, _), (2, _)]) dX1_planned_70 rfl (by decide) rfl ?_
              refine pl_iconst (pc := 71) (v := 0) dX1_planned_71 (by rfl) ?_
              refine pj_istore (pc := 72) (lv' := [(4, _), (3, _), (0, _), (1, _), (2, _)]) dX1_planned_72 (by decide) rfl ?_
              refine pl_iconst (pc := 74) (v := 0) dX1_planned_74 (by rfl) ?_
              refine pj_istore (pc := 75) (lv' := [(5, _), (4, _), (3, _), (0, _), (1, _), (2, _)]) dX1_planned_75 (by decide) rfl ?_
              refine PJ.widen (C1 := CsT S + 288 * (9 - 0)) (N1 := NsT S + 864 * (9 - 0)) (by omega) (by omega) ?_
              refine PJ.sub [0, 1, 2, 5, 4, 3] rfl ?_
              refine ind_dn (n := 3) (P := fun p => ∀ M9 A S b e y, y = plansF n nl nb q nw 1 wm (s_saves ρ) p → GoI g P F n nl nb q nor nw (s_saves ρ) S0 A0 A S b e y.2.2.2 M9 → (p = 0 → y.1 = -1) → (p ≠ 0 → ∃ pb, pb < p ∧ y.1 = nI pb ∧ e 17 0 = nI (if 1 = 1 then pb else pb / 3) ∧ e 17 1 = nI (pb % 3) ∧ -1 < y.2.1) → PJ g _ _ _ _ d (CsT S + 288 * (9 - p)) (NsT S + 864 * (9 - p)) 77 [(5, .int (nI p)), (4, .int y.2.2.1), (3, .int (if p = 0 then -1 else y.2.1)), (2, .int wh), (1, .int (nI 1)), (0, .ref (A 0 0 0))] [] M9 _) (fun p hp ih M9 A S b e y hy gi hy0 hyP => ?_) 0 (Nat.zero_le _) _ A S b e (-1, nI 0, nI 0, s_saves ρ) (by rw [plansF, uq_0]) gi0 (fun _ => rfl) (fun z => absurd rfl z)
              obtain ⟨hr, t, eA0, sq0, bs, ak, pl, hrow, h24⟩ := gi
              refine pl_iload (pc := 77) dX1_planned_77 rfl ?_
              refine pl_iload_n (pc := 79) dX1_planned_79 rfl rfl ?_
              refine pl_iconst (pc := 80) (v := 1) dX1_planned_80 (by rfl) ?_
              refine pj_icmp_ne (pc := 81) (tgt := 88) dX1_planned_81 (by decide) (fun h => absurd h (by decide)) (fun _ => ?_)
              refine pl_iconst (pc := 84) (v := 3) dX1_planned_84 (by rfl) ?_
              refine pj_goto (pc := 85) (tgt := 90) dX1_planned_85 (by decide) ?_
              refine pl_icmp_ge (pc := 90) (tgt := 192) dX1_planned_90 (by decide) (by omega) (by omega) (fun c90 => ?_) (fun c90 => ?_)
              · have ep : p = 3 := by omega
                subst ep
                obtain ⟨pb, hpb, epb, ep0, ep1, hyn⟩ := hyP (by decide)
                rw [if_neg (show ¬ 3 = 0 by decide)]
                rcases w4 c11 c16 with rfl | rfl | rfl | rfl
                · refine pl_iload_n (pc := 192) dX1_planned_192 rfl rfl ?_
                  refine pj_tableIn (pc := 193) (tgt := 220) dX1_planned_193 (by decide) (by decide) (by rfl) (by decide) ?_
                  refine pl_aload_n (pc := 220) dX1_planned_220 rfl rfl ?_
                  refine pj_getf (pc := 221) ckX1 14 q867 dX1_planned_221 (by decide) (hr.r0) rfl ?_
                  refine pl_iconst (pc := 224) (v := 0) dX1_planned_224 (by rfl) ?_
                  refine pl_iald (pc := 225) (n := 2) dX1_planned_225 (hr.r45) (by omega) (by decide) ?_
                  refine PJ.top (hr.v45 (by omega)) ?_
                  refine pj_iret (pc := 226) dX1_planned_226 rfl ?_
                  have hv : (planEnd 1 (nI 0) y).1 = e 17 0 := by unfold planEnd; dsimp only; rw [if_pos (by decide), if_pos rfl, epb, ep0, if_pos rfl]
                  refine CQ.ok (τ := RsT y.2.2.2) ?_ ((pl.2.1 0 (by decide) (by decide) (by decide)).trans h00) ⟨A, S, b, (by rw [← hS0]; exact sq0), bs, _, hr, t⟩
                  rw [planned_st (Or.inl rfl), if_neg c11, if_neg (fun z => z (Int32.not_lt.mp c16)), if_neg (fun z => z (by rw [hs9]; exact Int32.not_lt.mp c42)), if_neg (by rw [hs9]; exact c57), if_neg (by omega), hs9, if_pos rfl, ← hy]
                  exact Prod.ext hv rfl
                · refine pl_iload_n (pc := 192) dX1_planned_192 rfl rfl ?_
                  refine pj_tableIn (pc := 193) (tgt := 227) dX1_planned_193 (by decide) (by decide) (by rfl) (by decide) ?_
                  refine pl_iload_n (pc := 227) dX1_planned_227 rfl rfl ?_
                  refine pl_iconst (pc := 228) (v := 1) dX1_planned_228 (by rfl) ?_
                  refine pj_icmp_ne (pc := 229) (tgt := 236) dX1_planned_229 (by decide) (fun h => absurd h (by decide)) (fun _ => ?_)
                  refine pj_iconst (pc := 232) (v := (-1)) dX1_planned_232 (by rfl) ?_
                  refine pj_goto (pc := 233) (tgt := 242) dX1_planned_233 (by decide) ?_
                  refine pj_iret (pc := 242) dX1_planned_242 rfl ?_
                  have hv : (planEnd 1 (nI 1) y).1 = -1 := by unfold planEnd; dsimp only; rw [if_neg (by decide), if_pos rfl, if_pos rfl]
                  refine CQ.ok (τ := RsT y.2.2.2) ?_ ((pl.2.1 0 (by decide) (by decide) (by decide)).trans h00) ⟨A, S, b, (by rw [← hS0]; exact sq0), bs, _, hr, t⟩
                  rw [planned_st (Or.inl rfl), if_neg c11, if_neg (fun z => z (Int32.not_lt.mp c16)), if_neg (fun z => z (by rw [hs9]; exact Int32.not_lt.mp c42)), if_neg (by rw [hs9]; exact c57), if_neg (by omega), hs9, if_pos rfl, ← hy]
                  exact Prod.ext hv rfl
                · refine pl_iload_n (pc := 192) dX1_planned_192 rfl rfl ?_
                  refine pj_tableIn (pc := 193) (tgt := 243) dX1_planned_193 (by decide) (by decide) (by rfl) (by decide) ?_
                  refine pl_iload_n (pc := 243) dX1_planned_243 rfl rfl ?_
                  refine pj_iret (pc := 244) dX1_planned_244 rfl ?_
                  have hv : (planEnd 1 (nI 2) y).1 = y.2.1 := by unfold planEnd; dsimp only; rw [if_neg (by decide), if_neg (by decide), if_pos rfl]
                  refine CQ.ok (τ := RsT y.2.2.2) ?_ ((pl.2.1 0 (by decide) (by decide) (by decide)).trans h00) ⟨A, S, b, (by rw [← hS0]; exact sq0), bs, _, hr, t⟩
                  rw [planned_st (Or.inl rfl), if_neg c11, if_neg (fun z => z (Int32.not_lt.mp c16)), if_neg (fun z => z (by rw [hs9]; exact Int32.not_lt.mp c42)), if_neg (by rw [hs9]; exact c57), if_neg (by omega), hs9, if_pos rfl, ← hy]
                  exact Prod.ext hv rfl
                · refine pl_iload_n (pc := 192) dX1_planned_192 rfl rfl ?_
                  refine pj_tableOut (pc := 193) (tgt := 245) dX1_planned_193 (by decide) (by decide) ?_
                  refine pl_iload (pc := 245) dX1_planned_245 rfl ?_
                  refine pj_iret (pc := 247) dX1_planned_247 rfl ?_
                  have hv : (planEnd 1 (nI 3) y).1 = y.2.2.1 := by unfold planEnd; dsimp only; rw [if_neg (by decide), if_neg (by decide), if_neg (by decide)]
                  refine CQ.ok (τ := RsT y.2.2.2) ?_ ((pl.2.1 0 (by decide) (by decide) (by decide)).trans h00) ⟨A, S, b, (by rw [← hS0]; exact sq0), bs, _, hr, t⟩
                  rw [planned_st (Or.inl rfl), if_neg c11, if_neg (fun z => z (Int32.not_lt.mp c16)), if_neg (fun z => z (by rw [hs9]; exact Int32.not_lt.mp c42)), if_neg (by rw [hs9]; exact c57), if_neg (by omega), hs9, if_pos rfl, ← hy]
                  exact Prod.ext hv rfl
              · refine pl_aload_n (pc := 93) dX1_planned_93 rfl rfl ?_
                refine pj_getf (pc := 94) ckX1 15 q868 dX1_planned_94 (by decide) (hr.r0) rfl ?_
                refine pl_iconst (pc := 97) (v := 0) dX1_planned_97 (by rfl) ?_
                refine pl_iload_n (pc := 98) dX1_planned_98 rfl rfl ?_
                refine pl_iconst (pc := 99) (v := 1) dX1_planned_99 (by rfl) ?_
                refine pj_icmp_ne (pc := 100) (tgt := 108) dX1_planned_100 (by decide) (fun h => absurd h (by decide)) (fun _ => ?_)
                refine pl_iload (pc := 103) dX1_planned_103 rfl ?_
                refine pj_goto (pc := 105) (tgt := 112) dX1_planned_105 (by decide) ?_
                refine pl_iast (pc := 112) (n := 2) dX1_planned_112 (hr.r46) (by omega) (by decide) ?_
                refine sxk (hr.p46 (by omega)) (fun My1 y1 => ?_)
                refine pl_aload_n (pc := 113) dX1_planned_113 rfl rfl ?_
                refine pj_getf (pc := 114) ckX1 15 q868 dX1_planned_114 (by decide) (y1.r0) rfl ?_
                refine pl_iconst (pc := 117) (v := 1) dX1_planned_117 (by rfl) ?_
                refine pl_iload (pc := 118) dX1_planned_118 rfl ?_
                refine pl_iconst (pc := 120) (v := 3) dX1_planned_120 (by rfl) ?_
                refine pl_irem (pc := 121) dX1_planned_121 (by omega) (by decide) (by decide) ?_
                refine pl_iast (pc := 122) (n := 2) dX1_planned_122 (y1.r46) (by omega) (by decide) ?_
                refine sxk (y1.p46 (by omega)) (fun My2 y2 => ?_)
                refine pl_aload_n (pc := 123) dX1_planned_123 rfl rfl ?_
                refine pl_iload_n (pc := 124) dX1_planned_124 rfl rfl ?_
                have gi5 : GoI g P F n nl nb q nor nw (s_saves ρ) S0 A0 A S b (uE (uE e 18 0 (nI p)) 18 1 (nI (p % 3))) y.2.2.2 _ := ⟨y2, t.eP hr.hz (EP.u (Or.inr (Or.inr rfl)) (EP.u (Or.inr (Or.inr rfl)) EP.rf)), eA0, sq0, bs, ak, pl, hrow, h24⟩
                have h18 : ∀ k, k < 1 → (uE (uE e 18 0 (nI p)) 18 1 (nI (p % 3))) 18 k = nI (plIx 1 p k) := fun k hk => by
                  have k0 : k = 0 := by omega
                  subst k0
                  rw [uE_ne (by omega), uE_eq, plIx_0 (Or.inl rfl) (fun _ => by omega), if_pos rfl]
                refine pl_callVWv (pc := 125) (As := [_]) (C1 := (CsT S + 96 * wm)) (N1 := (NsT S + 288 * wm)) (C2 := (288 * (9 - (p + 1)))) (N2 := (864 * (9 - (p + 1)))) ckX1 mdX1_goesOn rfl q2504 q2506 qs48 q125 dX1_planned_125 rfl rfl (Nat.le_of_ble_eq_true rfl) (y2.r0) (x_X1_goesOn (d := d - 1) (by omega) gi5 hSS (saves_iv iv1) (fun j hj => saves_2 hj) hwm1 w1 hw3 hpr2 hwr2 hu2 hb9 (by decide) h18 (fun k _ => plIx_3 (by omega))) (by omega) (by omega) (by omega) (fun My3 qy3 => ?_)
                obtain ⟨A6, S6, b6, e6, gi6, cs6, ns6, he6, h60, h61, hp6⟩ := qy3
                obtain ⟨y3, t6, eA6, sq6, bs6, ak6, pl6, hrow6, h246⟩ := gi6
                rw [show A 0 0 0 = A6 0 0 0 from eA0.1.trans eA6.1.symm]
                by_cases hp0 : p = 0
                · rw [if_pos hp0]
                  refine pl_iload_n (pc := 128) dX1_planned_128 rfl rfl ?_
                  refine pj_iconst (pc := 129) (v := (-1)) dX1_planned_129 (by rfl) ?_
                  refine pj_icmp_eq (pc := 130) (tgt := 161) dX1_planned_130 (by decide) (fun _ => ?_) (fun z9 => absurd rfl z9)
                  refine pl_aload_n (pc := 161) dX1_planned_161 rfl rfl ?_
                  refine pj_getf (pc := 162) ckX1 16 q869 dX1_planned_162 (by decide) (y3.r0) rfl ?_
                  refine pj_istore_n (pc := 165) (lv' := [(3, _), (5, _), (4, _), (2, _), (1, _), (0, _)]) dX1_planned_165 rfl (by decide) rfl ?_
                  refine pl_aload_n (pc := 166) dX1_planned_166 rfl rfl ?_
                  refine pj_getf (pc := 167) ckX1 17 q870 dX1_planned_167 (by decide) (y3.r0) rfl ?_
                  refine pj_istore (pc := 170) (lv' := [(4, _), (3, _), (5, _), (2, _), (1, _), (0, _)]) dX1_planned_170 (by decide) rfl ?_
                  refine pl_aload_n (pc := 172) dX1_planned_172 rfl rfl ?_
                  refine pj_getf (pc := 173) ckX1 15 q868 dX1_planned_173 (by decide) (y3.r0) rfl ?_
                  refine pl_iconst (pc := 176) (v := 0) dX1_planned_176 (by rfl) ?_
                  refine pl_aload_n (pc := 177) dX1_planned_177 rfl rfl ?_
                  refine pj_getf (pc := 178) ckX1 14 q867 dX1_planned_178 (by decide) (y3.r0) rfl ?_
                  refine pl_iconst (pc := 181) (v := 0) dX1_planned_181 (by rfl) ?_
                  refine pl_iconst (pc := 182) (v := 2) dX1_planned_182 (by rfl) ?_
                  refine pj_copyi (pc := 183) 0 q2509 dX1_planned_183 y3.r46 y3.r45 rfl rfl (sp := 0) (dp := 0) (k := 2) (by omega) (by omega) (by decide) (by decide) (fun _ _ => rfl) (by omega) (Nat.le_of_ble_eq_true rfl) ?_
                  refine sxk (y3.cp45) (fun My4 y4 => ?_)
                  refine pl_iinc1 (pc := 186) (lv' := [(5, _), (4, _), (3, _), (2, _), (1, _), (0, _)]) dX1_planned_186 rfl rfl (by decide) rfl ?_
                  refine pj_goto (pc := 189) (tgt := 77) dX1_planned_189 (by decide) ?_
                  refine PJ.widen (C1 := CsT S6 + 288 * (9 - (p + 1))) (N1 := NsT S6 + 864 * (9 - (p + 1))) (by omega) (by omega) ?_
                  have eF : planF n nl nb q nw 1 wm p y = (nI p, (rainsF n nl nb q nw 1 wm p y.2.2.2)) := planF_take (Or.inl (by rw [hy0 hp0]; decide))
                  have g0 : e6 18 0 = nI (plIx 1 p 0) := (congrFun (he6 18 (by decide)) 0).trans (h18 0 (by decide))
                  rw [plIx_0 (by decide) (fun _ => by omega)] at g0
                  have g1 : e6 18 1 = nI (p % 3) := (congrFun (he6 18 (by decide)) 1).trans uE_eq
                  refine PJ.conv ?_ rfl rfl (ih (by omega) _ A6 S6 b6 (uE (uE e6 17 0 (e6 18 0)) 17 1 (e6 18 1)) (nI p, (rainsF n nl nb q nw 1 wm p y.2.2.2)) (by rw [plansF_s, ← hy]; exact eF.symm) ⟨y4, t6.eP y4.hz (EP.u (Or.inr (Or.inl rfl)) (EP.u (Or.inr (Or.inl rfl)) EP.rf)), eA6, sq6, bs6, ak6, pl6, hrow6, h246⟩ (fun z => absurd z (Nat.succ_ne_zero p)) (fun _ => ⟨p, Nat.lt_succ_self p, rfl, by rw [uE_ne (by omega), uE_eq]; exact g0, by rw [uE_eq]; exact g1, by rw [← h60]; exact hp6⟩))
                  rw [if_neg (Nat.succ_ne_zero p), h60, h61]
                · rw [if_neg hp0]
                  obtain ⟨pb, hpb, epb, ep0, ep1, hyn⟩ := hyP hp0
                  refine pl_iload_n (pc := 128) dX1_planned_128 rfl rfl ?_
                  refine pj_iconst (pc := 129) (v := (-1)) dX1_planned_129 (by rfl) ?_
                  refine pj_icmp_eq (pc := 130) (tgt := 161) dX1_planned_130 (by decide) (fun z9 => absurd z9 (fun z8 => by rw [z8] at hyn; exact absurd hyn (by decide))) (fun _ => ?_)
                  refine pl_aload_n (pc := 133) dX1_planned_133 rfl rfl ?_
                  refine pj_getf (pc := 134) ckX1 16 q869 dX1_planned_134 (by decide) (y3.r0) rfl ?_
                  refine pl_iload_n (pc := 137) dX1_planned_137 rfl rfl ?_
                  refine pj_icmp_gt (pc := 138) (tgt := 186) dX1_planned_138 (by decide) (fun c138 => ?_) (fun c138 => ?_)
                  · refine pl_iinc1 (pc := 186) (lv' := [(5, _), (4, _), (3, _), (2, _), (1, _), (0, _)]) dX1_planned_186 rfl rfl (by decide) rfl ?_
                    refine pj_goto (pc := 189) (tgt := 77) dX1_planned_189 (by decide) ?_
                    refine PJ.widen (C1 := CsT S6 + 288 * (9 - (p + 1))) (N1 := NsT S6 + 864 * (9 - (p + 1))) (by omega) (by omega) ?_
                    have eF : planF n nl nb q nw 1 wm p y = (y.1, y.2.1, y.2.2.1, (rainsF n nl nb q nw 1 wm p y.2.2.2).2.2) := planF_keep (by rw [epb]; exact Int32.not_lt.mpr (nI_pos' (by omega))) (Or.inl (by rw [← h60]; exact c138))
                    refine PJ.conv ?_ rfl rfl (ih (by omega) _ A6 S6 b6 e6 (y.1, y.2.1, y.2.2.1, (rainsF n nl nb q nw 1 wm p y.2.2.2).2.2) (by rw [plansF_s, ← hy]; exact eF.symm) ⟨y3, t6, eA6, sq6, bs6, ak6, pl6, hrow6, h246⟩ (fun z => absurd z (Nat.succ_ne_zero p)) (fun _ => ⟨pb, by omega, epb, by rw [congrFun (he6 17 (by decide)) 0, uE_ne (by omega), uE_ne (by omega)]; exact ep0, by rw [congrFun (he6 17 (by decide)) 1, uE_ne (by omega), uE_ne (by omega)]; exact ep1, hyn⟩))
                    rw [if_neg (Nat.succ_ne_zero p)]
                  · refine pl_aload_n (pc := 141) dX1_planned_141 rfl rfl ?_
                    refine pj_getf (pc := 142) ckX1 16 q869 dX1_planned_142 (by decide) (y3.r0) rfl ?_
                    refine pl_iload_n (pc := 145) dX1_planned_145 rfl rfl ?_
                    refine pj_icmp_ne (pc := 146) (tgt := 161) dX1_planned_146 (by decide) (fun c146 => ?_) (fun c146 => ?_)
                    · refine pl_aload_n (pc := 161) dX1_planned_161 rfl rfl ?_
                      refine pj_getf (pc := 162) ckX1 16 q869 dX1_planned_162 (by decide) (y3.r0) rfl ?_
                      refine pj_istore_n (pc := 165) (lv' := [(3, _), (5, _), (4, _), (2, _), (1, _), (0, _)]) dX1_planned_165 rfl (by decide) rfl ?_
                      refine pl_aload_n (pc := 166) dX1_planned_166 rfl rfl ?_
                      refine pj_getf (pc := 167) ckX1 17 q870 dX1_planned_167 (by decide) (y3.r0) rfl ?_
                      refine pj_istore (pc := 170) (lv' := [(4, _), (3, _), (5, _), (2, _), (1, _), (0, _)]) dX1_planned_170 (by decide) rfl ?_
                      refine pl_aload_n (pc := 172) dX1_planned_172 rfl rfl ?_
                      refine pj_getf (pc := 173) ckX1 15 q868 dX1_planned_173 (by decide) (y3.r0) rfl ?_
                      refine pl_iconst (pc := 176) (v := 0) dX1_planned_176 (by rfl) ?_
                      refine pl_aload_n (pc := 177) dX1_planned_177 rfl rfl ?_
                      refine pj_getf (pc := 178) ckX1 14 q867 dX1_planned_178 (by decide) (y3.r0) rfl ?_
                      refine pl_iconst (pc := 181) (v := 0) dX1_planned_181 (by rfl) ?_
                      refine pl_iconst (pc := 182) (v := 2) dX1_planned_182 (by rfl) ?_
                      refine pj_copyi (pc := 183) 0 q2509 dX1_planned_183 y3.r46 y3.r45 rfl rfl (sp := 0) (dp := 0) (k := 2) (by omega) (by omega) (by decide) (by decide) (fun _ _ => rfl) (by omega) (Nat.le_of_ble_eq_true rfl) ?_
                      refine sxk (y3.cp45) (fun My5 y5 => ?_)
                      refine pl_iinc1 (pc := 186) (lv' := [(5, _), (4, _), (3, _), (2, _), (1, _), (0, _)]) dX1_planned_186 rfl rfl (by decide) rfl ?_
                      refine pj_goto (pc := 189) (tgt := 77) dX1_planned_189 (by decide) ?_
                      refine PJ.widen (C1 := CsT S6 + 288 * (9 - (p + 1))) (N1 := NsT S6 + 864 * (9 - (p + 1))) (by omega) (by omega) ?_
                      have eF : planF n nl nb q nw 1 wm p y = (nI p, (rainsF n nl nb q nw 1 wm p y.2.2.2)) := planF_take (Or.inr ⟨(by rw [← h60]; exact c138), Or.inl (by rw [← h60]; exact c146)⟩)
                      have g0 : e6 18 0 = nI (plIx 1 p 0) := (congrFun (he6 18 (by decide)) 0).trans (h18 0 (by decide))
                      rw [plIx_0 (by decide) (fun _ => by omega)] at g0
                      have g1 : e6 18 1 = nI (p % 3) := (congrFun (he6 18 (by decide)) 1).trans uE_eq
                      refine PJ.conv ?_ rfl rfl (ih (by omega) _ A6 S6 b6 (uE (uE e6 17 0 (e6 18 0)) 17 1 (e6 18 1)) (nI p, (rainsF n nl nb q nw 1 wm p y.2.2.2)) (by rw [plansF_s, ← hy]; exact eF.symm) ⟨y5, t6.eP y5.hz (EP.u (Or.inr (Or.inl rfl)) (EP.u (Or.inr (Or.inl rfl)) EP.rf)), eA6, sq6, bs6, ak6, pl6, hrow6, h246⟩ (fun z => absurd z (Nat.succ_ne_zero p)) (fun _ => ⟨p, Nat.lt_succ_self p, rfl, by rw [uE_ne (by omega), uE_eq]; exact g0, by rw [uE_eq]; exact g1, by rw [← h60]; exact hp6⟩))
                      rw [if_neg (Nat.succ_ne_zero p), h60, h61]
                    · refine pl_aload_n (pc := 149) dX1_planned_149 rfl rfl ?_
                      refine pj_getf (pc := 150) ckX1 17 q870 dX1_planned_150 (by decide) (y3.r0) rfl ?_
                      refine pl_iload (pc := 153) dX1_planned_153 rfl ?_
                      refine pj_icmp_gt (pc := 155) (tgt := 161) dX1_planned_155 (by decide) (fun c155 => ?_) (fun c155 => ?_)
                      · refine pl_aload_n (pc := 161) dX1_planned_161 rfl rfl ?_
                        refine pj_getf (pc := 162) ckX1 16 q869 dX1_planned_162 (by decide) (y3.r0) rfl ?_
                        refine pj_istore_n (pc := 165) (lv' := [(3, _), (5, _), (4, _), (2, _), (1, _), (0, _)]) dX1_planned_165 rfl (by decide) rfl ?_
                        refine pl_aload_n (pc := 166) dX1_planned_166 rfl rfl ?_
                        refine pj_getf (pc := 167) ckX1 17 q870 dX1_planned_167 (by decide) (y3.r0) rfl ?_
                        refine pj_istore (pc := 170) (lv' := [(4, _), (3, _), (5, _), (2, _), (1, _), (0, _)]) dX1_planned_170 (by decide) rfl ?_
                        refine pl_aload_n (pc := 172) dX1_planned_172 rfl rfl ?_
                        refine pj_getf (pc := 173) ckX1 15 q868 dX1_planned_173 (by decide) (y3.r0) rfl ?_
                        refine pl_iconst (pc := 176) (v := 0) dX1_planned_176 (by rfl) ?_
                        refine pl_aload_n (pc := 177) dX1_planned_177 rfl rfl ?_
                        refine pj_getf (pc := 178) ckX1 14 q867 dX1_planned_178 (by decide) (y3.r0) rfl ?_
                        refine pl_iconst (pc := 181) (v := 0) dX1_planned_181 (by rfl) ?_
                        refine pl_iconst (pc := 182) (v := 2) dX1_planned_182 (by rfl) ?_
                        refine pj_copyi (pc := 183) 0 q2509 dX1_planned_183 y3.r46 y3.r45 rfl rfl (sp := 0) (dp := 0) (k := 2) (by omega) (by omega) (by decide) (by decide) (fun _ _ => rfl) (by omega) (Nat.le_of_ble_eq_true rfl) ?_
                        refine sxk (y3.cp45) (fun My6 y6 => ?_)
                        refine pl_iinc1 (pc := 186) (lv' := [(5, _), (4, _), (3, _), (2, _), (1, _), (0, _)]) dX1_planned_186 rfl rfl (by decide) rfl ?_
                        refine pj_goto (pc := 189) (tgt := 77) dX1_planned_189 (by decide) ?_
                        refine PJ.widen (C1 := CsT S6 + 288 * (9 - (p + 1))) (N1 := NsT S6 + 864 * (9 - (p + 1))) (by omega) (by omega) ?_
                        have eF : planF n nl nb q nw 1 wm p y = (nI p, (rainsF n nl nb q nw 1 wm p y.2.2.2)) := planF_take (Or.inr ⟨(by rw [← h60]; exact c138), Or.inr (by rw [← h61]; exact c155)⟩)
                        have g0 : e6 18 0 = nI (plIx 1 p 0) := (congrFun (he6 18 (by decide)) 0).trans (h18 0 (by decide))
                        rw [plIx_0 (by decide) (fun _ => by omega)] at g0
                        have g1 : e6 18 1 = nI (p % 3) := (congrFun (he6 18 (by decide)) 1).trans uE_eq
                        refine PJ.conv ?_ rfl rfl (ih (by omega) _ A6 S6 b6 (uE (uE e6 17 0 (e6 18 0)) 17 1 (e6 18 1)) (nI p, (rainsF n nl nb q nw 1 wm p y.2.2.2)) (by rw [plansF_s, ← hy]; exact eF.symm) ⟨y6, t6.eP y6.hz (EP.u (Or.inr (Or.inl rfl)) (EP.u (Or.inr (Or.inl rfl)) EP.rf)), eA6, sq6, bs6, ak6, pl6, hrow6, h246⟩ (fun z => absurd z (Nat.succ_ne_zero p)) (fun _ => ⟨p, Nat.lt_succ_self p, rfl, by rw [uE_ne (by omega), uE_eq]; exact g0, by rw [uE_eq]; exact g1, by rw [← h60]; exact hp6⟩))
                        rw [if_neg (Nat.succ_ne_zero p), h60, h61]
                      · refine pj_goto (pc := 158) (tgt := 186) dX1_planned_158 (by decide) ?_
                        refine pl_iinc1 (pc := 186) (lv' := [(5, _), (4, _), (3, _), (2, _), (1, _), (0, _)]) dX1_planned_186 rfl rfl (by decide) rfl ?_
                        refine pj_goto (pc := 189) (tgt := 77) dX1_planned_189 (by decide) ?_
                        refine PJ.widen (C1 := CsT S6 + 288 * (9 - (p + 1))) (N1 := NsT S6 + 864 * (9 - (p + 1))) (by omega) (by omega) ?_
                        have eF : planF n nl nb q nw 1 wm p y = (y.1, y.2.1, y.2.2.1, (rainsF n nl nb q nw 1 wm p y.2.2.2).2.2) := planF_keep (by rw [epb]; exact Int32.not_lt.mpr (nI_pos' (by omega))) (Or.inr ⟨(by rw [← h60]; exact c138), (by rw [← h60]; exact c146), (by rw [← h61]; exact c155)⟩)
                        refine PJ.conv ?_ rfl rfl (ih (by omega) _ A6 S6 b6 e6 (y.1, y.2.1, y.2.2.1, (rainsF n nl nb q nw 1 wm p y.2.2.2).2.2) (by rw [plansF_s, ← hy]; exact eF.symm) ⟨y3, t6, eA6, sq6, bs6, ak6, pl6, hrow6, h246⟩ (fun z => absurd z (Nat.succ_ne_zero p)) (fun _ => ⟨pb, by omega, epb, by rw [congrFun (he6 17 (by decide)) 0, uE_ne (by omega), uE_ne (by omega)]; exact ep0, by rw [congrFun (he6 17 (by decide)) 1, uE_ne (by omega), uE_ne (by omega)]; exact ep1, hyn⟩))
                        rw [if_neg (Nat.succ_ne_zero p)]
            · refine pj_iconst (pc := 67) (v := (-1)) dX1_planned_67 (by rfl) ?_
              refine pj_iret (pc := 68) dX1_planned_68 rfl ?_
              exact CQ.ok (τ := ρ) (by rw [planned_st (Or.inl rfl), if_neg c11, if_neg (fun z => z (Int32.not_lt.mp c16)), if_neg (fun z => z (by rw [hs9]; exact Int32.not_lt.mp c42)), hs9]; rw [if_neg c57, if_pos (by omega)]) h00 ⟨A, S, b, SqP.rf, bs, _, h, t⟩
  · have hps9 := hs9
    refine pl_iload_n (pc := 0) dX1_planned_0 rfl rfl ?_
    refine pl_iconst (pc := 1) (v := 1) dX1_planned_1 (by rfl) ?_
    refine pj_icmp_eq (pc := 2) (tgt := 10) dX1_planned_2 (by decide) (fun h => absurd h (by decide)) (fun _ => ?_)
    refine pl_iload_n (pc := 5) dX1_planned_5 rfl rfl ?_
    refine pl_iconst (pc := 6) (v := 2) dX1_planned_6 (by rfl) ?_
    refine pj_icmp_ne (pc := 7) (tgt := 23) dX1_planned_7 (by decide) (fun h => absurd h (by decide)) (fun _ => ?_)
    refine pl_iload_n (pc := 10) dX1_planned_10 rfl rfl ?_
    refine pj_if_lt (pc := 11) (tgt := 23) dX1_planned_11 (by decide) (fun c11 => ?_) (fun c11 => ?_)
    · refine pl_iconst (pc := 23) (v := 0) dX1_planned_23 (by rfl) ?_
      refine pl_callSX (pc := 24) (As := [_]) (C1 := 1) (N1 := 6) (C2 := 0) (N2 := 0) (E8 := "java/lang/IllegalArgumentException") mdX1_need q1262 q1263 q125 dX1_planned_24 rfl rfl (Nat.le_of_ble_eq_true rfl) (k_X1_need_no (d := d - 1) (by omega) rfl) (by omega) (by omega) (by omega) (fun q_24 M_24 hM_24 => ?_)
      refine px_out0 rfl ?_
      exact CQ.no 0 (v := nI 0) (τ := sF ρ 0 (nI 1)) (by rw [show sF ρ 0 (nI 1) = th σ 1 by rw [hs0]]; exact (by rw [planned_st (Or.inr rfl)]; simp [hs9, c11, Int32.not_lt, Int32.not_le])) rfl rfl (⟨A, S, b, SqP.rf, bs, SB.mono (SB.F0 ⟨_, h, t⟩) hM_24⟩)
    · refine pl_iload_n (pc := 14) dX1_planned_14 rfl rfl ?_
      refine pl_iconst (pc := 15) (v := 3) dX1_planned_15 (by rfl) ?_
      refine pj_icmp_gt (pc := 16) (tgt := 23) dX1_planned_16 (by decide) (fun c16 => ?_) (fun c16 => ?_)
      · refine pl_iconst (pc := 23) (v := 0) dX1_planned_23 (by rfl) ?_
        refine pl_callSX (pc := 24) (As := [_]) (C1 := 1) (N1 := 6) (C2 := 0) (N2 := 0) (E8 := "java/lang/IllegalArgumentException") mdX1_need q1262 q1263 q125 dX1_planned_24 rfl rfl (Nat.le_of_ble_eq_true rfl) (k_X1_need_no (d := d - 1) (by omega) rfl) (by omega) (by omega) (by omega) (fun q_24 M_24 hM_24 => ?_)
        refine px_out0 rfl ?_
        exact CQ.no 0 (v := nI 0) (τ := sF ρ 0 (nI 1)) (by rw [show sF ρ 0 (nI 1) = th σ 1 by rw [hs0]]; exact (by rw [planned_st (Or.inr rfl)]; simp [hs9, c11, c16, Int32.not_lt, Int32.not_le])) rfl rfl (⟨A, S, b, SqP.rf, bs, SB.mono (SB.F0 ⟨_, h, t⟩) hM_24⟩)
      · refine pl_iconst (pc := 19) (v := 1) dX1_planned_19 (by rfl) ?_
        refine pj_goto (pc := 20) (tgt := 24) dX1_planned_20 (by decide) ?_
        refine pl_callSv (pc := 24) (As := [_]) (C1 := 0) (N1 := 0) (C2 := 2880) (N2 := 30764) mdX1_need q1262 q1263 q125 dX1_planned_24 rfl rfl (Nat.le_of_ble_eq_true rfl) (k_X1_need_ok (d := d - 1) (by omega) (by decide)) (by omega) (by omega) (by omega) ?_
        refine pl_aload_n (pc := 27) dX1_planned_27 rfl rfl ?_
        refine pj_getf (pc := 28) ckX1 0 q853 dX1_planned_28 (by decide) (h.r0) rfl ?_
        refine pj_getfN (pc := 31) ckX2 0 q726 dX1_planned_31 (by decide) (h.r1) rfl ?_
        refine pl_bipush (pc := 34) (v := 13) dX1_planned_34 (by rfl) ?_
        refine pl_iload_n (pc := 36) dX1_planned_36 rfl rfl ?_
        refine pl_imul (pc := 37) dX1_planned_37 ?_
        refine PJ.top (y := nI 13 * nI 2) (pk_mul 13 2).symm ?_
        refine pj_iadd (pc := 38) dX1_planned_38 ?_
        refine pl_sipush (pc := 39) (v := 1000) dX1_planned_39 (by rfl) ?_
        refine pj_icmp_gt (pc := 42) (tgt := 49) dX1_planned_42 (by decide) (fun c42 => ?_) (fun c42 => ?_)
        · refine pl_iconst (pc := 49) (v := 0) dX1_planned_49 (by rfl) ?_
          refine pl_callSX (pc := 50) (As := [_]) (C1 := 1) (N1 := 6) (C2 := 0) (N2 := 0) (E8 := "java/lang/IllegalStateException") mdX1_right q2331 q2332 q125 dX1_planned_50 rfl rfl (Nat.le_of_ble_eq_true rfl) (k_X1_right_no (d := d - 1) (by omega) rfl) (by omega) (by omega) (by omega) (fun q_50 M_50 hM_50 => ?_)
          refine px_out0 rfl ?_
          exact CQ.no 1 (v := nI 0) (τ := sF ρ 0 (nI 2)) (by rw [show sF ρ 0 (nI 2) = th σ 2 by rw [hs0]]; exact (by rw [planned_st (Or.inr rfl)]; simp [hs9, c11, c16, c42, Int32.not_lt, Int32.not_le])) rfl rfl (⟨A, S, b, SqP.rf, bs, SB.mono (SB.F0 ⟨_, h, t⟩) hM_50⟩)
        · refine pl_iconst (pc := 45) (v := 1) dX1_planned_45 (by rfl) ?_
          refine pj_goto (pc := 46) (tgt := 50) dX1_planned_46 (by decide) ?_
          refine pl_callSv (pc := 50) (As := [_]) (C1 := 0) (N1 := 0) (C2 := 2880) (N2 := 30764) mdX1_right q2331 q2332 q125 dX1_planned_50 rfl rfl (Nat.le_of_ble_eq_true rfl) (k_X1_right_ok (d := d - 1) (by omega) (by decide)) (by omega) (by omega) (by omega) ?_
          refine pl_aload_n (pc := 53) dX1_planned_53 rfl rfl ?_
          refine pj_getf (pc := 54) ckX1 6 q859 dX1_planned_54 (by decide) (h.r0) rfl ?_
          refine pj_if_eq (pc := 57) (tgt := 67) dX1_planned_57 (by decide) (fun c57 => ?_) (fun c57 => ?_)
          · refine pj_iconst (pc := 67) (v := (-1)) dX1_planned_67 (by rfl) ?_
            refine pj_iret (pc := 68) dX1_planned_68 rfl ?_
            exact CQ.ok (τ := ρ) (by rw [planned_st (Or.inr rfl), if_neg c11, if_neg (fun z => z (Int32.not_lt.mp c16)), if_neg (fun z => z (by rw [hs9]; exact Int32.not_lt.mp c42)), hs9]; rw [if_pos c57]) h00 ⟨A, S, b, SqP.rf, bs, _, h, t⟩
          · refine pl_aload_n (pc := 60) dX1_planned_60 rfl rfl ?_
            refine pj_getf (pc := 61) ckX1 5 q858 dX1_planned_61 (by decide) (h.r0) rfl ?_
            refine PJ.top (y := nI wm) hwm1 ?_
            refine pl_if_neN (pc := 64) (tgt := 69) dX1_planned_64 (by decide) (by omega) (fun c64 => ?_) (fun c64 => ?_)
            · have hz1 := CsT_le h.hz
              have w1 : 1 ≤ wm := by omega
              have hb9 : nw + 13 * 2 ≤ 1000 := (nI_leI (by omega) (by decide)).mp (by rw [← nI_add, ← pk_mul, ← iv1.hnw]; exact Int32.not_lt.mp c42)
              have hpr2 : ∀ i, i < 3 → ∃ k, 1 ≤ k ∧ k ≤ 1000 ∧ (s_saves ρ).2.1 15 i = nI k := by rw [hs0]; exact hpr.resolve_left (fun z => c57 (by rw [hs0]; exact z))
              have hwr2 : ∀ r, r < 3 → ¬ (s_saves ρ).2.1 16 r < 0 := by rw [hs0]; exact hwr
              have hu2 : HuX (100 * nw) (s_saves ρ) := by rw [hs0]; exact hu.rw2 rfl
              obtain ⟨S0, hS0⟩ : ∃ S9, S9 = S := ⟨_, rfl⟩
              obtain ⟨A0, hA0⟩ : ∃ A9, A9 = A := ⟨_, rfl⟩
              have hSS : S0 4 0 = n ∧ S0 8 0 = nl ∧ S0 10 0 = nb ∧ S0 6 0 = q := by rw [hS0]; exact ⟨hn.symm, hnl.symm, hnb.symm, hnq.symm⟩
              have gi0 : GoI g P F n nl nb q nor nw (s_saves ρ) S0 A0 A S b e (s_saves ρ) _ := ⟨SX.cg h (fun a9 h2 _ _ => if_neg h2) (fun x hx => by rcases hx with z | z | z | z | z | z | z | z <;> subst z <;> first | rfl | exact rs1.1.symm | exact rs1.2.1.symm) rfl rfl, t.cg h.hz (fun _ _ => rfl) rfl rfl (fun _ _ => rfl) rs1.2.1.symm rfl, by rw [hA0]; exact ⟨rfl, rfl, rfl⟩, by rw [hS0]; exact SqP.rf, bs, ak1.cg (fun _ _ _ => rfl), ⟨saves_iv iv1, FrW.rf⟩, fun _ _ => rfl, rs1.2.2⟩
              refine pj_iconst (pc := 69) (v := (-1)) dX1_planned_69 (by rfl) ?_
              refine pj_istore_n (pc := 70) (lv' := [(3, _), (0, _), (1, _), (2, _)]) dX1_planned_70 rfl (by decide) rfl ?_
              refine pl_iconst (pc := 71) (v := 0) dX1_planned_71 (by rfl) ?_
              refine pj_istore (pc := 72) (lv' := [(4, _), (3, _), (0, _), (1, _), (2, _)]) dX1_planned_72 (by decide) rfl ?_
              refine pl_iconst (pc := 74) (v := 0) dX1_planned_74 (by rfl) ?_
              refine pj_istore (pc := 75) (lv' := [(5, _), (4, _), (3, _), (0, _), (1, _), (2, _)]) dX1_planned_75 (by decide) rfl ?_
              refine PJ.widen (C1 := CsT S + 288 * (9 - 0)) (N1 := NsT S + 864 * (9 - 0)) (by omega) (by omega) ?_
              refine PJ.sub [0, 1, 2, 5, 4, 3] rfl ?_
              refine ind_dn (n := 9) (P := fun p => ∀ M9 A S b e y, y = plansF n nl nb q nw 2 wm (s_saves ρ) p → GoI g P F n nl nb q nor nw (s_saves ρ) S0 A0 A S b e y.2.2.2 M9 → (p = 0 → y.1 = -1) → (p ≠ 0 → ∃ pb, pb < p ∧ y.1 = nI pb ∧ e 17 0 = nI (if 2 = 1 then pb else pb / 3) ∧ e 17 1 = nI (pb % 3) ∧ -1 < y.2.1) → PJ g _ _ _ _ d (CsT S + 288 * (9 - p)) (NsT S + 864 * (9 - p)) 77 [(5, .int (nI p)), (4, .int y.2.2.1), (3, .int (if p = 0 then -1 else y.2.1)), (2, .int wh), (1, .int (nI 2)), (0, .ref (A 0 0 0))] [] M9 _) (fun p hp ih M9 A S b e y hy gi hy0 hyP => ?_) 0 (Nat.zero_le _) _ A S b e (-1, nI 0, nI 0, s_saves ρ) (by rw [plansF, uq_0]) gi0 (fun _ => rfl) (fun z => absurd rfl z)
              obtain ⟨hr, t, eA0, sq0, bs, ak, pl, hrow, h24⟩ := gi
              refine pl_iload (pc := 77) dX1_planned_77 rfl ?_
              refine pl_iload_n (pc := 79) dX1_planned_79 rfl rfl ?_
              refine pl_iconst (pc := 80) (v := 1) dX1_planned_80 (by rfl) ?_
              refine pj_icmp_ne (pc := 81) (tgt := 88) dX1_planned_81 (by decide) (fun _ => ?_) (fun h => absurd h (by decide))
              refine pl_bipush (pc := 88) (v := 9) dX1_planned_88 (by rfl) ?_
              refine pl_icmp_ge (pc := 90) (tgt := 192) dX1_planned_90 (by decide) (by omega) (by omega) (fun c90 => ?_) (fun c90 => ?_)
              · have ep : p = 9 := by omega
                subst ep
                obtain ⟨pb, hpb, epb, ep0, ep1, hyn⟩ := hyP (by decide)
                rw [if_neg (show ¬ 9 = 0 by decide)]
                rcases w4 c11 c16 with rfl | rfl | rfl | rfl
                · refine pl_iload_n (pc := 192) dX1_planned_192 rfl rfl ?_
                  refine pj_tableIn (pc := 193) (tgt := 220) dX1_planned_193 (by decide) (by decide) (by rfl) (by decide) ?_
                  refine pl_aload_n (pc := 220) dX1_planned_220 rfl rfl ?_
                  refine pj_getf (pc := 221) ckX1 14 q867 dX1_planned_221 (by decide) (hr.r0) rfl ?_
                  refine pl_iconst (pc := 224) (v := 0) dX1_planned_224 (by rfl) ?_
                  refine pl_iald (pc := 225) (n := 2) dX1_planned_225 (hr.r45) (by omega) (by decide) ?_
                  refine PJ.top (hr.v45 (by omega)) ?_
                  refine pj_iret (pc := 226) dX1_planned_226 rfl ?_
                  have hv : (planEnd 2 (nI 0) y).1 = e 17 0 := by unfold planEnd; dsimp only; rw [if_pos (by decide), if_neg (by decide), epb, ep0, if_neg (by decide), div3 (by omega)]
                  refine CQ.ok (τ := RsT y.2.2.2) ?_ ((pl.2.1 0 (by decide) (by decide) (by decide)).trans h00) ⟨A, S, b, (by rw [← hS0]; exact sq0), bs, _, hr, t⟩
                  rw [planned_st (Or.inr rfl), if_neg c11, if_neg (fun z => z (Int32.not_lt.mp c16)), if_neg (fun z => z (by rw [hs9]; exact Int32.not_lt.mp c42)), if_neg (by rw [hs9]; exact c57), if_neg (by omega), hs9, if_neg (by decide), ← hy]
                  exact Prod.ext hv rfl
                · refine pl_iload_n (pc := 192) dX1_planned_192 rfl rfl ?_
                  refine pj_tableIn (pc := 193) (tgt := 227) dX1_planned_193 (by decide) (by decide) (by rfl) (by decide) ?_
                  refine pl_iload_n (pc := 227) dX1_planned_227 rfl rfl ?_
                  refine pl_iconst (pc := 228) (v := 1) dX1_planned_228 (by rfl) ?_
                  refine pj_icmp_ne (pc := 229) (tgt := 236) dX1_planned_229 (by decide) (fun _ => ?_) (fun h => absurd h (by decide))
                  refine pl_aload_n (pc := 236) dX1_planned_236 rfl rfl ?_
                  refine pj_getf (pc := 237) ckX1 14 q867 dX1_planned_237 (by decide) (hr.r0) rfl ?_
                  refine pl_iconst (pc := 240) (v := 1) dX1_planned_240 (by rfl) ?_
                  refine pl_iald (pc := 241) (n := 2) dX1_planned_241 (hr.r45) (by omega) (by decide) ?_
                  refine PJ.top (hr.v45 (by omega)) ?_
                  refine pj_iret (pc := 242) dX1_planned_242 rfl ?_
                  have hv : (planEnd 2 (nI 1) y).1 = e 17 1 := by unfold planEnd; dsimp only; rw [if_neg (by decide), if_pos rfl, if_neg (by decide), epb, ep1, mod3 (by omega)]
                  refine CQ.ok (τ := RsT y.2.2.2) ?_ ((pl.2.1 0 (by decide) (by decide) (by decide)).trans h00) ⟨A, S, b, (by rw [← hS0]; exact sq0), bs, _, hr, t⟩
                  rw [planned_st (Or.inr rfl), if_neg c11, if_neg (fun z => z (Int32.not_lt.mp c16)), if_neg (fun z => z (by rw [hs9]; exact Int32.not_lt.mp c42)), if_neg (by rw [hs9]; exact c57), if_neg (by omega), hs9, if_neg (by decide), ← hy]
                  exact Prod.ext hv rfl
                · refine pl_iload_n (pc := 192) dX1_planned_192 rfl rfl ?_
                  refine pj_tableIn (pc := 193) (tgt := 243) dX1_planned_193 (by decide) (by decide) (by rfl) (by decide) ?_
                  refine pl_iload_n (pc := 243) dX1_planned_243 rfl rfl ?_
                  refine pj_iret (pc := 244) dX1_planned_244 rfl ?_
                  have hv : (planEnd 2 (nI 2) y).1 = y.2.1 := by unfold planEnd; dsimp only; rw [if_neg (by decide), if_neg (by decide), if_pos rfl]
                  refine CQ.ok (τ := RsT y.2.2.2) ?_ ((pl.2.1 0 (by decide) (by decide) (by decide)).trans h00) ⟨A, S, b, (by rw [← hS0]; exact sq0), bs, _, hr, t⟩
                  rw [planned_st (Or.inr rfl), if_neg c11, if_neg (fun z => z (Int32.not_lt.mp c16)), if_neg (fun z => z (by rw [hs9]; exact Int32.not_lt.mp c42)), if_neg (by rw [hs9]; exact c57), if_neg (by omega), hs9, if_neg (by decide), ← hy]
                  exact Prod.ext hv rfl
                · refine pl_iload_n (pc := 192) dX1_planned_192 rfl rfl ?_
                  refine pj_tableOut (pc := 193) (tgt := 245) dX1_planned_193 (by decide) (by decide) ?_
                  refine pl_iload (pc := 245) dX1_planned_245 rfl ?_
                  refine pj_iret (pc := 247) dX1_planned_247 rfl ?_
                  have hv : (planEnd 2 (nI 3) y).1 = y.2.2.1 := by unfold planEnd; dsimp only; rw [if_neg (by decide), if_neg (by decide), if_neg (by decide)]
                  refine CQ.ok (τ := RsT y.2.2.2) ?_ ((pl.2.1 0 (by decide) (by decide) (by decide)).trans h00) ⟨A, S, b, (by rw [← hS0]; exact sq0), bs, _, hr, t⟩
                  rw [planned_st (Or.inr rfl), if_neg c11, if_neg (fun z => z (Int32.not_lt.mp c16)), if_neg (fun z => z (by rw [hs9]; exact Int32.not_lt.mp c42)), if_neg (by rw [hs9]; exact c57), if_neg (by omega), hs9, if_neg (by decide), ← hy]
                  exact Prod.ext hv rfl
              · refine pl_aload_n (pc := 93) dX1_planned_93 rfl rfl ?_
                refine pj_getf (pc := 94) ckX1 15 q868 dX1_planned_94 (by decide) (hr.r0) rfl ?_
                refine pl_iconst (pc := 97) (v := 0) dX1_planned_97 (by rfl) ?_
                refine pl_iload_n (pc := 98) dX1_planned_98 rfl rfl ?_
                refine pl_iconst (pc := 99) (v := 1) dX1_planned_99 (by rfl) ?_
                refine pj_icmp_ne (pc := 100) (tgt := 108) dX1_planned_100 (by decide) (fun _ => ?_) (fun h => absurd h (by decide))
                refine pl_iload (pc := 108) dX1_planned_108 rfl ?_
                refine pl_iconst (pc := 110) (v := 3) dX1_planned_110 (by rfl) ?_
                refine pl_idiv (pc := 111) dX1_planned_111 (by omega) (by decide) (by decide) ?_
                refine pl_iast (pc := 112) (n := 2) dX1_planned_112 (hr.r46) (by omega) (by decide) ?_
                refine sxk (hr.p46 (by omega)) (fun My7 y7 => ?_)
                refine pl_aload_n (pc := 113) dX1_planned_113 rfl rfl ?_
                refine pj_getf (pc := 114) ckX1 15 q868 dX1_planned_114 (by decide) (y7.r0) rfl ?_
                refine pl_iconst (pc := 117) (v := 1) dX1_planned_117 (by rfl) ?_
                refine pl_iload (pc := 118) dX1_planned_118 rfl ?_
                refine pl_iconst (pc := 120) (v := 3) dX1_planned_120 (by rfl) ?_
                refine pl_irem (pc := 121) dX1_planned_121 (by omega) (by decide) (by decide) ?_
                refine pl_iast (pc := 122) (n := 2) dX1_planned_122 (y7.r46) (by omega) (by decide) ?_
                refine sxk (y7.p46 (by omega)) (fun My8 y8 => ?_)
                refine pl_aload_n (pc := 123) dX1_planned_123 rfl rfl ?_
                refine pl_iload_n (pc := 124) dX1_planned_124 rfl rfl ?_
                have gi5 : GoI g P F n nl nb q nor nw (s_saves ρ) S0 A0 A S b (uE (uE e 18 0 (nI (p / 3))) 18 1 (nI (p % 3))) y.2.2.2 _ := ⟨y8, t.eP hr.hz (EP.u (Or.inr (Or.inr rfl)) (EP.u (Or.inr (Or.inr rfl)) EP.rf)), eA0, sq0, bs, ak, pl, hrow, h24⟩
                have h18 : ∀ k, k < 2 → (uE (uE e 18 0 (nI (p / 3))) 18 1 (nI (p % 3))) 18 k = nI (plIx 2 p k) := fun k hk => by
                  rcases (by omega : k = 0 ∨ k = 1) with rfl | rfl
                  · rw [uE_ne (by omega), uE_eq, plIx_0 (Or.inr rfl) (fun z => absurd z (by decide)), if_neg (by decide)]
                  · rw [uE_eq, plIx_1]
                refine pl_callVWv (pc := 125) (As := [_]) (C1 := (CsT S + 96 * wm)) (N1 := (NsT S + 288 * wm)) (C2 := (288 * (9 - (p + 1)))) (N2 := (864 * (9 - (p + 1)))) ckX1 mdX1_goesOn rfl q2504 q2506 qs48 q125 dX1_planned_125 rfl rfl (Nat.le_of_ble_eq_true rfl) (y8.r0) (x_X1_goesOn (d := d - 1) (by omega) gi5 hSS (saves_iv iv1) (fun j hj => saves_2 hj) hwm1 w1 hw3 hpr2 hwr2 hu2 hb9 (by decide) h18 (fun k _ => plIx_3 (by omega))) (by omega) (by omega) (by omega) (fun My9 qy9 => ?_)
                obtain ⟨A6, S6, b6, e6, gi6, cs6, ns6, he6, h60, h61, hp6⟩ := qy9
                obtain ⟨y9, t6, eA6, sq6, bs6, ak6, pl6, hrow6, h246⟩ := gi6
                rw [show A 0 0 0 = A6 0 0 0 from eA0.1.trans eA6.1.symm]
                by_cases hp0 : p = 0
                · rw [if_pos hp0]
                  refine pl_iload_n (pc := 128) dX1_planned_128 rfl rfl ?_
                  refine pj_iconst (pc := 129) (v := (-1)) dX1_planned_129 (by rfl) ?_
                  refine pj_icmp_eq (pc := 130) (tgt := 161) dX1_planned_130 (by decide) (fun _ => ?_) (fun z9 => absurd rfl z9)
                  refine pl_aload_n (pc := 161) dX1_planned_161 rfl rfl ?_
                  refine pj_getf (pc := 162) ckX1 16 q869 dX1_planned_162 (by decide) (y9.r0) rfl ?_
                  refine pj_istore_n (pc := 165) (lv' := [(3, _), (5, _), (4, _), (2, _), (1, _), (0, _)]) dX1_planned_165 rfl (by decide) rfl ?_
                  refine pl_aload_n (pc := 166) dX1_planned_166 rfl rfl ?_
                  refine pj_getf (pc := 167) ckX1 17 q870 dX1_planned_167 (by decide) (y9.r0) rfl ?_
                  refine pj_istore (pc := 170) (lv' := [(4, _), (3, _), (5, _), (2, _), (1, _), (0, _)]) dX1_planned_170 (by decide) rfl ?_
                  refine pl_aload_n (pc := 172) dX1_planned_172 rfl rfl ?_
                  refine pj_getf (pc := 173) ckX1 15 q868 dX1_planned_173 (by decide) (y9.r0) rfl ?_
                  refine pl_iconst (pc := 176) (v := 0) dX1_planned_176 (by rfl) ?_
                  refine pl_aload_n (pc := 177) dX1_planned_177 rfl rfl ?_
                  refine pj_getf (pc := 178) ckX1 14 q867 dX1_planned_178 (by decide) (y9.r0) rfl ?_
                  refine pl_iconst (pc := 181) (v := 0) dX1_planned_181 (by rfl) ?_
                  refine pl_iconst (pc := 182) (v := 2) dX1_planned_182 (by rfl) ?_
                  refine pj_copyi (pc := 183) 0 q2509 dX1_planned_183 y9.r46 y9.r45 rfl rfl (sp := 0) (dp := 0) (k := 2) (by omega) (by omega) (by decide) (by decide) (fun _ _ => rfl) (by omega) (Nat.le_of_ble_eq_true rfl) ?_
                  refine sxk (y9.cp45) (fun My10 y10 => ?_)
                  refine pl_iinc1 (pc := 186) (lv' := [(5, _), (4, _), (3, _), (2, _), (1, _), (0, _)]) dX1_planned_186 rfl rfl (by decide) rfl ?_
                  refine pj_goto (pc := 189) (tgt := 77) dX1_planned_189 (by decide) ?_
                  refine PJ.widen (C1 := CsT S6 + 288 * (9 - (p + 1))) (N1 := NsT S6 + 864 * (9 - (p + 1))) (by omega) (by omega) ?_
                  have eF : planF n nl nb q nw 2 wm p y = (nI p, (rainsF n nl nb q nw 2 wm p y.2.2.2)) := planF_take (Or.inl (by rw [hy0 hp0]; decide))
                  have g0 : e6 18 0 = nI (plIx 2 p 0) := (congrFun (he6 18 (by decide)) 0).trans (h18 0 (by decide))
                  rw [plIx_0 (by decide) (fun _ => by omega)] at g0
                  have g1 : e6 18 1 = nI (p % 3) := (congrFun (he6 18 (by decide)) 1).trans uE_eq
                  refine PJ.conv ?_ rfl rfl (ih (by omega) _ A6 S6 b6 (uE (uE e6 17 0 (e6 18 0)) 17 1 (e6 18 1)) (nI p, (rainsF n nl nb q nw 2 wm p y.2.2.2)) (by rw [plansF_s, ← hy]; exact eF.symm) ⟨y10, t6.eP y10.hz (EP.u (Or.inr (Or.inl rfl)) (EP.u (Or.inr (Or.inl rfl)) EP.rf)), eA6, sq6, bs6, ak6, pl6, hrow6, h246⟩ (fun z => absurd z (Nat.succ_ne_zero p)) (fun _ => ⟨p, Nat.lt_succ_self p, rfl, by rw [uE_ne (by omega), uE_eq]; exact g0, by rw [uE_eq]; exact g1, by rw [← h60]; exact hp6⟩))
                  rw [if_neg (Nat.succ_ne_zero p), h60, h61]
                · rw [if_neg hp0]
                  obtain ⟨pb, hpb, epb, ep0, ep1, hyn⟩ := hyP hp0
                  refine pl_iload_n (pc := 128) dX1_planned_128 rfl rfl ?_
                  refine pj_iconst (pc := 129) (v := (-1)) dX1_planned_129 (by rfl) ?_
                  refine pj_icmp_eq (pc := 130) (tgt := 161) dX1_planned_130 (by decide) (fun z9 => absurd z9 (fun z8 => by rw [z8] at hyn; exact absurd hyn (by decide))) (fun _ => ?_)
                  refine pl_aload_n (pc := 133) dX1_planned_133 rfl rfl ?_
                  refine pj_getf (pc := 134) ckX1 16 q869 dX1_planned_134 (by decide) (y9.r0) rfl ?_
                  refine pl_iload_n (pc := 137) dX1_planned_137 rfl rfl ?_
                  refine pj_icmp_gt (pc := 138) (tgt := 186) dX1_planned_138 (by decide) (fun c138 => ?_) (fun c138 => ?_)
                  · refine pl_iinc1 (pc := 186) (lv' := [(5, _), (4, _), (3, _), (2, _), (1, _), (0, _)]) dX1_planned_186 rfl rfl (by decide) rfl ?_
                    refine pj_goto (pc := 189) (tgt := 77) dX1_planned_189 (by decide) ?_
                    refine PJ.widen (C1 := CsT S6 + 288 * (9 - (p + 1))) (N1 := NsT S6 + 864 * (9 - (p + 1))) (by omega) (by omega) ?_
                    have eF : planF n nl nb q nw 2 wm p y = (y.1, y.2.1, y.2.2.1, (rainsF n nl nb q nw 2 wm p y.2.2.2).2.2) := planF_keep (by rw [epb]; exact Int32.not_lt.mpr (nI_pos' (by omega))) (Or.inl (by rw [← h60]; exact c138))
                    refine PJ.conv ?_ rfl rfl (ih (by omega) _ A6 S6 b6 e6 (y.1, y.2.1, y.2.2.1, (rainsF n nl nb q nw 2 wm p y.2.2.2).2.2) (by rw [plansF_s, ← hy]; exact eF.symm) ⟨y9, t6, eA6, sq6, bs6, ak6, pl6, hrow6, h246⟩ (fun z => absurd z (Nat.succ_ne_zero p)) (fun _ => ⟨pb, by omega, epb, by rw [congrFun (he6 17 (by decide)) 0, uE_ne (by omega), uE_ne (by omega)]; exact ep0, by rw [congrFun (he6 17 (by decide)) 1, uE_ne (by omega), uE_ne (by omega)]; exact ep1, hyn⟩))
                    rw [if_neg (Nat.succ_ne_zero p)]
                  · refine pl_aload_n (pc := 141) dX1_planned_141 rfl rfl ?_
                    refine pj_getf (pc := 142) ckX1 16 q869 dX1_planned_142 (by decide) (y9.r0) rfl ?_
                    refine pl_iload_n (pc := 145) dX1_planned_145 rfl rfl ?_
                    refine pj_icmp_ne (pc := 146) (tgt := 161) dX1_planned_146 (by decide) (fun c146 => ?_) (fun c146 => ?_)
                    · refine pl_aload_n (pc := 161) dX1_planned_161 rfl rfl ?_
                      refine pj_getf (pc := 162) ckX1 16 q869 dX1_planned_162 (by decide) (y9.r0) rfl ?_
                      refine pj_istore_n (pc := 165) (lv' := [(3, _), (5, _), (4, _), (2, _), (1, _), (0, _)]) dX1_planned_165 rfl (by decide) rfl ?_
                      refine pl_aload_n (pc := 166) dX1_planned_166 rfl rfl ?_
                      refine pj_getf (pc := 167) ckX1 17 q870 dX1_planned_167 (by decide) (y9.r0) rfl ?_
                      refine pj_istore (pc := 170) (lv' := [(4, _), (3, _), (5, _), (2, _), (1, _), (0, _)]) dX1_planned_170 (by decide) rfl ?_
                      refine pl_aload_n (pc := 172) dX1_planned_172 rfl rfl ?_
                      refine pj_getf (pc := 173) ckX1 15 q868 dX1_planned_173 (by decide) (y9.r0) rfl ?_
                      refine pl_iconst (pc := 176) (v := 0) dX1_planned_176 (by rfl) ?_
                      refine pl_aload_n (pc := 177) dX1_planned_177 rfl rfl ?_
                      refine pj_getf (pc := 178) ckX1 14 q867 dX1_planned_178 (by decide) (y9.r0) rfl ?_
                      refine pl_iconst (pc := 181) (v := 0) dX1_planned_181 (by rfl) ?_
                      refine pl_iconst (pc := 182) (v := 2) dX1_planned_182 (by rfl) ?_
                      refine pj_copyi (pc := 183) 0 q2509 dX1_planned_183 y9.r46 y9.r45 rfl rfl (sp := 0) (dp := 0) (k := 2) (by omega) (by omega) (by decide) (by decide) (fun _ _ => rfl) (by omega) (Nat.le_of_ble_eq_true rfl) ?_
                      refine sxk (y9.cp45) (fun My11 y11 => ?_)
                      refine pl_iinc1 (pc := 186) (lv' := [(5, _), (4, _), (3, _), (2, _), (1, _), (0, _)]) dX1_planned_186 rfl rfl (by decide) rfl ?_
                      refine pj_goto (pc := 189) (tgt := 77) dX1_planned_189 (by decide) ?_
                      refine PJ.widen (C1 := CsT S6 + 288 * (9 - (p + 1))) (N1 := NsT S6 + 864 * (9 - (p + 1))) (by omega) (by omega) ?_
                      have eF : planF n nl nb q nw 2 wm p y = (nI p, (rainsF n nl nb q nw 2 wm p y.2.2.2)) := planF_take (Or.inr ⟨(by rw [← h60]; exact c138), Or.inl (by rw [← h60]; exact c146)⟩)
                      have g0 : e6 18 0 = nI (plIx 2 p 0) := (congrFun (he6 18 (by decide)) 0).trans (h18 0 (by decide))
                      rw [plIx_0 (by decide) (fun _ => by omega)] at g0
                      have g1 : e6 18 1 = nI (p % 3) := (congrFun (he6 18 (by decide)) 1).trans uE_eq
                      refine PJ.conv ?_ rfl rfl (ih (by omega) _ A6 S6 b6 (uE (uE e6 17 0 (e6 18 0)) 17 1 (e6 18 1)) (nI p, (rainsF n nl nb q nw 2 wm p y.2.2.2)) (by rw [plansF_s, ← hy]; exact eF.symm) ⟨y11, t6.eP y11.hz (EP.u (Or.inr (Or.inl rfl)) (EP.u (Or.inr (Or.inl rfl)) EP.rf)), eA6, sq6, bs6, ak6, pl6, hrow6, h246⟩ (fun z => absurd z (Nat.succ_ne_zero p)) (fun _ => ⟨p, Nat.lt_succ_self p, rfl, by rw [uE_ne (by omega), uE_eq]; exact g0, by rw [uE_eq]; exact g1, by rw [← h60]; exact hp6⟩))
                      rw [if_neg (Nat.succ_ne_zero p), h60, h61]
                    · refine pl_aload_n (pc := 149) dX1_planned_149 rfl rfl ?_
                      refine pj_getf (pc := 150) ckX1 17 q870 dX1_planned_150 (by decide) (y9.r0) rfl ?_
                      refine pl_iload (pc := 153) dX1_planned_153 rfl ?_
                      refine pj_icmp_gt (pc := 155) (tgt := 161) dX1_planned_155 (by decide) (fun c155 => ?_) (fun c155 => ?_)
                      · refine pl_aload_n (pc := 161) dX1_planned_161 rfl rfl ?_
                        refine pj_getf (pc := 162) ckX1 16 q869 dX1_planned_162 (by decide) (y9.r0) rfl ?_
                        refine pj_istore_n (pc := 165) (lv' := [(3, _), (5, _), (4, _), (2, _), (1, _), (0, _)]) dX1_planned_165 rfl (by decide) rfl ?_
                        refine pl_aload_n (pc := 166) dX1_planned_166 rfl rfl ?_
                        refine pj_getf (pc := 167) ckX1 17 q870 dX1_planned_167 (by decide) (y9.r0) rfl ?_
                        refine pj_istore (pc := 170) (lv' := [(4, _), (3, _), (5, _), (2, _), (1, _), (0, _)]) dX1_planned_170 (by decide) rfl ?_
                        refine pl_aload_n (pc := 172) dX1_planned_172 rfl rfl ?_
                        refine pj_getf (pc := 173) ckX1 15 q868 dX1_planned_173 (by decide) (y9.r0) rfl ?_
                        refine pl_iconst (pc := 176) (v := 0) dX1_planned_176 (by rfl) ?_
                        refine pl_aload_n (pc := 177) dX1_planned_177 rfl rfl ?_
                        refine pj_getf (pc := 178) ckX1 14 q867 dX1_planned_178 (by decide) (y9.r0) rfl ?_
                        refine pl_iconst (pc := 181) (v := 0) dX1_planned_181 (by rfl) ?_
                        refine pl_iconst (pc := 182) (v := 2) dX1_planned_182 (by rfl) ?_
                        refine pj_copyi (pc := 183) 0 q2509 dX1_planned_183 y9.r46 y9.r45 rfl rfl (sp := 0) (dp := 0) (k := 2) (by omega) (by omega) (by decide) (by decide) (fun _ _ => rfl) (by omega) (Nat.le_of_ble_eq_true rfl) ?_
                        refine sxk (y9.cp45) (fun My12 y12 => ?_)
                        refine pl_iinc1 (pc := 186) (lv' := [(5, _), (4, _), (3, _), (2, _), (1, _), (0, _)]) dX1_planned_186 rfl rfl (by decide) rfl ?_
                        refine pj_goto (pc := 189) (tgt := 77) dX1_planned_189 (by decide) ?_
                        refine PJ.widen (C1 := CsT S6 + 288 * (9 - (p + 1))) (N1 := NsT S6 + 864 * (9 - (p + 1))) (by omega) (by omega) ?_
                        have eF : planF n nl nb q nw 2 wm p y = (nI p, (rainsF n nl nb q nw 2 wm p y.2.2.2)) := planF_take (Or.inr ⟨(by rw [← h60]; exact c138), Or.inr (by rw [← h61]; exact c155)⟩)
                        have g0 : e6 18 0 = nI (plIx 2 p 0) := (congrFun (he6 18 (by decide)) 0).trans (h18 0 (by decide))
                        rw [plIx_0 (by decide) (fun _ => by omega)] at g0
                        have g1 : e6 18 1 = nI (p % 3) := (congrFun (he6 18 (by decide)) 1).trans uE_eq
                        refine PJ.conv ?_ rfl rfl (ih (by omega) _ A6 S6 b6 (uE (uE e6 17 0 (e6 18 0)) 17 1 (e6 18 1)) (nI p, (rainsF n nl nb q nw 2 wm p y.2.2.2)) (by rw [plansF_s, ← hy]; exact eF.symm) ⟨y12, t6.eP y12.hz (EP.u (Or.inr (Or.inl rfl)) (EP.u (Or.inr (Or.inl rfl)) EP.rf)), eA6, sq6, bs6, ak6, pl6, hrow6, h246⟩ (fun z => absurd z (Nat.succ_ne_zero p)) (fun _ => ⟨p, Nat.lt_succ_self p, rfl, by rw [uE_ne (by omega), uE_eq]; exact g0, by rw [uE_eq]; exact g1, by rw [← h60]; exact hp6⟩))
                        rw [if_neg (Nat.succ_ne_zero p), h60, h61]
                      · refine pj_goto (pc := 158) (tgt := 186) dX1_planned_158 (by decide) ?_
                        refine pl_iinc1 (pc := 186) (lv' := [(5, _), (4, _), (3, _), (2, _), (1, _), (0, _)]) dX1_planned_186 rfl rfl (by decide) rfl ?_
                        refine pj_goto (pc := 189) (tgt := 77) dX1_planned_189 (by decide) ?_
                        refine PJ.widen (C1 := CsT S6 + 288 * (9 - (p + 1))) (N1 := NsT S6 + 864 * (9 - (p + 1))) (by omega) (by omega) ?_
                        have eF : planF n nl nb q nw 2 wm p y = (y.1, y.2.1, y.2.2.1, (rainsF n nl nb q nw 2 wm p y.2.2.2).2.2) := planF_keep (by rw [epb]; exact Int32.not_lt.mpr (nI_pos' (by omega))) (Or.inr ⟨(by rw [← h60]; exact c138), (by rw [← h60]; exact c146), (by rw [← h61]; exact c155)⟩)
                        refine PJ.conv ?_ rfl rfl (ih (by omega) _ A6 S6 b6 e6 (y.1, y.2.1, y.2.2.1, (rainsF n nl nb q nw 2 wm p y.2.2.2).2.2) (by rw [plansF_s, ← hy]; exact eF.symm) ⟨y9, t6, eA6, sq6, bs6, ak6, pl6, hrow6, h246⟩ (fun z => absurd z (Nat.succ_ne_zero p)) (fun _ => ⟨pb, by omega, epb, by rw [congrFun (he6 17 (by decide)) 0, uE_ne (by omega), uE_ne (by omega)]; exact ep0, by rw [congrFun (he6 17 (by decide)) 1, uE_ne (by omega), uE_ne (by omega)]; exact ep1, hyn⟩))
                        rw [if_neg (Nat.succ_ne_zero p)]
            · refine pj_iconst (pc := 67) (v := (-1)) dX1_planned_67 (by rfl) ?_
              refine pj_iret (pc := 68) dX1_planned_68 rfl ?_
              exact CQ.ok (τ := ρ) (by rw [planned_st (Or.inr rfl), if_neg c11, if_neg (fun z => z (Int32.not_lt.mp c16)), if_neg (fun z => z (by rw [hs9]; exact Int32.not_lt.mp c42)), hs9]; rw [if_neg c57, if_pos (by omega)]) h00 ⟨A, S, b, SqP.rf, bs, _, h, t⟩
  · have hps9 := hs9
    refine pl_iload_n (pc := 0) dX1_planned_0 rfl rfl ?_
    refine pl_iconst (pc := 1) (v := 1) dX1_planned_1 (by rfl) ?_
    refine pj_icmp_eq (pc := 2) (tgt := 10) dX1_planned_2 (by decide) (fun c2 => ?_) (fun c2 => ?_)
    · exact absurd c2 hps1
    · refine pl_iload_n (pc := 5) dX1_planned_5 rfl rfl ?_
      refine pl_iconst (pc := 6) (v := 2) dX1_planned_6 (by rfl) ?_
      refine pj_icmp_ne (pc := 7) (tgt := 23) dX1_planned_7 (by decide) (fun c7 => ?_) (fun c7 => ?_)
      · refine pl_iconst (pc := 23) (v := 0) dX1_planned_23 (by rfl) ?_
        refine pl_callSX (pc := 24) (As := [_]) (C1 := 1) (N1 := 6) (C2 := 0) (N2 := 0) (E8 := "java/lang/IllegalArgumentException") mdX1_need q1262 q1263 q125 dX1_planned_24 rfl rfl (Nat.le_of_ble_eq_true rfl) (k_X1_need_no (d := d - 1) (by omega) rfl) (by omega) (by omega) (by omega) (fun q_24 M_24 hM_24 => ?_)
        refine px_out0 rfl ?_
        exact CQ.no 0 (v := nI 0) (τ := sF ρ 0 (nI 1)) (by rw [show sF ρ 0 (nI 1) = th σ 1 by rw [hs0]]; exact (planned_b hps1 hps2)) rfl rfl (⟨A, S, b, SqP.rf, bs, SB.mono (SB.F0 ⟨_, h, t⟩) hM_24⟩)
      · exact absurd c7 hps2
