set_option maxRecDepth 100000
def plIx (st p k : Nat) : Nat := if st = 1 then p % 3 else if k = 1 then p % 3 else p / 3
noncomputable def stepP (n nl nb q nw st p k : Nat) (σ : MS) : MS := s_weeks n nl nb q (nw + 13 * k) 13 (sF σ 23 (σ.2.1 15 (plIx st p k)))
noncomputable def rainB (n nl nb q nw st p r : Nat) (σ : MS) : MS := uq (stepP n nl nb q nw st p) st (sF σ 7 (σ.2.1 16 r))
noncomputable def rainF (n nl nb q nw st p r : Nat) (x : Int32 × Int32 × MS) : Int32 × Int32 × MS := (if r = 0 then row (rainB n nl nb q nw st p r x.2.2) 2122 else if row (rainB n nl nb q nw st p r x.2.2) 2122 ≤ x.1 then x.1 else row (rainB n nl nb q nw st p r x.2.2) 2122, if r = 0 then nI (farmsC (rainB n nl nb q nw st p r x.2.2) 96) else if x.2.1 ≤ nI (farmsC (rainB n nl nb q nw st p r x.2.2) 96) then x.2.1 else nI (farmsC (rainB n nl nb q nw st p r x.2.2) 96), s_back (rainB n nl nb q nw st p r x.2.2))
noncomputable def rainsF (n nl nb q nw st wm p : Nat) (σ : MS) : Int32 × Int32 × MS := uq (rainF n nl nb q nw st p) wm (nI 0, nI 0, σ)
noncomputable def planF (n nl nb q nw st wm p : Nat) (y : Int32 × Int32 × Int32 × MS) : Int32 × Int32 × Int32 × MS :=
  if y.1 < 0 then (nI p, rainsF n nl nb q nw st wm p y.2.2.2) else if y.2.1 < (rainsF n nl nb q nw st wm p y.2.2.2).1 then (y.1, y.2.1, y.2.2.1, (rainsF n nl nb q nw st wm p y.2.2.2).2.2) else if ¬ (rainsF n nl nb q nw st wm p y.2.2.2).1 = y.2.1 then (nI p, rainsF n nl nb q nw st wm p y.2.2.2) else if y.2.2.1 < (rainsF n nl nb q nw st wm p y.2.2.2).2.1 then (nI p, rainsF n nl nb q nw st wm p y.2.2.2) else (y.1, y.2.1, y.2.2.1, (rainsF n nl nb q nw st wm p y.2.2.2).2.2)
noncomputable def plansF (n nl nb q nw st wm : Nat) (σ : MS) (m : Nat) : Int32 × Int32 × Int32 × MS := uq (planF n nl nb q nw st wm) m (-1, nI 0, nI 0, σ)
def planEnd (st : Nat) (w : Int32) (y : Int32 × Int32 × Int32 × MS) : Int32 × MS := (if w = 0 then (if st = 1 then y.1 else y.1 / nI 3) else if w = nI 1 then (if st = 1 then -1 else y.1 - y.1 / nI 3 * nI 3) else if w = nI 2 then y.2.1 else y.2.2.1, sF (sF y.2.2.2 23 (nI 0)) 7 (-1))
noncomputable def p_planned (σ : MS) (n nl nb q nw wm : Nat) (t w : Int32) : Int32 × MS :=
  if t < nI 1 then (nI 0, th σ 1) else if nI 2 < t then (nI 0, th σ 1) else if w < 0 then (nI 0, th σ 1) else if ¬ w ≤ nI 3 then (nI 0, th σ 1) else if ¬ row (s0 σ) 2116 + nI 13 * t ≤ nI 1000 then (nI 0, th σ 2)
  else if (s0 σ).1 28 = 0 then (-1, s0 σ) else if wm = 0 then (-1, s0 σ) else planEnd (tN t) w (plansF n nl nb q nw (tN t) wm (s_saves (s0 σ)) (if tN t = 1 then 3 else 9))
def PlI (σ1 : MS) (n nl nb q nor nw m : Nat) (τ : MS) : Prop := IvG τ n nl nb q nor m ∧ FrW nw σ1 τ
theorem stepP_iv {σ1 τ : MS} {n nl nb q nor nw st p k : Nat} (hb : nw + 13 * st ≤ 1000) (hk : k < st) (v : PlI σ1 n nl nb q nor nw (nw + 13 * k) τ) : PlI σ1 n nl nb q nor nw (nw + 13 * (k + 1)) (stepP n nl nb q nw st p k τ) :=
  ⟨weeks_iv (m := 13) v.1.f0 (by omega) 13 (Nat.le_refl _), (v.2.F (Or.inr (Or.inl rfl))).tr ((frw_weeks n nl nb q (nw + 13 * k) _ 13).le (by omega))⟩
theorem steps_iv {σ1 τ : MS} {n nl nb q nor nw st p : Nat} (hb : nw + 13 * st ≤ 1000) (v : PlI σ1 n nl nb q nor nw nw τ) : ∀ k, k ≤ st → PlI σ1 n nl nb q nor nw (nw + 13 * k) (uq (stepP n nl nb q nw st p) k τ)
  | 0, _ => by rw [uq_0]; exact v
  | k + 1, hk => by rw [uq_s _ k]; exact stepP_iv hb (by omega) (steps_iv hb v k (by omega))
theorem fr_back (σ : MS) : Fr σ (s_back σ) := ⟨rfl, fun k h1 _ => by simp [s_back, sA, h1], rfl⟩
theorem rainB_iv {σ1 τ : MS} {n nl nb q nor nw st p r : Nat} (hb : nw + 13 * st ≤ 1000) (v : PlI σ1 n nl nb q nor nw nw τ) : PlI σ1 n nl nb q nor nw (nw + 13 * st) (rainB n nl nb q nw st p r τ) :=
  steps_iv hb ⟨v.1.f0, v.2.F (Or.inl rfl)⟩ st (Nat.le_refl _)
theorem planB_iv {σ1 τ : MS} {n nl nb q nor nw m : Nat} (v1 : IvG σ1 n nl nb q nor nw) (hs : ∀ j, j < 2132 → σ1.2.1 2 j = row σ1 j) (v : PlI σ1 n nl nb q nor nw m τ) : PlI σ1 n nl nb q nor nw nw (s_back τ) :=
  ⟨back_iv v1 v.2 (fun j hj => (congrFun (v.2.2.1 2 (by decide) (by decide) (by decide)) j).trans (hs j hj)), v.2.tr (FrW.of (fr_back τ))⟩
theorem rainsF_iv {σ1 τ : MS} {n nl nb q nor nw st p : Nat} (v1 : IvG σ1 n nl nb q nor nw) (hs : ∀ j, j < 2132 → σ1.2.1 2 j = row σ1 j) (hb : nw + 13 * st ≤ 1000) (v : PlI σ1 n nl nb q nor nw nw τ) : ∀ r, PlI σ1 n nl nb q nor nw nw (uq (rainF n nl nb q nw st p) r (nI 0, nI 0, τ)).2.2
  | 0 => by rw [uq_0]; exact v
  | r + 1 => by rw [uq_s _ r]; exact planB_iv v1 hs (rainB_iv hb (rainsF_iv v1 hs hb v r))
theorem planF_iv {σ1 : MS} {n nl nb q nor nw st wm p : Nat} {y : Int32 × Int32 × Int32 × MS} (v1 : IvG σ1 n nl nb q nor nw) (hs : ∀ j, j < 2132 → σ1.2.1 2 j = row σ1 j) (hb : nw + 13 * st ≤ 1000) (v : PlI σ1 n nl nb q nor nw nw y.2.2.2) : PlI σ1 n nl nb q nor nw nw (planF n nl nb q nw st wm p y).2.2.2 := by
  have h := rainsF_iv (p := p) v1 hs hb v wm
  unfold planF
  split
  · exact h
  · split
    · exact h
    · split
      · exact h
      · split
        · exact h
        · exact h
theorem plansF_iv {σ1 : MS} {n nl nb q nor nw st wm : Nat} (v1 : IvG σ1 n nl nb q nor nw) (hs : ∀ j, j < 2132 → σ1.2.1 2 j = row σ1 j) (hb : nw + 13 * st ≤ 1000) : ∀ m, PlI σ1 n nl nb q nor nw nw (plansF n nl nb q nw st wm σ1 m).2.2.2
  | 0 => by rw [plansF, uq_0]; exact ⟨v1, FrW.rf⟩
  | m + 1 => by
    have ih := plansF_iv (st := st) (wm := wm) v1 hs hb m
    unfold plansF at ih ⊢
    rw [uq_s _ m]
    exact planF_iv v1 hs hb ih
theorem plansF_s {n nl nb q nw st wm m : Nat} {σ : MS} : plansF n nl nb q nw st wm σ (m + 1) = planF n nl nb q nw st wm m (plansF n nl nb q nw st wm σ m) := by
  unfold plansF
  rw [uq_s _ m]
set_option maxHeartbeats 4000000 in
theorem w_X9_planned {g : GP} {ad : Nat → Nat} {μ : Mem} {σ : MS} {d : Nat} {t : Int32} {w9 : Int32} {n nl nb q nor nw wm : Nat} (hd : 8 ≤ d) (hA : Inj ad 18) (iv : IvG σ n nl nb q nor nw) (hwm : σ.1 29 = nI wm) (hWM : wm ≤ 3) : PM g yX9_planned (ws_ yX9_planned cX9_planned 12 (some .int)) d 0 0 [.ref (ad 0), .int t, .int w9] (mm g ad μ σ) (rQ (some (.int ((p_planned σ n nl nb q nw wm t w9).1))) (mm g ad μ ((p_planned σ n nl nb q nw wm t w9).2))) := by
  refine PM.of (by decide +kernel) (Nat.le_of_ble_eq_true rfl) ?_
  show PJ g _ _ _ _ d 0 0 0 [(0, .ref (ad 0)), (1, .int t), (2, .int w9)] [] _ _
  refine pl_aload_n (pc := 0) dX9_planned_0 rfl rfl ?_
  refine pl_iconst (pc := 1) (v := 0) dX9_planned_1 (by rfl) ?_
  refine pm_putI (pc := 2) 0 hA q2516 dX9_planned_2 (by decide) rfl (by rfl) (by rfl) rfl ?_
  refine pl_aload_n (pc := 5) dX9_planned_5 rfl rfl ?_
  refine pl_iload_n (pc := 6) dX9_planned_6 rfl rfl ?_
  refine pl_iconst (pc := 7) (v := 1) dX9_planned_7 (by rfl) ?_
  refine pj_icmp_lt (pc := 8) (tgt := 25) dX9_planned_8 (by decide) (fun c8 => ?_) (fun c8 => ?_)
  · refine pl_iconst (pc := 25) (v := 1) dX9_planned_25 (by rfl) ?_
    refine pj_goto (pc := 26) (tgt := 30) dX9_planned_26 (by decide) ?_
    refine pl_iconst (pc := 30) (v := 1) dX9_planned_30 (by rfl) ?_
    refine pl_callVd (pc := 31) (As := [_, _]) (C2 := 0) (N2 := 0) ckX9 mdX9_bad rfl q2631 q2633 qs50 q154 dX9_planned_31 rfl rfl (Nat.le_of_ble_eq_true rfl) (mm_o hA) (w_bad_1 (d := d - 1) (by omega) hA) (by omega) (by decide) (by decide) ?_
    refine pj_if_ne (pc := 34) (tgt := 69) dX9_planned_34 (by decide) (fun _ => ?_) (fun h => absurd h (by decide))
    refine pl_iconst (pc := 69) (v := 0) dX9_planned_69 (by rfl) ?_
    refine pj_iret (pc := 70) dX9_planned_70 rfl ?_
    exact ⟨vIe (by simp [p_planned, planEnd, c8]) rfl, congrArg (mm g ad μ) (by simp [p_planned, planEnd, c8])⟩
  · refine pl_iload_n (pc := 11) dX9_planned_11 rfl rfl ?_
    refine pl_iconst (pc := 12) (v := 2) dX9_planned_12 (by rfl) ?_
    refine pj_icmp_gt (pc := 13) (tgt := 25) dX9_planned_13 (by decide) (fun c13 => ?_) (fun c13 => ?_)
    · refine pl_iconst (pc := 25) (v := 1) dX9_planned_25 (by rfl) ?_
      refine pj_goto (pc := 26) (tgt := 30) dX9_planned_26 (by decide) ?_
      refine pl_iconst (pc := 30) (v := 1) dX9_planned_30 (by rfl) ?_
      refine pl_callVd (pc := 31) (As := [_, _]) (C2 := 0) (N2 := 0) ckX9 mdX9_bad rfl q2631 q2633 qs50 q154 dX9_planned_31 rfl rfl (Nat.le_of_ble_eq_true rfl) (mm_o hA) (w_bad_1 (d := d - 1) (by omega) hA) (by omega) (by decide) (by decide) ?_
      refine pj_if_ne (pc := 34) (tgt := 69) dX9_planned_34 (by decide) (fun _ => ?_) (fun h => absurd h (by decide))
      refine pl_iconst (pc := 69) (v := 0) dX9_planned_69 (by rfl) ?_
      refine pj_iret (pc := 70) dX9_planned_70 rfl ?_
      exact ⟨vIe (by simp [p_planned, planEnd, c8, c13]) rfl, congrArg (mm g ad μ) (by simp [p_planned, planEnd, c8, c13])⟩
    · refine pl_iload_n (pc := 16) dX9_planned_16 rfl rfl ?_
      refine pj_if_lt (pc := 17) (tgt := 25) dX9_planned_17 (by decide) (fun c17 => ?_) (fun c17 => ?_)
      · refine pl_iconst (pc := 25) (v := 1) dX9_planned_25 (by rfl) ?_
        refine pj_goto (pc := 26) (tgt := 30) dX9_planned_26 (by decide) ?_
        refine pl_iconst (pc := 30) (v := 1) dX9_planned_30 (by rfl) ?_
        refine pl_callVd (pc := 31) (As := [_, _]) (C2 := 0) (N2 := 0) ckX9 mdX9_bad rfl q2631 q2633 qs50 q154 dX9_planned_31 rfl rfl (Nat.le_of_ble_eq_true rfl) (mm_o hA) (w_bad_1 (d := d - 1) (by omega) hA) (by omega) (by decide) (by decide) ?_
        refine pj_if_ne (pc := 34) (tgt := 69) dX9_planned_34 (by decide) (fun _ => ?_) (fun h => absurd h (by decide))
        refine pl_iconst (pc := 69) (v := 0) dX9_planned_69 (by rfl) ?_
        refine pj_iret (pc := 70) dX9_planned_70 rfl ?_
        exact ⟨vIe (by simp [p_planned, planEnd, c8, c13, c17]) rfl, congrArg (mm g ad μ) (by simp [p_planned, planEnd, c8, c13, c17])⟩
      · refine pl_iload_n (pc := 20) dX9_planned_20 rfl rfl ?_
        refine pl_iconst (pc := 21) (v := 3) dX9_planned_21 (by rfl) ?_
        refine pj_icmp_le (pc := 22) (tgt := 29) dX9_planned_22 (by decide) (fun c22 => ?_) (fun c22 => ?_)
        · refine pl_iconst (pc := 29) (v := 0) dX9_planned_29 (by rfl) ?_
          refine pl_iconst (pc := 30) (v := 1) dX9_planned_30 (by rfl) ?_
          refine pl_callVd (pc := 31) (As := [_, _]) (C2 := 0) (N2 := 0) ckX9 mdX9_bad rfl q2631 q2633 qs50 q154 dX9_planned_31 rfl rfl (Nat.le_of_ble_eq_true rfl) (mm_o hA) (w_bad_0 (d := d - 1) (by omega) hA) (by omega) (by decide) (by decide) ?_
          refine pj_if_ne (pc := 34) (tgt := 69) dX9_planned_34 (by decide) (fun h => absurd h (by decide)) (fun _ => ?_)
          refine pl_aload_n (pc := 37) dX9_planned_37 rfl rfl ?_
          refine pl_aload_n (pc := 38) dX9_planned_38 rfl rfl ?_
          refine pj_getf (pc := 39) ckX9 1 q2517 dX9_planned_39 (by decide) (mm_o hA) rfl ?_
          refine pl_sipush (pc := 42) (v := 2116) dX9_planned_42 (by rfl) ?_
          refine pl_iald (pc := 45) (n := 2132) dX9_planned_45 (mm_a hA 1 (by decide) (by decide)) (by omega) (by decide) ?_
          refine pl_bipush (pc := 46) (v := 13) dX9_planned_46 (by rfl) ?_
          refine pl_iload_n (pc := 48) dX9_planned_48 rfl rfl ?_
          refine pj_imul (pc := 49) dX9_planned_49 ?_
          refine pj_iadd (pc := 50) dX9_planned_50 ?_
          refine pl_sipush (pc := 51) (v := 1000) dX9_planned_51 (by rfl) ?_
          refine pj_icmp_le (pc := 54) (tgt := 61) dX9_planned_54 (by decide) (fun c54 => ?_) (fun c54 => ?_)
          · refine pl_iconst (pc := 61) (v := 0) dX9_planned_61 (by rfl) ?_
            refine pl_iconst (pc := 62) (v := 2) dX9_planned_62 (by rfl) ?_
            refine pl_callVd (pc := 63) (As := [_, _]) (C2 := 0) (N2 := 0) ckX9 mdX9_bad rfl q2631 q2633 qs50 q154 dX9_planned_63 rfl rfl (Nat.le_of_ble_eq_true rfl) (mm_o hA) (w_bad_0 (d := d - 1) (by omega) hA) (by omega) (by decide) (by decide) ?_
            refine pj_if_eq (pc := 66) (tgt := 71) dX9_planned_66 (by decide) (fun _ => ?_) (fun h => absurd h (by decide))
            refine pl_aload_n (pc := 71) dX9_planned_71 rfl rfl ?_
            refine pj_getf (pc := 72) ckX9 28 q2544 dX9_planned_72 (by decide) (mm_o hA) rfl ?_
            refine pj_if_eq (pc := 75) (tgt := 85) dX9_planned_75 (by decide) (fun c75 => ?_) (fun c75 => ?_)
            · refine pj_iconst (pc := 85) (v := (-1)) dX9_planned_85 (by rfl) ?_
              refine pj_iret (pc := 86) dX9_planned_86 rfl ?_
              exact ⟨vIe (by simp [p_planned, planEnd, c8, c13, c17, c22, c54, eq_true c75]) rfl, congrArg (mm g ad μ) (by simp [p_planned, planEnd, c8, c13, c17, c22, c54, eq_true c75])⟩
            · refine pl_aload_n (pc := 78) dX9_planned_78 rfl rfl ?_
              refine pj_getf (pc := 79) ckX9 29 q2545 dX9_planned_79 (by decide) (mm_o hA) rfl ?_
              refine PJ.top (y := nI wm) hwm ?_
              refine pl_if_neN (pc := 82) (tgt := 87) dX9_planned_82 (by decide) (by omega) (fun c82 => ?_) (fun c82 => ?_)
              · have w0 : ¬ wm = 0 := by omega
                obtain ⟨j_t, hj_t, rfl⟩ := nI_of2 (n := 2) (M := nI 2) (by rfl) (fun z => c8 (Int32.lt_of_lt_of_le z (by decide))) (Int32.not_lt.mp c13)
                have hst : nw + 13 * j_t ≤ 1000 := (nI_leI (by omega) (by decide)).mp (by rw [← nI_add, ← pk_mul, ← (show row (s0 σ) 2116 = nI nw from iv.hnw)]; exact c54)
                have hj0 : j_t ≠ 0 := fun z => by subst z; exact c8 (by decide)
                have iv1 := saves_iv (iv.f0 (j := 0) (x := nI 0))
                have hs1 : ∀ j, j < 2132 → (s_saves (s0 σ)).2.1 2 j = row (s_saves (s0 σ)) j := fun j hj => saves_2 hj
                rcases (by omega : j_t = 1 ∨ j_t = 2) with rfl | rfl
                · have g_t := tN_nI (n := 1) (by decide)
                  refine pj_iconst (pc := 87) (v := (-1)) dX9_planned_87 (by rfl) ?_
                  refine pj_istore_n (pc := 88) (lv' := [(3, _), (0, _), (1, _), (2, _)]) dX9_planned_88 rfl (by decide) rfl ?_
                  refine pl_iconst (pc := 89) (v := 0) dX9_planned_89 (by rfl) ?_
                  refine pj_istore (pc := 90) (lv' := [(4, _), (3, _), (0, _), (1, _), (2, _)]) dX9_planned_90 (by decide) rfl ?_
                  refine pl_iconst (pc := 92) (v := 0) dX9_planned_92 (by rfl) ?_
                  refine pj_istore (pc := 93) (lv' := [(5, _), (4, _), (3, _), (0, _), (1, _), (2, _)]) dX9_planned_93 (by decide) rfl ?_
                  refine pl_aload_n (pc := 95) dX9_planned_95 rfl rfl ?_
                  refine pl_callVv (pc := 96) (As := []) (C2 := 0) (N2 := 0) ckX9 mdX9_saves rfl q2745 q2747 qs63 q154 dX9_planned_96 rfl rfl (Nat.le_of_ble_eq_true rfl) (mm_o hA) (w_X9_saves (d := d - 1) (by omega) hA) (by omega) (by decide) (by decide) ?_
                  refine pl_iconst (pc := 99) (v := 0) dX9_planned_99 (by rfl) ?_
                  refine pj_istore (pc := 100) (lv' := [(6, _), (5, _), (4, _), (3, _), (0, _), (1, _), (2, _)]) dX9_planned_100 (by decide) rfl ?_
                  refine PJ.sub [0, 1, 2, 3, 6, 5, 4] rfl ?_
                  refine PJ.conv (show _ = [(6, .int (nI 0)), (5, .int (plansF n nl nb q nw 1 wm (s_saves (s0 σ)) 0).2.2.1), (4, .int (plansF n nl nb q nw 1 wm (s_saves (s0 σ)) 0).2.1), (3, .int (plansF n nl nb q nw 1 wm (s_saves (s0 σ)) 0).1), (2, .int w9), (1, .int (nI 1)), (0, .ref (ad 0))] from by rw [plansF, uq_0]; first | done | rfl) rfl (show _ = (mm g ad μ (plansF n nl nb q nw 1 wm (s_saves (s0 σ)) 0).2.2.2) from by rw [plansF, uq_0]; first | done | rfl) ?_
                  refine ind_dn (n := 3) (P := fun p => PJ g _ _ _ _ d 0 0 102 [(6, .int (nI p)), (5, .int (plansF n nl nb q nw 1 wm (s_saves (s0 σ)) p).2.2.1), (4, .int (plansF n nl nb q nw 1 wm (s_saves (s0 σ)) p).2.1), (3, .int (plansF n nl nb q nw 1 wm (s_saves (s0 σ)) p).1), (2, .int w9), (1, .int (nI 1)), (0, .ref (ad 0))] [] (mm g ad μ (plansF n nl nb q nw 1 wm (s_saves (s0 σ)) p).2.2.2) _) (fun p hp ih => ?_) 0 (Nat.zero_le _)
                  refine pl_iload (pc := 102) dX9_planned_102 rfl ?_
                  refine pl_iload_n (pc := 104) dX9_planned_104 rfl rfl ?_
                  refine pl_iconst (pc := 105) (v := 1) dX9_planned_105 (by rfl) ?_
                  refine pj_icmp_ne (pc := 106) (tgt := 113) dX9_planned_106 (by decide) (fun h => absurd h (by decide)) (fun _ => ?_)
                  refine pl_iconst (pc := 109) (v := 3) dX9_planned_109 (by rfl) ?_
                  refine pj_goto (pc := 110) (tgt := 115) dX9_planned_110 (by decide) ?_
                  refine pl_icmp_ge (pc := 115) (tgt := 326) dX9_planned_115 (by decide) (by omega) (by omega) (fun c115 => ?_) (fun c115 => ?_)
                  · have e10 : 3 = p := by omega
                    subst e10
                    refine pl_aload_n (pc := 326) dX9_planned_326 rfl rfl ?_
                    refine pl_iconst (pc := 327) (v := 0) dX9_planned_327 (by rfl) ?_
                    refine pm_putI (pc := 328) 23 hA q2539 dX9_planned_328 (by decide) rfl (by rfl) (by rfl) rfl ?_
                    refine pl_aload_n (pc := 331) dX9_planned_331 rfl rfl ?_
                    refine pj_iconst (pc := 332) (v := (-1)) dX9_planned_332 (by rfl) ?_
                    refine pm_putI (pc := 333) 7 hA q2523 dX9_planned_333 (by decide) rfl (by rfl) (by rfl) rfl ?_
                    refine pl_iload_n (pc := 336) dX9_planned_336 rfl rfl ?_
                    refine pl_iconst (pc := 337) (v := 1) dX9_planned_337 (by rfl) ?_
                    refine pj_icmp_ne (pc := 338) (tgt := 345) dX9_planned_338 (by decide) (fun h => absurd h (by decide)) (fun _ => ?_)
                    refine pl_iload_n (pc := 341) dX9_planned_341 rfl rfl ?_
                    refine pj_goto (pc := 342) (tgt := 348) dX9_planned_342 (by decide) ?_
                    refine pj_istore (pc := 348) (lv' := [(6, _), (5, _), (4, _), (3, _), (2, _), (1, _), (0, _)]) dX9_planned_348 (by decide) rfl ?_
                    refine pl_iload_n (pc := 350) dX9_planned_350 rfl rfl ?_
                    refine pj_if_ne (pc := 351) (tgt := 359) dX9_planned_351 (by decide) (fun c351 => ?_) (fun c351 => ?_)
                    · refine pl_iload_n (pc := 359) dX9_planned_359 rfl rfl ?_
                      refine pl_iconst (pc := 360) (v := 1) dX9_planned_360 (by rfl) ?_
                      refine pj_icmp_ne (pc := 361) (tgt := 379) dX9_planned_361 (by decide) (fun c361 => ?_) (fun c361 => ?_)
                      · refine pl_iload_n (pc := 379) dX9_planned_379 rfl rfl ?_
                        refine pl_iconst (pc := 380) (v := 2) dX9_planned_380 (by rfl) ?_
                        refine pj_icmp_ne (pc := 381) (tgt := 389) dX9_planned_381 (by decide) (fun c381 => ?_) (fun c381 => ?_)
                        · refine pl_iload (pc := 389) dX9_planned_389 rfl ?_
                          refine pj_iret (pc := 391) dX9_planned_391 rfl ?_
                          exact ⟨vIe (by simp [p_planned, planEnd, c8, c13, c17, c22, c54, c75, c82, w0, g_t, c115, c351, c361, c381]) rfl, congrArg (mm g ad μ) (by simp [p_planned, planEnd, c8, c13, c17, c22, c54, c75, c82, w0, g_t, c115, c351, c361, c381])⟩
                        · refine pl_iload (pc := 384) dX9_planned_384 rfl ?_
                          refine pj_goto (pc := 386) (tgt := 391) dX9_planned_386 (by decide) ?_
                          refine pj_iret (pc := 391) dX9_planned_391 rfl ?_
                          exact ⟨vIe (by simp [p_planned, planEnd, c8, c13, c17, c22, c54, c75, c82, w0, g_t, c115, c351, c361, eq_true c381]) rfl, congrArg (mm g ad μ) (by simp [p_planned, planEnd, c8, c13, c17, c22, c54, c75, c82, w0, g_t, c115, c351, c361, eq_true c381])⟩
                      · refine pl_iload_n (pc := 364) dX9_planned_364 rfl rfl ?_
                        refine pl_iconst (pc := 365) (v := 1) dX9_planned_365 (by rfl) ?_
                        refine pj_icmp_ne (pc := 366) (tgt := 373) dX9_planned_366 (by decide) (fun h => absurd h (by decide)) (fun _ => ?_)
                        refine pj_iconst (pc := 369) (v := (-1)) dX9_planned_369 (by rfl) ?_
                        refine pj_goto (pc := 370) (tgt := 391) dX9_planned_370 (by decide) ?_
                        refine pj_iret (pc := 391) dX9_planned_391 rfl ?_
                        exact ⟨vIe (by simp [p_planned, planEnd, c8, c13, c17, c22, c54, c75, c82, w0, g_t, c115, c351, eq_true c361]) rfl, congrArg (mm g ad μ) (by simp [p_planned, planEnd, c8, c13, c17, c22, c54, c75, c82, w0, g_t, c115, c351, eq_true c361])⟩
                    · refine pl_iload (pc := 354) dX9_planned_354 rfl ?_
                      refine pj_goto (pc := 356) (tgt := 391) dX9_planned_356 (by decide) ?_
                      refine pj_iret (pc := 391) dX9_planned_391 rfl ?_
                      exact ⟨vIe (by simp [p_planned, planEnd, c8, c13, c17, c22, c54, c75, c82, w0, g_t, c115, eq_true c351]) rfl, congrArg (mm g ad μ) (by simp [p_planned, planEnd, c8, c13, c17, c22, c54, c75, c82, w0, g_t, c115, eq_true c351])⟩
                  · have ihP := ih
                    have hvY : PlI (s_saves (s0 σ)) n nl nb q nor nw nw (plansF n nl nb q nw 1 wm (s_saves (s0 σ)) p).2.2.2 := plansF_iv iv1 hs1 hst p
                    refine pl_iconst (pc := 118) (v := 0) dX9_planned_118 (by rfl) ?_
                    refine pj_istore (pc := 119) (lv' := [(7, _), (6, _), (5, _), (4, _), (3, _), (2, _), (1, _), (0, _)]) dX9_planned_119 (by decide) rfl ?_
                    refine pl_iconst (pc := 121) (v := 0) dX9_planned_121 (by rfl) ?_
                    refine pj_istore (pc := 122) (lv' := [(8, _), (7, _), (6, _), (5, _), (4, _), (3, _), (2, _), (1, _), (0, _)]) dX9_planned_122 (by decide) rfl ?_
                    refine pl_iconst (pc := 124) (v := 0) dX9_planned_124 (by rfl) ?_
                    refine pj_istore (pc := 125) (lv' := [(9, _), (8, _), (7, _), (6, _), (5, _), (4, _), (3, _), (2, _), (1, _), (0, _)]) dX9_planned_125 (by decide) rfl ?_
                    refine PJ.conv (show _ = [(9, .int (nI 0)), (8, .int (uq (rainF n nl nb q nw 1 p) 0 (nI 0, nI 0, (plansF n nl nb q nw 1 wm (s_saves (s0 σ)) p).2.2.2)).2.1), (7, .int (uq (rainF n nl nb q nw 1 p) 0 (nI 0, nI 0, (plansF n nl nb q nw 1 wm (s_saves (s0 σ)) p).2.2.2)).1), (6, .int (nI p)), (5, .int (plansF n nl nb q nw 1 wm (s_saves (s0 σ)) p).2.2.1), (4, .int (plansF n nl nb q nw 1 wm (s_saves (s0 σ)) p).2.1), (3, .int (plansF n nl nb q nw 1 wm (s_saves (s0 σ)) p).1), (2, .int w9), (1, .int (nI 1)), (0, .ref (ad 0))] from by rw [uq_0]; first | done | rfl) rfl (show _ = (mm g ad μ (uq (rainF n nl nb q nw 1 p) 0 (nI 0, nI 0, (plansF n nl nb q nw 1 wm (s_saves (s0 σ)) p).2.2.2)).2.2) from by rw [uq_0]; first | done | rfl) ?_
                    refine ind_dn (n := wm) (P := fun r => PJ g _ _ _ _ d 0 0 127 [(9, .int (nI r)), (8, .int (uq (rainF n nl nb q nw 1 p) r (nI 0, nI 0, (plansF n nl nb q nw 1 wm (s_saves (s0 σ)) p).2.2.2)).2.1), (7, .int (uq (rainF n nl nb q nw 1 p) r (nI 0, nI 0, (plansF n nl nb q nw 1 wm (s_saves (s0 σ)) p).2.2.2)).1), (6, .int (nI p)), (5, .int (plansF n nl nb q nw 1 wm (s_saves (s0 σ)) p).2.2.1), (4, .int (plansF n nl nb q nw 1 wm (s_saves (s0 σ)) p).2.1), (3, .int (plansF n nl nb q nw 1 wm (s_saves (s0 σ)) p).1), (2, .int w9), (1, .int (nI 1)), (0, .ref (ad 0))] [] (mm g ad μ (uq (rainF n nl nb q nw 1 p) r (nI 0, nI 0, (plansF n nl nb q nw 1 wm (s_saves (s0 σ)) p).2.2.2)).2.2) _) (fun r hr ih => ?_) 0 (Nat.zero_le _)
                    refine pl_iload (pc := 127) dX9_planned_127 rfl ?_
                    refine pl_aload_n (pc := 129) dX9_planned_129 rfl rfl ?_
                    refine pj_getf (pc := 130) ckX9 29 q2545 dX9_planned_130 (by decide) (mm_o hA) rfl ?_
                    have ihR := ih
                    have hvX : PlI (s_saves (s0 σ)) n nl nb q nor nw nw (uq (rainF n nl nb q nw 1 p) r (nI 0, nI 0, (plansF n nl nb q nw 1 wm (s_saves (s0 σ)) p).2.2.2)).2.2 := rainsF_iv iv1 hs1 hst hvY r
                    refine PJ.top (y := nI wm) ((hvX.2.1 29 (by decide) (by decide) (by decide)).trans hwm) ?_
                    refine pl_icmp_ge (pc := 133) (tgt := 281) dX9_planned_133 (by decide) (by omega) (by omega) (fun c133 => ?_) (fun c133 => ?_)
                    · have e11 : wm = r := by omega
                      subst e11
                      refine pl_iload_n (pc := 281) dX9_planned_281 rfl rfl ?_
                      refine pj_if_lt (pc := 282) (tgt := 309) dX9_planned_282 (by decide) (fun c282 => ?_) (fun c282 => ?_)
                      · refine pl_iload (pc := 309) dX9_planned_309 rfl ?_
                        refine pj_istore_n (pc := 311) (lv' := [(3, _), (9, _), (8, _), (7, _), (6, _), (5, _), (4, _), (2, _), (1, _), (0, _)]) dX9_planned_311 rfl (by decide) rfl ?_
                        refine pl_iload (pc := 312) dX9_planned_312 rfl ?_
                        refine pj_istore (pc := 314) (lv' := [(4, _), (3, _), (9, _), (8, _), (7, _), (6, _), (5, _), (2, _), (1, _), (0, _)]) dX9_planned_314 (by decide) rfl ?_
                        refine pl_iload (pc := 316) dX9_planned_316 rfl ?_
                        refine pj_istore (pc := 318) (lv' := [(5, _), (4, _), (3, _), (9, _), (8, _), (7, _), (6, _), (2, _), (1, _), (0, _)]) dX9_planned_318 (by decide) rfl ?_
                        refine pl_iinc1 (pc := 320) (lv' := [(6, _), (5, _), (4, _), (3, _), (9, _), (8, _), (7, _), (2, _), (1, _), (0, _)]) dX9_planned_320 rfl rfl (by decide) rfl ?_
                        refine pj_goto (pc := 323) (tgt := 102) dX9_planned_323 (by decide) ?_
                        refine PJ.sub [0, 1, 2, 3, 7, 8, 9] rfl ?_
                        exact PJ.conv (by rw [plansF_s]; first | (simp [planF, rainsF, c133, c282]; done) | (simp [planF, rainsF, c133, c282]; rfl)) rfl (by rw [plansF_s]; first | (simp [planF, rainsF, c133, c282]; done) | (simp [planF, rainsF, c133, c282]; rfl)) (ihP (by omega))
                      · refine pl_iload (pc := 285) dX9_planned_285 rfl ?_
                        refine pl_iload (pc := 287) dX9_planned_287 rfl ?_
                        refine pj_icmp_gt (pc := 289) (tgt := 320) dX9_planned_289 (by decide) (fun c289 => ?_) (fun c289 => ?_)
                        · refine pl_iinc1 (pc := 320) (lv' := [(6, _), (9, _), (8, _), (7, _), (5, _), (4, _), (3, _), (2, _), (1, _), (0, _)]) dX9_planned_320 rfl rfl (by decide) rfl ?_
                          refine pj_goto (pc := 323) (tgt := 102) dX9_planned_323 (by decide) ?_
                          refine PJ.sub [0, 4, 5, 6, 7, 8, 9] rfl ?_
                          exact PJ.conv (by rw [plansF_s]; first | (simp [planF, rainsF, c133, c282, c289]; done) | (simp [planF, rainsF, c133, c282, c289]; rfl)) rfl (by rw [plansF_s]; first | (simp [planF, rainsF, c133, c282, c289]; done) | (simp [planF, rainsF, c133, c282, c289]; rfl)) (ihP (by omega))
                        · refine pl_iload (pc := 292) dX9_planned_292 rfl ?_
                          refine pl_iload (pc := 294) dX9_planned_294 rfl ?_
                          refine pj_icmp_ne (pc := 296) (tgt := 309) dX9_planned_296 (by decide) (fun c296 => ?_) (fun c296 => ?_)
                          · refine pl_iload (pc := 309) dX9_planned_309 rfl ?_
                            refine pj_istore_n (pc := 311) (lv' := [(3, _), (9, _), (8, _), (7, _), (6, _), (5, _), (4, _), (2, _), (1, _), (0, _)]) dX9_planned_311 rfl (by decide) rfl ?_
                            refine pl_iload (pc := 312) dX9_planned_312 rfl ?_
                            refine pj_istore (pc := 314) (lv' := [(4, _), (3, _), (9, _), (8, _), (7, _), (6, _), (5, _), (2, _), (1, _), (0, _)]) dX9_planned_314 (by decide) rfl ?_
                            refine pl_iload (pc := 316) dX9_planned_316 rfl ?_
                            refine pj_istore (pc := 318) (lv' := [(5, _), (4, _), (3, _), (9, _), (8, _), (7, _), (6, _), (2, _), (1, _), (0, _)]) dX9_planned_318 (by decide) rfl ?_
                            refine pl_iinc1 (pc := 320) (lv' := [(6, _), (5, _), (4, _), (3, _), (9, _), (8, _), (7, _), (2, _), (1, _), (0, _)]) dX9_planned_320 rfl rfl (by decide) rfl ?_
                            refine pj_goto (pc := 323) (tgt := 102) dX9_planned_323 (by decide) ?_
                            refine PJ.sub [0, 1, 2, 3, 7, 8, 9] rfl ?_
                            exact PJ.conv (by rw [plansF_s]; first | (simp [planF, rainsF, c133, c282, c289, c296]; done) | (simp [planF, rainsF, c133, c282, c289, c296]; rfl)) rfl (by rw [plansF_s]; first | (simp [planF, rainsF, c133, c282, c289, c296]; done) | (simp [planF, rainsF, c133, c282, c289, c296]; rfl)) (ihP (by omega))
                          · refine pl_iload (pc := 299) dX9_planned_299 rfl ?_
                            refine pl_iload (pc := 301) dX9_planned_301 rfl ?_
                            refine pj_icmp_gt (pc := 303) (tgt := 309) dX9_planned_303 (by decide) (fun c303 => ?_) (fun c303 => ?_)
                            · refine pl_iload (pc := 309) dX9_planned_309 rfl ?_
                              refine pj_istore_n (pc := 311) (lv' := [(3, _), (9, _), (8, _), (7, _), (6, _), (5, _), (4, _), (2, _), (1, _), (0, _)]) dX9_planned_311 rfl (by decide) rfl ?_
                              refine pl_iload (pc := 312) dX9_planned_312 rfl ?_
                              refine pj_istore (pc := 314) (lv' := [(4, _), (3, _), (9, _), (8, _), (7, _), (6, _), (5, _), (2, _), (1, _), (0, _)]) dX9_planned_314 (by decide) rfl ?_
                              refine pl_iload (pc := 316) dX9_planned_316 rfl ?_
                              refine pj_istore (pc := 318) (lv' := [(5, _), (4, _), (3, _), (9, _), (8, _), (7, _), (6, _), (2, _), (1, _), (0, _)]) dX9_planned_318 (by decide) rfl ?_
                              refine pl_iinc1 (pc := 320) (lv' := [(6, _), (5, _), (4, _), (3, _), (9, _), (8, _), (7, _), (2, _), (1, _), (0, _)]) dX9_planned_320 rfl rfl (by decide) rfl ?_
                              refine pj_goto (pc := 323) (tgt := 102) dX9_planned_323 (by decide) ?_
                              refine PJ.sub [0, 1, 2, 3, 7, 8, 9] rfl ?_
                              exact PJ.conv (by rw [plansF_s]; first | (simp [planF, rainsF, c133, c282, c289, eq_true c296, c303]; done) | (simp [planF, rainsF, c133, c282, c289, eq_true c296, c303]; rfl)) rfl (by rw [plansF_s]; first | (simp [planF, rainsF, c133, c282, c289, eq_true c296, c303]; done) | (simp [planF, rainsF, c133, c282, c289, eq_true c296, c303]; rfl)) (ihP (by omega))
                            · refine pj_goto (pc := 306) (tgt := 320) dX9_planned_306 (by decide) ?_
                              refine pl_iinc1 (pc := 320) (lv' := [(6, _), (9, _), (8, _), (7, _), (5, _), (4, _), (3, _), (2, _), (1, _), (0, _)]) dX9_planned_320 rfl rfl (by decide) rfl ?_
                              refine pj_goto (pc := 323) (tgt := 102) dX9_planned_323 (by decide) ?_
                              refine PJ.sub [0, 4, 5, 6, 7, 8, 9] rfl ?_
                              exact PJ.conv (by rw [plansF_s]; first | (simp [planF, rainsF, c133, c282, c289, eq_true c296, c303]; done) | (simp [planF, rainsF, c133, c282, c289, eq_true c296, c303]; rfl)) rfl (by rw [plansF_s]; first | (simp [planF, rainsF, c133, c282, c289, eq_true c296, c303]; done) | (simp [planF, rainsF, c133, c282, c289, eq_true c296, c303]; rfl)) (ihP (by omega))
                    · refine pl_aload_n (pc := 136) dX9_planned_136 rfl rfl ?_
                      refine pl_aload_n (pc := 137) dX9_planned_137 rfl rfl ?_
                      refine pj_getf (pc := 138) ckX9 27 q2543 dX9_planned_138 (by decide) (mm_o hA) rfl ?_
                      refine pl_iload (pc := 141) dX9_planned_141 rfl ?_
                      refine pl_iald (pc := 143) (n := 3) dX9_planned_143 (mm_a hA 16 (by decide) (by decide)) (by omega) (by decide) ?_
                      refine pm_putI (pc := 144) 7 hA q2523 dX9_planned_144 (by decide) rfl (by rfl) (by rfl) rfl ?_
                      refine pl_iconst (pc := 147) (v := 0) dX9_planned_147 (by rfl) ?_
                      refine pj_istore (pc := 148) (lv' := [(10, _), (9, _), (8, _), (7, _), (6, _), (5, _), (4, _), (3, _), (2, _), (1, _), (0, _)]) dX9_planned_148 (by decide) rfl ?_
                      refine PJ.conv rfl rfl (show _ = (mm g ad μ (uq (stepP n nl nb q nw 1 p) 0 (sF (uq (rainF n nl nb q nw 1 p) r (nI 0, nI 0, (plansF n nl nb q nw 1 wm (s_saves (s0 σ)) p).2.2.2)).2.2 7 ((uq (rainF n nl nb q nw 1 p) r (nI 0, nI 0, (plansF n nl nb q nw 1 wm (s_saves (s0 σ)) p).2.2.2)).2.2.2.1 16 r)))) from by rw [uq_0]; first | done | rfl) ?_
                      refine ind_dn (n := 1) (P := fun k => PJ g _ _ _ _ d 0 0 150 [(10, .int (nI k)), (9, .int (nI r)), (8, .int (uq (rainF n nl nb q nw 1 p) r (nI 0, nI 0, (plansF n nl nb q nw 1 wm (s_saves (s0 σ)) p).2.2.2)).2.1), (7, .int (uq (rainF n nl nb q nw 1 p) r (nI 0, nI 0, (plansF n nl nb q nw 1 wm (s_saves (s0 σ)) p).2.2.2)).1), (6, .int (nI p)), (5, .int (plansF n nl nb q nw 1 wm (s_saves (s0 σ)) p).2.2.1), (4, .int (plansF n nl nb q nw 1 wm (s_saves (s0 σ)) p).2.1), (3, .int (plansF n nl nb q nw 1 wm (s_saves (s0 σ)) p).1), (2, .int w9), (1, .int (nI 1)), (0, .ref (ad 0))] [] (mm g ad μ (uq (stepP n nl nb q nw 1 p) k (sF (uq (rainF n nl nb q nw 1 p) r (nI 0, nI 0, (plansF n nl nb q nw 1 wm (s_saves (s0 σ)) p).2.2.2)).2.2 7 ((uq (rainF n nl nb q nw 1 p) r (nI 0, nI 0, (plansF n nl nb q nw 1 wm (s_saves (s0 σ)) p).2.2.2)).2.2.2.1 16 r)))) _) (fun k hk ih => ?_) 0 (Nat.zero_le _)
                      refine pl_iload (pc := 150) dX9_planned_150 rfl ?_
                      refine pl_iload_n (pc := 152) dX9_planned_152 rfl rfl ?_
                      refine pl_icmp_ge (pc := 153) (tgt := 213) dX9_planned_153 (by decide) (by omega) (by omega) (fun c153 => ?_) (fun c153 => ?_)
                      · have e12 : 1 = k := by omega
                        subst e12
                        refine pl_iload (pc := 213) dX9_planned_213 rfl ?_
                        refine pl_if_eqN (pc := 215) (tgt := 231) dX9_planned_215 (by decide) (by omega) (fun c215 => ?_) (fun c215 => ?_)
                        · refine pl_aload_n (pc := 231) dX9_planned_231 rfl rfl ?_
                          refine pj_getf (pc := 232) ckX9 1 q2517 dX9_planned_232 (by decide) (mm_o hA) rfl ?_
                          refine pl_sipush (pc := 235) (v := 2122) dX9_planned_235 (by rfl) ?_
                          refine pl_iald (pc := 238) (n := 2132) dX9_planned_238 (mm_a hA 1 (by decide) (by decide)) (by omega) (by decide) ?_
                          refine pj_goto (pc := 239) (tgt := 244) dX9_planned_239 (by decide) ?_
                          refine pj_istore (pc := 244) (lv' := [(7, _), (10, _), (9, _), (8, _), (6, _), (5, _), (4, _), (3, _), (2, _), (1, _), (0, _)]) dX9_planned_244 (by decide) rfl ?_
                          refine pl_iload (pc := 246) dX9_planned_246 rfl ?_
                          refine pl_if_eqN (pc := 248) (tgt := 260) dX9_planned_248 (by decide) (by omega) (fun c248 => ?_) (fun c248 => ?_)
                          · refine pl_aload_n (pc := 260) dX9_planned_260 rfl rfl ?_
                            refine pl_callVd (pc := 261) (As := []) (C2 := 0) (N2 := 0) ckX9 mdX9_farms rfl q2948 q2950 qs96 q154 dX9_planned_261 rfl rfl (Nat.le_of_ble_eq_true rfl) (mm_o hA) (w_X9_farms (d := d - 1) (by omega) hA) (by omega) (by decide) (by decide) ?_
                            refine pj_goto (pc := 264) (tgt := 269) dX9_planned_264 (by decide) ?_
                            refine pj_istore (pc := 269) (lv' := [(8, _), (7, _), (10, _), (9, _), (6, _), (5, _), (4, _), (3, _), (2, _), (1, _), (0, _)]) dX9_planned_269 (by decide) rfl ?_
                            refine pl_aload_n (pc := 271) dX9_planned_271 rfl rfl ?_
                            refine pl_callVv (pc := 272) (As := []) (C2 := 0) (N2 := 0) ckX9 mdX9_back rfl q2776 q2778 qs70 q154 dX9_planned_272 rfl rfl (Nat.le_of_ble_eq_true rfl) (mm_o hA) (w_X9_back (d := d - 1) (by omega) hA) (by omega) (by decide) (by decide) ?_
                            refine pl_iinc1 (pc := 275) (lv' := [(9, _), (8, _), (7, _), (10, _), (6, _), (5, _), (4, _), (3, _), (2, _), (1, _), (0, _)]) dX9_planned_275 rfl rfl (by decide) rfl ?_
                            refine pj_goto (pc := 278) (tgt := 127) dX9_planned_278 (by decide) ?_
                            refine PJ.sub [0, 1, 2, 4, 5, 6, 7, 8, 9, 10] rfl ?_
                            exact PJ.conv (by rw [uq_s (rainF n nl nb q nw 1 p) r]; first | (simp [rainF, rainB, c153, eq_true c215, eq_true c248]; done) | (simp [rainF, rainB, c153, eq_true c215, eq_true c248]; rfl)) rfl (by rw [uq_s (rainF n nl nb q nw 1 p) r]; first | (simp [rainF, rainB, c153, eq_true c215, eq_true c248]; done) | (simp [rainF, rainB, c153, eq_true c215, eq_true c248]; rfl)) (ihR (by omega))
                          · exact absurd c248 (by omega)
                        · have r0 : ¬ r = 0 := by omega
                          refine pl_aload_n (pc := 218) dX9_planned_218 rfl rfl ?_
                          refine pj_getf (pc := 219) ckX9 1 q2517 dX9_planned_219 (by decide) (mm_o hA) rfl ?_
                          refine pl_sipush (pc := 222) (v := 2122) dX9_planned_222 (by rfl) ?_
                          refine pl_iald (pc := 225) (n := 2132) dX9_planned_225 (mm_a hA 1 (by decide) (by decide)) (by omega) (by decide) ?_
                          refine pl_iload (pc := 226) dX9_planned_226 rfl ?_
                          refine pj_icmp_le (pc := 228) (tgt := 242) dX9_planned_228 (by decide) (fun c228 => ?_) (fun c228 => ?_)
                          · refine pl_iload (pc := 242) dX9_planned_242 rfl ?_
                            refine pj_istore (pc := 244) (lv' := [(7, _), (10, _), (9, _), (8, _), (6, _), (5, _), (4, _), (3, _), (2, _), (1, _), (0, _)]) dX9_planned_244 (by decide) rfl ?_
                            refine pl_iload (pc := 246) dX9_planned_246 rfl ?_
                            refine pl_if_eqN (pc := 248) (tgt := 260) dX9_planned_248 (by decide) (by omega) (fun c248 => ?_) (fun c248 => ?_)
                            · exact absurd c248 (by omega)
                            · refine pl_aload_n (pc := 251) dX9_planned_251 rfl rfl ?_
                              refine pl_callVd (pc := 252) (As := []) (C2 := 0) (N2 := 0) ckX9 mdX9_farms rfl q2948 q2950 qs96 q154 dX9_planned_252 rfl rfl (Nat.le_of_ble_eq_true rfl) (mm_o hA) (w_X9_farms (d := d - 1) (by omega) hA) (by omega) (by decide) (by decide) ?_
                              refine pl_iload (pc := 255) dX9_planned_255 rfl ?_
                              refine pj_icmp_ge (pc := 257) (tgt := 267) dX9_planned_257 (by decide) (fun c257 => ?_) (fun c257 => ?_)
                              · refine pl_iload (pc := 267) dX9_planned_267 rfl ?_
                                refine pj_istore (pc := 269) (lv' := [(8, _), (7, _), (10, _), (9, _), (6, _), (5, _), (4, _), (3, _), (2, _), (1, _), (0, _)]) dX9_planned_269 (by decide) rfl ?_
                                refine pl_aload_n (pc := 271) dX9_planned_271 rfl rfl ?_
                                refine pl_callVv (pc := 272) (As := []) (C2 := 0) (N2 := 0) ckX9 mdX9_back rfl q2776 q2778 qs70 q154 dX9_planned_272 rfl rfl (Nat.le_of_ble_eq_true rfl) (mm_o hA) (w_X9_back (d := d - 1) (by omega) hA) (by omega) (by decide) (by decide) ?_
                                refine pl_iinc1 (pc := 275) (lv' := [(9, _), (8, _), (7, _), (10, _), (6, _), (5, _), (4, _), (3, _), (2, _), (1, _), (0, _)]) dX9_planned_275 rfl rfl (by decide) rfl ?_
                                refine pj_goto (pc := 278) (tgt := 127) dX9_planned_278 (by decide) ?_
                                refine PJ.sub [0, 1, 2, 4, 5, 6, 7, 8, 9, 10] rfl ?_
                                exact PJ.conv (by rw [uq_s (rainF n nl nb q nw 1 p) r]; first | (simp [rainF, rainB, c153, c215, r0, c228, c248, c257]; done) | (simp [rainF, rainB, c153, c215, r0, c228, c248, c257]; rfl)) rfl (by rw [uq_s (rainF n nl nb q nw 1 p) r]; first | (simp [rainF, rainB, c153, c215, r0, c228, c248, c257]; done) | (simp [rainF, rainB, c153, c215, r0, c228, c248, c257]; rfl)) (ihR (by omega))
                              · refine pl_aload_n (pc := 260) dX9_planned_260 rfl rfl ?_
                                refine pl_callVd (pc := 261) (As := []) (C2 := 0) (N2 := 0) ckX9 mdX9_farms rfl q2948 q2950 qs96 q154 dX9_planned_261 rfl rfl (Nat.le_of_ble_eq_true rfl) (mm_o hA) (w_X9_farms (d := d - 1) (by omega) hA) (by omega) (by decide) (by decide) ?_
                                refine pj_goto (pc := 264) (tgt := 269) dX9_planned_264 (by decide) ?_
                                refine pj_istore (pc := 269) (lv' := [(8, _), (7, _), (10, _), (9, _), (6, _), (5, _), (4, _), (3, _), (2, _), (1, _), (0, _)]) dX9_planned_269 (by decide) rfl ?_
                                refine pl_aload_n (pc := 271) dX9_planned_271 rfl rfl ?_
                                refine pl_callVv (pc := 272) (As := []) (C2 := 0) (N2 := 0) ckX9 mdX9_back rfl q2776 q2778 qs70 q154 dX9_planned_272 rfl rfl (Nat.le_of_ble_eq_true rfl) (mm_o hA) (w_X9_back (d := d - 1) (by omega) hA) (by omega) (by decide) (by decide) ?_
                                refine pl_iinc1 (pc := 275) (lv' := [(9, _), (8, _), (7, _), (10, _), (6, _), (5, _), (4, _), (3, _), (2, _), (1, _), (0, _)]) dX9_planned_275 rfl rfl (by decide) rfl ?_
                                refine pj_goto (pc := 278) (tgt := 127) dX9_planned_278 (by decide) ?_
                                refine PJ.sub [0, 1, 2, 4, 5, 6, 7, 8, 9, 10] rfl ?_
                                exact PJ.conv (by rw [uq_s (rainF n nl nb q nw 1 p) r]; first | (simp [rainF, rainB, c153, c215, r0, c228, c248, c257]; done) | (simp [rainF, rainB, c153, c215, r0, c228, c248, c257]; rfl)) rfl (by rw [uq_s (rainF n nl nb q nw 1 p) r]; first | (simp [rainF, rainB, c153, c215, r0, c228, c248, c257]; done) | (simp [rainF, rainB, c153, c215, r0, c228, c248, c257]; rfl)) (ihR (by omega))
                          · refine pl_aload_n (pc := 231) dX9_planned_231 rfl rfl ?_
                            refine pj_getf (pc := 232) ckX9 1 q2517 dX9_planned_232 (by decide) (mm_o hA) rfl ?_
                            refine pl_sipush (pc := 235) (v := 2122) dX9_planned_235 (by rfl) ?_
                            refine pl_iald (pc := 238) (n := 2132) dX9_planned_238 (mm_a hA 1 (by decide) (by decide)) (by omega) (by decide) ?_
                            refine pj_goto (pc := 239) (tgt := 244) dX9_planned_239 (by decide) ?_
                            refine pj_istore (pc := 244) (lv' := [(7, _), (10, _), (9, _), (8, _), (6, _), (5, _), (4, _), (3, _), (2, _), (1, _), (0, _)]) dX9_planned_244 (by decide) rfl ?_
                            refine pl_iload (pc := 246) dX9_planned_246 rfl ?_
                            refine pl_if_eqN (pc := 248) (tgt := 260) dX9_planned_248 (by decide) (by omega) (fun c248 => ?_) (fun c248 => ?_)
                            · exact absurd c248 (by omega)
                            · refine pl_aload_n (pc := 251) dX9_planned_251 rfl rfl ?_
                              refine pl_callVd (pc := 252) (As := []) (C2 := 0) (N2 := 0) ckX9 mdX9_farms rfl q2948 q2950 qs96 q154 dX9_planned_252 rfl rfl (Nat.le_of_ble_eq_true rfl) (mm_o hA) (w_X9_farms (d := d - 1) (by omega) hA) (by omega) (by decide) (by decide) ?_
                              refine pl_iload (pc := 255) dX9_planned_255 rfl ?_
                              refine pj_icmp_ge (pc := 257) (tgt := 267) dX9_planned_257 (by decide) (fun c257 => ?_) (fun c257 => ?_)
                              · refine pl_iload (pc := 267) dX9_planned_267 rfl ?_
                                refine pj_istore (pc := 269) (lv' := [(8, _), (7, _), (10, _), (9, _), (6, _), (5, _), (4, _), (3, _), (2, _), (1, _), (0, _)]) dX9_planned_269 (by decide) rfl ?_
                                refine pl_aload_n (pc := 271) dX9_planned_271 rfl rfl ?_
                                refine pl_callVv (pc := 272) (As := []) (C2 := 0) (N2 := 0) ckX9 mdX9_back rfl q2776 q2778 qs70 q154 dX9_planned_272 rfl rfl (Nat.le_of_ble_eq_true rfl) (mm_o hA) (w_X9_back (d := d - 1) (by omega) hA) (by omega) (by decide) (by decide) ?_
                                refine pl_iinc1 (pc := 275) (lv' := [(9, _), (8, _), (7, _), (10, _), (6, _), (5, _), (4, _), (3, _), (2, _), (1, _), (0, _)]) dX9_planned_275 rfl rfl (by decide) rfl ?_
                                refine pj_goto (pc := 278) (tgt := 127) dX9_planned_278 (by decide) ?_
                                refine PJ.sub [0, 1, 2, 4, 5, 6, 7, 8, 9, 10] rfl ?_
                                exact PJ.conv (by rw [uq_s (rainF n nl nb q nw 1 p) r]; first | (simp [rainF, rainB, c153, c215, r0, c228, c248, c257]; done) | (simp [rainF, rainB, c153, c215, r0, c228, c248, c257]; rfl)) rfl (by rw [uq_s (rainF n nl nb q nw 1 p) r]; first | (simp [rainF, rainB, c153, c215, r0, c228, c248, c257]; done) | (simp [rainF, rainB, c153, c215, r0, c228, c248, c257]; rfl)) (ihR (by omega))
                              · refine pl_aload_n (pc := 260) dX9_planned_260 rfl rfl ?_
                                refine pl_callVd (pc := 261) (As := []) (C2 := 0) (N2 := 0) ckX9 mdX9_farms rfl q2948 q2950 qs96 q154 dX9_planned_261 rfl rfl (Nat.le_of_ble_eq_true rfl) (mm_o hA) (w_X9_farms (d := d - 1) (by omega) hA) (by omega) (by decide) (by decide) ?_
                                refine pj_goto (pc := 264) (tgt := 269) dX9_planned_264 (by decide) ?_
                                refine pj_istore (pc := 269) (lv' := [(8, _), (7, _), (10, _), (9, _), (6, _), (5, _), (4, _), (3, _), (2, _), (1, _), (0, _)]) dX9_planned_269 (by decide) rfl ?_
                                refine pl_aload_n (pc := 271) dX9_planned_271 rfl rfl ?_
                                refine pl_callVv (pc := 272) (As := []) (C2 := 0) (N2 := 0) ckX9 mdX9_back rfl q2776 q2778 qs70 q154 dX9_planned_272 rfl rfl (Nat.le_of_ble_eq_true rfl) (mm_o hA) (w_X9_back (d := d - 1) (by omega) hA) (by omega) (by decide) (by decide) ?_
                                refine pl_iinc1 (pc := 275) (lv' := [(9, _), (8, _), (7, _), (10, _), (6, _), (5, _), (4, _), (3, _), (2, _), (1, _), (0, _)]) dX9_planned_275 rfl rfl (by decide) rfl ?_
                                refine pj_goto (pc := 278) (tgt := 127) dX9_planned_278 (by decide) ?_
                                refine PJ.sub [0, 1, 2, 4, 5, 6, 7, 8, 9, 10] rfl ?_
                                exact PJ.conv (by rw [uq_s (rainF n nl nb q nw 1 p) r]; first | (simp [rainF, rainB, c153, c215, r0, c228, c248, c257]; done) | (simp [rainF, rainB, c153, c215, r0, c228, c248, c257]; rfl)) rfl (by rw [uq_s (rainF n nl nb q nw 1 p) r]; first | (simp [rainF, rainB, c153, c215, r0, c228, c248, c257]; done) | (simp [rainF, rainB, c153, c215, r0, c228, c248, c257]; rfl)) (ihR (by omega))
                      · have ihK := ih
                        have hvK : PlI (s_saves (s0 σ)) n nl nb q nor nw (nw + 13 * k) (uq (stepP n nl nb q nw 1 p) k (sF (uq (rainF n nl nb q nw 1 p) r (nI 0, nI 0, (plansF n nl nb q nw 1 wm (s_saves (s0 σ)) p).2.2.2)).2.2 7 ((uq (rainF n nl nb q nw 1 p) r (nI 0, nI 0, (plansF n nl nb q nw 1 wm (s_saves (s0 σ)) p).2.2.2)).2.2.2.1 16 r))) := steps_iv hst ⟨hvX.1.f0, hvX.2.F (Or.inl rfl)⟩ k (by omega)
                        refine pl_aload_n (pc := 156) dX9_planned_156 rfl rfl ?_
                        refine pl_aload_n (pc := 157) dX9_planned_157 rfl rfl ?_
                        refine pj_getf (pc := 158) ckX9 26 q2542 dX9_planned_158 (by decide) (mm_o hA) rfl ?_
                        refine pl_iload_n (pc := 161) dX9_planned_161 rfl rfl ?_
                        refine pl_iconst (pc := 162) (v := 1) dX9_planned_162 (by rfl) ?_
                        refine pj_icmp_eq (pc := 163) (tgt := 172) dX9_planned_163 (by decide) (fun _ => ?_) (fun h => absurd h (by decide))
                        refine pl_iload (pc := 172) dX9_planned_172 rfl ?_
                        refine pl_iconst (pc := 174) (v := 3) dX9_planned_174 (by rfl) ?_
                        refine pl_irem (pc := 175) dX9_planned_175 (by omega) (by decide) (by decide) ?_
                        refine pj_goto (pc := 176) (tgt := 183) dX9_planned_176 (by decide) ?_
                        refine pl_iald (pc := 183) (n := 3) dX9_planned_183 (mm_a hA 15 (by decide) (by decide)) (by omega) (by decide) ?_
                        refine pm_putI (pc := 184) 23 hA q2539 dX9_planned_184 (by decide) rfl (by rfl) (by rfl) rfl ?_
                        refine pl_iconst (pc := 187) (v := 0) dX9_planned_187 (by rfl) ?_
                        refine pj_istore (pc := 188) (lv' := [(11, _), (10, _), (9, _), (8, _), (7, _), (6, _), (5, _), (4, _), (3, _), (2, _), (1, _), (0, _)]) dX9_planned_188 (by decide) rfl ?_
                        refine PJ.conv rfl rfl (show _ = (mm g ad μ (s_weeks n nl nb q (nw + 13 * k) 0 (sF (uq (stepP n nl nb q nw 1 p) k (sF (uq (rainF n nl nb q nw 1 p) r (nI 0, nI 0, (plansF n nl nb q nw 1 wm (s_saves (s0 σ)) p).2.2.2)).2.2 7 ((uq (rainF n nl nb q nw 1 p) r (nI 0, nI 0, (plansF n nl nb q nw 1 wm (s_saves (s0 σ)) p).2.2.2)).2.2.2.1 16 r))) 23 ((uq (stepP n nl nb q nw 1 p) k (sF (uq (rainF n nl nb q nw 1 p) r (nI 0, nI 0, (plansF n nl nb q nw 1 wm (s_saves (s0 σ)) p).2.2.2)).2.2 7 ((uq (rainF n nl nb q nw 1 p) r (nI 0, nI 0, (plansF n nl nb q nw 1 wm (s_saves (s0 σ)) p).2.2.2)).2.2.2.1 16 r))).2.1 15 (plIx 1 p k))))) from by rw [s_weeks, uq_0]; simp [plIx, g_t]) ?_
                        refine ind_dn (n := 13) (P := fun w => PJ g _ _ _ _ d 0 0 190 [(11, .int (nI w)), (10, .int (nI k)), (9, .int (nI r)), (8, .int (uq (rainF n nl nb q nw 1 p) r (nI 0, nI 0, (plansF n nl nb q nw 1 wm (s_saves (s0 σ)) p).2.2.2)).2.1), (7, .int (uq (rainF n nl nb q nw 1 p) r (nI 0, nI 0, (plansF n nl nb q nw 1 wm (s_saves (s0 σ)) p).2.2.2)).1), (6, .int (nI p)), (5, .int (plansF n nl nb q nw 1 wm (s_saves (s0 σ)) p).2.2.1), (4, .int (plansF n nl nb q nw 1 wm (s_saves (s0 σ)) p).2.1), (3, .int (plansF n nl nb q nw 1 wm (s_saves (s0 σ)) p).1), (2, .int w9), (1, .int (nI 1)), (0, .ref (ad 0))] [] (mm g ad μ (s_weeks n nl nb q (nw + 13 * k) w (sF (uq (stepP n nl nb q nw 1 p) k (sF (uq (rainF n nl nb q nw 1 p) r (nI 0, nI 0, (plansF n nl nb q nw 1 wm (s_saves (s0 σ)) p).2.2.2)).2.2 7 ((uq (rainF n nl nb q nw 1 p) r (nI 0, nI 0, (plansF n nl nb q nw 1 wm (s_saves (s0 σ)) p).2.2.2)).2.2.2.1 16 r))) 23 ((uq (stepP n nl nb q nw 1 p) k (sF (uq (rainF n nl nb q nw 1 p) r (nI 0, nI 0, (plansF n nl nb q nw 1 wm (s_saves (s0 σ)) p).2.2.2)).2.2 7 ((uq (rainF n nl nb q nw 1 p) r (nI 0, nI 0, (plansF n nl nb q nw 1 wm (s_saves (s0 σ)) p).2.2.2)).2.2.2.1 16 r))).2.1 15 (plIx 1 p k))))) _) (fun w hw ih => ?_) 0 (Nat.zero_le _)
                        refine pl_iload (pc := 190) dX9_planned_190 rfl ?_
                        refine pl_bipush (pc := 192) (v := 13) dX9_planned_192 (by rfl) ?_
                        refine pl_icmp_ge (pc := 194) (tgt := 207) dX9_planned_194 (by decide) (by omega) (by omega) (fun c194 => ?_) (fun c194 => ?_)
                        · have e13 : 13 = w := by omega
                          subst e13
                          refine pl_iinc1 (pc := 207) (lv' := [(10, _), (11, _), (9, _), (8, _), (7, _), (6, _), (5, _), (4, _), (3, _), (2, _), (1, _), (0, _)]) dX9_planned_207 rfl rfl (by decide) rfl ?_
                          refine pj_goto (pc := 210) (tgt := 150) dX9_planned_210 (by decide) ?_
                          refine PJ.sub [0, 2, 3, 4, 5, 6, 7, 8, 9, 10, 11] rfl ?_
                          exact PJ.conv rfl rfl (by rw [uq_s (stepP n nl nb q nw 1 p) k]; rfl) (ihK (by omega))
                        · have hvW : IvG (s_weeks n nl nb q (nw + 13 * k) w (sF (uq (stepP n nl nb q nw 1 p) k (sF (uq (rainF n nl nb q nw 1 p) r (nI 0, nI 0, (plansF n nl nb q nw 1 wm (s_saves (s0 σ)) p).2.2.2)).2.2 7 ((uq (rainF n nl nb q nw 1 p) r (nI 0, nI 0, (plansF n nl nb q nw 1 wm (s_saves (s0 σ)) p).2.2.2)).2.2.2.1 16 r))) 23 ((uq (stepP n nl nb q nw 1 p) k (sF (uq (rainF n nl nb q nw 1 p) r (nI 0, nI 0, (plansF n nl nb q nw 1 wm (s_saves (s0 σ)) p).2.2.2)).2.2 7 ((uq (rainF n nl nb q nw 1 p) r (nI 0, nI 0, (plansF n nl nb q nw 1 wm (s_saves (s0 σ)) p).2.2.2)).2.2.2.1 16 r))).2.1 15 (plIx 1 p k)))) n nl nb q nor (nw + 13 * k + w) := weeks_iv (m := 13) hvK.1.f0 (by omega) w (by omega)
                          refine pl_aload_n (pc := 197) dX9_planned_197 rfl rfl ?_
                          refine pl_callVv (pc := 198) (As := []) (C2 := 0) (N2 := 0) ckX9 mdX9_goes rfl q3095 q3097 qs111 q154 dX9_planned_198 rfl rfl (Nat.le_of_ble_eq_true rfl) (mm_o hA) (w_X9_goes (d := d - 1) (by omega) hA hvW (by omega)) (by omega) (by decide) (by decide) ?_
                          refine pl_iinc1 (pc := 201) (lv' := [(11, _), (10, _), (9, _), (8, _), (7, _), (6, _), (5, _), (4, _), (3, _), (2, _), (1, _), (0, _)]) dX9_planned_201 rfl rfl (by decide) rfl ?_
                          refine pj_goto (pc := 204) (tgt := 190) dX9_planned_204 (by decide) ?_
                          exact PJ.conv rfl rfl (congrArg (mm g ad μ) (show _ = s_weeks n nl nb q (nw + 13 * k) (w + 1) _ by unfold s_weeks; rw [uq_s _ w])) (ih (by omega))
                · have g_t := tN_nI (n := 2) (by decide)
                  refine pj_iconst (pc := 87) (v := (-1)) dX9_planned_87 (by rfl) ?_
                  refine pj_istore_n (pc := 88) (lv' := [(3, _), (0, _), (1, _), (2, _)]) dX9_planned_88 rfl (by decide) rfl ?_
                  refine pl_iconst (pc := 89) (v := 0) dX9_planned_89 (by rfl) ?_
                  refine pj_istore (pc := 90) (lv' := [(4, _), (3, _), (0, _), (1, _), (2, _)]) dX9_planned_90 (by decide) rfl ?_
                  refine pl_iconst (pc := 92) (v := 0) dX9_planned_92 (by rfl) ?_
                  refine pj_istore (pc := 93) (lv' := [(5, _), (4, _), (3, _), (0, _), (1, _), (2, _)]) dX9_planned_93 (by decide) rfl ?_
                  refine pl_aload_n (pc := 95) dX9_planned_95 rfl rfl ?_
                  refine pl_callVv (pc := 96) (As := []) (C2 := 0) (N2 := 0) ckX9 mdX9_saves rfl q2745 q2747 qs63 q154 dX9_planned_96 rfl rfl (Nat.le_of_ble_eq_true rfl) (mm_o hA) (w_X9_saves (d := d - 1) (by omega) hA) (by omega) (by decide) (by decide) ?_
                  refine pl_iconst (pc := 99) (v := 0) dX9_planned_99 (by rfl) ?_
                  refine pj_istore (pc := 100) (lv' := [(6, _), (5, _), (4, _), (3, _), (0, _), (1, _), (2, _)]) dX9_planned_100 (by decide) rfl ?_
                  refine PJ.sub [0, 1, 2, 3, 6, 5, 4] rfl ?_
                  refine PJ.conv (show _ = [(6, .int (nI 0)), (5, .int (plansF n nl nb q nw 2 wm (s_saves (s0 σ)) 0).2.2.1), (4, .int (plansF n nl nb q nw 2 wm (s_saves (s0 σ)) 0).2.1), (3, .int (plansF n nl nb q nw 2 wm (s_saves (s0 σ)) 0).1), (2, .int w9), (1, .int (nI 2)), (0, .ref (ad 0))] from by rw [plansF, uq_0]; first | done | rfl) rfl (show _ = (mm g ad μ (plansF n nl nb q nw 2 wm (s_saves (s0 σ)) 0).2.2.2) from by rw [plansF, uq_0]; first | done | rfl) ?_
                  refine ind_dn (n := 9) (P := fun p => PJ g _ _ _ _ d 0 0 102 [(6, .int (nI p)), (5, .int (plansF n nl nb q nw 2 wm (s_saves (s0 σ)) p).2.2.1), (4, .int (plansF n nl nb q nw 2 wm (s_saves (s0 σ)) p).2.1), (3, .int (plansF n nl nb q nw 2 wm (s_saves (s0 σ)) p).1), (2, .int w9), (1, .int (nI 2)), (0, .ref (ad 0))] [] (mm g ad μ (plansF n nl nb q nw 2 wm (s_saves (s0 σ)) p).2.2.2) _) (fun p hp ih => ?_) 0 (Nat.zero_le _)
                  refine pl_iload (pc := 102) dX9_planned_102 rfl ?_
                  refine pl_iload_n (pc := 104) dX9_planned_104 rfl rfl ?_
                  refine pl_iconst (pc := 105) (v := 1) dX9_planned_105 (by rfl) ?_
                  refine pj_icmp_ne (pc := 106) (tgt := 113) dX9_planned_106 (by decide) (fun _ => ?_) (fun h => absurd h (by decide))
                  refine pl_bipush (pc := 113) (v := 9) dX9_planned_113 (by rfl) ?_
                  refine pl_icmp_ge (pc := 115) (tgt := 326) dX9_planned_115 (by decide) (by omega) (by omega) (fun c115 => ?_) (fun c115 => ?_)
                  · have e10 : 9 = p := by omega
                    subst e10
                    refine pl_aload_n (pc := 326) dX9_planned_326 rfl rfl ?_
                    refine pl_iconst (pc := 327) (v := 0) dX9_planned_327 (by rfl) ?_
                    refine pm_putI (pc := 328) 23 hA q2539 dX9_planned_328 (by decide) rfl (by rfl) (by rfl) rfl ?_
                    refine pl_aload_n (pc := 331) dX9_planned_331 rfl rfl ?_
                    refine pj_iconst (pc := 332) (v := (-1)) dX9_planned_332 (by rfl) ?_
                    refine pm_putI (pc := 333) 7 hA q2523 dX9_planned_333 (by decide) rfl (by rfl) (by rfl) rfl ?_
                    refine pl_iload_n (pc := 336) dX9_planned_336 rfl rfl ?_
                    refine pl_iconst (pc := 337) (v := 1) dX9_planned_337 (by rfl) ?_
                    refine pj_icmp_ne (pc := 338) (tgt := 345) dX9_planned_338 (by decide) (fun _ => ?_) (fun h => absurd h (by decide))
                    refine pl_iload_n (pc := 345) dX9_planned_345 rfl rfl ?_
                    refine pl_iconst (pc := 346) (v := 3) dX9_planned_346 (by rfl) ?_
                    refine pj_idiv (pc := 347) dX9_planned_347 (by decide) ?_
                    refine pj_istore (pc := 348) (lv' := [(6, _), (5, _), (4, _), (3, _), (2, _), (1, _), (0, _)]) dX9_planned_348 (by decide) rfl ?_
                    refine pl_iload_n (pc := 350) dX9_planned_350 rfl rfl ?_
                    refine pj_if_ne (pc := 351) (tgt := 359) dX9_planned_351 (by decide) (fun c351 => ?_) (fun c351 => ?_)
                    · refine pl_iload_n (pc := 359) dX9_planned_359 rfl rfl ?_
                      refine pl_iconst (pc := 360) (v := 1) dX9_planned_360 (by rfl) ?_
                      refine pj_icmp_ne (pc := 361) (tgt := 379) dX9_planned_361 (by decide) (fun c361 => ?_) (fun c361 => ?_)
                      · refine pl_iload_n (pc := 379) dX9_planned_379 rfl rfl ?_
                        refine pl_iconst (pc := 380) (v := 2) dX9_planned_380 (by rfl) ?_
                        refine pj_icmp_ne (pc := 381) (tgt := 389) dX9_planned_381 (by decide) (fun c381 => ?_) (fun c381 => ?_)
                        · refine pl_iload (pc := 389) dX9_planned_389 rfl ?_
                          refine pj_iret (pc := 391) dX9_planned_391 rfl ?_
                          exact ⟨vIe (by simp [p_planned, planEnd, c8, c13, c17, c22, c54, c75, c82, w0, g_t, c115, c351, c361, c381]) rfl, congrArg (mm g ad μ) (by simp [p_planned, planEnd, c8, c13, c17, c22, c54, c75, c82, w0, g_t, c115, c351, c361, c381])⟩
                        · refine pl_iload (pc := 384) dX9_planned_384 rfl ?_
                          refine pj_goto (pc := 386) (tgt := 391) dX9_planned_386 (by decide) ?_
                          refine pj_iret (pc := 391) dX9_planned_391 rfl ?_
                          exact ⟨vIe (by simp [p_planned, planEnd, c8, c13, c17, c22, c54, c75, c82, w0, g_t, c115, c351, c361, eq_true c381]) rfl, congrArg (mm g ad μ) (by simp [p_planned, planEnd, c8, c13, c17, c22, c54, c75, c82, w0, g_t, c115, c351, c361, eq_true c381])⟩
                      · refine pl_iload_n (pc := 364) dX9_planned_364 rfl rfl ?_
                        refine pl_iconst (pc := 365) (v := 1) dX9_planned_365 (by rfl) ?_
                        refine pj_icmp_ne (pc := 366) (tgt := 373) dX9_planned_366 (by decide) (fun _ => ?_) (fun h => absurd h (by decide))
                        refine pl_iload_n (pc := 373) dX9_planned_373 rfl rfl ?_
                        refine pl_iconst (pc := 374) (v := 3) dX9_planned_374 (by rfl) ?_
                        refine pj_irem (pc := 375) dX9_planned_375 (by decide) ?_
                        refine pj_goto (pc := 376) (tgt := 391) dX9_planned_376 (by decide) ?_
                        refine pj_iret (pc := 391) dX9_planned_391 rfl ?_
                        exact ⟨vIe (by simp [p_planned, planEnd, c8, c13, c17, c22, c54, c75, c82, w0, g_t, c115, c351, eq_true c361]) rfl, congrArg (mm g ad μ) (by simp [p_planned, planEnd, c8, c13, c17, c22, c54, c75, c82, w0, g_t, c115, c351, eq_true c361])⟩
                    · refine pl_iload (pc := 354) dX9_planned_354 rfl ?_
                      refine pj_goto (pc := 356) (tgt := 391) dX9_planned_356 (by decide) ?_
                      refine pj_iret (pc := 391) dX9_planned_391 rfl ?_
                      exact ⟨vIe (by simp [p_planned, planEnd, c8, c13, c17, c22, c54, c75, c82, w0, g_t, c115, eq_true c351]) rfl, congrArg (mm g ad μ) (by simp [p_planned, planEnd, c8, c13, c17, c22, c54, c75, c82, w0, g_t, c115, eq_true c351])⟩
                  · have ihP := ih
                    have hvY : PlI (s_saves (s0 σ)) n nl nb q nor nw nw (plansF n nl nb q nw 2 wm (s_saves (s0 σ)) p).2.2.2 := plansF_iv iv1 hs1 hst p
                    refine pl_iconst (pc := 118) (v := 0) dX9_planned_118 (by rfl) ?_
                    refine pj_istore (pc := 119) (lv' := [(7, _), (6, _), (5, _), (4, _), (3, _), (2, _), (1, _), (0, _)]) dX9_planned_119 (by decide) rfl ?_
                    refine pl_iconst (pc := 121) (v := 0) dX9_planned_121 (by rfl) ?_
                    refine pj_istore (pc := 122) (lv' := [(8, _), (7, _), (6, _), (5, _), (4, _), (3, _), (2, _), (1, _), (0, _)]) dX9_planned_122 (by decide) rfl ?_
                    refine pl_iconst (pc := 124) (v := 0) dX9_planned_124 (by rfl) ?_
                    refine pj_istore (pc := 125) (lv' := [(9, _), (8, _), (7, _), (6, _), (5, _), (4, _), (3, _), (2, _), (1, _), (0, _)]) dX9_planned_125 (by decide) rfl ?_
                    refine PJ.conv (show _ = [(9, .int (nI 0)), (8, .int (uq (rainF n nl nb q nw 2 p) 0 (nI 0, nI 0, (plansF n nl nb q nw 2 wm (s_saves (s0 σ)) p).2.2.2)).2.1), (7, .int (uq (rainF n nl nb q nw 2 p) 0 (nI 0, nI 0, (plansF n nl nb q nw 2 wm (s_saves (s0 σ)) p).2.2.2)).1), (6, .int (nI p)), (5, .int (plansF n nl nb q nw 2 wm (s_saves (s0 σ)) p).2.2.1), (4, .int (plansF n nl nb q nw 2 wm (s_saves (s0 σ)) p).2.1), (3, .int (plansF n nl nb q nw 2 wm (s_saves (s0 σ)) p).1), (2, .int w9), (1, .int (nI 2)), (0, .ref (ad 0))] from by rw [uq_0]; first | done | rfl) rfl (show _ = (mm g ad μ (uq (rainF n nl nb q nw 2 p) 0 (nI 0, nI 0, (plansF n nl nb q nw 2 wm (s_saves (s0 σ)) p).2.2.2)).2.2) from by rw [uq_0]; first | done | rfl) ?_
                    refine ind_dn (n := wm) (P := fun r => PJ g _ _ _ _ d 0 0 127 [(9, .int (nI r)), (8, .int (uq (rainF n nl nb q nw 2 p) r (nI 0, nI 0, (plansF n nl nb q nw 2 wm (s_saves (s0 σ)) p).2.2.2)).2.1), (7, .int (uq (rainF n nl nb q nw 2 p) r (nI 0, nI 0, (plansF n nl nb q nw 2 wm (s_saves (s0 σ)) p).2.2.2)).1), (6, .int (nI p)), (5, .int (plansF n nl nb q nw 2 wm (s_saves (s0 σ)) p).2.2.1), (4, .int (plansF n nl nb q nw 2 wm (s_saves (s0 σ)) p).2.1), (3, .int (plansF n nl nb q nw 2 wm (s_saves (s0 σ)) p).1), (2, .int w9), (1, .int (nI 2)), (0, .ref (ad 0))] [] (mm g ad μ (uq (rainF n nl nb q nw 2 p) r (nI 0, nI 0, (plansF n nl nb q nw 2 wm (s_saves (s0 σ)) p).2.2.2)).2.2) _) (fun r hr ih => ?_) 0 (Nat.zero_le _)
                    refine pl_iload (pc := 127) dX9_planned_127 rfl ?_
                    refine pl_aload_n (pc := 129) dX9_planned_129 rfl rfl ?_
                    refine pj_getf (pc := 130) ckX9 29 q2545 dX9_planned_130 (by decide) (mm_o hA) rfl ?_
                    have ihR := ih
                    have hvX : PlI (s_saves (s0 σ)) n nl nb q nor nw nw (uq (rainF n nl nb q nw 2 p) r (nI 0, nI 0, (plansF n nl nb q nw 2 wm (s_saves (s0 σ)) p).2.2.2)).2.2 := rainsF_iv iv1 hs1 hst hvY r
                    refine PJ.top (y := nI wm) ((hvX.2.1 29 (by decide) (by decide) (by decide)).trans hwm) ?_
                    refine pl_icmp_ge (pc := 133) (tgt := 281) dX9_planned_133 (by decide) (by omega) (by omega) (fun c133 => ?_) (fun c133 => ?_)
                    · have e11 : wm = r := by omega
                      subst e11
                      refine pl_iload_n (pc := 281) dX9_planned_281 rfl rfl ?_
                      refine pj_if_lt (pc := 282) (tgt := 309) dX9_planned_282 (by decide) (fun c282 => ?_) (fun c282 => ?_)
                      · refine pl_iload (pc := 309) dX9_planned_309 rfl ?_
                        refine pj_istore_n (pc := 311) (lv' := [(3, _), (9, _), (8, _), (7, _), (6, _), (5, _), (4, _), (2, _), (1, _), (0, _)]) dX9_planned_311 rfl (by decide) rfl ?_
                        refine pl_iload (pc := 312) dX9_planned_312 rfl ?_
                        refine pj_istore (pc := 314) (lv' := [(4, _), (3, _), (9, _), (8, _), (7, _), (6, _), (5, _), (2, _), (1, _), (0, _)]) dX9_planned_314 (by decide) rfl ?_
                        refine pl_iload (pc := 316) dX9_planned_316 rfl ?_
                        refine pj_istore (pc := 318) (lv' := [(5, _), (4, _), (3, _), (9, _), (8, _), (7, _), (6, _), (2, _), (1, _), (0, _)]) dX9_planned_318 (by decide) rfl ?_
                        refine pl_iinc1 (pc := 320) (lv' := [(6, _), (5, _), (4, _), (3, _), (9, _), (8, _), (7, _), (2, _), (1, _), (0, _)]) dX9_planned_320 rfl rfl (by decide) rfl ?_
                        refine pj_goto (pc := 323) (tgt := 102) dX9_planned_323 (by decide) ?_
                        refine PJ.sub [0, 1, 2, 3, 7, 8, 9] rfl ?_
                        exact PJ.conv (by rw [plansF_s]; first | (simp [planF, rainsF, c133, c282]; done) | (simp [planF, rainsF, c133, c282]; rfl)) rfl (by rw [plansF_s]; first | (simp [planF, rainsF, c133, c282]; done) | (simp [planF, rainsF, c133, c282]; rfl)) (ihP (by omega))
                      · refine pl_iload (pc := 285) dX9_planned_285 rfl ?_
                        refine pl_iload (pc := 287) dX9_planned_287 rfl ?_
                        refine pj_icmp_gt (pc := 289) (tgt := 320) dX9_planned_289 (by decide) (fun c289 => ?_) (fun c289 => ?_)
                        · refine pl_iinc1 (pc := 320) (lv' := [(6, _), (9, _), (8, _), (7, _), (5, _), (4, _), (3, _), (2, _), (1, _), (0, _)]) dX9_planned_320 rfl rfl (by decide) rfl ?_
                          refine pj_goto (pc := 323) (tgt := 102) dX9_planned_323 (by decide) ?_
                          refine PJ.sub [0, 4, 5, 6, 7, 8, 9] rfl ?_
                          exact PJ.conv (by rw [plansF_s]; first | (simp [planF, rainsF, c133, c282, c289]; done) | (simp [planF, rainsF, c133, c282, c289]; rfl)) rfl (by rw [plansF_s]; first | (simp [planF, rainsF, c133, c282, c289]; done) | (simp [planF, rainsF, c133, c282, c289]; rfl)) (ihP (by omega))
                        · refine pl_iload (pc := 292) dX9_planned_292 rfl ?_
                          refine pl_iload (pc := 294) dX9_planned_294 rfl ?_
                          refine pj_icmp_ne (pc := 296) (tgt := 309) dX9_planned_296 (by decide) (fun c296 => ?_) (fun c296 => ?_)
                          · refine pl_iload (pc := 309) dX9_planned_309 rfl ?_
                            refine pj_istore_n (pc := 311) (lv' := [(3, _), (9, _), (8, _), (7, _), (6, _), (5, _), (4, _), (2, _), (1, _), (0, _)]) dX9_planned_311 rfl (by decide) rfl ?_
                            refine pl_iload (pc := 312) dX9_planned_312 rfl ?_
                            refine pj_istore (pc := 314) (lv' := [(4, _), (3, _), (9, _), (8, _), (7, _), (6, _), (5, _), (2, _), (1, _), (0, _)]) dX9_planned_314 (by decide) rfl ?_
                            refine pl_iload (pc := 316) dX9_planned_316 rfl ?_
                            refine pj_istore (pc := 318) (lv' := [(5, _), (4, _), (3, _), (9, _), (8, _), (7, _), (6, _), (2, _), (1, _), (0, _)]) dX9_planned_318 (by decide) rfl ?_
                            refine pl_iinc1 (pc := 320) (lv' := [(6, _), (5, _), (4, _), (3, _), (9, _), (8, _), (7, _), (2, _), (1, _), (0, _)]) dX9_planned_320 rfl rfl (by decide) rfl ?_
                            refine pj_goto (pc := 323) (tgt := 102) dX9_planned_323 (by decide) ?_
                            refine PJ.sub [0, 1, 2, 3, 7, 8, 9] rfl ?_
                            exact PJ.conv (by rw [plansF_s]; first | (simp [planF, rainsF, c133, c282, c289, c296]; done) | (simp [planF, rainsF, c133, c282, c289, c296]; rfl)) rfl (by rw [plansF_s]; first | (simp [planF, rainsF, c133, c282, c289, c296]; done) | (simp [planF, rainsF, c133, c282, c289, c296]; rfl)) (ihP (by omega))
                          · refine pl_iload (pc := 299) dX9_planned_299 rfl ?_
                            refine pl_iload (pc := 301) dX9_planned_301 rfl ?_
                            refine pj_icmp_gt (pc := 303) (tgt := 309) dX9_planned_303 (by decide) (fun c303 => ?_) (fun c303 => ?_)
                            · refine pl_iload (pc := 309) dX9_planned_309 rfl ?_
                              refine pj_istore_n (pc := 311) (lv' := [(3, _), (9, _), (8, _), (7, _), (6, _), (5, _), (4, _), (2, _), (1, _), (0, _)]) dX9_planned_311 rfl (by decide) rfl ?_
                              refine pl_iload (pc := 312) dX9_planned_312 rfl ?_
                              refine pj_istore (pc := 314) (lv' := [(4, _), (3, _), (9, _), (8, _), (7, _), (6, _), (5, _), (2, _), (1, _), (0, _)]) dX9_planned_314 (by decide) rfl ?_
                              refine pl_iload (pc := 316) dX9_planned_316 rfl ?_
                              refine pj_istore (pc := 318) (lv' := [(5, _), (4, _), (3, _), (9, _), (8, _), (7, _), (6, _), (2, _), (1, _), (0, _)]) dX9_planned_318 (by decide) rfl ?_
                              refine pl_iinc1 (pc := 320) (lv' := [(6, _), (5, _), (4, _), (3, _), (9, _), (8, _), (7, _), (2, _), (1, _), (0, _)]) dX9_planned_320 rfl rfl (by decide) rfl ?_
                              refine pj_goto (pc := 323) (tgt := 102) dX9_planned_323 (by decide) ?_
                              refine PJ.sub [0, 1, 2, 3, 7, 8, 9] rfl ?_
                              exact PJ.conv (by rw [plansF_s]; first | (simp [planF, rainsF, c133, c282, c289, eq_true c296, c303]; done) | (simp [planF, rainsF, c133, c282, c289, eq_true c296, c303]; rfl)) rfl (by rw [plansF_s]; first | (simp [planF, rainsF, c133, c282, c289, eq_true c296, c303]; done) | (simp [planF, rainsF, c133, c282, c289, eq_true c296, c303]; rfl)) (ihP (by omega))
                            · refine pj_goto (pc := 306) (tgt := 320) dX9_planned_306 (by decide) ?_
                              refine pl_iinc1 (pc := 320) (lv' := [(6, _), (9, _), (8, _), (7, _), (5, _), (4, _), (3, _), (2, _), (1, _), (0, _)]) dX9_planned_320 rfl rfl (by decide) rfl ?_
                              refine pj_goto (pc := 323) (tgt := 102) dX9_planned_323 (by decide) ?_
                              refine PJ.sub [0, 4, 5, 6, 7, 8, 9] rfl ?_
                              exact PJ.conv (by rw [plansF_s]; first | (simp [planF, rainsF, c133, c282, c289, eq_true c296, c303]; done) | (simp [planF, rainsF, c133, c282, c289, eq_true c296, c303]; rfl)) rfl (by rw [plansF_s]; first | (simp [planF, rainsF, c133, c282, c289, eq_true c296, c303]; done) | (simp [planF, rainsF, c133, c282, c289, eq_true c296, c303]; rfl)) (ihP (by omega))
                    · refine pl_aload_n (pc := 136) dX9_planned_136 rfl rfl ?_
                      refine pl_aload_n (pc := 137) dX9_planned_137 rfl rfl ?_
                      refine pj_getf (pc := 138) ckX9 27 q2543 dX9_planned_138 (by decide) (mm_o hA) rfl ?_
                      refine pl_iload (pc := 141) dX9_planned_141 rfl ?_
                      refine pl_iald (pc := 143) (n := 3) dX9_planned_143 (mm_a hA 16 (by decide) (by decide)) (by omega) (by decide) ?_
                      refine pm_putI (pc := 144) 7 hA q2523 dX9_planned_144 (by decide) rfl (by rfl) (by rfl) rfl ?_
                      refine pl_iconst (pc := 147) (v := 0) dX9_planned_147 (by rfl) ?_
                      refine pj_istore (pc := 148) (lv' := [(10, _), (9, _), (8, _), (7, _), (6, _), (5, _), (4, _), (3, _), (2, _), (1, _), (0, _)]) dX9_planned_148 (by decide) rfl ?_
                      refine PJ.conv rfl rfl (show _ = (mm g ad μ (uq (stepP n nl nb q nw 2 p) 0 (sF (uq (rainF n nl nb q nw 2 p) r (nI 0, nI 0, (plansF n nl nb q nw 2 wm (s_saves (s0 σ)) p).2.2.2)).2.2 7 ((uq (rainF n nl nb q nw 2 p) r (nI 0, nI 0, (plansF n nl nb q nw 2 wm (s_saves (s0 σ)) p).2.2.2)).2.2.2.1 16 r)))) from by rw [uq_0]; first | done | rfl) ?_
                      refine ind_dn (n := 2) (P := fun k => PJ g _ _ _ _ d 0 0 150 [(10, .int (nI k)), (9, .int (nI r)), (8, .int (uq (rainF n nl nb q nw 2 p) r (nI 0, nI 0, (plansF n nl nb q nw 2 wm (s_saves (s0 σ)) p).2.2.2)).2.1), (7, .int (uq (rainF n nl nb q nw 2 p) r (nI 0, nI 0, (plansF n nl nb q nw 2 wm (s_saves (s0 σ)) p).2.2.2)).1), (6, .int (nI p)), (5, .int (plansF n nl nb q nw 2 wm (s_saves (s0 σ)) p).2.2.1), (4, .int (plansF n nl nb q nw 2 wm (s_saves (s0 σ)) p).2.1), (3, .int (plansF n nl nb q nw 2 wm (s_saves (s0 σ)) p).1), (2, .int w9), (1, .int (nI 2)), (0, .ref (ad 0))] [] (mm g ad μ (uq (stepP n nl nb q nw 2 p) k (sF (uq (rainF n nl nb q nw 2 p) r (nI 0, nI 0, (plansF n nl nb q nw 2 wm (s_saves (s0 σ)) p).2.2.2)).2.2 7 ((uq (rainF n nl nb q nw 2 p) r (nI 0, nI 0, (plansF n nl nb q nw 2 wm (s_saves (s0 σ)) p).2.2.2)).2.2.2.1 16 r)))) _) (fun k hk ih => ?_) 0 (Nat.zero_le _)
                      refine pl_iload (pc := 150) dX9_planned_150 rfl ?_
                      refine pl_iload_n (pc := 152) dX9_planned_152 rfl rfl ?_
                      refine pl_icmp_ge (pc := 153) (tgt := 213) dX9_planned_153 (by decide) (by omega) (by omega) (fun c153 => ?_) (fun c153 => ?_)
                      · have e12 : 2 = k := by omega
                        subst e12
                        refine pl_iload (pc := 213) dX9_planned_213 rfl ?_
                        refine pl_if_eqN (pc := 215) (tgt := 231) dX9_planned_215 (by decide) (by omega) (fun c215 => ?_) (fun c215 => ?_)
                        · refine pl_aload_n (pc := 231) dX9_planned_231 rfl rfl ?_
                          refine pj_getf (pc := 232) ckX9 1 q2517 dX9_planned_232 (by decide) (mm_o hA) rfl ?_
                          refine pl_sipush (pc := 235) (v := 2122) dX9_planned_235 (by rfl) ?_
                          refine pl_iald (pc := 238) (n := 2132) dX9_planned_238 (mm_a hA 1 (by decide) (by decide)) (by omega) (by decide) ?_
                          refine pj_goto (pc := 239) (tgt := 244) dX9_planned_239 (by decide) ?_
                          refine pj_istore (pc := 244) (lv' := [(7, _), (10, _), (9, _), (8, _), (6, _), (5, _), (4, _), (3, _), (2, _), (1, _), (0, _)]) dX9_planned_244 (by decide) rfl ?_
                          refine pl_iload (pc := 246) dX9_planned_246 rfl ?_
                          refine pl_if_eqN (pc := 248) (tgt := 260) dX9_planned_248 (by decide) (by omega) (fun c248 => ?_) (fun c248 => ?_)
                          · refine pl_aload_n (pc := 260) dX9_planned_260 rfl rfl ?_
                            refine pl_callVd (pc := 261) (As := []) (C2 := 0) (N2 := 0) ckX9 mdX9_farms rfl q2948 q2950 qs96 q154 dX9_planned_261 rfl rfl (Nat.le_of_ble_eq_true rfl) (mm_o hA) (w_X9_farms (d := d - 1) (by omega) hA) (by omega) (by decide) (by decide) ?_
                            refine pj_goto (pc := 264) (tgt := 269) dX9_planned_264 (by decide) ?_
                            refine pj_istore (pc := 269) (lv' := [(8, _), (7, _), (10, _), (9, _), (6, _), (5, _), (4, _), (3, _), (2, _), (1, _), (0, _)]) dX9_planned_269 (by decide) rfl ?_
                            refine pl_aload_n (pc := 271) dX9_planned_271 rfl rfl ?_
                            refine pl_callVv (pc := 272) (As := []) (C2 := 0) (N2 := 0) ckX9 mdX9_back rfl q2776 q2778 qs70 q154 dX9_planned_272 rfl rfl (Nat.le_of_ble_eq_true rfl) (mm_o hA) (w_X9_back (d := d - 1) (by omega) hA) (by omega) (by decide) (by decide) ?_
                            refine pl_iinc1 (pc := 275) (lv' := [(9, _), (8, _), (7, _), (10, _), (6, _), (5, _), (4, _), (3, _), (2, _), (1, _), (0, _)]) dX9_planned_275 rfl rfl (by decide) rfl ?_
                            refine pj_goto (pc := 278) (tgt := 127) dX9_planned_278 (by decide) ?_
                            refine PJ.sub [0, 1, 2, 4, 5, 6, 7, 8, 9, 10] rfl ?_
                            exact PJ.conv (by rw [uq_s (rainF n nl nb q nw 2 p) r]; first | (simp [rainF, rainB, c153, eq_true c215, eq_true c248]; done) | (simp [rainF, rainB, c153, eq_true c215, eq_true c248]; rfl)) rfl (by rw [uq_s (rainF n nl nb q nw 2 p) r]; first | (simp [rainF, rainB, c153, eq_true c215, eq_true c248]; done) | (simp [rainF, rainB, c153, eq_true c215, eq_true c248]; rfl)) (ihR (by omega))
                          · exact absurd c248 (by omega)
                        · have r0 : ¬ r = 0 := by omega
                          refine pl_aload_n (pc := 218) dX9_planned_218 rfl rfl ?_
                          refine pj_getf (pc := 219) ckX9 1 q2517 dX9_planned_219 (by decide) (mm_o hA) rfl ?_
                          refine pl_sipush (pc := 222) (v := 2122) dX9_planned_222 (by rfl) ?_
                          refine pl_iald (pc := 225) (n := 2132) dX9_planned_225 (mm_a hA 1 (by decide) (by decide)) (by omega) (by decide) ?_
                          refine pl_iload (pc := 226) dX9_planned_226 rfl ?_
                          refine pj_icmp_le (pc := 228) (tgt := 242) dX9_planned_228 (by decide) (fun c228 => ?_) (fun c228 => ?_)
                          · refine pl_iload (pc := 242) dX9_planned_242 rfl ?_
                            refine pj_istore (pc := 244) (lv' := [(7, _), (10, _), (9, _), (8, _), (6, _), (5, _), (4, _), (3, _), (2, _), (1, _), (0, _)]) dX9_planned_244 (by decide) rfl ?_
                            refine pl_iload (pc := 246) dX9_planned_246 rfl ?_
                            refine pl_if_eqN (pc := 248) (tgt := 260) dX9_planned_248 (by decide) (by omega) (fun c248 => ?_) (fun c248 => ?_)
                            · exact absurd c248 (by omega)
                            · refine pl_aload_n (pc := 251) dX9_planned_251 rfl rfl ?_
                              refine pl_callVd (pc := 252) (As := []) (C2 := 0) (N2 := 0) ckX9 mdX9_farms rfl q2948 q2950 qs96 q154 dX9_planned_252 rfl rfl (Nat.le_of_ble_eq_true rfl) (mm_o hA) (w_X9_farms (d := d - 1) (by omega) hA) (by omega) (by decide) (by decide) ?_
                              refine pl_iload (pc := 255) dX9_planned_255 rfl ?_
                              refine pj_icmp_ge (pc := 257) (tgt := 267) dX9_planned_257 (by decide) (fun c257 => ?_) (fun c257 => ?_)
                              · refine pl_iload (pc := 267) dX9_planned_267 rfl ?_
                                refine pj_istore (pc := 269) (lv' := [(8, _), (7, _), (10, _), (9, _), (6, _), (5, _), (4, _), (3, _), (2, _), (1, _), (0, _)]) dX9_planned_269 (by decide) rfl ?_
                                refine pl_aload_n (pc := 271) dX9_planned_271 rfl rfl ?_
                                refine pl_callVv (pc := 272) (As := []) (C2 := 0) (N2 := 0) ckX9 mdX9_back rfl q2776 q2778 qs70 q154 dX9_planned_272 rfl rfl (Nat.le_of_ble_eq_true rfl) (mm_o hA) (w_X9_back (d := d - 1) (by omega) hA) (by omega) (by decide) (by decide) ?_
                                refine pl_iinc1 (pc := 275) (lv' := [(9, _), (8, _), (7, _), (10, _), (6, _), (5, _), (4, _), (3, _), (2, _), (1, _), (0, _)]) dX9_planned_275 rfl rfl (by decide) rfl ?_
                                refine pj_goto (pc := 278) (tgt := 127) dX9_planned_278 (by decide) ?_
                                refine PJ.sub [0, 1, 2, 4, 5, 6, 7, 8, 9, 10] rfl ?_
                                exact PJ.conv (by rw [uq_s (rainF n nl nb q nw 2 p) r]; first | (simp [rainF, rainB, c153, c215, r0, c228, c248, c257]; done) | (simp [rainF, rainB, c153, c215, r0, c228, c248, c257]; rfl)) rfl (by rw [uq_s (rainF n nl nb q nw 2 p) r]; first | (simp [rainF, rainB, c153, c215, r0, c228, c248, c257]; done) | (simp [rainF, rainB, c153, c215, r0, c228, c248, c257]; rfl)) (ihR (by omega))
                              · refine pl_aload_n (pc := 260) dX9_planned_260 rfl rfl ?_
                                refine pl_callVd (pc := 261) (As := []) (C2 := 0) (N2 := 0) ckX9 mdX9_farms rfl q2948 q2950 qs96 q154 dX9_planned_261 rfl rfl (Nat.le_of_ble_eq_true rfl) (mm_o hA) (w_X9_farms (d := d - 1) (by omega) hA) (by omega) (by decide) (by decide) ?_
                                refine pj_goto (pc := 264) (tgt := 269) dX9_planned_264 (by decide) ?_
                                refine pj_istore (pc := 269) (lv' := [(8, _), (7, _), (10, _), (9, _), (6, _), (5, _), (4, _), (3, _), (2, _), (1, _), (0, _)]) dX9_planned_269 (by decide) rfl ?_
                                refine pl_aload_n (pc := 271) dX9_planned_271 rfl rfl ?_
                                refine pl_callVv (pc := 272) (As := []) (C2 := 0) (N2 := 0) ckX9 mdX9_back rfl q2776 q2778 qs70 q154 dX9_planned_272 rfl rfl (Nat.le_of_ble_eq_true rfl) (mm_o hA) (w_X9_back (d := d - 1) (by omega) hA) (by omega) (by decide) (by decide) ?_
                                refine pl_iinc1 (pc := 275) (lv' := [(9, _), (8, _), (7, _), (10, _), (6, _), (5, _), (4, _), (3, _), (2, _), (1, _), (0, _)]) dX9_planned_275 rfl rfl (by decide) rfl ?_
                                refine pj_goto (pc := 278) (tgt := 127) dX9_planned_278 (by decide) ?_
                                refine PJ.sub [0, 1, 2, 4, 5, 6, 7, 8, 9, 10] rfl ?_
                                exact PJ.conv (by rw [uq_s (rainF n nl nb q nw 2 p) r]; first | (simp [rainF, rainB, c153, c215, r0, c228, c248, c257]; done) | (simp [rainF, rainB, c153, c215, r0, c228, c248, c257]; rfl)) rfl (by rw [uq_s (rainF n nl nb q nw 2 p) r]; first | (simp [rainF, rainB, c153, c215, r0, c228, c248, c257]; done) | (simp [rainF, rainB, c153, c215, r0, c228, c248, c257]; rfl)) (ihR (by omega))
                          · refine pl_aload_n (pc := 231) dX9_planned_231 rfl rfl ?_
                            refine pj_getf (pc := 232) ckX9 1 q2517 dX9_planned_232 (by decide) (mm_o hA) rfl ?_
                            refine pl_sipush (pc := 235) (v := 2122) dX9_planned_235 (by rfl) ?_
                            refine pl_iald (pc := 238) (n := 2132) dX9_planned_238 (mm_a hA 1 (by decide) (by decide)) (by omega) (by decide) ?_
                            refine pj_goto (pc := 239) (tgt := 244) dX9_planned_239 (by decide) ?_
                            refine pj_istore (pc := 244) (lv' := [(7, _), (10, _), (9, _), (8, _), (6, _), (5, _), (4, _), (3, _), (2, _), (1, _), (0, _)]) dX9_planned_244 (by decide) rfl ?_
                            refine pl_iload (pc := 246) dX9_planned_246 rfl ?_
                            refine pl_if_eqN (pc := 248) (tgt := 260) dX9_planned_248 (by decide) (by omega) (fun c248 => ?_) (fun c248 => ?_)
                            · exact absurd c248 (by omega)
                            · refine pl_aload_n (pc := 251) dX9_planned_251 rfl rfl ?_
                              refine pl_callVd (pc := 252) (As := []) (C2 := 0) (N2 := 0) ckX9 mdX9_farms rfl q2948 q2950 qs96 q154 dX9_planned_252 rfl rfl (Nat.le_of_ble_eq_true rfl) (mm_o hA) (w_X9_farms (d := d - 1) (by omega) hA) (by omega) (by decide) (by decide) ?_
                              refine pl_iload (pc := 255) dX9_planned_255 rfl ?_
                              refine pj_icmp_ge (pc := 257) (tgt := 267) dX9_planned_257 (by decide) (fun c257 => ?_) (fun c257 => ?_)
                              · refine pl_iload (pc := 267) dX9_planned_267 rfl ?_
                                refine pj_istore (pc := 269) (lv' := [(8, _), (7, _), (10, _), (9, _), (6, _), (5, _), (4, _), (3, _), (2, _), (1, _), (0, _)]) dX9_planned_269 (by decide) rfl ?_
                                refine pl_aload_n (pc := 271) dX9_planned_271 rfl rfl ?_
                                refine pl_callVv (pc := 272) (As := []) (C2 := 0) (N2 := 0) ckX9 mdX9_back rfl q2776 q2778 qs70 q154 dX9_planned_272 rfl rfl (Nat.le_of_ble_eq_true rfl) (mm_o hA) (w_X9_back (d := d - 1) (by omega) hA) (by omega) (by decide) (by decide) ?_
                                refine pl_iinc1 (pc := 275) (lv' := [(9, _), (8, _), (7, _), (10, _), (6, _), (5, _), (4, _), (3, _), (2, _), (1, _), (0, _)]) dX9_planned_275 rfl rfl (by decide) rfl ?_
                                refine pj_goto (pc := 278) (tgt := 127) dX9_planned_278 (by decide) ?_
                                refine PJ.sub [0, 1, 2, 4, 5, 6, 7, 8, 9, 10] rfl ?_
                                exact PJ.conv (by rw [uq_s (rainF n nl nb q nw 2 p) r]; first | (simp [rainF, rainB, c153, c215, r0, c228, c248, c257]; done) | (simp [rainF, rainB, c153, c215, r0, c228, c248, c257]; rfl)) rfl (by rw [uq_s (rainF n nl nb q nw 2 p) r]; first | (simp [rainF, rainB, c153, c215, r0, c228, c248, c257]; done) | (simp [rainF, rainB, c153, c215, r0, c228, c248, c257]; rfl)) (ihR (by omega))
                              · refine pl_aload_n (pc := 260) dX9_planned_260 rfl rfl ?_
                                refine pl_callVd (pc := 261) (As := []) (C2 := 0) (N2 := 0) ckX9 mdX9_farms rfl q2948 q2950 qs96 q154 dX9_planned_261 rfl rfl (Nat.le_of_ble_eq_true rfl) (mm_o hA) (w_X9_farms (d := d - 1) (by omega) hA) (by omega) (by decide) (by decide) ?_
                                refine pj_goto (pc := 264) (tgt := 269) dX9_planned_264 (by decide) ?_
                                refine pj_istore (pc := 269) (lv' := [(8, _), (7, _), (10, _), (9, _), (6, _), (5, _), (4, _), (3, _), (2, _), (1, _), (0, _)]) dX9_planned_269 (by decide) rfl ?_
                                refine pl_aload_n (pc := 271) dX9_planned_271 rfl rfl ?_
                                refine pl_callVv (pc := 272) (As := []) (C2 := 0) (N2 := 0) ckX9 mdX9_back rfl q2776 q2778 qs70 q154 dX9_planned_272 rfl rfl (Nat.le_of_ble_eq_true rfl) (mm_o hA) (w_X9_back (d := d - 1) (by omega) hA) (by omega) (by decide) (by decide) ?_
                                refine pl_iinc1 (pc := 275) (lv' := [(9, _), (8, _), (7, _), (10, _), (6, _), (5, _), (4, _), (3, _), (2, _), (1, _), (0, _)]) dX9_planned_275 rfl rfl (by decide) rfl ?_
                                refine pj_goto (pc := 278) (tgt := 127) dX9_planned_278 (by decide) ?_
                                refine PJ.sub [0, 1, 2, 4, 5, 6, 7, 8, 9, 10] rfl ?_
                                exact PJ.conv (by rw [uq_s (rainF n nl nb q nw 2 p) r]; first | (simp [rainF, rainB, c153, c215, r0, c228, c248, c257]; done) | (simp [rainF, rainB, c153, c215, r0, c228, c248, c257]; rfl)) rfl (by rw [uq_s (rainF n nl nb q nw 2 p) r]; first | (simp [rainF, rainB, c153, c215, r0, c228, c248, c257]; done) | (simp [rainF, rainB, c153, c215, r0, c228, c248, c257]; rfl)) (ihR (by omega))
                      · have ihK := ih
                        have hvK : PlI (s_saves (s0 σ)) n nl nb q nor nw (nw + 13 * k) (uq (stepP n nl nb q nw 2 p) k (sF (uq (rainF n nl nb q nw 2 p) r (nI 0, nI 0, (plansF n nl nb q nw 2 wm (s_saves (s0 σ)) p).2.2.2)).2.2 7 ((uq (rainF n nl nb q nw 2 p) r (nI 0, nI 0, (plansF n nl nb q nw 2 wm (s_saves (s0 σ)) p).2.2.2)).2.2.2.1 16 r))) := steps_iv hst ⟨hvX.1.f0, hvX.2.F (Or.inl rfl)⟩ k (by omega)
                        refine pl_aload_n (pc := 156) dX9_planned_156 rfl rfl ?_
                        refine pl_aload_n (pc := 157) dX9_planned_157 rfl rfl ?_
                        refine pj_getf (pc := 158) ckX9 26 q2542 dX9_planned_158 (by decide) (mm_o hA) rfl ?_
                        refine pl_iload_n (pc := 161) dX9_planned_161 rfl rfl ?_
                        refine pl_iconst (pc := 162) (v := 1) dX9_planned_162 (by rfl) ?_
                        refine pj_icmp_eq (pc := 163) (tgt := 172) dX9_planned_163 (by decide) (fun h => absurd h (by decide)) (fun _ => ?_)
                        refine pl_iload (pc := 166) dX9_planned_166 rfl ?_
                        refine pl_iconst (pc := 168) (v := 1) dX9_planned_168 (by rfl) ?_
                        refine pl_icmp_ne (pc := 169) (tgt := 179) dX9_planned_169 (by decide) (by omega) (by omega) (fun c169 => ?_) (fun c169 => ?_)
                        · refine pl_iload (pc := 179) dX9_planned_179 rfl ?_
                          refine pl_iconst (pc := 181) (v := 3) dX9_planned_181 (by rfl) ?_
                          refine pl_idiv (pc := 182) dX9_planned_182 (by omega) (by decide) (by decide) ?_
                          refine pl_iald (pc := 183) (n := 3) dX9_planned_183 (mm_a hA 15 (by decide) (by decide)) (by omega) (by decide) ?_
                          refine pm_putI (pc := 184) 23 hA q2539 dX9_planned_184 (by decide) rfl (by rfl) (by rfl) rfl ?_
                          refine pl_iconst (pc := 187) (v := 0) dX9_planned_187 (by rfl) ?_
                          refine pj_istore (pc := 188) (lv' := [(11, _), (10, _), (9, _), (8, _), (7, _), (6, _), (5, _), (4, _), (3, _), (2, _), (1, _), (0, _)]) dX9_planned_188 (by decide) rfl ?_
                          refine PJ.conv rfl rfl (show _ = (mm g ad μ (s_weeks n nl nb q (nw + 13 * k) 0 (sF (uq (stepP n nl nb q nw 2 p) k (sF (uq (rainF n nl nb q nw 2 p) r (nI 0, nI 0, (plansF n nl nb q nw 2 wm (s_saves (s0 σ)) p).2.2.2)).2.2 7 ((uq (rainF n nl nb q nw 2 p) r (nI 0, nI 0, (plansF n nl nb q nw 2 wm (s_saves (s0 σ)) p).2.2.2)).2.2.2.1 16 r))) 23 ((uq (stepP n nl nb q nw 2 p) k (sF (uq (rainF n nl nb q nw 2 p) r (nI 0, nI 0, (plansF n nl nb q nw 2 wm (s_saves (s0 σ)) p).2.2.2)).2.2 7 ((uq (rainF n nl nb q nw 2 p) r (nI 0, nI 0, (plansF n nl nb q nw 2 wm (s_saves (s0 σ)) p).2.2.2)).2.2.2.1 16 r))).2.1 15 (plIx 2 p k))))) from by rw [s_weeks, uq_0]; simp [plIx, g_t, c169]) ?_
                          refine ind_dn (n := 13) (P := fun w => PJ g _ _ _ _ d 0 0 190 [(11, .int (nI w)), (10, .int (nI k)), (9, .int (nI r)), (8, .int (uq (rainF n nl nb q nw 2 p) r (nI 0, nI 0, (plansF n nl nb q nw 2 wm (s_saves (s0 σ)) p).2.2.2)).2.1), (7, .int (uq (rainF n nl nb q nw 2 p) r (nI 0, nI 0, (plansF n nl nb q nw 2 wm (s_saves (s0 σ)) p).2.2.2)).1), (6, .int (nI p)), (5, .int (plansF n nl nb q nw 2 wm (s_saves (s0 σ)) p).2.2.1), (4, .int (plansF n nl nb q nw 2 wm (s_saves (s0 σ)) p).2.1), (3, .int (plansF n nl nb q nw 2 wm (s_saves (s0 σ)) p).1), (2, .int w9), (1, .int (nI 2)), (0, .ref (ad 0))] [] (mm g ad μ (s_weeks n nl nb q (nw + 13 * k) w (sF (uq (stepP n nl nb q nw 2 p) k (sF (uq (rainF n nl nb q nw 2 p) r (nI 0, nI 0, (plansF n nl nb q nw 2 wm (s_saves (s0 σ)) p).2.2.2)).2.2 7 ((uq (rainF n nl nb q nw 2 p) r (nI 0, nI 0, (plansF n nl nb q nw 2 wm (s_saves (s0 σ)) p).2.2.2)).2.2.2.1 16 r))) 23 ((uq (stepP n nl nb q nw 2 p) k (sF (uq (rainF n nl nb q nw 2 p) r (nI 0, nI 0, (plansF n nl nb q nw 2 wm (s_saves (s0 σ)) p).2.2.2)).2.2 7 ((uq (rainF n nl nb q nw 2 p) r (nI 0, nI 0, (plansF n nl nb q nw 2 wm (s_saves (s0 σ)) p).2.2.2)).2.2.2.1 16 r))).2.1 15 (plIx 2 p k))))) _) (fun w hw ih => ?_) 0 (Nat.zero_le _)
                          refine pl_iload (pc := 190) dX9_planned_190 rfl ?_
                          refine pl_bipush (pc := 192) (v := 13) dX9_planned_192 (by rfl) ?_
                          refine pl_icmp_ge (pc := 194) (tgt := 207) dX9_planned_194 (by decide) (by omega) (by omega) (fun c194 => ?_) (fun c194 => ?_)
                          · have e13 : 13 = w := by omega
                            subst e13
                            refine pl_iinc1 (pc := 207) (lv' := [(10, _), (11, _), (9, _), (8, _), (7, _), (6, _), (5, _), (4, _), (3, _), (2, _), (1, _), (0, _)]) dX9_planned_207 rfl rfl (by decide) rfl ?_
                            refine pj_goto (pc := 210) (tgt := 150) dX9_planned_210 (by decide) ?_
                            refine PJ.sub [0, 2, 3, 4, 5, 6, 7, 8, 9, 10, 11] rfl ?_
                            exact PJ.conv rfl rfl (by rw [uq_s (stepP n nl nb q nw 2 p) k]; rfl) (ihK (by omega))
                          · have hvW : IvG (s_weeks n nl nb q (nw + 13 * k) w (sF (uq (stepP n nl nb q nw 2 p) k (sF (uq (rainF n nl nb q nw 2 p) r (nI 0, nI 0, (plansF n nl nb q nw 2 wm (s_saves (s0 σ)) p).2.2.2)).2.2 7 ((uq (rainF n nl nb q nw 2 p) r (nI 0, nI 0, (plansF n nl nb q nw 2 wm (s_saves (s0 σ)) p).2.2.2)).2.2.2.1 16 r))) 23 ((uq (stepP n nl nb q nw 2 p) k (sF (uq (rainF n nl nb q nw 2 p) r (nI 0, nI 0, (plansF n nl nb q nw 2 wm (s_saves (s0 σ)) p).2.2.2)).2.2 7 ((uq (rainF n nl nb q nw 2 p) r (nI 0, nI 0, (plansF n nl nb q nw 2 wm (s_saves (s0 σ)) p).2.2.2)).2.2.2.1 16 r))).2.1 15 (plIx 2 p k)))) n nl nb q nor (nw + 13 * k + w) := weeks_iv (m := 13) hvK.1.f0 (by omega) w (by omega)
                            refine pl_aload_n (pc := 197) dX9_planned_197 rfl rfl ?_
                            refine pl_callVv (pc := 198) (As := []) (C2 := 0) (N2 := 0) ckX9 mdX9_goes rfl q3095 q3097 qs111 q154 dX9_planned_198 rfl rfl (Nat.le_of_ble_eq_true rfl) (mm_o hA) (w_X9_goes (d := d - 1) (by omega) hA hvW (by omega)) (by omega) (by decide) (by decide) ?_
                            refine pl_iinc1 (pc := 201) (lv' := [(11, _), (10, _), (9, _), (8, _), (7, _), (6, _), (5, _), (4, _), (3, _), (2, _), (1, _), (0, _)]) dX9_planned_201 rfl rfl (by decide) rfl ?_
                            refine pj_goto (pc := 204) (tgt := 190) dX9_planned_204 (by decide) ?_
                            exact PJ.conv rfl rfl (congrArg (mm g ad μ) (show _ = s_weeks n nl nb q (nw + 13 * k) (w + 1) _ by unfold s_weeks; rw [uq_s _ w])) (ih (by omega))
                        · refine pl_iload (pc := 172) dX9_planned_172 rfl ?_
                          refine pl_iconst (pc := 174) (v := 3) dX9_planned_174 (by rfl) ?_
                          refine pl_irem (pc := 175) dX9_planned_175 (by omega) (by decide) (by decide) ?_
                          refine pj_goto (pc := 176) (tgt := 183) dX9_planned_176 (by decide) ?_
                          refine pl_iald (pc := 183) (n := 3) dX9_planned_183 (mm_a hA 15 (by decide) (by decide)) (by omega) (by decide) ?_
                          refine pm_putI (pc := 184) 23 hA q2539 dX9_planned_184 (by decide) rfl (by rfl) (by rfl) rfl ?_
                          refine pl_iconst (pc := 187) (v := 0) dX9_planned_187 (by rfl) ?_
                          refine pj_istore (pc := 188) (lv' := [(11, _), (10, _), (9, _), (8, _), (7, _), (6, _), (5, _), (4, _), (3, _), (2, _), (1, _), (0, _)]) dX9_planned_188 (by decide) rfl ?_
                          refine PJ.conv rfl rfl (show _ = (mm g ad μ (s_weeks n nl nb q (nw + 13 * k) 0 (sF (uq (stepP n nl nb q nw 2 p) k (sF (uq (rainF n nl nb q nw 2 p) r (nI 0, nI 0, (plansF n nl nb q nw 2 wm (s_saves (s0 σ)) p).2.2.2)).2.2 7 ((uq (rainF n nl nb q nw 2 p) r (nI 0, nI 0, (plansF n nl nb q nw 2 wm (s_saves (s0 σ)) p).2.2.2)).2.2.2.1 16 r))) 23 ((uq (stepP n nl nb q nw 2 p) k (sF (uq (rainF n nl nb q nw 2 p) r (nI 0, nI 0, (plansF n nl nb q nw 2 wm (s_saves (s0 σ)) p).2.2.2)).2.2 7 ((uq (rainF n nl nb q nw 2 p) r (nI 0, nI 0, (plansF n nl nb q nw 2 wm (s_saves (s0 σ)) p).2.2.2)).2.2.2.1 16 r))).2.1 15 (plIx 2 p k))))) from by rw [s_weeks, uq_0]; simp [plIx, g_t, eq_true c169]) ?_
                          refine ind_dn (n := 13) (P := fun w => PJ g _ _ _ _ d 0 0 190 [(11, .int (nI w)), (10, .int (nI k)), (9, .int (nI r)), (8, .int (uq (rainF n nl nb q nw 2 p) r (nI 0, nI 0, (plansF n nl nb q nw 2 wm (s_saves (s0 σ)) p).2.2.2)).2.1), (7, .int (uq (rainF n nl nb q nw 2 p) r (nI 0, nI 0, (plansF n nl nb q nw 2 wm (s_saves (s0 σ)) p).2.2.2)).1), (6, .int (nI p)), (5, .int (plansF n nl nb q nw 2 wm (s_saves (s0 σ)) p).2.2.1), (4, .int (plansF n nl nb q nw 2 wm (s_saves (s0 σ)) p).2.1), (3, .int (plansF n nl nb q nw 2 wm (s_saves (s0 σ)) p).1), (2, .int w9), (1, .int (nI 2)), (0, .ref (ad 0))] [] (mm g ad μ (s_weeks n nl nb q (nw + 13 * k) w (sF (uq (stepP n nl nb q nw 2 p) k (sF (uq (rainF n nl nb q nw 2 p) r (nI 0, nI 0, (plansF n nl nb q nw 2 wm (s_saves (s0 σ)) p).2.2.2)).2.2 7 ((uq (rainF n nl nb q nw 2 p) r (nI 0, nI 0, (plansF n nl nb q nw 2 wm (s_saves (s0 σ)) p).2.2.2)).2.2.2.1 16 r))) 23 ((uq (stepP n nl nb q nw 2 p) k (sF (uq (rainF n nl nb q nw 2 p) r (nI 0, nI 0, (plansF n nl nb q nw 2 wm (s_saves (s0 σ)) p).2.2.2)).2.2 7 ((uq (rainF n nl nb q nw 2 p) r (nI 0, nI 0, (plansF n nl nb q nw 2 wm (s_saves (s0 σ)) p).2.2.2)).2.2.2.1 16 r))).2.1 15 (plIx 2 p k))))) _) (fun w hw ih => ?_) 0 (Nat.zero_le _)
                          refine pl_iload (pc := 190) dX9_planned_190 rfl ?_
                          refine pl_bipush (pc := 192) (v := 13) dX9_planned_192 (by rfl) ?_
                          refine pl_icmp_ge (pc := 194) (tgt := 207) dX9_planned_194 (by decide) (by omega) (by omega) (fun c194 => ?_) (fun c194 => ?_)
                          · have e13 : 13 = w := by omega
                            subst e13
                            refine pl_iinc1 (pc := 207) (lv' := [(10, _), (11, _), (9, _), (8, _), (7, _), (6, _), (5, _), (4, _), (3, _), (2, _), (1, _), (0, _)]) dX9_planned_207 rfl rfl (by decide) rfl ?_
                            refine pj_goto (pc := 210) (tgt := 150) dX9_planned_210 (by decide) ?_
                            refine PJ.sub [0, 2, 3, 4, 5, 6, 7, 8, 9, 10, 11] rfl ?_
                            exact PJ.conv rfl rfl (by rw [uq_s (stepP n nl nb q nw 2 p) k]; rfl) (ihK (by omega))
                          · have hvW : IvG (s_weeks n nl nb q (nw + 13 * k) w (sF (uq (stepP n nl nb q nw 2 p) k (sF (uq (rainF n nl nb q nw 2 p) r (nI 0, nI 0, (plansF n nl nb q nw 2 wm (s_saves (s0 σ)) p).2.2.2)).2.2 7 ((uq (rainF n nl nb q nw 2 p) r (nI 0, nI 0, (plansF n nl nb q nw 2 wm (s_saves (s0 σ)) p).2.2.2)).2.2.2.1 16 r))) 23 ((uq (stepP n nl nb q nw 2 p) k (sF (uq (rainF n nl nb q nw 2 p) r (nI 0, nI 0, (plansF n nl nb q nw 2 wm (s_saves (s0 σ)) p).2.2.2)).2.2 7 ((uq (rainF n nl nb q nw 2 p) r (nI 0, nI 0, (plansF n nl nb q nw 2 wm (s_saves (s0 σ)) p).2.2.2)).2.2.2.1 16 r))).2.1 15 (plIx 2 p k)))) n nl nb q nor (nw + 13 * k + w) := weeks_iv (m := 13) hvK.1.f0 (by omega) w (by omega)
                            refine pl_aload_n (pc := 197) dX9_planned_197 rfl rfl ?_
                            refine pl_callVv (pc := 198) (As := []) (C2 := 0) (N2 := 0) ckX9 mdX9_goes rfl q3095 q3097 qs111 q154 dX9_planned_198 rfl rfl (Nat.le_of_ble_eq_true rfl) (mm_o hA) (w_X9_goes (d := d - 1) (by omega) hA hvW (by omega)) (by omega) (by decide) (by decide) ?_
                            refine pl_iinc1 (pc := 201) (lv' := [(11, _), (10, _), (9, _), (8, _), (7, _), (6, _), (5, _), (4, _), (3, _), (2, _), (1, _), (0, _)]) dX9_planned_201 rfl rfl (by decide) rfl ?_
                            refine pj_goto (pc := 204) (tgt := 190) dX9_planned_204 (by decide) ?_
                            exact PJ.conv rfl rfl (congrArg (mm g ad μ) (show _ = s_weeks n nl nb q (nw + 13 * k) (w + 1) _ by unfold s_weeks; rw [uq_s _ w])) (ih (by omega))
              · refine pj_iconst (pc := 85) (v := (-1)) dX9_planned_85 (by rfl) ?_
                refine pj_iret (pc := 86) dX9_planned_86 rfl ?_
                exact ⟨vIe (by simp [p_planned, planEnd, c8, c13, c17, c22, c54, c75, eq_true c82]) rfl, congrArg (mm g ad μ) (by simp [p_planned, planEnd, c8, c13, c17, c22, c54, c75, eq_true c82])⟩
          · refine pl_iconst (pc := 57) (v := 1) dX9_planned_57 (by rfl) ?_
            refine pj_goto (pc := 58) (tgt := 62) dX9_planned_58 (by decide) ?_
            refine pl_iconst (pc := 62) (v := 2) dX9_planned_62 (by rfl) ?_
            refine pl_callVd (pc := 63) (As := [_, _]) (C2 := 0) (N2 := 0) ckX9 mdX9_bad rfl q2631 q2633 qs50 q154 dX9_planned_63 rfl rfl (Nat.le_of_ble_eq_true rfl) (mm_o hA) (w_bad_1 (d := d - 1) (by omega) hA) (by omega) (by decide) (by decide) ?_
            refine pj_if_eq (pc := 66) (tgt := 71) dX9_planned_66 (by decide) (fun h => absurd h (by decide)) (fun _ => ?_)
            refine pl_iconst (pc := 69) (v := 0) dX9_planned_69 (by rfl) ?_
            refine pj_iret (pc := 70) dX9_planned_70 rfl ?_
            exact ⟨vIe (by simp [p_planned, planEnd, c8, c13, c17, c22, c54]) rfl, congrArg (mm g ad μ) (by simp [p_planned, planEnd, c8, c13, c17, c22, c54])⟩
        · refine pl_iconst (pc := 25) (v := 1) dX9_planned_25 (by rfl) ?_
          refine pj_goto (pc := 26) (tgt := 30) dX9_planned_26 (by decide) ?_
          refine pl_iconst (pc := 30) (v := 1) dX9_planned_30 (by rfl) ?_
          refine pl_callVd (pc := 31) (As := [_, _]) (C2 := 0) (N2 := 0) ckX9 mdX9_bad rfl q2631 q2633 qs50 q154 dX9_planned_31 rfl rfl (Nat.le_of_ble_eq_true rfl) (mm_o hA) (w_bad_1 (d := d - 1) (by omega) hA) (by omega) (by decide) (by decide) ?_
          refine pj_if_ne (pc := 34) (tgt := 69) dX9_planned_34 (by decide) (fun _ => ?_) (fun h => absurd h (by decide))
          refine pl_iconst (pc := 69) (v := 0) dX9_planned_69 (by rfl) ?_
          refine pj_iret (pc := 70) dX9_planned_70 rfl ?_
          exact ⟨vIe (by simp [p_planned, planEnd, c8, c13, c17, c22]) rfl, congrArg (mm g ad μ) (by simp [p_planned, planEnd, c8, c13, c17, c22])⟩
