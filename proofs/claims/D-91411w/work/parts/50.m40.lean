set_option maxRecDepth 100000
theorem isD_nI {c : Nat} (h : c < 256) : (decide (nI 48 ≤ nI c) && decide (nI c ≤ nI 57)) = isD c := by
  unfold isD
  rw [decide_eq_decide.mpr (nI_leI (by decide) (by omega)), decide_eq_decide.mpr (nI_leI (by omega) (by decide))]
theorem sk_not {B : Nat → Nat} {n p : Nat} (hB : ∀ k, n ≤ k → B k = 0) : B (sk B n p) ≠ 32 := skF_not B (n - p) p (hB _ (by omega))
theorem sk_stay {B : Nat → Nat} {n q : Nat} (h : B q ≠ 32) : sk B n q = q := by
  unfold sk
  cases n - q with
  | zero => rfl
  | succ f => simp only [skF]; rw [if_neg h]
theorem sk_sk {B : Nat → Nat} {n p : Nat} (hB : ∀ k, n ≤ k → B k = 0) : sk B n (sk B n p) = sk B n p := sk_stay (sk_not hB)
set_option maxHeartbeats 600000 in
theorem o_X9_figures {g : GP} {μ : Mem} {d : Nat} (hd : 3 ≤ d) {ad : Nat → Nat} {σ0 σ : MS} {n l c : Nat} {B : Nat → Nat} (hA : Inj ad 18) (tx0 : Txt σ0 n B) (hl : σ0.1 16 = nI l) (hl2 : l < 12) {p o : Nat} {L : List Cd} {r1 : RP} (h : PR n l c σ0 (.inr (p, o, L)) σ) (hdig : isD (B p) = true) (hr : bindR (.inr (p, o, L)) (figP B n) = some r1) : PM g yX9_figures (ws_ yX9_figures cX9_figures 3 none) d 0 0 [.ref (ad 0)] (mm g ad μ σ) (rE g ad μ none (PR n l c σ0 r1)) := by
  refine PM.of (by decide +kernel) (Nat.le_of_ble_eq_true rfl) ?_
  refine PJ.ok (fun G => ?_)
  show PJ g _ _ _ _ d 0 0 0 [(0, .ref (ad 0))] [] _ _
  have tx := tx0.of h.1
  have hn3 := tx.2.1
  obtain ⟨-, a1, a2, a3, h4, h5, h6, h7, h8, -⟩ := id h
  have hq := sk_in (B := B) a1
  have hB := tx.2.2.2.1
  have key : ∀ (f p1 : Nat) (v : Int32) (σ1 : MS), PR n l c σ0 (.inr (p1, o, L)) σ1 → f = n - p1 → figF B f p1 v = figF B (n - p) p (nI 0) → (p < p1 ∨ p1 = p) → PJ g yX9_figures.cls cX9_figures 3 (none, yX9_figures.name, []) d 0 0 7 [(2, .int v), (1, .int (nI p)), (0, .ref (ad 0))] [] (mm g ad μ σ1) (rE g ad μ none (PR n l c σ0 r1)) := by
    intro f
    induction f with
    | zero =>
      intro p1 v σ1 h1 hf he hp1
      obtain ⟨-, b1, -, b3, h14, -⟩ := id h1
      have tx1 := tx0.of h1.1
      have hBp := tx1.2.2.2.1 p1
      have hz : B p1 = 0 := tx1.2.2.2.2 p1 (by omega)
      refine pl_aload_n (pc := 7) dX9_figures_7 rfl rfl ?_
      refine pl_aload_n (pc := 8) dX9_figures_8 rfl rfl ?_
      refine pj_getf (pc := 9) ckX9 11 q2527 dX9_figures_9 (by decide) (mm_o hA) rfl ?_
      refine PJ.top (y := nI _) (h14) ?_
      refine pl_callVd (pc := 12) (As := [_]) (C2 := 0) (N2 := 0) ckX9 mdX9_byteAt rfl q2808 q2810 qs73 q154 dX9_figures_12 rfl rfl (Nat.le_of_ble_eq_true rfl) (mm_o hA) (w_X9_byteAt (d := d - 1) (by omega) hA tx1 (by omega)) (by omega) (by decide) (by decide) ?_
      refine pl_callSd (pc := 15) (As := [_]) (C2 := 0) (N2 := 0) mdX9_isDigit q2862 q2863 q154 dX9_figures_15 rfl rfl (Nat.le_of_ble_eq_true rfl) (PM.ret (w := some (.int (bI (isD (B p1))))) (by rw [isD_nI hBp]) rfl (w_X9_isDigit (d := d - 1) (by omega))) (by omega) (by decide) (by decide) ?_
      refine pl_if_eqB (pc := 18) (tgt := 62) dX9_figures_18 (by decide) (fun c18 => ?_) (fun c18 => ?_)
      · have e2 : figF B (n - p) p (nI 0) = (p1, v) := by rw [← he]; rfl
        have hp2 : p < p1 := by
          rcases hp1 with z | z
          · exact z
          · rw [z, hdig] at c18; cases c18
        refine pl_iload_n (pc := 62) dX9_figures_62 rfl rfl ?_
        refine pl_sipush (pc := 63) (v := 9999) dX9_figures_63 (by rfl) ?_
        refine pj_icmp_le (pc := 66) (tgt := 75) dX9_figures_66 (by decide) (fun c66 => ?_) (fun c66 => ?_)
        · refine pl_aload_n (pc := 75) dX9_figures_75 rfl rfl ?_
          refine pl_iconst (pc := 76) (v := 0) dX9_figures_76 (by rfl) ?_
          refine pl_iload_n (pc := 77) dX9_figures_77 rfl rfl ?_
          refine pl_callVEv (pc := 78) (As := [_, _]) (C2 := 0) (N2 := 0) ckX9 mdX9_emits rfl q2870 q2872 qs84 q154 dX9_figures_78 rfl rfl (Nat.le_of_ble_eq_true rfl) (mm_o hA) (R_emits (d := d - 1) (by omega) hn3 hA hl hl2 (r := .inr (p1, o, L)) (r1 := .inr (p1, o, L ++ [(0, v)])) (k := 0) (v := v) h1 (fun p9 o9 L9 z => by cases z; omega) rfl) (by omega) (by decide) (by decide) (fun σ2 q2 => ?_)
          refine pj_vret (pc := 81) dX9_figures_81 rfl ?_
          have e1 : r1 = .inr (p1, o, L ++ [(0, v)]) := by simpa [bindR, figP, appR, e2, c66] using hr.symm
          subst e1
          exact ⟨rfl, _, rfl, q2⟩
        · refine pl_aload_n (pc := 69) dX9_figures_69 rfl rfl ?_
          refine pl_iconst (pc := 70) (v := 2) dX9_figures_70 (by rfl) ?_
          refine pl_iload_n (pc := 71) dX9_figures_71 rfl rfl ?_
          refine pl_callVv (pc := 72) (As := [_, _]) (C2 := 0) (N2 := 0) ckX9 mdX9_wrong rfl q2838 q2840 qs77 q154 dX9_figures_72 rfl rfl (Nat.le_of_ble_eq_true rfl) (mm_o hA) (w_X9_wrong (d := d - 1) (by omega) hA) (by omega) (by decide) (by decide) ?_
          have q9 : PR n l c σ0 (.inl (2, p)) (wrS σ1 (nI 2) (nI p)) := h1.bad (by decide) (by decide)
          refine pl_aload_n (pc := 75) dX9_figures_75 rfl rfl ?_
          refine pl_iconst (pc := 76) (v := 0) dX9_figures_76 (by rfl) ?_
          refine pl_iload_n (pc := 77) dX9_figures_77 rfl rfl ?_
          refine pl_callVEv (pc := 78) (As := [_, _]) (C2 := 0) (N2 := 0) ckX9 mdX9_emits rfl q2870 q2872 qs84 q154 dX9_figures_78 rfl rfl (Nat.le_of_ble_eq_true rfl) (mm_o hA) (PM.toE (P := PR n l c σ0 (.inl (2, p))) (b_X9_emits (d := d - 1) (k9 := 2) (by omega) hA q9.2.2.2.1 (by decide) (by decide)) q9) (by omega) (by decide) (by decide) (fun σ2 q2 => ?_)
          refine pj_vret (pc := 81) dX9_figures_81 rfl ?_
          have e1 : r1 = .inl (2, p) := by simpa [bindR, figP, appR, e2, c66] using hr.symm
          subst e1
          exact ⟨rfl, _, rfl, q2⟩
      · exact absurd c18 (by rw [hz]; decide)
    | succ f ih =>
      intro p1 v σ1 h1 hf he hp1
      obtain ⟨-, b1, -, b3, h14, -⟩ := id h1
      have tx1 := tx0.of h1.1
      have hBp := tx1.2.2.2.1 p1
      refine pl_aload_n (pc := 7) dX9_figures_7 rfl rfl ?_
      refine pl_aload_n (pc := 8) dX9_figures_8 rfl rfl ?_
      refine pj_getf (pc := 9) ckX9 11 q2527 dX9_figures_9 (by decide) (mm_o hA) rfl ?_
      refine PJ.top (y := nI _) (h14) ?_
      refine pl_callVd (pc := 12) (As := [_]) (C2 := 0) (N2 := 0) ckX9 mdX9_byteAt rfl q2808 q2810 qs73 q154 dX9_figures_12 rfl rfl (Nat.le_of_ble_eq_true rfl) (mm_o hA) (w_X9_byteAt (d := d - 1) (by omega) hA tx1 (by omega)) (by omega) (by decide) (by decide) ?_
      refine pl_callSd (pc := 15) (As := [_]) (C2 := 0) (N2 := 0) mdX9_isDigit q2862 q2863 q154 dX9_figures_15 rfl rfl (Nat.le_of_ble_eq_true rfl) (PM.ret (w := some (.int (bI (isD (B p1))))) (by rw [isD_nI hBp]) rfl (w_X9_isDigit (d := d - 1) (by omega))) (by omega) (by decide) (by decide) ?_
      refine pl_if_eqB (pc := 18) (tgt := 62) dX9_figures_18 (by decide) (fun c18 => ?_) (fun c18 => ?_)
      · have e2 : figF B (n - p) p (nI 0) = (p1, v) := by rw [← he]; simp only [figF]; rw [if_pos c18]
        have hp2 : p < p1 := by
          rcases hp1 with z | z
          · exact z
          · rw [z, hdig] at c18; cases c18
        refine pl_iload_n (pc := 62) dX9_figures_62 rfl rfl ?_
        refine pl_sipush (pc := 63) (v := 9999) dX9_figures_63 (by rfl) ?_
        refine pj_icmp_le (pc := 66) (tgt := 75) dX9_figures_66 (by decide) (fun c66 => ?_) (fun c66 => ?_)
        · refine pl_aload_n (pc := 75) dX9_figures_75 rfl rfl ?_
          refine pl_iconst (pc := 76) (v := 0) dX9_figures_76 (by rfl) ?_
          refine pl_iload_n (pc := 77) dX9_figures_77 rfl rfl ?_
          refine pl_callVEv (pc := 78) (As := [_, _]) (C2 := 0) (N2 := 0) ckX9 mdX9_emits rfl q2870 q2872 qs84 q154 dX9_figures_78 rfl rfl (Nat.le_of_ble_eq_true rfl) (mm_o hA) (R_emits (d := d - 1) (by omega) hn3 hA hl hl2 (r := .inr (p1, o, L)) (r1 := .inr (p1, o, L ++ [(0, v)])) (k := 0) (v := v) h1 (fun p9 o9 L9 z => by cases z; omega) rfl) (by omega) (by decide) (by decide) (fun σ2 q2 => ?_)
          refine pj_vret (pc := 81) dX9_figures_81 rfl ?_
          have e1 : r1 = .inr (p1, o, L ++ [(0, v)]) := by simpa [bindR, figP, appR, e2, c66] using hr.symm
          subst e1
          exact ⟨rfl, _, rfl, q2⟩
        · refine pl_aload_n (pc := 69) dX9_figures_69 rfl rfl ?_
          refine pl_iconst (pc := 70) (v := 2) dX9_figures_70 (by rfl) ?_
          refine pl_iload_n (pc := 71) dX9_figures_71 rfl rfl ?_
          refine pl_callVv (pc := 72) (As := [_, _]) (C2 := 0) (N2 := 0) ckX9 mdX9_wrong rfl q2838 q2840 qs77 q154 dX9_figures_72 rfl rfl (Nat.le_of_ble_eq_true rfl) (mm_o hA) (w_X9_wrong (d := d - 1) (by omega) hA) (by omega) (by decide) (by decide) ?_
          have q9 : PR n l c σ0 (.inl (2, p)) (wrS σ1 (nI 2) (nI p)) := h1.bad (by decide) (by decide)
          refine pl_aload_n (pc := 75) dX9_figures_75 rfl rfl ?_
          refine pl_iconst (pc := 76) (v := 0) dX9_figures_76 (by rfl) ?_
          refine pl_iload_n (pc := 77) dX9_figures_77 rfl rfl ?_
          refine pl_callVEv (pc := 78) (As := [_, _]) (C2 := 0) (N2 := 0) ckX9 mdX9_emits rfl q2870 q2872 qs84 q154 dX9_figures_78 rfl rfl (Nat.le_of_ble_eq_true rfl) (mm_o hA) (PM.toE (P := PR n l c σ0 (.inl (2, p))) (b_X9_emits (d := d - 1) (k9 := 2) (by omega) hA q9.2.2.2.1 (by decide) (by decide)) q9) (by omega) (by decide) (by decide) (fun σ2 q2 => ?_)
          refine pj_vret (pc := 81) dX9_figures_81 rfl ?_
          have e1 : r1 = .inl (2, p) := by simpa [bindR, figP, appR, e2, c66] using hr.symm
          subst e1
          exact ⟨rfl, _, rfl, q2⟩
      · refine pl_iload_n (pc := 21) dX9_figures_21 rfl rfl ?_
        refine pj_ldcw (pc := 22) q2869 dX9_figures_22 ?_
        refine pj_icmp_le (pc := 25) (tgt := 32) dX9_figures_25 (by decide) (fun c25 => ?_) (fun c25 => ?_)
        · refine pl_bipush (pc := 32) (v := 10) dX9_figures_32 (by rfl) ?_
          refine pl_iload_n (pc := 34) dX9_figures_34 rfl rfl ?_
          refine pj_imul (pc := 35) dX9_figures_35 ?_
          refine pl_aload_n (pc := 36) dX9_figures_36 rfl rfl ?_
          refine pl_aload_n (pc := 37) dX9_figures_37 rfl rfl ?_
          refine pj_getf (pc := 38) ckX9 11 q2527 dX9_figures_38 (by decide) (mm_o hA) rfl ?_
          refine PJ.top (y := nI _) (h14) ?_
          refine pl_callVd (pc := 41) (As := [_]) (C2 := 0) (N2 := 0) ckX9 mdX9_byteAt rfl q2808 q2810 qs73 q154 dX9_figures_41 rfl rfl (Nat.le_of_ble_eq_true rfl) (mm_o hA) (w_X9_byteAt (d := d - 1) (by omega) hA tx1 (by omega)) (by omega) (by decide) (by decide) ?_
          refine pj_iadd (pc := 44) dX9_figures_44 ?_
          refine pl_bipush (pc := 45) (v := 48) dX9_figures_45 (by rfl) ?_
          refine pj_isub (pc := 47) dX9_figures_47 ?_
          refine pj_istore_n (pc := 48) (lv' := [(2, _), (1, _), (0, _)]) dX9_figures_48 rfl (by decide) rfl ?_
          refine pl_aload_n (pc := 49) dX9_figures_49 rfl rfl ?_
          refine pj_dup (pc := 50) dX9_figures_50 rfl ?_
          refine pj_getf (pc := 51) ckX9 11 q2527 dX9_figures_51 (by decide) (mm_o hA) rfl ?_
          refine PJ.top (y := nI _) (h14) ?_
          refine pl_iconst (pc := 54) (v := 1) dX9_figures_54 (by rfl) ?_
          refine pl_iadd (pc := 55) dX9_figures_55 ?_
          refine pm_putI (pc := 56) 11 hA q2527 dX9_figures_56 (by decide) rfl (by rfl) (by rfl) rfl ?_
          refine pj_goto (pc := 59) (tgt := 7) dX9_figures_59 (by decide) ?_
          have hp9 : p1 + 1 ≤ n := by
            rcases Nat.lt_or_ge p1 n with z | z
            · omega
            · rw [tx1.2.2.2.2 p1 z] at c18; cases c18
          exact ih (p1 + 1) _ _ (h1.at (by omega) hp9) (by omega) ((show figF B f (p1 + 1) _ = figF B (f + 1) p1 v by simp only [figF]; rw [if_neg (by rw [c18]; decide)]; rw [if_neg (fun z => z c25)]).trans he) (by omega)
        · refine pl_iload_n (pc := 28) dX9_figures_28 rfl rfl ?_
          refine pj_goto (pc := 29) (tgt := 48) dX9_figures_29 (by decide) ?_
          refine pj_istore_n (pc := 48) (lv' := [(2, _), (1, _), (0, _)]) dX9_figures_48 rfl (by decide) rfl ?_
          refine pl_aload_n (pc := 49) dX9_figures_49 rfl rfl ?_
          refine pj_dup (pc := 50) dX9_figures_50 rfl ?_
          refine pj_getf (pc := 51) ckX9 11 q2527 dX9_figures_51 (by decide) (mm_o hA) rfl ?_
          refine PJ.top (y := nI _) (h14) ?_
          refine pl_iconst (pc := 54) (v := 1) dX9_figures_54 (by rfl) ?_
          refine pl_iadd (pc := 55) dX9_figures_55 ?_
          refine pm_putI (pc := 56) 11 hA q2527 dX9_figures_56 (by decide) rfl (by rfl) (by rfl) rfl ?_
          refine pj_goto (pc := 59) (tgt := 7) dX9_figures_59 (by decide) ?_
          have hp9 : p1 + 1 ≤ n := by
            rcases Nat.lt_or_ge p1 n with z | z
            · omega
            · rw [tx1.2.2.2.2 p1 z] at c18; cases c18
          exact ih (p1 + 1) _ _ (h1.at (by omega) hp9) (by omega) ((show figF B f (p1 + 1) _ = figF B (f + 1) p1 v by simp only [figF]; rw [if_neg (by rw [c18]; decide)]; rw [if_pos c25]).trans he) (by omega)
  refine pl_aload_n (pc := 0) dX9_figures_0 rfl rfl ?_
  refine pj_getf (pc := 1) ckX9 11 q2527 dX9_figures_1 (by decide) (mm_o hA) rfl ?_
  refine PJ.top (y := nI _) (h4) ?_
  refine pj_istore_n (pc := 4) (lv' := [(1, _), (0, _)]) dX9_figures_4 rfl (by decide) rfl ?_
  refine pl_iconst (pc := 5) (v := 0) dX9_figures_5 (by rfl) ?_
  refine pj_istore_n (pc := 6) (lv' := [(2, _), (1, _), (0, _)]) dX9_figures_6 rfl (by decide) rfl ?_
  exact key (n - p) p (nI 0) σ h rfl rfl (Or.inr rfl)
