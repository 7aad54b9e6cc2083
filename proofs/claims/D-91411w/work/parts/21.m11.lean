set_option maxRecDepth 100000
set_option maxHeartbeats 4000000 in
theorem w_X9_tear {g : GP} {ad : Nat → Nat} {μ : Mem} {σ : MS} {d : Nat} {k : Int32} {m : Int32} {im : Nat} (hd : 1 ≤ d) (hA : Inj ad 18) (him : σ.1 31 = nI im) (hIM : im ≤ 196) : PM g yX9_tear (ws_ yX9_tear cX9_tear 3 (some .int)) d 0 0 [.ref (ad 0), .int k, .int m] (mm g ad μ σ) (rQ (some (.int ((p_tear σ k m).1))) (mm g ad μ ((p_tear σ k m).2))) := by
  refine PM.of (by decide +kernel) (Nat.le_of_ble_eq_true rfl) ?_
  show PJ g _ _ _ _ d 0 0 0 [(0, .ref (ad 0)), (1, .int k), (2, .int m)] [] _ _
  refine pl_aload_n (pc := 0) dX9_tear_0 rfl rfl ?_
  refine pl_iconst (pc := 1) (v := 0) dX9_tear_1 (by rfl) ?_
  refine pm_putI (pc := 2) 0 hA q2516 dX9_tear_2 (by decide) rfl (by rfl) (by rfl) rfl ?_
  refine pl_iload_n (pc := 5) dX9_tear_5 rfl rfl ?_
  refine pj_if_lt (pc := 6) (tgt := 17) dX9_tear_6 (by decide) (fun c6 => ?_) (fun c6 => ?_)
  · refine pj_iconst (pc := 17) (v := (-1)) dX9_tear_17 (by rfl) ?_
    refine pj_iret (pc := 18) dX9_tear_18 rfl ?_
    exact ⟨vIe (by simp [p_tear, c6]) rfl, congrArg (mm g ad μ) (by simp [p_tear, c6])⟩
  · refine pl_iload_n (pc := 9) dX9_tear_9 rfl rfl ?_
    refine pl_aload_n (pc := 10) dX9_tear_10 rfl rfl ?_
    refine pj_getf (pc := 11) ckX9 31 q2547 dX9_tear_11 (by decide) (mm_o hA) rfl ?_
    refine pj_icmp_lt (pc := 14) (tgt := 19) dX9_tear_14 (by decide) (fun c14 => ?_) (fun c14 => ?_)
    · obtain ⟨j_k, hj_k, rfl⟩ := inN_of (n := im) (by omega) (inN_ok2 c6 (by have := c14; rw [show (sF σ 0 (nI 0)).1 31 = nI im from him] at this; exact this))
      have f_k := inN_nI hj_k (by omega)
      have g_k := nI_clamp (n := j_k) (by omega)
      refine pl_aload_n (pc := 19) dX9_tear_19 rfl rfl ?_
      refine pj_getf (pc := 20) ckX9 30 q2546 dX9_tear_20 (by decide) (mm_o hA) rfl ?_
      refine pl_iload_n (pc := 23) dX9_tear_23 rfl rfl ?_
      refine pj_dup2_11 (pc := 24) dX9_tear_24 rfl rfl ?_
      refine pl_iald (pc := 25) (n := 196) dX9_tear_25 (mm_a hA 17 (by decide) (by decide)) (by omega) (by decide) ?_
      refine pl_iload_n (pc := 26) dX9_tear_26 rfl rfl ?_
      refine pj_ixor (pc := 27) dX9_tear_27 ?_
      refine pm_iast (pc := 28) 17 hA (by decide) (by decide) rfl dX9_tear_28 (show _ < 196 by omega) (by decide) ?_
      refine pl_aload_n (pc := 29) dX9_tear_29 rfl rfl ?_
      refine pj_getf (pc := 30) ckX9 30 q2546 dX9_tear_30 (by decide) (mm_o hA) rfl ?_
      refine pl_iload_n (pc := 33) dX9_tear_33 rfl rfl ?_
      refine pl_iald (pc := 34) (n := 196) dX9_tear_34 (mm_a hA 17 (by decide) (by decide)) (by omega) (by decide) ?_
      refine pj_iret (pc := 35) dX9_tear_35 rfl ?_
      exact ⟨vIe (by simp [p_tear, c6, c14, f_k, g_k]) rfl, congrArg (mm g ad μ) (by simp [p_tear, c6, c14, f_k, g_k])⟩
    · refine pj_iconst (pc := 17) (v := (-1)) dX9_tear_17 (by rfl) ?_
      refine pj_iret (pc := 18) dX9_tear_18 rfl ?_
      exact ⟨vIe (by simp [p_tear, c6, c14]) rfl, congrArg (mm g ad μ) (by simp [p_tear, c6, c14])⟩
set_option maxHeartbeats 4000000 in
theorem w_X9_isKnown {g : GP} {ad : Nat → Nat} {μ : Mem} {σ : MS} {d : Nat} {c : Int32} {nw : Nat} (hd : 1 ≤ d) (hA : Inj ad 18) (hnw : row σ 2116 = nI nw) (hNW : nw ≤ 1000) : PM g yX9_isKnown (ws_ yX9_isKnown cX9_isKnown 2 (some .boolean)) d 0 0 [.ref (ad 0), .int c] (mm g ad μ σ) (rQ (some (.int (bI (inN c nw)))) (mm g ad μ (σ))) := by
  refine PM.of (by decide +kernel) (Nat.le_of_ble_eq_true rfl) ?_
  show PJ g _ _ _ _ d 0 0 0 [(0, .ref (ad 0)), (1, .int c)] [] _ _
  refine pl_iload_n (pc := 0) dX9_isKnown_0 rfl rfl ?_
  refine pj_if_lt (pc := 1) (tgt := 20) dX9_isKnown_1 (by decide) (fun c1 => ?_) (fun c1 => ?_)
  · refine pl_iconst (pc := 20) (v := 0) dX9_isKnown_20 (by rfl) ?_
    refine pj_zret (pc := 21) .boolean dX9_isKnown_21 rfl (by rfl) ?_
    exact ⟨vB0 (by first | exact inN_lt0 c1 | exact inN_ge c13 | exact inN_ok c1 c13), rfl⟩
  · refine pl_iload_n (pc := 4) dX9_isKnown_4 rfl rfl ?_
    refine pl_aload_n (pc := 5) dX9_isKnown_5 rfl rfl ?_
    refine pj_getf (pc := 6) ckX9 1 q2517 dX9_isKnown_6 (by decide) (mm_o hA) rfl ?_
    refine pl_sipush (pc := 9) (v := 2116) dX9_isKnown_9 (by rfl) ?_
    refine pl_iald (pc := 12) (n := 2132) dX9_isKnown_12 (mm_a hA 1 (by decide) (by decide)) (by omega) (by decide) ?_
    refine PJ.top (y := nI _) (hnw) ?_
    refine pj_icmp_ge (pc := 13) (tgt := 20) dX9_isKnown_13 (by decide) (fun c13 => ?_) (fun c13 => ?_)
    · refine pl_iconst (pc := 20) (v := 0) dX9_isKnown_20 (by rfl) ?_
      refine pj_zret (pc := 21) .boolean dX9_isKnown_21 rfl (by rfl) ?_
      exact ⟨vB0 (by first | exact inN_lt0 c1 | exact inN_ge c13 | exact inN_ok c1 c13), rfl⟩
    · refine pl_iconst (pc := 16) (v := 1) dX9_isKnown_16 (by rfl) ?_
      refine pj_goto (pc := 17) (tgt := 21) dX9_isKnown_17 (by decide) ?_
      refine pj_zret (pc := 21) .boolean dX9_isKnown_21 rfl (by rfl) ?_
      exact ⟨vB1 (by first | exact inN_lt0 c1 | exact inN_ge c13 | exact inN_ok c1 c13), rfl⟩
set_option maxHeartbeats 4000000 in
theorem w_X9_homePassages {g : GP} {ad : Nat → Nat} {μ : Mem} {σ : MS} {d : Nat}  {nw : Nat} (hd : 2 ≤ d) (hA : Inj ad 18) (hnw : row σ 2116 = nI nw) (hNW : nw ≤ 1000) : PM g yX9_homePassages (ws_ yX9_homePassages cX9_homePassages 2 (some .int)) d 0 0 [.ref (ad 0)] (mm g ad μ σ) (rQ (some (.int (homePassV σ nw))) (mm g ad μ (σ))) := by
  refine PM.of (by decide +kernel) (Nat.le_of_ble_eq_true rfl) ?_
  show PJ g _ _ _ _ d 0 0 0 [(0, .ref (ad 0))] [] _ _
  refine pl_aload_n (pc := 0) dX9_homePassages_0 rfl rfl ?_
  refine pj_getf (pc := 1) ckX9 1 q2517 dX9_homePassages_1 (by decide) (mm_o hA) rfl ?_
  refine pl_sipush (pc := 4) (v := 2116) dX9_homePassages_4 (by rfl) ?_
  refine pl_iald (pc := 7) (n := 2132) dX9_homePassages_7 (mm_a hA 1 (by decide) (by decide)) (by omega) (by decide) ?_
  refine PJ.top (y := nI _) (hnw) ?_
  refine pl_bipush (pc := 8) (v := 34) dX9_homePassages_8 (by rfl) ?_
  refine pj_isub (pc := 10) dX9_homePassages_10 ?_
  rcases Nat.lt_or_ge nw 34 with hs11 | hs11
  · have hs9 := pk_sneg (a := nw) (b := 34) (by decide) hs11
    refine pj_istore_n (pc := 11) (lv' := [(1, _), (0, _)]) dX9_homePassages_11 rfl (by decide) rfl ?_
    refine pl_iload_n (pc := 12) dX9_homePassages_12 rfl rfl ?_
    refine pj_if_ge (pc := 13) (tgt := 20) dX9_homePassages_13 (by decide) (fun c13 => ?_) (fun c13 => ?_)
    · exact absurd hs9 (Int32.not_lt.mpr c13)
    · refine pl_iconst (pc := 16) (v := 0) dX9_homePassages_16 (by rfl) ?_
      refine pj_goto (pc := 17) (tgt := 26) dX9_homePassages_17 (by decide) ?_
      refine pl_aload_n (pc := 26) dX9_homePassages_26 rfl rfl ?_
      refine pj_getf (pc := 27) ckX9 1 q2517 dX9_homePassages_27 (by decide) (mm_o hA) rfl ?_
      refine pl_sipush (pc := 30) (v := 2120) dX9_homePassages_30 (by rfl) ?_
      refine pl_iald (pc := 33) (n := 2132) dX9_homePassages_33 (mm_a hA 1 (by decide) (by decide)) (by omega) (by decide) ?_
      refine pj_iadd (pc := 34) dX9_homePassages_34 ?_
      refine pl_aload_n (pc := 35) dX9_homePassages_35 rfl rfl ?_
      refine pj_getf (pc := 36) ckX9 1 q2517 dX9_homePassages_36 (by decide) (mm_o hA) rfl ?_
      refine pl_sipush (pc := 39) (v := 2121) dX9_homePassages_39 (by rfl) ?_
      refine pl_iald (pc := 42) (n := 2132) dX9_homePassages_42 (mm_a hA 1 (by decide) (by decide)) (by omega) (by decide) ?_
      refine pj_isub (pc := 43) dX9_homePassages_43 ?_
      refine pj_iret (pc := 44) dX9_homePassages_44 rfl ?_
      exact ⟨vIe (by simp [homePassV, hs11]) rfl, rfl⟩
  · refine PJ.top (y := nI (nw - 34)) (pk_sub hs11) ?_
    refine pj_istore_n (pc := 11) (lv' := [(1, _), (0, _)]) dX9_homePassages_11 rfl (by decide) rfl ?_
    refine pl_iload_n (pc := 12) dX9_homePassages_12 rfl rfl ?_
    refine pj_if_ge (pc := 13) (tgt := 20) dX9_homePassages_13 (by decide) (fun _ => ?_) (fun h => absurd (nI_pos' (by omega)) h)
    refine pl_aload_n (pc := 20) dX9_homePassages_20 rfl rfl ?_
    refine pl_iload_n (pc := 21) dX9_homePassages_21 rfl rfl ?_
    refine pl_iconst (pc := 22) (v := 5) dX9_homePassages_22 (by rfl) ?_
    refine pl_callVd (pc := 23) (As := [_, _]) (C2 := 0) (N2 := 0) ckX9 mdX9_row rfl q3022 q3024 qs106 q154 dX9_homePassages_23 rfl rfl (Nat.le_of_ble_eq_true rfl) (mm_o hA) (w_X9_row (d := d - 1) (by omega) hA (by omega) (by decide)) (by omega) (by decide) (by decide) ?_
    refine pl_aload_n (pc := 26) dX9_homePassages_26 rfl rfl ?_
    refine pj_getf (pc := 27) ckX9 1 q2517 dX9_homePassages_27 (by decide) (mm_o hA) rfl ?_
    refine pl_sipush (pc := 30) (v := 2120) dX9_homePassages_30 (by rfl) ?_
    refine pl_iald (pc := 33) (n := 2132) dX9_homePassages_33 (mm_a hA 1 (by decide) (by decide)) (by omega) (by decide) ?_
    refine pj_iadd (pc := 34) dX9_homePassages_34 ?_
    refine pl_aload_n (pc := 35) dX9_homePassages_35 rfl rfl ?_
    refine pj_getf (pc := 36) ckX9 1 q2517 dX9_homePassages_36 (by decide) (mm_o hA) rfl ?_
    refine pl_sipush (pc := 39) (v := 2121) dX9_homePassages_39 (by rfl) ?_
    refine pl_iald (pc := 42) (n := 2132) dX9_homePassages_42 (mm_a hA 1 (by decide) (by decide)) (by omega) (by decide) ?_
    refine pj_isub (pc := 43) dX9_homePassages_43 ?_
    refine pj_iret (pc := 44) dX9_homePassages_44 rfl ?_
    exact ⟨vIe (by simp [homePassV, show ¬ nw < 34 by omega]) rfl, rfl⟩
set_option maxHeartbeats 4000000 in
theorem w_X9_passages {g : GP} {ad : Nat → Nat} {μ : Mem} {σ : MS} {d : Nat}  {nw : Nat} (hd : 3 ≤ d) (hA : Inj ad 18) (hnw : row σ 2116 = nI nw) (hNW : nw ≤ 1000) : PM g yX9_passages (ws_ yX9_passages cX9_passages 1 (some .int)) d 0 0 [.ref (ad 0)] (mm g ad μ σ) (rQ (some (.int (homePassV (s0 σ) nw))) (mm g ad μ (s0 σ))) := by
  refine PM.of (by decide +kernel) (Nat.le_of_ble_eq_true rfl) ?_
  show PJ g _ _ _ _ d 0 0 0 [(0, .ref (ad 0))] [] _ _
  refine pl_aload_n (pc := 0) dX9_passages_0 rfl rfl ?_
  refine pl_iconst (pc := 1) (v := 0) dX9_passages_1 (by rfl) ?_
  refine pm_putI (pc := 2) 0 hA q2516 dX9_passages_2 (by decide) rfl (by rfl) (by rfl) rfl ?_
  refine pl_aload_n (pc := 5) dX9_passages_5 rfl rfl ?_
  refine pl_callVd (pc := 6) (As := []) (C2 := 0) (N2 := 0) ckX9 mdX9_homePassages rfl q3062 q3064 qs109 q154 dX9_passages_6 rfl rfl (Nat.le_of_ble_eq_true rfl) (mm_o hA) (w_X9_homePassages (d := d - 1) (by omega) hA hnw hNW) (by omega) (by decide) (by decide) ?_
  refine pj_iret (pc := 9) dX9_passages_9 rfl ?_
  exact ⟨rfl, rfl⟩
set_option maxHeartbeats 4000000 in
theorem w_X9_as {g : GP} {ad : Nat → Nat} {μ : Mem} {σ : MS} {d : Nat} {w : Int32} {h : Int32} {x : Int32} {nw : Nat} (hd : 2 ≤ d) (hA : Inj ad 18) (hnw : row σ 2116 = nI nw) (hNW : nw ≤ 1000) : PM g yX9_as (ws_ yX9_as cX9_as 4 (some .int)) d 0 0 [.ref (ad 0), .int w, .int h, .int x] (mm g ad μ σ) (rQ (some (.int ((p_as σ nw w h x).1))) (mm g ad μ ((p_as σ nw w h x).2))) := by
  refine PM.of (by decide +kernel) (Nat.le_of_ble_eq_true rfl) ?_
  show PJ g _ _ _ _ d 0 0 0 [(0, .ref (ad 0)), (1, .int w), (2, .int h), (3, .int x)] [] _ _
  refine pl_aload_n (pc := 0) dX9_as_0 rfl rfl ?_
  refine pl_iconst (pc := 1) (v := 0) dX9_as_1 (by rfl) ?_
  refine pm_putI (pc := 2) 0 hA q2516 dX9_as_2 (by decide) rfl (by rfl) (by rfl) rfl ?_
  refine pl_aload_n (pc := 5) dX9_as_5 rfl rfl ?_
  refine pl_iload_n (pc := 6) dX9_as_6 rfl rfl ?_
  refine pj_if_lt (pc := 7) (tgt := 24) dX9_as_7 (by decide) (fun c7 => ?_) (fun c7 => ?_)
  · refine pl_iconst (pc := 24) (v := 1) dX9_as_24 (by rfl) ?_
    refine pj_goto (pc := 25) (tgt := 29) dX9_as_25 (by decide) ?_
    refine pl_iconst (pc := 29) (v := 1) dX9_as_29 (by rfl) ?_
    refine pl_callVd (pc := 30) (As := [_, _]) (C2 := 0) (N2 := 0) ckX9 mdX9_bad rfl q2631 q2633 qs50 q154 dX9_as_30 rfl rfl (Nat.le_of_ble_eq_true rfl) (mm_o hA) (w_bad_1 (d := d - 1) (by omega) hA) (by omega) (by decide) (by decide) ?_
    refine pj_if_eq (pc := 33) (tgt := 38) dX9_as_33 (by decide) (fun h => absurd h (by decide)) (fun _ => ?_)
    refine pl_iconst (pc := 36) (v := 0) dX9_as_36 (by rfl) ?_
    refine pj_iret (pc := 37) dX9_as_37 rfl ?_
    exact ⟨vIe (by simp [p_as, c7]) rfl, congrArg (mm g ad μ) (by simp [p_as, c7])⟩
  · refine pl_iload_n (pc := 10) dX9_as_10 rfl rfl ?_
    refine pl_iconst (pc := 11) (v := 1) dX9_as_11 (by rfl) ?_
    refine pj_icmp_gt (pc := 12) (tgt := 24) dX9_as_12 (by decide) (fun c12 => ?_) (fun c12 => ?_)
    · refine pl_iconst (pc := 24) (v := 1) dX9_as_24 (by rfl) ?_
      refine pj_goto (pc := 25) (tgt := 29) dX9_as_25 (by decide) ?_
      refine pl_iconst (pc := 29) (v := 1) dX9_as_29 (by rfl) ?_
      refine pl_callVd (pc := 30) (As := [_, _]) (C2 := 0) (N2 := 0) ckX9 mdX9_bad rfl q2631 q2633 qs50 q154 dX9_as_30 rfl rfl (Nat.le_of_ble_eq_true rfl) (mm_o hA) (w_bad_1 (d := d - 1) (by omega) hA) (by omega) (by decide) (by decide) ?_
      refine pj_if_eq (pc := 33) (tgt := 38) dX9_as_33 (by decide) (fun h => absurd h (by decide)) (fun _ => ?_)
      refine pl_iconst (pc := 36) (v := 0) dX9_as_36 (by rfl) ?_
      refine pj_iret (pc := 37) dX9_as_37 rfl ?_
      exact ⟨vIe (by simp [p_as, c7, c12]) rfl, congrArg (mm g ad μ) (by simp [p_as, c7, c12])⟩
    · refine pl_iload_n (pc := 15) dX9_as_15 rfl rfl ?_
      refine pj_if_lt (pc := 16) (tgt := 24) dX9_as_16 (by decide) (fun c16 => ?_) (fun c16 => ?_)
      · refine pl_iconst (pc := 24) (v := 1) dX9_as_24 (by rfl) ?_
        refine pj_goto (pc := 25) (tgt := 29) dX9_as_25 (by decide) ?_
        refine pl_iconst (pc := 29) (v := 1) dX9_as_29 (by rfl) ?_
        refine pl_callVd (pc := 30) (As := [_, _]) (C2 := 0) (N2 := 0) ckX9 mdX9_bad rfl q2631 q2633 qs50 q154 dX9_as_30 rfl rfl (Nat.le_of_ble_eq_true rfl) (mm_o hA) (w_bad_1 (d := d - 1) (by omega) hA) (by omega) (by decide) (by decide) ?_
        refine pj_if_eq (pc := 33) (tgt := 38) dX9_as_33 (by decide) (fun h => absurd h (by decide)) (fun _ => ?_)
        refine pl_iconst (pc := 36) (v := 0) dX9_as_36 (by rfl) ?_
        refine pj_iret (pc := 37) dX9_as_37 rfl ?_
        exact ⟨vIe (by simp [p_as, c7, c12, c16]) rfl, congrArg (mm g ad μ) (by simp [p_as, c7, c12, c16])⟩
      · refine pl_iload_n (pc := 19) dX9_as_19 rfl rfl ?_
        refine pl_iconst (pc := 20) (v := 5) dX9_as_20 (by rfl) ?_
        refine pj_icmp_le (pc := 21) (tgt := 28) dX9_as_21 (by decide) (fun c21 => ?_) (fun c21 => ?_)
        · refine pl_iconst (pc := 28) (v := 0) dX9_as_28 (by rfl) ?_
          refine pl_iconst (pc := 29) (v := 1) dX9_as_29 (by rfl) ?_
          refine pl_callVd (pc := 30) (As := [_, _]) (C2 := 0) (N2 := 0) ckX9 mdX9_bad rfl q2631 q2633 qs50 q154 dX9_as_30 rfl rfl (Nat.le_of_ble_eq_true rfl) (mm_o hA) (w_bad_0 (d := d - 1) (by omega) hA) (by omega) (by decide) (by decide) ?_
          refine pj_if_eq (pc := 33) (tgt := 38) dX9_as_33 (by decide) (fun _ => ?_) (fun h => absurd h (by decide))
          refine pl_aload_n (pc := 38) dX9_as_38 rfl rfl ?_
          refine pl_iload_n (pc := 39) dX9_as_39 rfl rfl ?_
          refine pl_callVd (pc := 40) (As := [_]) (C2 := 0) (N2 := 0) ckX9 mdX9_isKnown rfl q3149 q3151 qs122 q154 dX9_as_40 rfl rfl (Nat.le_of_ble_eq_true rfl) (mm_o hA) (w_X9_isKnown (d := d - 1) (by omega) hA hnw hNW) (by omega) (by decide) (by decide) ?_
          refine pl_if_eqB (pc := 43) (tgt := 66) dX9_as_43 (by decide) (fun c43 => ?_) (fun c43 => ?_)
          · refine pj_ldcw (pc := 66) q3153 dX9_as_66 ?_
            refine pj_iret (pc := 69) dX9_as_69 rfl ?_
            exact ⟨vIe (by simp [p_as, c7, c12, c16, c21, c43]) rfl, congrArg (mm g ad μ) (by simp [p_as, c7, c12, c16, c21, c43])⟩
          · obtain ⟨j_w, hj_w, rfl⟩ := inN_of (by omega) c43
            have f_w := inN_nI hj_w (by omega)
            have g_w := nI_clamp (n := j_w) (by omega)
            refine pl_iload_n (pc := 46) dX9_as_46 rfl rfl ?_
            refine pl_iconst (pc := 47) (v := 1) dX9_as_47 (by rfl) ?_
            refine pj_icmp_ne (pc := 48) (tgt := 70) dX9_as_48 (by decide) (fun c48 => ?_) (fun c48 => ?_)
            · obtain ⟨j_x, hj_x, rfl⟩ := inN_of (n := 6) (by omega) (inN_ok c16 (fun z => Int32.lt_irrefl (Int32.lt_of_lt_of_le (by decide) (Int32.le_trans z c21))))
              have f_x := inN_nI hj_x (by omega)
              have g_x := nI_clamp (n := j_x) (by omega)
              refine pl_aload_n (pc := 70) dX9_as_70 rfl rfl ?_
              refine pl_iload_n (pc := 71) dX9_as_71 rfl rfl ?_
              refine pl_iload_n (pc := 72) dX9_as_72 rfl rfl ?_
              refine pl_callVd (pc := 73) (As := [_, _]) (C2 := 0) (N2 := 0) ckX9 mdX9_row rfl q3022 q3024 qs106 q154 dX9_as_73 rfl rfl (Nat.le_of_ble_eq_true rfl) (mm_o hA) (w_X9_row (d := d - 1) (by omega) hA (by omega) (by omega)) (by omega) (by decide) (by decide) ?_
              refine pj_iret (pc := 76) dX9_as_76 rfl ?_
              exact ⟨vIe (by simp [p_as, c7, c12, c16, c21, c43, f_w, g_w, c48, f_x, g_x]) rfl, congrArg (mm g ad μ) (by simp [p_as, c7, c12, c16, c21, c43, f_w, g_w, c48, f_x, g_x])⟩
            · refine pl_iload_n (pc := 51) dX9_as_51 rfl rfl ?_
              refine pl_aload_n (pc := 52) dX9_as_52 rfl rfl ?_
              refine pj_getf (pc := 53) ckX9 1 q2517 dX9_as_53 (by decide) (mm_o hA) rfl ?_
              refine pl_sipush (pc := 56) (v := 2116) dX9_as_56 (by rfl) ?_
              refine pl_iald (pc := 59) (n := 2132) dX9_as_59 (mm_a hA 1 (by decide) (by decide)) (by omega) (by decide) ?_
              refine PJ.top (y := nI _) (hnw) ?_
              refine pl_bipush (pc := 60) (v := 34) dX9_as_60 (by rfl) ?_
              refine pj_isub (pc := 62) dX9_as_62 ?_
              refine pj_icmp_le (pc := 63) (tgt := 70) dX9_as_63 (by decide) (fun c63 => ?_) (fun c63 => ?_)
              · obtain ⟨j_x, hj_x, rfl⟩ := inN_of (n := 6) (by omega) (inN_ok c16 (fun z => Int32.lt_irrefl (Int32.lt_of_lt_of_le (by decide) (Int32.le_trans z c21))))
                have f_x := inN_nI hj_x (by omega)
                have g_x := nI_clamp (n := j_x) (by omega)
                refine pl_aload_n (pc := 70) dX9_as_70 rfl rfl ?_
                refine pl_iload_n (pc := 71) dX9_as_71 rfl rfl ?_
                refine pl_iload_n (pc := 72) dX9_as_72 rfl rfl ?_
                refine pl_callVd (pc := 73) (As := [_, _]) (C2 := 0) (N2 := 0) ckX9 mdX9_row rfl q3022 q3024 qs106 q154 dX9_as_73 rfl rfl (Nat.le_of_ble_eq_true rfl) (mm_o hA) (w_X9_row (d := d - 1) (by omega) hA (by omega) (by omega)) (by omega) (by decide) (by decide) ?_
                refine pj_iret (pc := 76) dX9_as_76 rfl ?_
                exact ⟨vIe (by simp [p_as, c7, c12, c16, c21, c43, f_w, g_w, eq_true c48, c63, f_x, g_x]) rfl, congrArg (mm g ad μ) (by simp [p_as, c7, c12, c16, c21, c43, f_w, g_w, eq_true c48, c63, f_x, g_x])⟩
              · refine pj_ldcw (pc := 66) q3153 dX9_as_66 ?_
                refine pj_iret (pc := 69) dX9_as_69 rfl ?_
                exact ⟨vIe (by simp [p_as, c7, c12, c16, c21, c43, f_w, g_w, eq_true c48, c63]) rfl, congrArg (mm g ad μ) (by simp [p_as, c7, c12, c16, c21, c43, f_w, g_w, eq_true c48, c63])⟩
        · refine pl_iconst (pc := 24) (v := 1) dX9_as_24 (by rfl) ?_
          refine pj_goto (pc := 25) (tgt := 29) dX9_as_25 (by decide) ?_
          refine pl_iconst (pc := 29) (v := 1) dX9_as_29 (by rfl) ?_
          refine pl_callVd (pc := 30) (As := [_, _]) (C2 := 0) (N2 := 0) ckX9 mdX9_bad rfl q2631 q2633 qs50 q154 dX9_as_30 rfl rfl (Nat.le_of_ble_eq_true rfl) (mm_o hA) (w_bad_1 (d := d - 1) (by omega) hA) (by omega) (by decide) (by decide) ?_
          refine pj_if_eq (pc := 33) (tgt := 38) dX9_as_33 (by decide) (fun h => absurd h (by decide)) (fun _ => ?_)
          refine pl_iconst (pc := 36) (v := 0) dX9_as_36 (by rfl) ?_
          refine pj_iret (pc := 37) dX9_as_37 rfl ?_
          exact ⟨vIe (by simp [p_as, c7, c12, c16, c21]) rfl, congrArg (mm g ad μ) (by simp [p_as, c7, c12, c16, c21])⟩
set_option maxHeartbeats 4000000 in
theorem w_X9_billed {g : GP} {ad : Nat → Nat} {μ : Mem} {σ : MS} {d : Nat} {b : Int32} {nb : Nat} (hd : 2 ≤ d) (hA : Inj ad 18) (hb : row σ 2126 = nI nb) (hB : nb ≤ 20) : PM g yX9_billed (ws_ yX9_billed cX9_billed 2 (some .int)) d 0 0 [.ref (ad 0), .int b] (mm g ad μ σ) (rQ (some (.int ((p_billed σ nb b).1))) (mm g ad μ ((p_billed σ nb b).2))) := by
  refine PM.of (by decide +kernel) (Nat.le_of_ble_eq_true rfl) ?_
  show PJ g _ _ _ _ d 0 0 0 [(0, .ref (ad 0)), (1, .int b)] [] _ _
  refine pl_aload_n (pc := 0) dX9_billed_0 rfl rfl ?_
  refine pl_iconst (pc := 1) (v := 0) dX9_billed_1 (by rfl) ?_
  refine pm_putI (pc := 2) 0 hA q2516 dX9_billed_2 (by decide) rfl (by rfl) (by rfl) rfl ?_
  refine pl_aload_n (pc := 5) dX9_billed_5 rfl rfl ?_
  refine pl_aload_n (pc := 6) dX9_billed_6 rfl rfl ?_
  refine pl_iload_n (pc := 7) dX9_billed_7 rfl rfl ?_
  refine pl_callVd (pc := 8) (As := [_]) (C2 := 0) (N2 := 0) ckX9 mdX9_isBill rfl q3083 q3085 qs110 q154 dX9_billed_8 rfl rfl (Nat.le_of_ble_eq_true rfl) (mm_o hA) (w_X9_isBill (d := d - 1) (by omega) hA (by first | omega | assumption | exact hn | exact hl | exact hb | exact hq | exact hdr | exact has)) (by omega) (by decide) (by decide) ?_
  refine pl_if_neB (pc := 11) (tgt := 18) dX9_billed_11 (by decide) (fun c11 => ?_) (fun c11 => ?_)
  · obtain ⟨j_b, hj_b, rfl⟩ := inN_of (by omega) c11
    have f_b := inN_nI hj_b (by omega)
    have g_b := nI_clamp (n := j_b) (by omega)
    refine pl_iconst (pc := 18) (v := 0) dX9_billed_18 (by rfl) ?_
    refine pl_iconst (pc := 19) (v := 1) dX9_billed_19 (by rfl) ?_
    refine pl_callVd (pc := 20) (As := [_, _]) (C2 := 0) (N2 := 0) ckX9 mdX9_bad rfl q2631 q2633 qs50 q154 dX9_billed_20 rfl rfl (Nat.le_of_ble_eq_true rfl) (mm_o hA) (w_bad_0 (d := d - 1) (by omega) hA) (by omega) (by decide) (by decide) ?_
    refine pj_if_eq (pc := 23) (tgt := 30) dX9_billed_23 (by decide) (fun _ => ?_) (fun h => absurd h (by decide))
    refine pl_aload_n (pc := 30) dX9_billed_30 rfl rfl ?_
    refine pj_getf (pc := 31) ckX9 1 q2517 dX9_billed_31 (by decide) (mm_o hA) rfl ?_
    refine pl_sipush (pc := 34) (v := 1640) dX9_billed_34 (by rfl) ?_
    refine pl_iconst (pc := 37) (v := 4) dX9_billed_37 (by rfl) ?_
    refine pl_iload_n (pc := 38) dX9_billed_38 rfl rfl ?_
    refine pl_imul (pc := 39) dX9_billed_39 ?_
    refine pl_iadd (pc := 40) dX9_billed_40 ?_
    refine pl_iconst (pc := 41) (v := 2) dX9_billed_41 (by rfl) ?_
    refine pl_iadd (pc := 42) dX9_billed_42 ?_
    refine pl_iald (pc := 43) (n := 2132) dX9_billed_43 (mm_a hA 1 (by decide) (by decide)) (by omega) (by decide) ?_
    refine pj_iret (pc := 44) dX9_billed_44 rfl ?_
    exact ⟨vIe (by simp [p_billed, c11, f_b, g_b]) rfl, congrArg (mm g ad μ) (by simp [p_billed, c11, f_b, g_b])⟩
  · refine pl_iconst (pc := 14) (v := 1) dX9_billed_14 (by rfl) ?_
    refine pj_goto (pc := 15) (tgt := 19) dX9_billed_15 (by decide) ?_
    refine pl_iconst (pc := 19) (v := 1) dX9_billed_19 (by rfl) ?_
    refine pl_callVd (pc := 20) (As := [_, _]) (C2 := 0) (N2 := 0) ckX9 mdX9_bad rfl q2631 q2633 qs50 q154 dX9_billed_20 rfl rfl (Nat.le_of_ble_eq_true rfl) (mm_o hA) (w_bad_1 (d := d - 1) (by omega) hA) (by omega) (by decide) (by decide) ?_
    refine pj_if_eq (pc := 23) (tgt := 30) dX9_billed_23 (by decide) (fun h => absurd h (by decide)) (fun _ => ?_)
    refine pl_iconst (pc := 26) (v := 0) dX9_billed_26 (by rfl) ?_
    refine pj_goto (pc := 27) (tgt := 44) dX9_billed_27 (by decide) ?_
    refine pj_iret (pc := 44) dX9_billed_44 rfl ?_
    exact ⟨vIe (by simp [p_billed, c11]) rfl, congrArg (mm g ad μ) (by simp [p_billed, c11])⟩
set_option maxHeartbeats 4000000 in
theorem w_X9_force {g : GP} {ad : Nat → Nat} {μ : Mem} {σ : MS} {d : Nat} {l : Int32} {nl : Nat} (hd : 2 ≤ d) (hA : Inj ad 18) (hl : row σ 2125 = nI nl) (hL : nl ≤ 12) : PM g yX9_force (ws_ yX9_force cX9_force 2 (some .int)) d 0 0 [.ref (ad 0), .int l] (mm g ad μ σ) (rQ (some (.int ((p_force σ nl l).1))) (mm g ad μ ((p_force σ nl l).2))) := by
  refine PM.of (by decide +kernel) (Nat.le_of_ble_eq_true rfl) ?_
  show PJ g _ _ _ _ d 0 0 0 [(0, .ref (ad 0)), (1, .int l)] [] _ _
  refine pl_aload_n (pc := 0) dX9_force_0 rfl rfl ?_
  refine pl_iconst (pc := 1) (v := 0) dX9_force_1 (by rfl) ?_
  refine pm_putI (pc := 2) 0 hA q2516 dX9_force_2 (by decide) rfl (by rfl) (by rfl) rfl ?_
  refine pl_aload_n (pc := 5) dX9_force_5 rfl rfl ?_
  refine pl_aload_n (pc := 6) dX9_force_6 rfl rfl ?_
  refine pl_iload_n (pc := 7) dX9_force_7 rfl rfl ?_
  refine pl_callVd (pc := 8) (As := [_]) (C2 := 0) (N2 := 0) ckX9 mdX9_isLaw rfl q2974 q2976 qs99 q154 dX9_force_8 rfl rfl (Nat.le_of_ble_eq_true rfl) (mm_o hA) (w_X9_isLaw (d := d - 1) (by omega) hA (by first | omega | assumption | exact hn | exact hl | exact hb | exact hq | exact hdr | exact has)) (by omega) (by decide) (by decide) ?_
  refine pl_if_neB (pc := 11) (tgt := 18) dX9_force_11 (by decide) (fun c11 => ?_) (fun c11 => ?_)
  · obtain ⟨j_l, hj_l, rfl⟩ := inN_of (by omega) c11
    have f_l := inN_nI hj_l (by omega)
    have g_l := nI_clamp (n := j_l) (by omega)
    refine pl_iconst (pc := 18) (v := 0) dX9_force_18 (by rfl) ?_
    refine pl_iconst (pc := 19) (v := 1) dX9_force_19 (by rfl) ?_
    refine pl_callVd (pc := 20) (As := [_, _]) (C2 := 0) (N2 := 0) ckX9 mdX9_bad rfl q2631 q2633 qs50 q154 dX9_force_20 rfl rfl (Nat.le_of_ble_eq_true rfl) (mm_o hA) (w_bad_0 (d := d - 1) (by omega) hA) (by omega) (by decide) (by decide) ?_
    refine pj_if_eq (pc := 23) (tgt := 30) dX9_force_23 (by decide) (fun _ => ?_) (fun h => absurd h (by decide))
    refine pl_aload_n (pc := 30) dX9_force_30 rfl rfl ?_
    refine pl_iload_n (pc := 31) dX9_force_31 rfl rfl ?_
    refine pl_iconst (pc := 32) (v := 0) dX9_force_32 (by rfl) ?_
    refine pl_callVd (pc := 33) (As := [_, _]) (C2 := 0) (N2 := 0) ckX9 mdX9_ofLaw rfl q2934 q2936 qs94 q154 dX9_force_33 rfl rfl (Nat.le_of_ble_eq_true rfl) (mm_o hA) (w_X9_ofLaw (d := d - 1) (by omega) hA (by first | omega | assumption | exact hn | exact hl | exact hb | exact hq | exact hdr | exact has) (by first | omega | assumption | exact hn | exact hl | exact hb | exact hq | exact hdr | exact has)) (by omega) (by decide) (by decide) ?_
    refine pj_iret (pc := 36) dX9_force_36 rfl ?_
    exact ⟨vIe (by simp [p_force, c11, f_l, g_l]) rfl, congrArg (mm g ad μ) (by simp [p_force, c11, f_l, g_l])⟩
  · refine pl_iconst (pc := 14) (v := 1) dX9_force_14 (by rfl) ?_
    refine pj_goto (pc := 15) (tgt := 19) dX9_force_15 (by decide) ?_
    refine pl_iconst (pc := 19) (v := 1) dX9_force_19 (by rfl) ?_
    refine pl_callVd (pc := 20) (As := [_, _]) (C2 := 0) (N2 := 0) ckX9 mdX9_bad rfl q2631 q2633 qs50 q154 dX9_force_20 rfl rfl (Nat.le_of_ble_eq_true rfl) (mm_o hA) (w_bad_1 (d := d - 1) (by omega) hA) (by omega) (by decide) (by decide) ?_
    refine pj_if_eq (pc := 23) (tgt := 30) dX9_force_23 (by decide) (fun h => absurd h (by decide)) (fun _ => ?_)
    refine pl_iconst (pc := 26) (v := 0) dX9_force_26 (by rfl) ?_
    refine pj_goto (pc := 27) (tgt := 36) dX9_force_27 (by decide) ?_
    refine pj_iret (pc := 36) dX9_force_36 rfl ?_
    exact ⟨vIe (by simp [p_force, c11]) rfl, congrArg (mm g ad μ) (by simp [p_force, c11])⟩
set_option maxHeartbeats 4000000 in
theorem w_X9_fallen {g : GP} {ad : Nat → Nat} {μ : Mem} {σ : MS} {d : Nat} {z : Nat} {w : Nat}  (hd : 2 ≤ d) (hA : Inj ad 18) (hz : z < 4) (hw : w ≤ 1000) (hR : ∀ z, z < 4 → ∃ r, r ≤ 1000 ∧ σ.2.1 6 z = nI r) : PM g yX9_fallen (ws_ yX9_fallen cX9_fallen 6 (some .int)) d 0 0 [.ref (ad 0), .int (nI z), .int (nI w)] (mm g ad μ σ) (rQ (some (.int (fallV σ z w))) (mm g ad μ (σ))) := by
  refine PM.of (by decide +kernel) (Nat.le_of_ble_eq_true rfl) ?_
  show PJ g _ _ _ _ d 0 0 0 [(0, .ref (ad 0)), (1, .int (nI z)), (2, .int (nI w))] [] _ _
  rcases (show z = 0 ∨ z = 1 ∨ z = 2 ∨ z = 3 by omega) with rfl | rfl | rfl | rfl
  · refine pl_aload_n (pc := 0) dX9_fallen_0 rfl rfl ?_
    refine pj_getf (pc := 1) ckX9 7 q2523 dX9_fallen_1 (by decide) (mm_o hA) rfl ?_
    refine pj_if_lt (pc := 4) (tgt := 12) dX9_fallen_4 (by decide) (fun c4 => ?_) (fun c4 => ?_)
    · refine pl_iload_n (pc := 12) dX9_fallen_12 rfl rfl ?_
      refine pl_aload_n (pc := 13) dX9_fallen_13 rfl rfl ?_
      refine pj_getf (pc := 14) ckX9 6 q2522 dX9_fallen_14 (by decide) (mm_o hA) rfl ?_
      refine pl_iload_n (pc := 17) dX9_fallen_17 rfl rfl ?_
      refine pl_iald (pc := 18) (n := 4) dX9_fallen_18 (mm_a hA 6 (by decide) (by decide)) (by omega) (by decide) ?_
      refine pj_icmp_lt (pc := 19) (tgt := 25) dX9_fallen_19 (by decide) (fun c19 => ?_) (fun c19 => ?_)
      · have hw2 : w < 1000 := by
          obtain ⟨r, hr, er⟩ := hR 0 (by decide)
          have h9 := c19
          rw [er] at h9
          have := (nI_ltI (by omega) (by omega)).mp h9
          omega
        clear hR
        refine pl_aload_n (pc := 25) dX9_fallen_25 rfl rfl ?_
        refine pj_getf (pc := 26) ckX9 5 q2521 dX9_fallen_26 (by decide) (mm_o hA) rfl ?_
        refine pl_sipush (pc := 29) (v := 1000) dX9_fallen_29 (by rfl) ?_
        refine pl_iload_n (pc := 32) dX9_fallen_32 rfl rfl ?_
        refine pl_imul (pc := 33) dX9_fallen_33 ?_
        refine pl_iload_n (pc := 34) dX9_fallen_34 rfl rfl ?_
        refine pl_iadd (pc := 35) dX9_fallen_35 ?_
        refine pl_iald (pc := 36) (n := 4000) dX9_fallen_36 (mm_a hA 5 (by decide) (by decide)) (by omega) (by decide) ?_
        refine pj_if_lt (pc := 37) (tgt := 53) dX9_fallen_37 (by decide) (fun c37 => ?_) (fun c37 => ?_)
        · refine pl_iconst (pc := 53) (v := 0) dX9_fallen_53 (by rfl) ?_
          refine pj_istore_n (pc := 54) (lv' := [(3, _), (0, _), (1, _), (2, _)]) dX9_fallen_54 rfl (by decide) rfl ?_
          refine pl_iconst (pc := 55) (v := 0) dX9_fallen_55 (by rfl) ?_
          refine pj_istore (pc := 56) (lv' := [(4, _), (3, _), (0, _), (1, _), (2, _)]) dX9_fallen_56 (by decide) rfl ?_
          refine pl_iload_n (pc := 58) dX9_fallen_58 rfl rfl ?_
          refine pl_iconst (pc := 59) (v := 1) dX9_fallen_59 (by rfl) ?_
          refine pj_isub (pc := 60) dX9_fallen_60 ?_
          refine PJ.top (y := (-1)) (by decide) ?_
          refine pj_istore (pc := 61) (lv' := [(5, _), (4, _), (3, _), (0, _), (1, _), (2, _)]) dX9_fallen_61 (by decide) rfl ?_
          refine pl_iload (pc := 63) dX9_fallen_63 rfl ?_
          refine pl_iload_n (pc := 65) dX9_fallen_65 rfl rfl ?_
          refine pl_iconst (pc := 66) (v := 1) dX9_fallen_66 (by rfl) ?_
          refine pl_iadd (pc := 67) dX9_fallen_67 ?_
          refine pj_icmp_gt (pc := 68) (tgt := 137) dX9_fallen_68 (by decide) (fun h => absurd h (by decide)) (fun _ => ?_)
          refine pl_aload_n (pc := 71) dX9_fallen_71 rfl rfl ?_
          refine pl_iload (pc := 72) dX9_fallen_72 rfl ?_
          refine pl_callVd (pc := 74) (As := [_]) (C2 := 0) (N2 := 0) ckX9 mdX9_isZone rfl q2643 q2645 qs52 q154 dX9_fallen_74 rfl rfl (Nat.le_of_ble_eq_true rfl) (mm_o hA) (PM.ret (w := some (.int (nI 0))) (by rfl) rfl (w_X9_isZone (d := d - 1) (by omega) hA)) (by omega) (by decide) (by decide) ?_
          refine pj_if_eq (pc := 77) (tgt := 131) dX9_fallen_77 (by decide) (fun _ => ?_) (fun h => absurd h (by decide))
          refine pl_iinc (pc := 131) (v := nI 1) (lv' := [(5, _), (4, _), (3, _), (0, _), (1, _), (2, _)]) dX9_fallen_131 rfl (by rfl) (by decide) rfl ?_
          refine pj_goto (pc := 134) (tgt := 63) dX9_fallen_134 (by decide) ?_
          refine pl_iload (pc := 63) dX9_fallen_63 rfl ?_
          refine pl_iload_n (pc := 65) dX9_fallen_65 rfl rfl ?_
          refine pl_iconst (pc := 66) (v := 1) dX9_fallen_66 (by rfl) ?_
          refine pl_iadd (pc := 67) dX9_fallen_67 ?_
          refine pj_icmp_gt (pc := 68) (tgt := 137) dX9_fallen_68 (by decide) (fun h => absurd h (by decide)) (fun _ => ?_)
          refine pl_aload_n (pc := 71) dX9_fallen_71 rfl rfl ?_
          refine pl_iload (pc := 72) dX9_fallen_72 rfl ?_
          refine pl_callVd (pc := 74) (As := [_]) (C2 := 0) (N2 := 0) ckX9 mdX9_isZone rfl q2643 q2645 qs52 q154 dX9_fallen_74 rfl rfl (Nat.le_of_ble_eq_true rfl) (mm_o hA) (PM.ret (w := some (.int (nI 1))) (by rfl) rfl (w_X9_isZone (d := d - 1) (by omega) hA)) (by omega) (by decide) (by decide) ?_
          refine pj_if_eq (pc := 77) (tgt := 131) dX9_fallen_77 (by decide) (fun h => absurd h (by decide)) (fun _ => ?_)
          refine pl_iload_n (pc := 80) dX9_fallen_80 rfl rfl ?_
          refine pl_aload_n (pc := 81) dX9_fallen_81 rfl rfl ?_
          refine pj_getf (pc := 82) ckX9 6 q2522 dX9_fallen_82 (by decide) (mm_o hA) rfl ?_
          refine pl_iload (pc := 85) dX9_fallen_85 rfl ?_
          refine pl_iald (pc := 87) (n := 4) dX9_fallen_87 (mm_a hA 6 (by decide) (by decide)) (by omega) (by decide) ?_
          refine pj_icmp_ge (pc := 88) (tgt := 131) dX9_fallen_88 (by decide) (fun c88 => ?_) (fun c88 => ?_)
          · refine pl_iinc (pc := 131) (v := nI 3) (lv' := [(5, _), (4, _), (3, _), (0, _), (1, _), (2, _)]) dX9_fallen_131 rfl (by rfl) (by decide) rfl ?_
            refine pj_goto (pc := 134) (tgt := 63) dX9_fallen_134 (by decide) ?_
            refine pl_iload (pc := 63) dX9_fallen_63 rfl ?_
            refine pl_iload_n (pc := 65) dX9_fallen_65 rfl rfl ?_
            refine pl_iconst (pc := 66) (v := 1) dX9_fallen_66 (by rfl) ?_
            refine pl_iadd (pc := 67) dX9_fallen_67 ?_
            refine pj_icmp_gt (pc := 68) (tgt := 137) dX9_fallen_68 (by decide) (fun _ => ?_) (fun h => absurd h (by decide))
            refine pl_iload_n (pc := 137) dX9_fallen_137 rfl rfl ?_
            refine pj_if_ne (pc := 138) (tgt := 145) dX9_fallen_138 (by decide) (fun h => absurd h (by decide)) (fun _ => ?_)
            refine pl_iconst (pc := 141) (v := 0) dX9_fallen_141 (by rfl) ?_
            refine pj_goto (pc := 142) (tgt := 149) dX9_fallen_142 (by decide) ?_
            refine pj_iret (pc := 149) dX9_fallen_149 rfl ?_
            exact ⟨vIe (by simp_all [fallV, nbN, nbS, tl, rn, rm, ← Int32.not_le]) rfl, rfl⟩
          · refine pl_aload_n (pc := 91) dX9_fallen_91 rfl rfl ?_
            refine pj_getf (pc := 92) ckX9 5 q2521 dX9_fallen_92 (by decide) (mm_o hA) rfl ?_
            refine pl_sipush (pc := 95) (v := 1000) dX9_fallen_95 (by rfl) ?_
            refine pl_iload (pc := 98) dX9_fallen_98 rfl ?_
            refine pl_imul (pc := 100) dX9_fallen_100 ?_
            refine pl_iload_n (pc := 101) dX9_fallen_101 rfl rfl ?_
            refine pl_iadd (pc := 102) dX9_fallen_102 ?_
            refine pl_iald (pc := 103) (n := 4000) dX9_fallen_103 (mm_a hA 5 (by decide) (by decide)) (by omega) (by decide) ?_
            refine pj_if_ge (pc := 104) (tgt := 110) dX9_fallen_104 (by decide) (fun c104 => ?_) (fun c104 => ?_)
            · refine pl_iload (pc := 110) dX9_fallen_110 rfl ?_
              refine pl_aload_n (pc := 112) dX9_fallen_112 rfl rfl ?_
              refine pj_getf (pc := 113) ckX9 5 q2521 dX9_fallen_113 (by decide) (mm_o hA) rfl ?_
              refine pl_sipush (pc := 116) (v := 1000) dX9_fallen_116 (by rfl) ?_
              refine pl_iload (pc := 119) dX9_fallen_119 rfl ?_
              refine pl_imul (pc := 121) dX9_fallen_121 ?_
              refine pl_iload_n (pc := 122) dX9_fallen_122 rfl rfl ?_
              refine pl_iadd (pc := 123) dX9_fallen_123 ?_
              refine pl_iald (pc := 124) (n := 4000) dX9_fallen_124 (mm_a hA 5 (by decide) (by decide)) (by omega) (by decide) ?_
              refine pj_iadd (pc := 125) dX9_fallen_125 ?_
              refine pj_istore (pc := 126) (lv' := [(4, _), (5, _), (3, _), (0, _), (1, _), (2, _)]) dX9_fallen_126 (by decide) rfl ?_
              refine pl_iinc (pc := 128) (v := nI 1) (lv' := [(3, _), (4, _), (5, _), (0, _), (1, _), (2, _)]) dX9_fallen_128 rfl (by rfl) (by decide) rfl ?_
              refine pl_iinc (pc := 131) (v := nI 3) (lv' := [(5, _), (3, _), (4, _), (0, _), (1, _), (2, _)]) dX9_fallen_131 rfl (by rfl) (by decide) rfl ?_
              refine pj_goto (pc := 134) (tgt := 63) dX9_fallen_134 (by decide) ?_
              refine pl_iload (pc := 63) dX9_fallen_63 rfl ?_
              refine pl_iload_n (pc := 65) dX9_fallen_65 rfl rfl ?_
              refine pl_iconst (pc := 66) (v := 1) dX9_fallen_66 (by rfl) ?_
              refine pl_iadd (pc := 67) dX9_fallen_67 ?_
              refine pj_icmp_gt (pc := 68) (tgt := 137) dX9_fallen_68 (by decide) (fun _ => ?_) (fun h => absurd h (by decide))
              refine pl_iload_n (pc := 137) dX9_fallen_137 rfl rfl ?_
              refine pj_if_ne (pc := 138) (tgt := 145) dX9_fallen_138 (by decide) (fun _ => ?_) (fun h => absurd h (by decide))
              refine pl_iload (pc := 145) dX9_fallen_145 rfl ?_
              refine pl_iload_n (pc := 147) dX9_fallen_147 rfl rfl ?_
              refine pj_idiv (pc := 148) dX9_fallen_148 (by decide) ?_
              refine pj_iret (pc := 149) dX9_fallen_149 rfl ?_
              exact ⟨vIe (by simp_all [fallV, nbN, nbS, tl, rn, rm, ← Int32.not_le]) rfl, rfl⟩
            · refine pj_goto (pc := 107) (tgt := 131) dX9_fallen_107 (by decide) ?_
              refine pl_iinc (pc := 131) (v := nI 3) (lv' := [(5, _), (4, _), (3, _), (0, _), (1, _), (2, _)]) dX9_fallen_131 rfl (by rfl) (by decide) rfl ?_
              refine pj_goto (pc := 134) (tgt := 63) dX9_fallen_134 (by decide) ?_
              refine pl_iload (pc := 63) dX9_fallen_63 rfl ?_
              refine pl_iload_n (pc := 65) dX9_fallen_65 rfl rfl ?_
              refine pl_iconst (pc := 66) (v := 1) dX9_fallen_66 (by rfl) ?_
              refine pl_iadd (pc := 67) dX9_fallen_67 ?_
              refine pj_icmp_gt (pc := 68) (tgt := 137) dX9_fallen_68 (by decide) (fun _ => ?_) (fun h => absurd h (by decide))
              refine pl_iload_n (pc := 137) dX9_fallen_137 rfl rfl ?_
              refine pj_if_ne (pc := 138) (tgt := 145) dX9_fallen_138 (by decide) (fun h => absurd h (by decide)) (fun _ => ?_)
              refine pl_iconst (pc := 141) (v := 0) dX9_fallen_141 (by rfl) ?_
              refine pj_goto (pc := 142) (tgt := 149) dX9_fallen_142 (by decide) ?_
              refine pj_iret (pc := 149) dX9_fallen_149 rfl ?_
              exact ⟨vIe (by simp_all [fallV, nbN, nbS, tl, rn, rm, ← Int32.not_le]) rfl, rfl⟩
        · refine pl_aload_n (pc := 40) dX9_fallen_40 rfl rfl ?_
          refine pj_getf (pc := 41) ckX9 5 q2521 dX9_fallen_41 (by decide) (mm_o hA) rfl ?_
          refine pl_sipush (pc := 44) (v := 1000) dX9_fallen_44 (by rfl) ?_
          refine pl_iload_n (pc := 47) dX9_fallen_47 rfl rfl ?_
          refine pl_imul (pc := 48) dX9_fallen_48 ?_
          refine pl_iload_n (pc := 49) dX9_fallen_49 rfl rfl ?_
          refine pl_iadd (pc := 50) dX9_fallen_50 ?_
          refine pl_iald (pc := 51) (n := 4000) dX9_fallen_51 (mm_a hA 5 (by decide) (by decide)) (by omega) (by decide) ?_
          refine pj_iret (pc := 52) dX9_fallen_52 rfl ?_
          exact ⟨vIe (by simp_all [fallV, nbN, nbS, tl, rn, rm, ← Int32.not_le]) rfl, rfl⟩
      · refine pl_bipush (pc := 22) (v := 10) dX9_fallen_22 (by rfl) ?_
        refine pj_iret (pc := 24) dX9_fallen_24 rfl ?_
        exact ⟨vIe (by simp_all [fallV, nbN, nbS, tl, rn, rm, ← Int32.not_le]) rfl, rfl⟩
    · refine pl_aload_n (pc := 7) dX9_fallen_7 rfl rfl ?_
      refine pj_getf (pc := 8) ckX9 7 q2523 dX9_fallen_8 (by decide) (mm_o hA) rfl ?_
      refine pj_iret (pc := 11) dX9_fallen_11 rfl ?_
      exact ⟨vIe (by simp_all [fallV, nbN, nbS, tl, rn, rm, ← Int32.not_le]) rfl, rfl⟩
  · refine pl_aload_n (pc := 0) dX9_fallen_0 rfl rfl ?_
    refine pj_getf (pc := 1) ckX9 7 q2523 dX9_fallen_1 (by decide) (mm_o hA) rfl ?_
    refine pj_if_lt (pc := 4) (tgt := 12) dX9_fallen_4 (by decide) (fun c4 => ?_) (fun c4 => ?_)
    · refine pl_iload_n (pc := 12) dX9_fallen_12 rfl rfl ?_
      refine pl_aload_n (pc := 13) dX9_fallen_13 rfl rfl ?_
      refine pj_getf (pc := 14) ckX9 6 q2522 dX9_fallen_14 (by decide) (mm_o hA) rfl ?_
      refine pl_iload_n (pc := 17) dX9_fallen_17 rfl rfl ?_
      refine pl_iald (pc := 18) (n := 4) dX9_fallen_18 (mm_a hA 6 (by decide) (by decide)) (by omega) (by decide) ?_
      refine pj_icmp_lt (pc := 19) (tgt := 25) dX9_fallen_19 (by decide) (fun c19 => ?_) (fun c19 => ?_)
      · have hw2 : w < 1000 := by
          obtain ⟨r, hr, er⟩ := hR 1 (by decide)
          have h9 := c19
          rw [er] at h9
          have := (nI_ltI (by omega) (by omega)).mp h9
          omega
        clear hR
        refine pl_aload_n (pc := 25) dX9_fallen_25 rfl rfl ?_
        refine pj_getf (pc := 26) ckX9 5 q2521 dX9_fallen_26 (by decide) (mm_o hA) rfl ?_
        refine pl_sipush (pc := 29) (v := 1000) dX9_fallen_29 (by rfl) ?_
        refine pl_iload_n (pc := 32) dX9_fallen_32 rfl rfl ?_
        refine pl_imul (pc := 33) dX9_fallen_33 ?_
        refine pl_iload_n (pc := 34) dX9_fallen_34 rfl rfl ?_
        refine pl_iadd (pc := 35) dX9_fallen_35 ?_
        refine pl_iald (pc := 36) (n := 4000) dX9_fallen_36 (mm_a hA 5 (by decide) (by decide)) (by omega) (by decide) ?_
        refine pj_if_lt (pc := 37) (tgt := 53) dX9_fallen_37 (by decide) (fun c37 => ?_) (fun c37 => ?_)
        · refine pl_iconst (pc := 53) (v := 0) dX9_fallen_53 (by rfl) ?_
          refine pj_istore_n (pc := 54) (lv' := [(3, _), (0, _), (1, _), (2, _)]) dX9_fallen_54 rfl (by decide) rfl ?_
          refine pl_iconst (pc := 55) (v := 0) dX9_fallen_55 (by rfl) ?_
          refine pj_istore (pc := 56) (lv' := [(4, _), (3, _), (0, _), (1, _), (2, _)]) dX9_fallen_56 (by decide) rfl ?_
          refine pl_iload_n (pc := 58) dX9_fallen_58 rfl rfl ?_
          refine pl_iconst (pc := 59) (v := 1) dX9_fallen_59 (by rfl) ?_
          refine pj_isub (pc := 60) dX9_fallen_60 ?_
          refine PJ.top (y := nI 0) (by decide) ?_
          refine pj_istore (pc := 61) (lv' := [(5, _), (4, _), (3, _), (0, _), (1, _), (2, _)]) dX9_fallen_61 (by decide) rfl ?_
          refine pl_iload (pc := 63) dX9_fallen_63 rfl ?_
          refine pl_iload_n (pc := 65) dX9_fallen_65 rfl rfl ?_
          refine pl_iconst (pc := 66) (v := 1) dX9_fallen_66 (by rfl) ?_
          refine pl_iadd (pc := 67) dX9_fallen_67 ?_
          refine pj_icmp_gt (pc := 68) (tgt := 137) dX9_fallen_68 (by decide) (fun h => absurd h (by decide)) (fun _ => ?_)
          refine pl_aload_n (pc := 71) dX9_fallen_71 rfl rfl ?_
          refine pl_iload (pc := 72) dX9_fallen_72 rfl ?_
          refine pl_callVd (pc := 74) (As := [_]) (C2 := 0) (N2 := 0) ckX9 mdX9_isZone rfl q2643 q2645 qs52 q154 dX9_fallen_74 rfl rfl (Nat.le_of_ble_eq_true rfl) (mm_o hA) (PM.ret (w := some (.int (nI 1))) (by rfl) rfl (w_X9_isZone (d := d - 1) (by omega) hA)) (by omega) (by decide) (by decide) ?_
          refine pj_if_eq (pc := 77) (tgt := 131) dX9_fallen_77 (by decide) (fun h => absurd h (by decide)) (fun _ => ?_)
          refine pl_iload_n (pc := 80) dX9_fallen_80 rfl rfl ?_
          refine pl_aload_n (pc := 81) dX9_fallen_81 rfl rfl ?_
          refine pj_getf (pc := 82) ckX9 6 q2522 dX9_fallen_82 (by decide) (mm_o hA) rfl ?_
          refine pl_iload (pc := 85) dX9_fallen_85 rfl ?_
          refine pl_iald (pc := 87) (n := 4) dX9_fallen_87 (mm_a hA 6 (by decide) (by decide)) (by omega) (by decide) ?_
          refine pj_icmp_ge (pc := 88) (tgt := 131) dX9_fallen_88 (by decide) (fun c88 => ?_) (fun c88 => ?_)
          · refine pl_iinc (pc := 131) (v := nI 2) (lv' := [(5, _), (4, _), (3, _), (0, _), (1, _), (2, _)]) dX9_fallen_131 rfl (by rfl) (by decide) rfl ?_
            refine pj_goto (pc := 134) (tgt := 63) dX9_fallen_134 (by decide) ?_
            refine pl_iload (pc := 63) dX9_fallen_63 rfl ?_
            refine pl_iload_n (pc := 65) dX9_fallen_65 rfl rfl ?_
            refine pl_iconst (pc := 66) (v := 1) dX9_fallen_66 (by rfl) ?_
            refine pl_iadd (pc := 67) dX9_fallen_67 ?_
            refine pj_icmp_gt (pc := 68) (tgt := 137) dX9_fallen_68 (by decide) (fun h => absurd h (by decide)) (fun _ => ?_)
            refine pl_aload_n (pc := 71) dX9_fallen_71 rfl rfl ?_
            refine pl_iload (pc := 72) dX9_fallen_72 rfl ?_
            refine pl_callVd (pc := 74) (As := [_]) (C2 := 0) (N2 := 0) ckX9 mdX9_isZone rfl q2643 q2645 qs52 q154 dX9_fallen_74 rfl rfl (Nat.le_of_ble_eq_true rfl) (mm_o hA) (PM.ret (w := some (.int (nI 1))) (by rfl) rfl (w_X9_isZone (d := d - 1) (by omega) hA)) (by omega) (by decide) (by decide) ?_
            refine pj_if_eq (pc := 77) (tgt := 131) dX9_fallen_77 (by decide) (fun h => absurd h (by decide)) (fun _ => ?_)
            refine pl_iload_n (pc := 80) dX9_fallen_80 rfl rfl ?_
            refine pl_aload_n (pc := 81) dX9_fallen_81 rfl rfl ?_
            refine pj_getf (pc := 82) ckX9 6 q2522 dX9_fallen_82 (by decide) (mm_o hA) rfl ?_
            refine pl_iload (pc := 85) dX9_fallen_85 rfl ?_
            refine pl_iald (pc := 87) (n := 4) dX9_fallen_87 (mm_a hA 6 (by decide) (by decide)) (by omega) (by decide) ?_
            refine pj_icmp_ge (pc := 88) (tgt := 131) dX9_fallen_88 (by decide) (fun c88 => ?_) (fun c88 => ?_)
            · refine pl_iinc (pc := 131) (v := nI 4) (lv' := [(5, _), (4, _), (3, _), (0, _), (1, _), (2, _)]) dX9_fallen_131 rfl (by rfl) (by decide) rfl ?_
              refine pj_goto (pc := 134) (tgt := 63) dX9_fallen_134 (by decide) ?_
              refine pl_iload (pc := 63) dX9_fallen_63 rfl ?_
              refine pl_iload_n (pc := 65) dX9_fallen_65 rfl rfl ?_
              refine pl_iconst (pc := 66) (v := 1) dX9_fallen_66 (by rfl) ?_
              refine pl_iadd (pc := 67) dX9_fallen_67 ?_
              refine pj_icmp_gt (pc := 68) (tgt := 137) dX9_fallen_68 (by decide) (fun _ => ?_) (fun h => absurd h (by decide))
              refine pl_iload_n (pc := 137) dX9_fallen_137 rfl rfl ?_
              refine pj_if_ne (pc := 138) (tgt := 145) dX9_fallen_138 (by decide) (fun h => absurd h (by decide)) (fun _ => ?_)
              refine pl_iconst (pc := 141) (v := 0) dX9_fallen_141 (by rfl) ?_
              refine pj_goto (pc := 142) (tgt := 149) dX9_fallen_142 (by decide) ?_
              refine pj_iret (pc := 149) dX9_fallen_149 rfl ?_
              exact ⟨vIe (by simp_all [fallV, nbN, nbS, tl, rn, rm, ← Int32.not_le]) rfl, rfl⟩
            · refine pl_aload_n (pc := 91) dX9_fallen_91 rfl rfl ?_
              refine pj_getf (pc := 92) ckX9 5 q2521 dX9_fallen_92 (by decide) (mm_o hA) rfl ?_
              refine pl_sipush (pc := 95) (v := 1000) dX9_fallen_95 (by rfl) ?_
              refine pl_iload (pc := 98) dX9_fallen_98 rfl ?_
              refine pl_imul (pc := 100) dX9_fallen_100 ?_
              refine pl_iload_n (pc := 101) dX9_fallen_101 rfl rfl ?_
              refine pl_iadd (pc := 102) dX9_fallen_102 ?_
              refine pl_iald (pc := 103) (n := 4000) dX9_fallen_103 (mm_a hA 5 (by decide) (by decide)) (by omega) (by decide) ?_
              refine pj_if_ge (pc := 104) (tgt := 110) dX9_fallen_104 (by decide) (fun c104 => ?_) (fun c104 => ?_)
              · refine pl_iload (pc := 110) dX9_fallen_110 rfl ?_
                refine pl_aload_n (pc := 112) dX9_fallen_112 rfl rfl ?_
                refine pj_getf (pc := 113) ckX9 5 q2521 dX9_fallen_113 (by decide) (mm_o hA) rfl ?_
                refine pl_sipush (pc := 116) (v := 1000) dX9_fallen_116 (by rfl) ?_
                refine pl_iload (pc := 119) dX9_fallen_119 rfl ?_
                refine pl_imul (pc := 121) dX9_fallen_121 ?_
                refine pl_iload_n (pc := 122) dX9_fallen_122 rfl rfl ?_
                refine pl_iadd (pc := 123) dX9_fallen_123 ?_
                refine pl_iald (pc := 124) (n := 4000) dX9_fallen_124 (mm_a hA 5 (by decide) (by decide)) (by omega) (by decide) ?_
                refine pj_iadd (pc := 125) dX9_fallen_125 ?_
                refine pj_istore (pc := 126) (lv' := [(4, _), (5, _), (3, _), (0, _), (1, _), (2, _)]) dX9_fallen_126 (by decide) rfl ?_
                refine pl_iinc (pc := 128) (v := nI 1) (lv' := [(3, _), (4, _), (5, _), (0, _), (1, _), (2, _)]) dX9_fallen_128 rfl (by rfl) (by decide) rfl ?_
                refine pl_iinc (pc := 131) (v := nI 4) (lv' := [(5, _), (3, _), (4, _), (0, _), (1, _), (2, _)]) dX9_fallen_131 rfl (by rfl) (by decide) rfl ?_
                refine pj_goto (pc := 134) (tgt := 63) dX9_fallen_134 (by decide) ?_
                refine pl_iload (pc := 63) dX9_fallen_63 rfl ?_
                refine pl_iload_n (pc := 65) dX9_fallen_65 rfl rfl ?_
                refine pl_iconst (pc := 66) (v := 1) dX9_fallen_66 (by rfl) ?_
                refine pl_iadd (pc := 67) dX9_fallen_67 ?_
                refine pj_icmp_gt (pc := 68) (tgt := 137) dX9_fallen_68 (by decide) (fun _ => ?_) (fun h => absurd h (by decide))
                refine pl_iload_n (pc := 137) dX9_fallen_137 rfl rfl ?_
                refine pj_if_ne (pc := 138) (tgt := 145) dX9_fallen_138 (by decide) (fun _ => ?_) (fun h => absurd h (by decide))
                refine pl_iload (pc := 145) dX9_fallen_145 rfl ?_
                refine pl_iload_n (pc := 147) dX9_fallen_147 rfl rfl ?_
                refine pj_idiv (pc := 148) dX9_fallen_148 (by decide) ?_
                refine pj_iret (pc := 149) dX9_fallen_149 rfl ?_
                exact ⟨vIe (by simp_all [fallV, nbN, nbS, tl, rn, rm, ← Int32.not_le]) rfl, rfl⟩
              · refine pj_goto (pc := 107) (tgt := 131) dX9_fallen_107 (by decide) ?_
                refine pl_iinc (pc := 131) (v := nI 4) (lv' := [(5, _), (4, _), (3, _), (0, _), (1, _), (2, _)]) dX9_fallen_131 rfl (by rfl) (by decide) rfl ?_
                refine pj_goto (pc := 134) (tgt := 63) dX9_fallen_134 (by decide) ?_
                refine pl_iload (pc := 63) dX9_fallen_63 rfl ?_
                refine pl_iload_n (pc := 65) dX9_fallen_65 rfl rfl ?_
                refine pl_iconst (pc := 66) (v := 1) dX9_fallen_66 (by rfl) ?_
                refine pl_iadd (pc := 67) dX9_fallen_67 ?_
                refine pj_icmp_gt (pc := 68) (tgt := 137) dX9_fallen_68 (by decide) (fun _ => ?_) (fun h => absurd h (by decide))
                refine pl_iload_n (pc := 137) dX9_fallen_137 rfl rfl ?_
                refine pj_if_ne (pc := 138) (tgt := 145) dX9_fallen_138 (by decide) (fun h => absurd h (by decide)) (fun _ => ?_)
                refine pl_iconst (pc := 141) (v := 0) dX9_fallen_141 (by rfl) ?_
                refine pj_goto (pc := 142) (tgt := 149) dX9_fallen_142 (by decide) ?_
                refine pj_iret (pc := 149) dX9_fallen_149 rfl ?_
                exact ⟨vIe (by simp_all [fallV, nbN, nbS, tl, rn, rm, ← Int32.not_le]) rfl, rfl⟩
          · refine pl_aload_n (pc := 91) dX9_fallen_91 rfl rfl ?_
            refine pj_getf (pc := 92) ckX9 5 q2521 dX9_fallen_92 (by decide) (mm_o hA) rfl ?_
            refine pl_sipush (pc := 95) (v := 1000) dX9_fallen_95 (by rfl) ?_
            refine pl_iload (pc := 98) dX9_fallen_98 rfl ?_
            refine pl_imul (pc := 100) dX9_fallen_100 ?_
            refine pl_iload_n (pc := 101) dX9_fallen_101 rfl rfl ?_
            refine pl_iadd (pc := 102) dX9_fallen_102 ?_
            refine pl_iald (pc := 103) (n := 4000) dX9_fallen_103 (mm_a hA 5 (by decide) (by decide)) (by omega) (by decide) ?_
            refine pj_if_ge (pc := 104) (tgt := 110) dX9_fallen_104 (by decide) (fun c104 => ?_) (fun c104 => ?_)
            · refine pl_iload (pc := 110) dX9_fallen_110 rfl ?_
              refine pl_aload_n (pc := 112) dX9_fallen_112 rfl rfl ?_
              refine pj_getf (pc := 113) ckX9 5 q2521 dX9_fallen_113 (by decide) (mm_o hA) rfl ?_
              refine pl_sipush (pc := 116) (v := 1000) dX9_fallen_116 (by rfl) ?_
              refine pl_iload (pc := 119) dX9_fallen_119 rfl ?_
              refine pl_imul (pc := 121) dX9_fallen_121 ?_
              refine pl_iload_n (pc := 122) dX9_fallen_122 rfl rfl ?_
              refine pl_iadd (pc := 123) dX9_fallen_123 ?_
              refine pl_iald (pc := 124) (n := 4000) dX9_fallen_124 (mm_a hA 5 (by decide) (by decide)) (by omega) (by decide) ?_
              refine pj_iadd (pc := 125) dX9_fallen_125 ?_
              refine pj_istore (pc := 126) (lv' := [(4, _), (5, _), (3, _), (0, _), (1, _), (2, _)]) dX9_fallen_126 (by decide) rfl ?_
              refine pl_iinc (pc := 128) (v := nI 1) (lv' := [(3, _), (4, _), (5, _), (0, _), (1, _), (2, _)]) dX9_fallen_128 rfl (by rfl) (by decide) rfl ?_
              refine pl_iinc (pc := 131) (v := nI 2) (lv' := [(5, _), (3, _), (4, _), (0, _), (1, _), (2, _)]) dX9_fallen_131 rfl (by rfl) (by decide) rfl ?_
              refine pj_goto (pc := 134) (tgt := 63) dX9_fallen_134 (by decide) ?_
              refine pl_iload (pc := 63) dX9_fallen_63 rfl ?_
              refine pl_iload_n (pc := 65) dX9_fallen_65 rfl rfl ?_
              refine pl_iconst (pc := 66) (v := 1) dX9_fallen_66 (by rfl) ?_
              refine pl_iadd (pc := 67) dX9_fallen_67 ?_
              refine pj_icmp_gt (pc := 68) (tgt := 137) dX9_fallen_68 (by decide) (fun h => absurd h (by decide)) (fun _ => ?_)
              refine pl_aload_n (pc := 71) dX9_fallen_71 rfl rfl ?_
              refine pl_iload (pc := 72) dX9_fallen_72 rfl ?_
              refine pl_callVd (pc := 74) (As := [_]) (C2 := 0) (N2 := 0) ckX9 mdX9_isZone rfl q2643 q2645 qs52 q154 dX9_fallen_74 rfl rfl (Nat.le_of_ble_eq_true rfl) (mm_o hA) (PM.ret (w := some (.int (nI 1))) (by rfl) rfl (w_X9_isZone (d := d - 1) (by omega) hA)) (by omega) (by decide) (by decide) ?_
              refine pj_if_eq (pc := 77) (tgt := 131) dX9_fallen_77 (by decide) (fun h => absurd h (by decide)) (fun _ => ?_)
              refine pl_iload_n (pc := 80) dX9_fallen_80 rfl rfl ?_
              refine pl_aload_n (pc := 81) dX9_fallen_81 rfl rfl ?_
              refine pj_getf (pc := 82) ckX9 6 q2522 dX9_fallen_82 (by decide) (mm_o hA) rfl ?_
              refine pl_iload (pc := 85) dX9_fallen_85 rfl ?_
              refine pl_iald (pc := 87) (n := 4) dX9_fallen_87 (mm_a hA 6 (by decide) (by decide)) (by omega) (by decide) ?_
              refine pj_icmp_ge (pc := 88) (tgt := 131) dX9_fallen_88 (by decide) (fun c88 => ?_) (fun c88 => ?_)
              · refine pl_iinc (pc := 131) (v := nI 4) (lv' := [(5, _), (3, _), (4, _), (0, _), (1, _), (2, _)]) dX9_fallen_131 rfl (by rfl) (by decide) rfl ?_
                refine pj_goto (pc := 134) (tgt := 63) dX9_fallen_134 (by decide) ?_
                refine pl_iload (pc := 63) dX9_fallen_63 rfl ?_
                refine pl_iload_n (pc := 65) dX9_fallen_65 rfl rfl ?_
                refine pl_iconst (pc := 66) (v := 1) dX9_fallen_66 (by rfl) ?_
                refine pl_iadd (pc := 67) dX9_fallen_67 ?_
                refine pj_icmp_gt (pc := 68) (tgt := 137) dX9_fallen_68 (by decide) (fun _ => ?_) (fun h => absurd h (by decide))
                refine pl_iload_n (pc := 137) dX9_fallen_137 rfl rfl ?_
                refine pj_if_ne (pc := 138) (tgt := 145) dX9_fallen_138 (by decide) (fun _ => ?_) (fun h => absurd h (by decide))
                refine pl_iload (pc := 145) dX9_fallen_145 rfl ?_
                refine pl_iload_n (pc := 147) dX9_fallen_147 rfl rfl ?_
                refine pj_idiv (pc := 148) dX9_fallen_148 (by decide) ?_
                refine pj_iret (pc := 149) dX9_fallen_149 rfl ?_
                exact ⟨vIe (by simp_all [fallV, nbN, nbS, tl, rn, rm, ← Int32.not_le]) rfl, rfl⟩
              · refine pl_aload_n (pc := 91) dX9_fallen_91 rfl rfl ?_
                refine pj_getf (pc := 92) ckX9 5 q2521 dX9_fallen_92 (by decide) (mm_o hA) rfl ?_
                refine pl_sipush (pc := 95) (v := 1000) dX9_fallen_95 (by rfl) ?_
                refine pl_iload (pc := 98) dX9_fallen_98 rfl ?_
                refine pl_imul (pc := 100) dX9_fallen_100 ?_
                refine pl_iload_n (pc := 101) dX9_fallen_101 rfl rfl ?_
                refine pl_iadd (pc := 102) dX9_fallen_102 ?_
                refine pl_iald (pc := 103) (n := 4000) dX9_fallen_103 (mm_a hA 5 (by decide) (by decide)) (by omega) (by decide) ?_
                refine pj_if_ge (pc := 104) (tgt := 110) dX9_fallen_104 (by decide) (fun c104 => ?_) (fun c104 => ?_)
                · refine pl_iload (pc := 110) dX9_fallen_110 rfl ?_
                  refine pl_aload_n (pc := 112) dX9_fallen_112 rfl rfl ?_
                  refine pj_getf (pc := 113) ckX9 5 q2521 dX9_fallen_113 (by decide) (mm_o hA) rfl ?_
                  refine pl_sipush (pc := 116) (v := 1000) dX9_fallen_116 (by rfl) ?_
                  refine pl_iload (pc := 119) dX9_fallen_119 rfl ?_
                  refine pl_imul (pc := 121) dX9_fallen_121 ?_
                  refine pl_iload_n (pc := 122) dX9_fallen_122 rfl rfl ?_
                  refine pl_iadd (pc := 123) dX9_fallen_123 ?_
                  refine pl_iald (pc := 124) (n := 4000) dX9_fallen_124 (mm_a hA 5 (by decide) (by decide)) (by omega) (by decide) ?_
                  refine pj_iadd (pc := 125) dX9_fallen_125 ?_
                  refine pj_istore (pc := 126) (lv' := [(4, _), (5, _), (3, _), (0, _), (1, _), (2, _)]) dX9_fallen_126 (by decide) rfl ?_
                  refine pl_iinc (pc := 128) (v := nI 2) (lv' := [(3, _), (4, _), (5, _), (0, _), (1, _), (2, _)]) dX9_fallen_128 rfl (by rfl) (by decide) rfl ?_
                  refine pl_iinc (pc := 131) (v := nI 4) (lv' := [(5, _), (3, _), (4, _), (0, _), (1, _), (2, _)]) dX9_fallen_131 rfl (by rfl) (by decide) rfl ?_
                  refine pj_goto (pc := 134) (tgt := 63) dX9_fallen_134 (by decide) ?_
                  refine pl_iload (pc := 63) dX9_fallen_63 rfl ?_
                  refine pl_iload_n (pc := 65) dX9_fallen_65 rfl rfl ?_
                  refine pl_iconst (pc := 66) (v := 1) dX9_fallen_66 (by rfl) ?_
                  refine pl_iadd (pc := 67) dX9_fallen_67 ?_
                  refine pj_icmp_gt (pc := 68) (tgt := 137) dX9_fallen_68 (by decide) (fun _ => ?_) (fun h => absurd h (by decide))
                  refine pl_iload_n (pc := 137) dX9_fallen_137 rfl rfl ?_
                  refine pj_if_ne (pc := 138) (tgt := 145) dX9_fallen_138 (by decide) (fun _ => ?_) (fun h => absurd h (by decide))
                  refine pl_iload (pc := 145) dX9_fallen_145 rfl ?_
                  refine pl_iload_n (pc := 147) dX9_fallen_147 rfl rfl ?_
                  refine pj_idiv (pc := 148) dX9_fallen_148 (by decide) ?_
                  refine pj_iret (pc := 149) dX9_fallen_149 rfl ?_
                  exact ⟨vIe (by simp_all [fallV, nbN, nbS, tl, rn, rm, ← Int32.not_le]) rfl, rfl⟩
                · refine pj_goto (pc := 107) (tgt := 131) dX9_fallen_107 (by decide) ?_
                  refine pl_iinc (pc := 131) (v := nI 4) (lv' := [(5, _), (3, _), (4, _), (0, _), (1, _), (2, _)]) dX9_fallen_131 rfl (by rfl) (by decide) rfl ?_
                  refine pj_goto (pc := 134) (tgt := 63) dX9_fallen_134 (by decide) ?_
                  refine pl_iload (pc := 63) dX9_fallen_63 rfl ?_
                  refine pl_iload_n (pc := 65) dX9_fallen_65 rfl rfl ?_
                  refine pl_iconst (pc := 66) (v := 1) dX9_fallen_66 (by rfl) ?_
                  refine pl_iadd (pc := 67) dX9_fallen_67 ?_
                  refine pj_icmp_gt (pc := 68) (tgt := 137) dX9_fallen_68 (by decide) (fun _ => ?_) (fun h => absurd h (by decide))
                  refine pl_iload_n (pc := 137) dX9_fallen_137 rfl rfl ?_
                  refine pj_if_ne (pc := 138) (tgt := 145) dX9_fallen_138 (by decide) (fun _ => ?_) (fun h => absurd h (by decide))
                  refine pl_iload (pc := 145) dX9_fallen_145 rfl ?_
                  refine pl_iload_n (pc := 147) dX9_fallen_147 rfl rfl ?_
                  refine pj_idiv (pc := 148) dX9_fallen_148 (by decide) ?_
                  refine pj_iret (pc := 149) dX9_fallen_149 rfl ?_
                  exact ⟨vIe (by simp_all [fallV, nbN, nbS, tl, rn, rm, ← Int32.not_le]) rfl, rfl⟩
            · refine pj_goto (pc := 107) (tgt := 131) dX9_fallen_107 (by decide) ?_
              refine pl_iinc (pc := 131) (v := nI 2) (lv' := [(5, _), (4, _), (3, _), (0, _), (1, _), (2, _)]) dX9_fallen_131 rfl (by rfl) (by decide) rfl ?_
              refine pj_goto (pc := 134) (tgt := 63) dX9_fallen_134 (by decide) ?_
              refine pl_iload (pc := 63) dX9_fallen_63 rfl ?_
              refine pl_iload_n (pc := 65) dX9_fallen_65 rfl rfl ?_
              refine pl_iconst (pc := 66) (v := 1) dX9_fallen_66 (by rfl) ?_
              refine pl_iadd (pc := 67) dX9_fallen_67 ?_
              refine pj_icmp_gt (pc := 68) (tgt := 137) dX9_fallen_68 (by decide) (fun h => absurd h (by decide)) (fun _ => ?_)
              refine pl_aload_n (pc := 71) dX9_fallen_71 rfl rfl ?_
              refine pl_iload (pc := 72) dX9_fallen_72 rfl ?_
              refine pl_callVd (pc := 74) (As := [_]) (C2 := 0) (N2 := 0) ckX9 mdX9_isZone rfl q2643 q2645 qs52 q154 dX9_fallen_74 rfl rfl (Nat.le_of_ble_eq_true rfl) (mm_o hA) (PM.ret (w := some (.int (nI 1))) (by rfl) rfl (w_X9_isZone (d := d - 1) (by omega) hA)) (by omega) (by decide) (by decide) ?_
              refine pj_if_eq (pc := 77) (tgt := 131) dX9_fallen_77 (by decide) (fun h => absurd h (by decide)) (fun _ => ?_)
              refine pl_iload_n (pc := 80) dX9_fallen_80 rfl rfl ?_
              refine pl_aload_n (pc := 81) dX9_fallen_81 rfl rfl ?_
              refine pj_getf (pc := 82) ckX9 6 q2522 dX9_fallen_82 (by decide) (mm_o hA) rfl ?_
              refine pl_iload (pc := 85) dX9_fallen_85 rfl ?_
              refine pl_iald (pc := 87) (n := 4) dX9_fallen_87 (mm_a hA 6 (by decide) (by decide)) (by omega) (by decide) ?_
              refine pj_icmp_ge (pc := 88) (tgt := 131) dX9_fallen_88 (by decide) (fun c88 => ?_) (fun c88 => ?_)
              · refine pl_iinc (pc := 131) (v := nI 4) (lv' := [(5, _), (4, _), (3, _), (0, _), (1, _), (2, _)]) dX9_fallen_131 rfl (by rfl) (by decide) rfl ?_
                refine pj_goto (pc := 134) (tgt := 63) dX9_fallen_134 (by decide) ?_
                refine pl_iload (pc := 63) dX9_fallen_63 rfl ?_
                refine pl_iload_n (pc := 65) dX9_fallen_65 rfl rfl ?_
                refine pl_iconst (pc := 66) (v := 1) dX9_fallen_66 (by rfl) ?_
                refine pl_iadd (pc := 67) dX9_fallen_67 ?_
                refine pj_icmp_gt (pc := 68) (tgt := 137) dX9_fallen_68 (by decide) (fun _ => ?_) (fun h => absurd h (by decide))
                refine pl_iload_n (pc := 137) dX9_fallen_137 rfl rfl ?_
                refine pj_if_ne (pc := 138) (tgt := 145) dX9_fallen_138 (by decide) (fun h => absurd h (by decide)) (fun _ => ?_)
                refine pl_iconst (pc := 141) (v := 0) dX9_fallen_141 (by rfl) ?_
                refine pj_goto (pc := 142) (tgt := 149) dX9_fallen_142 (by decide) ?_
                refine pj_iret (pc := 149) dX9_fallen_149 rfl ?_
                exact ⟨vIe (by simp_all [fallV, nbN, nbS, tl, rn, rm, ← Int32.not_le]) rfl, rfl⟩
              · refine pl_aload_n (pc := 91) dX9_fallen_91 rfl rfl ?_
                refine pj_getf (pc := 92) ckX9 5 q2521 dX9_fallen_92 (by decide) (mm_o hA) rfl ?_
                refine pl_sipush (pc := 95) (v := 1000) dX9_fallen_95 (by rfl) ?_
                refine pl_iload (pc := 98) dX9_fallen_98 rfl ?_
                refine pl_imul (pc := 100) dX9_fallen_100 ?_
                refine pl_iload_n (pc := 101) dX9_fallen_101 rfl rfl ?_
                refine pl_iadd (pc := 102) dX9_fallen_102 ?_
                refine pl_iald (pc := 103) (n := 4000) dX9_fallen_103 (mm_a hA 5 (by decide) (by decide)) (by omega) (by decide) ?_
                refine pj_if_ge (pc := 104) (tgt := 110) dX9_fallen_104 (by decide) (fun c104 => ?_) (fun c104 => ?_)
                · refine pl_iload (pc := 110) dX9_fallen_110 rfl ?_
                  refine pl_aload_n (pc := 112) dX9_fallen_112 rfl rfl ?_
                  refine pj_getf (pc := 113) ckX9 5 q2521 dX9_fallen_113 (by decide) (mm_o hA) rfl ?_
                  refine pl_sipush (pc := 116) (v := 1000) dX9_fallen_116 (by rfl) ?_
                  refine pl_iload (pc := 119) dX9_fallen_119 rfl ?_
                  refine pl_imul (pc := 121) dX9_fallen_121 ?_
                  refine pl_iload_n (pc := 122) dX9_fallen_122 rfl rfl ?_
                  refine pl_iadd (pc := 123) dX9_fallen_123 ?_
                  refine pl_iald (pc := 124) (n := 4000) dX9_fallen_124 (mm_a hA 5 (by decide) (by decide)) (by omega) (by decide) ?_
                  refine pj_iadd (pc := 125) dX9_fallen_125 ?_
                  refine pj_istore (pc := 126) (lv' := [(4, _), (5, _), (3, _), (0, _), (1, _), (2, _)]) dX9_fallen_126 (by decide) rfl ?_
                  refine pl_iinc (pc := 128) (v := nI 1) (lv' := [(3, _), (4, _), (5, _), (0, _), (1, _), (2, _)]) dX9_fallen_128 rfl (by rfl) (by decide) rfl ?_
                  refine pl_iinc (pc := 131) (v := nI 4) (lv' := [(5, _), (3, _), (4, _), (0, _), (1, _), (2, _)]) dX9_fallen_131 rfl (by rfl) (by decide) rfl ?_
                  refine pj_goto (pc := 134) (tgt := 63) dX9_fallen_134 (by decide) ?_
                  refine pl_iload (pc := 63) dX9_fallen_63 rfl ?_
                  refine pl_iload_n (pc := 65) dX9_fallen_65 rfl rfl ?_
                  refine pl_iconst (pc := 66) (v := 1) dX9_fallen_66 (by rfl) ?_
                  refine pl_iadd (pc := 67) dX9_fallen_67 ?_
                  refine pj_icmp_gt (pc := 68) (tgt := 137) dX9_fallen_68 (by decide) (fun _ => ?_) (fun h => absurd h (by decide))
                  refine pl_iload_n (pc := 137) dX9_fallen_137 rfl rfl ?_
                  refine pj_if_ne (pc := 138) (tgt := 145) dX9_fallen_138 (by decide) (fun _ => ?_) (fun h => absurd h (by decide))
                  refine pl_iload (pc := 145) dX9_fallen_145 rfl ?_
                  refine pl_iload_n (pc := 147) dX9_fallen_147 rfl rfl ?_
                  refine pj_idiv (pc := 148) dX9_fallen_148 (by decide) ?_
                  refine pj_iret (pc := 149) dX9_fallen_149 rfl ?_
                  exact ⟨vIe (by simp_all [fallV, nbN, nbS, tl, rn, rm, ← Int32.not_le]) rfl, rfl⟩
                · refine pj_goto (pc := 107) (tgt := 131) dX9_fallen_107 (by decide) ?_
                  refine pl_iinc (pc := 131) (v := nI 4) (lv' := [(5, _), (4, _), (3, _), (0, _), (1, _), (2, _)]) dX9_fallen_131 rfl (by rfl) (by decide) rfl ?_
                  refine pj_goto (pc := 134) (tgt := 63) dX9_fallen_134 (by decide) ?_
                  refine pl_iload (pc := 63) dX9_fallen_63 rfl ?_
                  refine pl_iload_n (pc := 65) dX9_fallen_65 rfl rfl ?_
                  refine pl_iconst (pc := 66) (v := 1) dX9_fallen_66 (by rfl) ?_
                  refine pl_iadd (pc := 67) dX9_fallen_67 ?_
                  refine pj_icmp_gt (pc := 68) (tgt := 137) dX9_fallen_68 (by decide) (fun _ => ?_) (fun h => absurd h (by decide))
                  refine pl_iload_n (pc := 137) dX9_fallen_137 rfl rfl ?_
                  refine pj_if_ne (pc := 138) (tgt := 145) dX9_fallen_138 (by decide) (fun h => absurd h (by decide)) (fun _ => ?_)
                  refine pl_iconst (pc := 141) (v := 0) dX9_fallen_141 (by rfl) ?_
                  refine pj_goto (pc := 142) (tgt := 149) dX9_fallen_142 (by decide) ?_
                  refine pj_iret (pc := 149) dX9_fallen_149 rfl ?_
                  exact ⟨vIe (by simp_all [fallV, nbN, nbS, tl, rn, rm, ← Int32.not_le]) rfl, rfl⟩
        · refine pl_aload_n (pc := 40) dX9_fallen_40 rfl rfl ?_
          refine pj_getf (pc := 41) ckX9 5 q2521 dX9_fallen_41 (by decide) (mm_o hA) rfl ?_
          refine pl_sipush (pc := 44) (v := 1000) dX9_fallen_44 (by rfl) ?_
          refine pl_iload_n (pc := 47) dX9_fallen_47 rfl rfl ?_
          refine pl_imul (pc := 48) dX9_fallen_48 ?_
          refine pl_iload_n (pc := 49) dX9_fallen_49 rfl rfl ?_
          refine pl_iadd (pc := 50) dX9_fallen_50 ?_
          refine pl_iald (pc := 51) (n := 4000) dX9_fallen_51 (mm_a hA 5 (by decide) (by decide)) (by omega) (by decide) ?_
          refine pj_iret (pc := 52) dX9_fallen_52 rfl ?_
          exact ⟨vIe (by simp_all [fallV, nbN, nbS, tl, rn, rm, ← Int32.not_le]) rfl, rfl⟩
      · refine pl_bipush (pc := 22) (v := 10) dX9_fallen_22 (by rfl) ?_
        refine pj_iret (pc := 24) dX9_fallen_24 rfl ?_
        exact ⟨vIe (by simp_all [fallV, nbN, nbS, tl, rn, rm, ← Int32.not_le]) rfl, rfl⟩
    · refine pl_aload_n (pc := 7) dX9_fallen_7 rfl rfl ?_
      refine pj_getf (pc := 8) ckX9 7 q2523 dX9_fallen_8 (by decide) (mm_o hA) rfl ?_
      refine pj_iret (pc := 11) dX9_fallen_11 rfl ?_
      exact ⟨vIe (by simp_all [fallV, nbN, nbS, tl, rn, rm, ← Int32.not_le]) rfl, rfl⟩
  · refine pl_aload_n (pc := 0) dX9_fallen_0 rfl rfl ?_
    refine pj_getf (pc := 1) ckX9 7 q2523 dX9_fallen_1 (by decide) (mm_o hA) rfl ?_
    refine pj_if_lt (pc := 4) (tgt := 12) dX9_fallen_4 (by decide) (fun c4 => ?_) (fun c4 => ?_)
    · refine pl_iload_n (pc := 12) dX9_fallen_12 rfl rfl ?_
      refine pl_aload_n (pc := 13) dX9_fallen_13 rfl rfl ?_
      refine pj_getf (pc := 14) ckX9 6 q2522 dX9_fallen_14 (by decide) (mm_o hA) rfl ?_
      refine pl_iload_n (pc := 17) dX9_fallen_17 rfl rfl ?_
      refine pl_iald (pc := 18) (n := 4) dX9_fallen_18 (mm_a hA 6 (by decide) (by decide)) (by omega) (by decide) ?_
      refine pj_icmp_lt (pc := 19) (tgt := 25) dX9_fallen_19 (by decide) (fun c19 => ?_) (fun c19 => ?_)
      · have hw2 : w < 1000 := by
          obtain ⟨r, hr, er⟩ := hR 2 (by decide)
          have h9 := c19
          rw [er] at h9
          have := (nI_ltI (by omega) (by omega)).mp h9
          omega
        clear hR
        refine pl_aload_n (pc := 25) dX9_fallen_25 rfl rfl ?_
        refine pj_getf (pc := 26) ckX9 5 q2521 dX9_fallen_26 (by decide) (mm_o hA) rfl ?_
        refine pl_sipush (pc := 29) (v := 1000) dX9_fallen_29 (by rfl) ?_
        refine pl_iload_n (pc := 32) dX9_fallen_32 rfl rfl ?_
        refine pl_imul (pc := 33) dX9_fallen_33 ?_
        refine pl_iload_n (pc := 34) dX9_fallen_34 rfl rfl ?_
        refine pl_iadd (pc := 35) dX9_fallen_35 ?_
        refine pl_iald (pc := 36) (n := 4000) dX9_fallen_36 (mm_a hA 5 (by decide) (by decide)) (by omega) (by decide) ?_
        refine pj_if_lt (pc := 37) (tgt := 53) dX9_fallen_37 (by decide) (fun c37 => ?_) (fun c37 => ?_)
        · refine pl_iconst (pc := 53) (v := 0) dX9_fallen_53 (by rfl) ?_
          refine pj_istore_n (pc := 54) (lv' := [(3, _), (0, _), (1, _), (2, _)]) dX9_fallen_54 rfl (by decide) rfl ?_
          refine pl_iconst (pc := 55) (v := 0) dX9_fallen_55 (by rfl) ?_
          refine pj_istore (pc := 56) (lv' := [(4, _), (3, _), (0, _), (1, _), (2, _)]) dX9_fallen_56 (by decide) rfl ?_
          refine pl_iload_n (pc := 58) dX9_fallen_58 rfl rfl ?_
          refine pl_iconst (pc := 59) (v := 1) dX9_fallen_59 (by rfl) ?_
          refine pj_isub (pc := 60) dX9_fallen_60 ?_
          refine PJ.top (y := nI 1) (by decide) ?_
          refine pj_istore (pc := 61) (lv' := [(5, _), (4, _), (3, _), (0, _), (1, _), (2, _)]) dX9_fallen_61 (by decide) rfl ?_
          refine pl_iload (pc := 63) dX9_fallen_63 rfl ?_
          refine pl_iload_n (pc := 65) dX9_fallen_65 rfl rfl ?_
          refine pl_iconst (pc := 66) (v := 1) dX9_fallen_66 (by rfl) ?_
          refine pl_iadd (pc := 67) dX9_fallen_67 ?_
          refine pj_icmp_gt (pc := 68) (tgt := 137) dX9_fallen_68 (by decide) (fun h => absurd h (by decide)) (fun _ => ?_)
          refine pl_aload_n (pc := 71) dX9_fallen_71 rfl rfl ?_
          refine pl_iload (pc := 72) dX9_fallen_72 rfl ?_
          refine pl_callVd (pc := 74) (As := [_]) (C2 := 0) (N2 := 0) ckX9 mdX9_isZone rfl q2643 q2645 qs52 q154 dX9_fallen_74 rfl rfl (Nat.le_of_ble_eq_true rfl) (mm_o hA) (PM.ret (w := some (.int (nI 1))) (by rfl) rfl (w_X9_isZone (d := d - 1) (by omega) hA)) (by omega) (by decide) (by decide) ?_
          refine pj_if_eq (pc := 77) (tgt := 131) dX9_fallen_77 (by decide) (fun h => absurd h (by decide)) (fun _ => ?_)
          refine pl_iload_n (pc := 80) dX9_fallen_80 rfl rfl ?_
          refine pl_aload_n (pc := 81) dX9_fallen_81 rfl rfl ?_
          refine pj_getf (pc := 82) ckX9 6 q2522 dX9_fallen_82 (by decide) (mm_o hA) rfl ?_
          refine pl_iload (pc := 85) dX9_fallen_85 rfl ?_
          refine pl_iald (pc := 87) (n := 4) dX9_fallen_87 (mm_a hA 6 (by decide) (by decide)) (by omega) (by decide) ?_
          refine pj_icmp_ge (pc := 88) (tgt := 131) dX9_fallen_88 (by decide) (fun c88 => ?_) (fun c88 => ?_)
          · refine pl_iinc (pc := 131) (v := nI 3) (lv' := [(5, _), (4, _), (3, _), (0, _), (1, _), (2, _)]) dX9_fallen_131 rfl (by rfl) (by decide) rfl ?_
            refine pj_goto (pc := 134) (tgt := 63) dX9_fallen_134 (by decide) ?_
            refine pl_iload (pc := 63) dX9_fallen_63 rfl ?_
            refine pl_iload_n (pc := 65) dX9_fallen_65 rfl rfl ?_
            refine pl_iconst (pc := 66) (v := 1) dX9_fallen_66 (by rfl) ?_
            refine pl_iadd (pc := 67) dX9_fallen_67 ?_
            refine pj_icmp_gt (pc := 68) (tgt := 137) dX9_fallen_68 (by decide) (fun h => absurd h (by decide)) (fun _ => ?_)
            refine pl_aload_n (pc := 71) dX9_fallen_71 rfl rfl ?_
            refine pl_iload (pc := 72) dX9_fallen_72 rfl ?_
            refine pl_callVd (pc := 74) (As := [_]) (C2 := 0) (N2 := 0) ckX9 mdX9_isZone rfl q2643 q2645 qs52 q154 dX9_fallen_74 rfl rfl (Nat.le_of_ble_eq_true rfl) (mm_o hA) (PM.ret (w := some (.int (nI 1))) (by rfl) rfl (w_X9_isZone (d := d - 1) (by omega) hA)) (by omega) (by decide) (by decide) ?_
            refine pj_if_eq (pc := 77) (tgt := 131) dX9_fallen_77 (by decide) (fun h => absurd h (by decide)) (fun _ => ?_)
            refine pl_iload_n (pc := 80) dX9_fallen_80 rfl rfl ?_
            refine pl_aload_n (pc := 81) dX9_fallen_81 rfl rfl ?_
            refine pj_getf (pc := 82) ckX9 6 q2522 dX9_fallen_82 (by decide) (mm_o hA) rfl ?_
            refine pl_iload (pc := 85) dX9_fallen_85 rfl ?_
            refine pl_iald (pc := 87) (n := 4) dX9_fallen_87 (mm_a hA 6 (by decide) (by decide)) (by omega) (by decide) ?_
            refine pj_icmp_ge (pc := 88) (tgt := 131) dX9_fallen_88 (by decide) (fun c88 => ?_) (fun c88 => ?_)
            · refine pl_iinc (pc := 131) (v := nI 5) (lv' := [(5, _), (4, _), (3, _), (0, _), (1, _), (2, _)]) dX9_fallen_131 rfl (by rfl) (by decide) rfl ?_
              refine pj_goto (pc := 134) (tgt := 63) dX9_fallen_134 (by decide) ?_
              refine pl_iload (pc := 63) dX9_fallen_63 rfl ?_
              refine pl_iload_n (pc := 65) dX9_fallen_65 rfl rfl ?_
              refine pl_iconst (pc := 66) (v := 1) dX9_fallen_66 (by rfl) ?_
              refine pl_iadd (pc := 67) dX9_fallen_67 ?_
              refine pj_icmp_gt (pc := 68) (tgt := 137) dX9_fallen_68 (by decide) (fun _ => ?_) (fun h => absurd h (by decide))
              refine pl_iload_n (pc := 137) dX9_fallen_137 rfl rfl ?_
              refine pj_if_ne (pc := 138) (tgt := 145) dX9_fallen_138 (by decide) (fun h => absurd h (by decide)) (fun _ => ?_)
              refine pl_iconst (pc := 141) (v := 0) dX9_fallen_141 (by rfl) ?_
              refine pj_goto (pc := 142) (tgt := 149) dX9_fallen_142 (by decide) ?_
              refine pj_iret (pc := 149) dX9_fallen_149 rfl ?_
              exact ⟨vIe (by simp_all [fallV, nbN, nbS, tl, rn, rm, ← Int32.not_le]) rfl, rfl⟩
            · refine pl_aload_n (pc := 91) dX9_fallen_91 rfl rfl ?_
              refine pj_getf (pc := 92) ckX9 5 q2521 dX9_fallen_92 (by decide) (mm_o hA) rfl ?_
              refine pl_sipush (pc := 95) (v := 1000) dX9_fallen_95 (by rfl) ?_
              refine pl_iload (pc := 98) dX9_fallen_98 rfl ?_
              refine pl_imul (pc := 100) dX9_fallen_100 ?_
              refine pl_iload_n (pc := 101) dX9_fallen_101 rfl rfl ?_
              refine pl_iadd (pc := 102) dX9_fallen_102 ?_
              refine pl_iald (pc := 103) (n := 4000) dX9_fallen_103 (mm_a hA 5 (by decide) (by decide)) (by omega) (by decide) ?_
              refine pj_if_ge (pc := 104) (tgt := 110) dX9_fallen_104 (by decide) (fun c104 => ?_) (fun c104 => ?_)
              · refine pl_iload (pc := 110) dX9_fallen_110 rfl ?_
                refine pl_aload_n (pc := 112) dX9_fallen_112 rfl rfl ?_
                refine pj_getf (pc := 113) ckX9 5 q2521 dX9_fallen_113 (by decide) (mm_o hA) rfl ?_
                refine pl_sipush (pc := 116) (v := 1000) dX9_fallen_116 (by rfl) ?_
                refine pl_iload (pc := 119) dX9_fallen_119 rfl ?_
                refine pl_imul (pc := 121) dX9_fallen_121 ?_
                refine pl_iload_n (pc := 122) dX9_fallen_122 rfl rfl ?_
                refine pl_iadd (pc := 123) dX9_fallen_123 ?_
                refine pl_iald (pc := 124) (n := 4000) dX9_fallen_124 (mm_a hA 5 (by decide) (by decide)) (by omega) (by decide) ?_
                refine pj_iadd (pc := 125) dX9_fallen_125 ?_
                refine pj_istore (pc := 126) (lv' := [(4, _), (5, _), (3, _), (0, _), (1, _), (2, _)]) dX9_fallen_126 (by decide) rfl ?_
                refine pl_iinc (pc := 128) (v := nI 1) (lv' := [(3, _), (4, _), (5, _), (0, _), (1, _), (2, _)]) dX9_fallen_128 rfl (by rfl) (by decide) rfl ?_
                refine pl_iinc (pc := 131) (v := nI 5) (lv' := [(5, _), (3, _), (4, _), (0, _), (1, _), (2, _)]) dX9_fallen_131 rfl (by rfl) (by decide) rfl ?_
                refine pj_goto (pc := 134) (tgt := 63) dX9_fallen_134 (by decide) ?_
                refine pl_iload (pc := 63) dX9_fallen_63 rfl ?_
                refine pl_iload_n (pc := 65) dX9_fallen_65 rfl rfl ?_
                refine pl_iconst (pc := 66) (v := 1) dX9_fallen_66 (by rfl) ?_
                refine pl_iadd (pc := 67) dX9_fallen_67 ?_
                refine pj_icmp_gt (pc := 68) (tgt := 137) dX9_fallen_68 (by decide) (fun _ => ?_) (fun h => absurd h (by decide))
                refine pl_iload_n (pc := 137) dX9_fallen_137 rfl rfl ?_
                refine pj_if_ne (pc := 138) (tgt := 145) dX9_fallen_138 (by decide) (fun _ => ?_) (fun h => absurd h (by decide))
                refine pl_iload (pc := 145) dX9_fallen_145 rfl ?_
                refine pl_iload_n (pc := 147) dX9_fallen_147 rfl rfl ?_
                refine pj_idiv (pc := 148) dX9_fallen_148 (by decide) ?_
                refine pj_iret (pc := 149) dX9_fallen_149 rfl ?_
                exact ⟨vIe (by simp_all [fallV, nbN, nbS, tl, rn, rm, ← Int32.not_le]) rfl, rfl⟩
              · refine pj_goto (pc := 107) (tgt := 131) dX9_fallen_107 (by decide) ?_
                refine pl_iinc (pc := 131) (v := nI 5) (lv' := [(5, _), (4, _), (3, _), (0, _), (1, _), (2, _)]) dX9_fallen_131 rfl (by rfl) (by decide) rfl ?_
                refine pj_goto (pc := 134) (tgt := 63) dX9_fallen_134 (by decide) ?_
                refine pl_iload (pc := 63) dX9_fallen_63 rfl ?_
                refine pl_iload_n (pc := 65) dX9_fallen_65 rfl rfl ?_
                refine pl_iconst (pc := 66) (v := 1) dX9_fallen_66 (by rfl) ?_
                refine pl_iadd (pc := 67) dX9_fallen_67 ?_
                refine pj_icmp_gt (pc := 68) (tgt := 137) dX9_fallen_68 (by decide) (fun _ => ?_) (fun h => absurd h (by decide))
                refine pl_iload_n (pc := 137) dX9_fallen_137 rfl rfl ?_
                refine pj_if_ne (pc := 138) (tgt := 145) dX9_fallen_138 (by decide) (fun h => absurd h (by decide)) (fun _ => ?_)
                refine pl_iconst (pc := 141) (v := 0) dX9_fallen_141 (by rfl) ?_
                refine pj_goto (pc := 142) (tgt := 149) dX9_fallen_142 (by decide) ?_
                refine pj_iret (pc := 149) dX9_fallen_149 rfl ?_
                exact ⟨vIe (by simp_all [fallV, nbN, nbS, tl, rn, rm, ← Int32.not_le]) rfl, rfl⟩
          · refine pl_aload_n (pc := 91) dX9_fallen_91 rfl rfl ?_
            refine pj_getf (pc := 92) ckX9 5 q2521 dX9_fallen_92 (by decide) (mm_o hA) rfl ?_
            refine pl_sipush (pc := 95) (v := 1000) dX9_fallen_95 (by rfl) ?_
            refine pl_iload (pc := 98) dX9_fallen_98 rfl ?_
            refine pl_imul (pc := 100) dX9_fallen_100 ?_
            refine pl_iload_n (pc := 101) dX9_fallen_101 rfl rfl ?_
            refine pl_iadd (pc := 102) dX9_fallen_102 ?_
            refine pl_iald (pc := 103) (n := 4000) dX9_fallen_103 (mm_a hA 5 (by decide) (by decide)) (by omega) (by decide) ?_
            refine pj_if_ge (pc := 104) (tgt := 110) dX9_fallen_104 (by decide) (fun c104 => ?_) (fun c104 => ?_)
            · refine pl_iload (pc := 110) dX9_fallen_110 rfl ?_
              refine pl_aload_n (pc := 112) dX9_fallen_112 rfl rfl ?_
              refine pj_getf (pc := 113) ckX9 5 q2521 dX9_fallen_113 (by decide) (mm_o hA) rfl ?_
              refine pl_sipush (pc := 116) (v := 1000) dX9_fallen_116 (by rfl) ?_
              refine pl_iload (pc := 119) dX9_fallen_119 rfl ?_
              refine pl_imul (pc := 121) dX9_fallen_121 ?_
              refine pl_iload_n (pc := 122) dX9_fallen_122 rfl rfl ?_
              refine pl_iadd (pc := 123) dX9_fallen_123 ?_
              refine pl_iald (pc := 124) (n := 4000) dX9_fallen_124 (mm_a hA 5 (by decide) (by decide)) (by omega) (by decide) ?_
              refine pj_iadd (pc := 125) dX9_fallen_125 ?_
              refine pj_istore (pc := 126) (lv' := [(4, _), (5, _), (3, _), (0, _), (1, _), (2, _)]) dX9_fallen_126 (by decide) rfl ?_
              refine pl_iinc (pc := 128) (v := nI 1) (lv' := [(3, _), (4, _), (5, _), (0, _), (1, _), (2, _)]) dX9_fallen_128 rfl (by rfl) (by decide) rfl ?_
              refine pl_iinc (pc := 131) (v := nI 3) (lv' := [(5, _), (3, _), (4, _), (0, _), (1, _), (2, _)]) dX9_fallen_131 rfl (by rfl) (by decide) rfl ?_
              refine pj_goto (pc := 134) (tgt := 63) dX9_fallen_134 (by decide) ?_
              refine pl_iload (pc := 63) dX9_fallen_63 rfl ?_
              refine pl_iload_n (pc := 65) dX9_fallen_65 rfl rfl ?_
              refine pl_iconst (pc := 66) (v := 1) dX9_fallen_66 (by rfl) ?_
              refine pl_iadd (pc := 67) dX9_fallen_67 ?_
              refine pj_icmp_gt (pc := 68) (tgt := 137) dX9_fallen_68 (by decide) (fun h => absurd h (by decide)) (fun _ => ?_)
              refine pl_aload_n (pc := 71) dX9_fallen_71 rfl rfl ?_
              refine pl_iload (pc := 72) dX9_fallen_72 rfl ?_
              refine pl_callVd (pc := 74) (As := [_]) (C2 := 0) (N2 := 0) ckX9 mdX9_isZone rfl q2643 q2645 qs52 q154 dX9_fallen_74 rfl rfl (Nat.le_of_ble_eq_true rfl) (mm_o hA) (PM.ret (w := some (.int (nI 1))) (by rfl) rfl (w_X9_isZone (d := d - 1) (by omega) hA)) (by omega) (by decide) (by decide) ?_
              refine pj_if_eq (pc := 77) (tgt := 131) dX9_fallen_77 (by decide) (fun h => absurd h (by decide)) (fun _ => ?_)
              refine pl_iload_n (pc := 80) dX9_fallen_80 rfl rfl ?_
              refine pl_aload_n (pc := 81) dX9_fallen_81 rfl rfl ?_
              refine pj_getf (pc := 82) ckX9 6 q2522 dX9_fallen_82 (by decide) (mm_o hA) rfl ?_
              refine pl_iload (pc := 85) dX9_fallen_85 rfl ?_
              refine pl_iald (pc := 87) (n := 4) dX9_fallen_87 (mm_a hA 6 (by decide) (by decide)) (by omega) (by decide) ?_
              refine pj_icmp_ge (pc := 88) (tgt := 131) dX9_fallen_88 (by decide) (fun c88 => ?_) (fun c88 => ?_)
              · refine pl_iinc (pc := 131) (v := nI 5) (lv' := [(5, _), (3, _), (4, _), (0, _), (1, _), (2, _)]) dX9_fallen_131 rfl (by rfl) (by decide) rfl ?_
                refine pj_goto (pc := 134) (tgt := 63) dX9_fallen_134 (by decide) ?_
                refine pl_iload (pc := 63) dX9_fallen_63 rfl ?_
                refine pl_iload_n (pc := 65) dX9_fallen_65 rfl rfl ?_
                refine pl_iconst (pc := 66) (v := 1) dX9_fallen_66 (by rfl) ?_
                refine pl_iadd (pc := 67) dX9_fallen_67 ?_
                refine pj_icmp_gt (pc := 68) (tgt := 137) dX9_fallen_68 (by decide) (fun _ => ?_) (fun h => absurd h (by decide))
                refine pl_iload_n (pc := 137) dX9_fallen_137 rfl rfl ?_
                refine pj_if_ne (pc := 138) (tgt := 145) dX9_fallen_138 (by decide) (fun _ => ?_) (fun h => absurd h (by decide))
                refine pl_iload (pc := 145) dX9_fallen_145 rfl ?_
                refine pl_iload_n (pc := 147) dX9_fallen_147 rfl rfl ?_
                refine pj_idiv (pc := 148) dX9_fallen_148 (by decide) ?_
                refine pj_iret (pc := 149) dX9_fallen_149 rfl ?_
                exact ⟨vIe (by simp_all [fallV, nbN, nbS, tl, rn, rm, ← Int32.not_le]) rfl, rfl⟩
              · refine pl_aload_n (pc := 91) dX9_fallen_91 rfl rfl ?_
                refine pj_getf (pc := 92) ckX9 5 q2521 dX9_fallen_92 (by decide) (mm_o hA) rfl ?_
                refine pl_sipush (pc := 95) (v := 1000) dX9_fallen_95 (by rfl) ?_
                refine pl_iload (pc := 98) dX9_fallen_98 rfl ?_
                refine pl_imul (pc := 100) dX9_fallen_100 ?_
                refine pl_iload_n (pc := 101) dX9_fallen_101 rfl rfl ?_
                refine pl_iadd (pc := 102) dX9_fallen_102 ?_
                refine pl_iald (pc := 103) (n := 4000) dX9_fallen_103 (mm_a hA 5 (by decide) (by decide)) (by omega) (by decide) ?_
                refine pj_if_ge (pc := 104) (tgt := 110) dX9_fallen_104 (by decide) (fun c104 => ?_) (fun c104 => ?_)
                · refine pl_iload (pc := 110) dX9_fallen_110 rfl ?_
                  refine pl_aload_n (pc := 112) dX9_fallen_112 rfl rfl ?_
                  refine pj_getf (pc := 113) ckX9 5 q2521 dX9_fallen_113 (by decide) (mm_o hA) rfl ?_
                  refine pl_sipush (pc := 116) (v := 1000) dX9_fallen_116 (by rfl) ?_
                  refine pl_iload (pc := 119) dX9_fallen_119 rfl ?_
                  refine pl_imul (pc := 121) dX9_fallen_121 ?_
                  refine pl_iload_n (pc := 122) dX9_fallen_122 rfl rfl ?_
                  refine pl_iadd (pc := 123) dX9_fallen_123 ?_
                  refine pl_iald (pc := 124) (n := 4000) dX9_fallen_124 (mm_a hA 5 (by decide) (by decide)) (by omega) (by decide) ?_
                  refine pj_iadd (pc := 125) dX9_fallen_125 ?_
                  refine pj_istore (pc := 126) (lv' := [(4, _), (5, _), (3, _), (0, _), (1, _), (2, _)]) dX9_fallen_126 (by decide) rfl ?_
                  refine pl_iinc (pc := 128) (v := nI 2) (lv' := [(3, _), (4, _), (5, _), (0, _), (1, _), (2, _)]) dX9_fallen_128 rfl (by rfl) (by decide) rfl ?_
                  refine pl_iinc (pc := 131) (v := nI 5) (lv' := [(5, _), (3, _), (4, _), (0, _), (1, _), (2, _)]) dX9_fallen_131 rfl (by rfl) (by decide) rfl ?_
                  refine pj_goto (pc := 134) (tgt := 63) dX9_fallen_134 (by decide) ?_
                  refine pl_iload (pc := 63) dX9_fallen_63 rfl ?_
                  refine pl_iload_n (pc := 65) dX9_fallen_65 rfl rfl ?_
                  refine pl_iconst (pc := 66) (v := 1) dX9_fallen_66 (by rfl) ?_
                  refine pl_iadd (pc := 67) dX9_fallen_67 ?_
                  refine pj_icmp_gt (pc := 68) (tgt := 137) dX9_fallen_68 (by decide) (fun _ => ?_) (fun h => absurd h (by decide))
                  refine pl_iload_n (pc := 137) dX9_fallen_137 rfl rfl ?_
                  refine pj_if_ne (pc := 138) (tgt := 145) dX9_fallen_138 (by decide) (fun _ => ?_) (fun h => absurd h (by decide))
                  refine pl_iload (pc := 145) dX9_fallen_145 rfl ?_
                  refine pl_iload_n (pc := 147) dX9_fallen_147 rfl rfl ?_
                  refine pj_idiv (pc := 148) dX9_fallen_148 (by decide) ?_
                  refine pj_iret (pc := 149) dX9_fallen_149 rfl ?_
                  exact ⟨vIe (by simp_all [fallV, nbN, nbS, tl, rn, rm, ← Int32.not_le]) rfl, rfl⟩
                · refine pj_goto (pc := 107) (tgt := 131) dX9_fallen_107 (by decide) ?_
                  refine pl_iinc (pc := 131) (v := nI 5) (lv' := [(5, _), (3, _), (4, _), (0, _), (1, _), (2, _)]) dX9_fallen_131 rfl (by rfl) (by decide) rfl ?_
                  refine pj_goto (pc := 134) (tgt := 63) dX9_fallen_134 (by decide) ?_
                  refine pl_iload (pc := 63) dX9_fallen_63 rfl ?_
                  refine pl_iload_n (pc := 65) dX9_fallen_65 rfl rfl ?_
                  refine pl_iconst (pc := 66) (v := 1) dX9_fallen_66 (by rfl) ?_
                  refine pl_iadd (pc := 67) dX9_fallen_67 ?_
                  refine pj_icmp_gt (pc := 68) (tgt := 137) dX9_fallen_68 (by decide) (fun _ => ?_) (fun h => absurd h (by decide))
                  refine pl_iload_n (pc := 137) dX9_fallen_137 rfl rfl ?_
                  refine pj_if_ne (pc := 138) (tgt := 145) dX9_fallen_138 (by decide) (fun _ => ?_) (fun h => absurd h (by decide))
                  refine pl_iload (pc := 145) dX9_fallen_145 rfl ?_
                  refine pl_iload_n (pc := 147) dX9_fallen_147 rfl rfl ?_
                  refine pj_idiv (pc := 148) dX9_fallen_148 (by decide) ?_
                  refine pj_iret (pc := 149) dX9_fallen_149 rfl ?_
                  exact ⟨vIe (by simp_all [fallV, nbN, nbS, tl, rn, rm, ← Int32.not_le]) rfl, rfl⟩
            · refine pj_goto (pc := 107) (tgt := 131) dX9_fallen_107 (by decide) ?_
              refine pl_iinc (pc := 131) (v := nI 3) (lv' := [(5, _), (4, _), (3, _), (0, _), (1, _), (2, _)]) dX9_fallen_131 rfl (by rfl) (by decide) rfl ?_
              refine pj_goto (pc := 134) (tgt := 63) dX9_fallen_134 (by decide) ?_
              refine pl_iload (pc := 63) dX9_fallen_63 rfl ?_
              refine pl_iload_n (pc := 65) dX9_fallen_65 rfl rfl ?_
              refine pl_iconst (pc := 66) (v := 1) dX9_fallen_66 (by rfl) ?_
              refine pl_iadd (pc := 67) dX9_fallen_67 ?_
              refine pj_icmp_gt (pc := 68) (tgt := 137) dX9_fallen_68 (by decide) (fun h => absurd h (by decide)) (fun _ => ?_)
              refine pl_aload_n (pc := 71) dX9_fallen_71 rfl rfl ?_
              refine pl_iload (pc := 72) dX9_fallen_72 rfl ?_
              refine pl_callVd (pc := 74) (As := [_]) (C2 := 0) (N2 := 0) ckX9 mdX9_isZone rfl q2643 q2645 qs52 q154 dX9_fallen_74 rfl rfl (Nat.le_of_ble_eq_true rfl) (mm_o hA) (PM.ret (w := some (.int (nI 1))) (by rfl) rfl (w_X9_isZone (d := d - 1) (by omega) hA)) (by omega) (by decide) (by decide) ?_
              refine pj_if_eq (pc := 77) (tgt := 131) dX9_fallen_77 (by decide) (fun h => absurd h (by decide)) (fun _ => ?_)
              refine pl_iload_n (pc := 80) dX9_fallen_80 rfl rfl ?_
              refine pl_aload_n (pc := 81) dX9_fallen_81 rfl rfl ?_
              refine pj_getf (pc := 82) ckX9 6 q2522 dX9_fallen_82 (by decide) (mm_o hA) rfl ?_
              refine pl_iload (pc := 85) dX9_fallen_85 rfl ?_
              refine pl_iald (pc := 87) (n := 4) dX9_fallen_87 (mm_a hA 6 (by decide) (by decide)) (by omega) (by decide) ?_
              refine pj_icmp_ge (pc := 88) (tgt := 131) dX9_fallen_88 (by decide) (fun c88 => ?_) (fun c88 => ?_)
              · refine pl_iinc (pc := 131) (v := nI 5) (lv' := [(5, _), (4, _), (3, _), (0, _), (1, _), (2, _)]) dX9_fallen_131 rfl (by rfl) (by decide) rfl ?_
                refine pj_goto (pc := 134) (tgt := 63) dX9_fallen_134 (by decide) ?_
                refine pl_iload (pc := 63) dX9_fallen_63 rfl ?_
                refine pl_iload_n (pc := 65) dX9_fallen_65 rfl rfl ?_
                refine pl_iconst (pc := 66) (v := 1) dX9_fallen_66 (by rfl) ?_
                refine pl_iadd (pc := 67) dX9_fallen_67 ?_
                refine pj_icmp_gt (pc := 68) (tgt := 137) dX9_fallen_68 (by decide) (fun _ => ?_) (fun h => absurd h (by decide))
                refine pl_iload_n (pc := 137) dX9_fallen_137 rfl rfl ?_
                refine pj_if_ne (pc := 138) (tgt := 145) dX9_fallen_138 (by decide) (fun h => absurd h (by decide)) (fun _ => ?_)
                refine pl_iconst (pc := 141) (v := 0) dX9_fallen_141 (by rfl) ?_
                refine pj_goto (pc := 142) (tgt := 149) dX9_fallen_142 (by decide) ?_
                refine pj_iret (pc := 149) dX9_fallen_149 rfl ?_
                exact ⟨vIe (by simp_all [fallV, nbN, nbS, tl, rn, rm, ← Int32.not_le]) rfl, rfl⟩
              · refine pl_aload_n (pc := 91) dX9_fallen_91 rfl rfl ?_
                refine pj_getf (pc := 92) ckX9 5 q2521 dX9_fallen_92 (by decide) (mm_o hA) rfl ?_
                refine pl_sipush (pc := 95) (v := 1000) dX9_fallen_95 (by rfl) ?_
                refine pl_iload (pc := 98) dX9_fallen_98 rfl ?_
                refine pl_imul (pc := 100) dX9_fallen_100 ?_
                refine pl_iload_n (pc := 101) dX9_fallen_101 rfl rfl ?_
                refine pl_iadd (pc := 102) dX9_fallen_102 ?_
                refine pl_iald (pc := 103) (n := 4000) dX9_fallen_103 (mm_a hA 5 (by decide) (by decide)) (by omega) (by decide) ?_
                refine pj_if_ge (pc := 104) (tgt := 110) dX9_fallen_104 (by decide) (fun c104 => ?_) (fun c104 => ?_)
                · refine pl_iload (pc := 110) dX9_fallen_110 rfl ?_
                  refine pl_aload_n (pc := 112) dX9_fallen_112 rfl rfl ?_
                  refine pj_getf (pc := 113) ckX9 5 q2521 dX9_fallen_113 (by decide) (mm_o hA) rfl ?_
                  refine pl_sipush (pc := 116) (v := 1000) dX9_fallen_116 (by rfl) ?_
                  refine pl_iload (pc := 119) dX9_fallen_119 rfl ?_
                  refine pl_imul (pc := 121) dX9_fallen_121 ?_
                  refine pl_iload_n (pc := 122) dX9_fallen_122 rfl rfl ?_
                  refine pl_iadd (pc := 123) dX9_fallen_123 ?_
                  refine pl_iald (pc := 124) (n := 4000) dX9_fallen_124 (mm_a hA 5 (by decide) (by decide)) (by omega) (by decide) ?_
                  refine pj_iadd (pc := 125) dX9_fallen_125 ?_
                  refine pj_istore (pc := 126) (lv' := [(4, _), (5, _), (3, _), (0, _), (1, _), (2, _)]) dX9_fallen_126 (by decide) rfl ?_
                  refine pl_iinc (pc := 128) (v := nI 1) (lv' := [(3, _), (4, _), (5, _), (0, _), (1, _), (2, _)]) dX9_fallen_128 rfl (by rfl) (by decide) rfl ?_
                  refine pl_iinc (pc := 131) (v := nI 5) (lv' := [(5, _), (3, _), (4, _), (0, _), (1, _), (2, _)]) dX9_fallen_131 rfl (by rfl) (by decide) rfl ?_
                  refine pj_goto (pc := 134) (tgt := 63) dX9_fallen_134 (by decide) ?_
                  refine pl_iload (pc := 63) dX9_fallen_63 rfl ?_
                  refine pl_iload_n (pc := 65) dX9_fallen_65 rfl rfl ?_
                  refine pl_iconst (pc := 66) (v := 1) dX9_fallen_66 (by rfl) ?_
                  refine pl_iadd (pc := 67) dX9_fallen_67 ?_
                  refine pj_icmp_gt (pc := 68) (tgt := 137) dX9_fallen_68 (by decide) (fun _ => ?_) (fun h => absurd h (by decide))
                  refine pl_iload_n (pc := 137) dX9_fallen_137 rfl rfl ?_
                  refine pj_if_ne (pc := 138) (tgt := 145) dX9_fallen_138 (by decide) (fun _ => ?_) (fun h => absurd h (by decide))
                  refine pl_iload (pc := 145) dX9_fallen_145 rfl ?_
                  refine pl_iload_n (pc := 147) dX9_fallen_147 rfl rfl ?_
                  refine pj_idiv (pc := 148) dX9_fallen_148 (by decide) ?_
                  refine pj_iret (pc := 149) dX9_fallen_149 rfl ?_
                  exact ⟨vIe (by simp_all [fallV, nbN, nbS, tl, rn, rm, ← Int32.not_le]) rfl, rfl⟩
                · refine pj_goto (pc := 107) (tgt := 131) dX9_fallen_107 (by decide) ?_
                  refine pl_iinc (pc := 131) (v := nI 5) (lv' := [(5, _), (4, _), (3, _), (0, _), (1, _), (2, _)]) dX9_fallen_131 rfl (by rfl) (by decide) rfl ?_
                  refine pj_goto (pc := 134) (tgt := 63) dX9_fallen_134 (by decide) ?_
                  refine pl_iload (pc := 63) dX9_fallen_63 rfl ?_
                  refine pl_iload_n (pc := 65) dX9_fallen_65 rfl rfl ?_
                  refine pl_iconst (pc := 66) (v := 1) dX9_fallen_66 (by rfl) ?_
                  refine pl_iadd (pc := 67) dX9_fallen_67 ?_
                  refine pj_icmp_gt (pc := 68) (tgt := 137) dX9_fallen_68 (by decide) (fun _ => ?_) (fun h => absurd h (by decide))
                  refine pl_iload_n (pc := 137) dX9_fallen_137 rfl rfl ?_
                  refine pj_if_ne (pc := 138) (tgt := 145) dX9_fallen_138 (by decide) (fun h => absurd h (by decide)) (fun _ => ?_)
                  refine pl_iconst (pc := 141) (v := 0) dX9_fallen_141 (by rfl) ?_
                  refine pj_goto (pc := 142) (tgt := 149) dX9_fallen_142 (by decide) ?_
                  refine pj_iret (pc := 149) dX9_fallen_149 rfl ?_
                  exact ⟨vIe (by simp_all [fallV, nbN, nbS, tl, rn, rm, ← Int32.not_le]) rfl, rfl⟩
        · refine pl_aload_n (pc := 40) dX9_fallen_40 rfl rfl ?_
          refine pj_getf (pc := 41) ckX9 5 q2521 dX9_fallen_41 (by decide) (mm_o hA) rfl ?_
          refine pl_sipush (pc := 44) (v := 1000) dX9_fallen_44 (by rfl) ?_
          refine pl_iload_n (pc := 47) dX9_fallen_47 rfl rfl ?_
          refine pl_imul (pc := 48) dX9_fallen_48 ?_
          refine pl_iload_n (pc := 49) dX9_fallen_49 rfl rfl ?_
          refine pl_iadd (pc := 50) dX9_fallen_50 ?_
          refine pl_iald (pc := 51) (n := 4000) dX9_fallen_51 (mm_a hA 5 (by decide) (by decide)) (by omega) (by decide) ?_
          refine pj_iret (pc := 52) dX9_fallen_52 rfl ?_
          exact ⟨vIe (by simp_all [fallV, nbN, nbS, tl, rn, rm, ← Int32.not_le]) rfl, rfl⟩
      · refine pl_bipush (pc := 22) (v := 10) dX9_fallen_22 (by rfl) ?_
        refine pj_iret (pc := 24) dX9_fallen_24 rfl ?_
        exact ⟨vIe (by simp_all [fallV, nbN, nbS, tl, rn, rm, ← Int32.not_le]) rfl, rfl⟩
    · refine pl_aload_n (pc := 7) dX9_fallen_7 rfl rfl ?_
      refine pj_getf (pc := 8) ckX9 7 q2523 dX9_fallen_8 (by decide) (mm_o hA) rfl ?_
      refine pj_iret (pc := 11) dX9_fallen_11 rfl ?_
      exact ⟨vIe (by simp_all [fallV, nbN, nbS, tl, rn, rm, ← Int32.not_le]) rfl, rfl⟩
  · refine pl_aload_n (pc := 0) dX9_fallen_0 rfl rfl ?_
    refine pj_getf (pc := 1) ckX9 7 q2523 dX9_fallen_1 (by decide) (mm_o hA) rfl ?_
    refine pj_if_lt (pc := 4) (tgt := 12) dX9_fallen_4 (by decide) (fun c4 => ?_) (fun c4 => ?_)
    · refine pl_iload_n (pc := 12) dX9_fallen_12 rfl rfl ?_
      refine pl_aload_n (pc := 13) dX9_fallen_13 rfl rfl ?_
      refine pj_getf (pc := 14) ckX9 6 q2522 dX9_fallen_14 (by decide) (mm_o hA) rfl ?_
      refine pl_iload_n (pc := 17) dX9_fallen_17 rfl rfl ?_
      refine pl_iald (pc := 18) (n := 4) dX9_fallen_18 (mm_a hA 6 (by decide) (by decide)) (by omega) (by decide) ?_
      refine pj_icmp_lt (pc := 19) (tgt := 25) dX9_fallen_19 (by decide) (fun c19 => ?_) (fun c19 => ?_)
      · have hw2 : w < 1000 := by
          obtain ⟨r, hr, er⟩ := hR 3 (by decide)
          have h9 := c19
          rw [er] at h9
          have := (nI_ltI (by omega) (by omega)).mp h9
          omega
        clear hR
        refine pl_aload_n (pc := 25) dX9_fallen_25 rfl rfl ?_
        refine pj_getf (pc := 26) ckX9 5 q2521 dX9_fallen_26 (by decide) (mm_o hA) rfl ?_
        refine pl_sipush (pc := 29) (v := 1000) dX9_fallen_29 (by rfl) ?_
        refine pl_iload_n (pc := 32) dX9_fallen_32 rfl rfl ?_
        refine pl_imul (pc := 33) dX9_fallen_33 ?_
        refine pl_iload_n (pc := 34) dX9_fallen_34 rfl rfl ?_
        refine pl_iadd (pc := 35) dX9_fallen_35 ?_
        refine pl_iald (pc := 36) (n := 4000) dX9_fallen_36 (mm_a hA 5 (by decide) (by decide)) (by omega) (by decide) ?_
        refine pj_if_lt (pc := 37) (tgt := 53) dX9_fallen_37 (by decide) (fun c37 => ?_) (fun c37 => ?_)
        · refine pl_iconst (pc := 53) (v := 0) dX9_fallen_53 (by rfl) ?_
          refine pj_istore_n (pc := 54) (lv' := [(3, _), (0, _), (1, _), (2, _)]) dX9_fallen_54 rfl (by decide) rfl ?_
          refine pl_iconst (pc := 55) (v := 0) dX9_fallen_55 (by rfl) ?_
          refine pj_istore (pc := 56) (lv' := [(4, _), (3, _), (0, _), (1, _), (2, _)]) dX9_fallen_56 (by decide) rfl ?_
          refine pl_iload_n (pc := 58) dX9_fallen_58 rfl rfl ?_
          refine pl_iconst (pc := 59) (v := 1) dX9_fallen_59 (by rfl) ?_
          refine pj_isub (pc := 60) dX9_fallen_60 ?_
          refine PJ.top (y := nI 2) (by decide) ?_
          refine pj_istore (pc := 61) (lv' := [(5, _), (4, _), (3, _), (0, _), (1, _), (2, _)]) dX9_fallen_61 (by decide) rfl ?_
          refine pl_iload (pc := 63) dX9_fallen_63 rfl ?_
          refine pl_iload_n (pc := 65) dX9_fallen_65 rfl rfl ?_
          refine pl_iconst (pc := 66) (v := 1) dX9_fallen_66 (by rfl) ?_
          refine pl_iadd (pc := 67) dX9_fallen_67 ?_
          refine pj_icmp_gt (pc := 68) (tgt := 137) dX9_fallen_68 (by decide) (fun h => absurd h (by decide)) (fun _ => ?_)
          refine pl_aload_n (pc := 71) dX9_fallen_71 rfl rfl ?_
          refine pl_iload (pc := 72) dX9_fallen_72 rfl ?_
          refine pl_callVd (pc := 74) (As := [_]) (C2 := 0) (N2 := 0) ckX9 mdX9_isZone rfl q2643 q2645 qs52 q154 dX9_fallen_74 rfl rfl (Nat.le_of_ble_eq_true rfl) (mm_o hA) (PM.ret (w := some (.int (nI 1))) (by rfl) rfl (w_X9_isZone (d := d - 1) (by omega) hA)) (by omega) (by decide) (by decide) ?_
          refine pj_if_eq (pc := 77) (tgt := 131) dX9_fallen_77 (by decide) (fun h => absurd h (by decide)) (fun _ => ?_)
          refine pl_iload_n (pc := 80) dX9_fallen_80 rfl rfl ?_
          refine pl_aload_n (pc := 81) dX9_fallen_81 rfl rfl ?_
          refine pj_getf (pc := 82) ckX9 6 q2522 dX9_fallen_82 (by decide) (mm_o hA) rfl ?_
          refine pl_iload (pc := 85) dX9_fallen_85 rfl ?_
          refine pl_iald (pc := 87) (n := 4) dX9_fallen_87 (mm_a hA 6 (by decide) (by decide)) (by omega) (by decide) ?_
          refine pj_icmp_ge (pc := 88) (tgt := 131) dX9_fallen_88 (by decide) (fun c88 => ?_) (fun c88 => ?_)
          · refine pl_iinc (pc := 131) (v := nI 4) (lv' := [(5, _), (4, _), (3, _), (0, _), (1, _), (2, _)]) dX9_fallen_131 rfl (by rfl) (by decide) rfl ?_
            refine pj_goto (pc := 134) (tgt := 63) dX9_fallen_134 (by decide) ?_
            refine pl_iload (pc := 63) dX9_fallen_63 rfl ?_
            refine pl_iload_n (pc := 65) dX9_fallen_65 rfl rfl ?_
            refine pl_iconst (pc := 66) (v := 1) dX9_fallen_66 (by rfl) ?_
            refine pl_iadd (pc := 67) dX9_fallen_67 ?_
            refine pj_icmp_gt (pc := 68) (tgt := 137) dX9_fallen_68 (by decide) (fun h => absurd h (by decide)) (fun _ => ?_)
            refine pl_aload_n (pc := 71) dX9_fallen_71 rfl rfl ?_
            refine pl_iload (pc := 72) dX9_fallen_72 rfl ?_
            refine pl_callVd (pc := 74) (As := [_]) (C2 := 0) (N2 := 0) ckX9 mdX9_isZone rfl q2643 q2645 qs52 q154 dX9_fallen_74 rfl rfl (Nat.le_of_ble_eq_true rfl) (mm_o hA) (PM.ret (w := some (.int (nI 0))) (by rfl) rfl (w_X9_isZone (d := d - 1) (by omega) hA)) (by omega) (by decide) (by decide) ?_
            refine pj_if_eq (pc := 77) (tgt := 131) dX9_fallen_77 (by decide) (fun _ => ?_) (fun h => absurd h (by decide))
            refine pl_iinc (pc := 131) (v := nI 6) (lv' := [(5, _), (4, _), (3, _), (0, _), (1, _), (2, _)]) dX9_fallen_131 rfl (by rfl) (by decide) rfl ?_
            refine pj_goto (pc := 134) (tgt := 63) dX9_fallen_134 (by decide) ?_
            refine pl_iload (pc := 63) dX9_fallen_63 rfl ?_
            refine pl_iload_n (pc := 65) dX9_fallen_65 rfl rfl ?_
            refine pl_iconst (pc := 66) (v := 1) dX9_fallen_66 (by rfl) ?_
            refine pl_iadd (pc := 67) dX9_fallen_67 ?_
            refine pj_icmp_gt (pc := 68) (tgt := 137) dX9_fallen_68 (by decide) (fun _ => ?_) (fun h => absurd h (by decide))
            refine pl_iload_n (pc := 137) dX9_fallen_137 rfl rfl ?_
            refine pj_if_ne (pc := 138) (tgt := 145) dX9_fallen_138 (by decide) (fun h => absurd h (by decide)) (fun _ => ?_)
            refine pl_iconst (pc := 141) (v := 0) dX9_fallen_141 (by rfl) ?_
            refine pj_goto (pc := 142) (tgt := 149) dX9_fallen_142 (by decide) ?_
            refine pj_iret (pc := 149) dX9_fallen_149 rfl ?_
            exact ⟨vIe (by simp_all [fallV, nbN, nbS, tl, rn, rm, ← Int32.not_le]) rfl, rfl⟩
          · refine pl_aload_n (pc := 91) dX9_fallen_91 rfl rfl ?_
            refine pj_getf (pc := 92) ckX9 5 q2521 dX9_fallen_92 (by decide) (mm_o hA) rfl ?_
            refine pl_sipush (pc := 95) (v := 1000) dX9_fallen_95 (by rfl) ?_
            refine pl_iload (pc := 98) dX9_fallen_98 rfl ?_
            refine pl_imul (pc := 100) dX9_fallen_100 ?_
            refine pl_iload_n (pc := 101) dX9_fallen_101 rfl rfl ?_
            refine pl_iadd (pc := 102) dX9_fallen_102 ?_
            refine pl_iald (pc := 103) (n := 4000) dX9_fallen_103 (mm_a hA 5 (by decide) (by decide)) (by omega) (by decide) ?_
            refine pj_if_ge (pc := 104) (tgt := 110) dX9_fallen_104 (by decide) (fun c104 => ?_) (fun c104 => ?_)
            · refine pl_iload (pc := 110) dX9_fallen_110 rfl ?_
              refine pl_aload_n (pc := 112) dX9_fallen_112 rfl rfl ?_
              refine pj_getf (pc := 113) ckX9 5 q2521 dX9_fallen_113 (by decide) (mm_o hA) rfl ?_
              refine pl_sipush (pc := 116) (v := 1000) dX9_fallen_116 (by rfl) ?_
              refine pl_iload (pc := 119) dX9_fallen_119 rfl ?_
              refine pl_imul (pc := 121) dX9_fallen_121 ?_
              refine pl_iload_n (pc := 122) dX9_fallen_122 rfl rfl ?_
              refine pl_iadd (pc := 123) dX9_fallen_123 ?_
              refine pl_iald (pc := 124) (n := 4000) dX9_fallen_124 (mm_a hA 5 (by decide) (by decide)) (by omega) (by decide) ?_
              refine pj_iadd (pc := 125) dX9_fallen_125 ?_
              refine pj_istore (pc := 126) (lv' := [(4, _), (5, _), (3, _), (0, _), (1, _), (2, _)]) dX9_fallen_126 (by decide) rfl ?_
              refine pl_iinc (pc := 128) (v := nI 1) (lv' := [(3, _), (4, _), (5, _), (0, _), (1, _), (2, _)]) dX9_fallen_128 rfl (by rfl) (by decide) rfl ?_
              refine pl_iinc (pc := 131) (v := nI 4) (lv' := [(5, _), (3, _), (4, _), (0, _), (1, _), (2, _)]) dX9_fallen_131 rfl (by rfl) (by decide) rfl ?_
              refine pj_goto (pc := 134) (tgt := 63) dX9_fallen_134 (by decide) ?_
              refine pl_iload (pc := 63) dX9_fallen_63 rfl ?_
              refine pl_iload_n (pc := 65) dX9_fallen_65 rfl rfl ?_
              refine pl_iconst (pc := 66) (v := 1) dX9_fallen_66 (by rfl) ?_
              refine pl_iadd (pc := 67) dX9_fallen_67 ?_
              refine pj_icmp_gt (pc := 68) (tgt := 137) dX9_fallen_68 (by decide) (fun h => absurd h (by decide)) (fun _ => ?_)
              refine pl_aload_n (pc := 71) dX9_fallen_71 rfl rfl ?_
              refine pl_iload (pc := 72) dX9_fallen_72 rfl ?_
              refine pl_callVd (pc := 74) (As := [_]) (C2 := 0) (N2 := 0) ckX9 mdX9_isZone rfl q2643 q2645 qs52 q154 dX9_fallen_74 rfl rfl (Nat.le_of_ble_eq_true rfl) (mm_o hA) (PM.ret (w := some (.int (nI 0))) (by rfl) rfl (w_X9_isZone (d := d - 1) (by omega) hA)) (by omega) (by decide) (by decide) ?_
              refine pj_if_eq (pc := 77) (tgt := 131) dX9_fallen_77 (by decide) (fun _ => ?_) (fun h => absurd h (by decide))
              refine pl_iinc (pc := 131) (v := nI 6) (lv' := [(5, _), (3, _), (4, _), (0, _), (1, _), (2, _)]) dX9_fallen_131 rfl (by rfl) (by decide) rfl ?_
              refine pj_goto (pc := 134) (tgt := 63) dX9_fallen_134 (by decide) ?_
              refine pl_iload (pc := 63) dX9_fallen_63 rfl ?_
              refine pl_iload_n (pc := 65) dX9_fallen_65 rfl rfl ?_
              refine pl_iconst (pc := 66) (v := 1) dX9_fallen_66 (by rfl) ?_
              refine pl_iadd (pc := 67) dX9_fallen_67 ?_
              refine pj_icmp_gt (pc := 68) (tgt := 137) dX9_fallen_68 (by decide) (fun _ => ?_) (fun h => absurd h (by decide))
              refine pl_iload_n (pc := 137) dX9_fallen_137 rfl rfl ?_
              refine pj_if_ne (pc := 138) (tgt := 145) dX9_fallen_138 (by decide) (fun _ => ?_) (fun h => absurd h (by decide))
              refine pl_iload (pc := 145) dX9_fallen_145 rfl ?_
              refine pl_iload_n (pc := 147) dX9_fallen_147 rfl rfl ?_
              refine pj_idiv (pc := 148) dX9_fallen_148 (by decide) ?_
              refine pj_iret (pc := 149) dX9_fallen_149 rfl ?_
              exact ⟨vIe (by simp_all [fallV, nbN, nbS, tl, rn, rm, ← Int32.not_le]) rfl, rfl⟩
            · refine pj_goto (pc := 107) (tgt := 131) dX9_fallen_107 (by decide) ?_
              refine pl_iinc (pc := 131) (v := nI 4) (lv' := [(5, _), (4, _), (3, _), (0, _), (1, _), (2, _)]) dX9_fallen_131 rfl (by rfl) (by decide) rfl ?_
              refine pj_goto (pc := 134) (tgt := 63) dX9_fallen_134 (by decide) ?_
              refine pl_iload (pc := 63) dX9_fallen_63 rfl ?_
              refine pl_iload_n (pc := 65) dX9_fallen_65 rfl rfl ?_
              refine pl_iconst (pc := 66) (v := 1) dX9_fallen_66 (by rfl) ?_
              refine pl_iadd (pc := 67) dX9_fallen_67 ?_
              refine pj_icmp_gt (pc := 68) (tgt := 137) dX9_fallen_68 (by decide) (fun h => absurd h (by decide)) (fun _ => ?_)
              refine pl_aload_n (pc := 71) dX9_fallen_71 rfl rfl ?_
              refine pl_iload (pc := 72) dX9_fallen_72 rfl ?_
              refine pl_callVd (pc := 74) (As := [_]) (C2 := 0) (N2 := 0) ckX9 mdX9_isZone rfl q2643 q2645 qs52 q154 dX9_fallen_74 rfl rfl (Nat.le_of_ble_eq_true rfl) (mm_o hA) (PM.ret (w := some (.int (nI 0))) (by rfl) rfl (w_X9_isZone (d := d - 1) (by omega) hA)) (by omega) (by decide) (by decide) ?_
              refine pj_if_eq (pc := 77) (tgt := 131) dX9_fallen_77 (by decide) (fun _ => ?_) (fun h => absurd h (by decide))
              refine pl_iinc (pc := 131) (v := nI 6) (lv' := [(5, _), (4, _), (3, _), (0, _), (1, _), (2, _)]) dX9_fallen_131 rfl (by rfl) (by decide) rfl ?_
              refine pj_goto (pc := 134) (tgt := 63) dX9_fallen_134 (by decide) ?_
              refine pl_iload (pc := 63) dX9_fallen_63 rfl ?_
              refine pl_iload_n (pc := 65) dX9_fallen_65 rfl rfl ?_
              refine pl_iconst (pc := 66) (v := 1) dX9_fallen_66 (by rfl) ?_
              refine pl_iadd (pc := 67) dX9_fallen_67 ?_
              refine pj_icmp_gt (pc := 68) (tgt := 137) dX9_fallen_68 (by decide) (fun _ => ?_) (fun h => absurd h (by decide))
              refine pl_iload_n (pc := 137) dX9_fallen_137 rfl rfl ?_
              refine pj_if_ne (pc := 138) (tgt := 145) dX9_fallen_138 (by decide) (fun h => absurd h (by decide)) (fun _ => ?_)
              refine pl_iconst (pc := 141) (v := 0) dX9_fallen_141 (by rfl) ?_
              refine pj_goto (pc := 142) (tgt := 149) dX9_fallen_142 (by decide) ?_
              refine pj_iret (pc := 149) dX9_fallen_149 rfl ?_
              exact ⟨vIe (by simp_all [fallV, nbN, nbS, tl, rn, rm, ← Int32.not_le]) rfl, rfl⟩
        · refine pl_aload_n (pc := 40) dX9_fallen_40 rfl rfl ?_
          refine pj_getf (pc := 41) ckX9 5 q2521 dX9_fallen_41 (by decide) (mm_o hA) rfl ?_
          refine pl_sipush (pc := 44) (v := 1000) dX9_fallen_44 (by rfl) ?_
          refine pl_iload_n (pc := 47) dX9_fallen_47 rfl rfl ?_
          refine pl_imul (pc := 48) dX9_fallen_48 ?_
          refine pl_iload_n (pc := 49) dX9_fallen_49 rfl rfl ?_
          refine pl_iadd (pc := 50) dX9_fallen_50 ?_
          refine pl_iald (pc := 51) (n := 4000) dX9_fallen_51 (mm_a hA 5 (by decide) (by decide)) (by omega) (by decide) ?_
          refine pj_iret (pc := 52) dX9_fallen_52 rfl ?_
          exact ⟨vIe (by simp_all [fallV, nbN, nbS, tl, rn, rm, ← Int32.not_le]) rfl, rfl⟩
      · refine pl_bipush (pc := 22) (v := 10) dX9_fallen_22 (by rfl) ?_
        refine pj_iret (pc := 24) dX9_fallen_24 rfl ?_
        exact ⟨vIe (by simp_all [fallV, nbN, nbS, tl, rn, rm, ← Int32.not_le]) rfl, rfl⟩
    · refine pl_aload_n (pc := 7) dX9_fallen_7 rfl rfl ?_
      refine pj_getf (pc := 8) ckX9 7 q2523 dX9_fallen_8 (by decide) (mm_o hA) rfl ?_
      refine pj_iret (pc := 11) dX9_fallen_11 rfl ?_
      exact ⟨vIe (by simp_all [fallV, nbN, nbS, tl, rn, rm, ← Int32.not_le]) rfl, rfl⟩
def p_fell (σ : MS) (z w : Int32) : Int32 × MS := if inN z 4 = false then (nI 0, th σ 1) else if w < 0 then (nI 0, th σ 2) else if ¬ w ≤ nI 1000 then (nI 0, th σ 2) else (fallV (s0 σ) (tN z) (tN w), s0 σ)
set_option maxHeartbeats 4000000 in
theorem w_X9_fell {g : GP} {ad : Nat → Nat} {μ : Mem} {σ : MS} {d : Nat} {z : Int32} {w : Int32}  (hd : 3 ≤ d) (hA : Inj ad 18) (hR : ∀ z, z < 4 → ∃ r, r ≤ 1000 ∧ σ.2.1 6 z = nI r) : PM g yX9_fell (ws_ yX9_fell cX9_fell 3 (some .int)) d 0 0 [.ref (ad 0), .int z, .int w] (mm g ad μ σ) (rQ (some (.int ((p_fell σ z w).1))) (mm g ad μ ((p_fell σ z w).2))) := by
  refine PM.of (by decide +kernel) (Nat.le_of_ble_eq_true rfl) ?_
  show PJ g _ _ _ _ d 0 0 0 [(0, .ref (ad 0)), (1, .int z), (2, .int w)] [] _ _
  refine pl_aload_n (pc := 0) dX9_fell_0 rfl rfl ?_
  refine pl_iconst (pc := 1) (v := 0) dX9_fell_1 (by rfl) ?_
  refine pm_putI (pc := 2) 0 hA q2516 dX9_fell_2 (by decide) rfl (by rfl) (by rfl) rfl ?_
  refine pl_aload_n (pc := 5) dX9_fell_5 rfl rfl ?_
  refine pl_aload_n (pc := 6) dX9_fell_6 rfl rfl ?_
  refine pl_iload_n (pc := 7) dX9_fell_7 rfl rfl ?_
  refine pl_callVd (pc := 8) (As := [_]) (C2 := 0) (N2 := 0) ckX9 mdX9_isZone rfl q2643 q2645 qs52 q154 dX9_fell_8 rfl rfl (Nat.le_of_ble_eq_true rfl) (mm_o hA) (w_X9_isZone (d := d - 1) (by omega) hA) (by omega) (by decide) (by decide) ?_
  refine pl_if_neB (pc := 11) (tgt := 18) dX9_fell_11 (by decide) (fun c11 => ?_) (fun c11 => ?_)
  · obtain ⟨j_z, hj_z, rfl⟩ := inN_of (by decide) c11
    have f_z := inN_nI hj_z (by omega)
    have g_z := nI_clamp (n := j_z) (by omega)
    refine pl_iconst (pc := 18) (v := 0) dX9_fell_18 (by rfl) ?_
    refine pl_iconst (pc := 19) (v := 1) dX9_fell_19 (by rfl) ?_
    refine pl_callVd (pc := 20) (As := [_, _]) (C2 := 0) (N2 := 0) ckX9 mdX9_bad rfl q2631 q2633 qs50 q154 dX9_fell_20 rfl rfl (Nat.le_of_ble_eq_true rfl) (mm_o hA) (w_bad_0 (d := d - 1) (by omega) hA) (by omega) (by decide) (by decide) ?_
    refine pj_if_ne (pc := 23) (tgt := 50) dX9_fell_23 (by decide) (fun h => absurd h (by decide)) (fun _ => ?_)
    refine pl_aload_n (pc := 26) dX9_fell_26 rfl rfl ?_
    refine pl_iload_n (pc := 27) dX9_fell_27 rfl rfl ?_
    refine pj_if_lt (pc := 28) (tgt := 38) dX9_fell_28 (by decide) (fun c28 => ?_) (fun c28 => ?_)
    · refine pl_iconst (pc := 38) (v := 1) dX9_fell_38 (by rfl) ?_
      refine pj_goto (pc := 39) (tgt := 43) dX9_fell_39 (by decide) ?_
      refine pl_iconst (pc := 43) (v := 2) dX9_fell_43 (by rfl) ?_
      refine pl_callVd (pc := 44) (As := [_, _]) (C2 := 0) (N2 := 0) ckX9 mdX9_bad rfl q2631 q2633 qs50 q154 dX9_fell_44 rfl rfl (Nat.le_of_ble_eq_true rfl) (mm_o hA) (w_bad_1 (d := d - 1) (by omega) hA) (by omega) (by decide) (by decide) ?_
      refine pj_if_eq (pc := 47) (tgt := 54) dX9_fell_47 (by decide) (fun h => absurd h (by decide)) (fun _ => ?_)
      refine pl_iconst (pc := 50) (v := 0) dX9_fell_50 (by rfl) ?_
      refine pj_goto (pc := 51) (tgt := 60) dX9_fell_51 (by decide) ?_
      refine pj_iret (pc := 60) dX9_fell_60 rfl ?_
      exact ⟨vIe (by simp [p_fell, c11, f_z, g_z, c28]) rfl, congrArg (mm g ad μ) (by simp [p_fell, c11, f_z, g_z, c28])⟩
    · refine pl_iload_n (pc := 31) dX9_fell_31 rfl rfl ?_
      refine pl_sipush (pc := 32) (v := 1000) dX9_fell_32 (by rfl) ?_
      refine pj_icmp_le (pc := 35) (tgt := 42) dX9_fell_35 (by decide) (fun c35 => ?_) (fun c35 => ?_)
      · refine pl_iconst (pc := 42) (v := 0) dX9_fell_42 (by rfl) ?_
        refine pl_iconst (pc := 43) (v := 2) dX9_fell_43 (by rfl) ?_
        refine pl_callVd (pc := 44) (As := [_, _]) (C2 := 0) (N2 := 0) ckX9 mdX9_bad rfl q2631 q2633 qs50 q154 dX9_fell_44 rfl rfl (Nat.le_of_ble_eq_true rfl) (mm_o hA) (w_bad_0 (d := d - 1) (by omega) hA) (by omega) (by decide) (by decide) ?_
        refine pj_if_eq (pc := 47) (tgt := 54) dX9_fell_47 (by decide) (fun _ => ?_) (fun h => absurd h (by decide))
        obtain ⟨j_w, hj_w, rfl⟩ := inN_of (n := 1001) (by omega) (inN_ok c28 (fun z => Int32.lt_irrefl (Int32.lt_of_lt_of_le (by decide) (Int32.le_trans z c35))))
        have f_w := inN_nI hj_w (by omega)
        have g_w := nI_clamp (n := j_w) (by omega)
        refine pl_aload_n (pc := 54) dX9_fell_54 rfl rfl ?_
        refine pl_iload_n (pc := 55) dX9_fell_55 rfl rfl ?_
        refine pl_iload_n (pc := 56) dX9_fell_56 rfl rfl ?_
        refine pl_callVd (pc := 57) (As := [_, _]) (C2 := 0) (N2 := 0) ckX9 mdX9_fallen rfl q2655 q2657 qs53 q154 dX9_fell_57 rfl rfl (Nat.le_of_ble_eq_true rfl) (mm_o hA) (w_X9_fallen (d := d - 1) (by omega) hA (by omega) (by omega) hR) (by omega) (by decide) (by decide) ?_
        refine pj_iret (pc := 60) dX9_fell_60 rfl ?_
        exact ⟨vIe (by simp [p_fell, c11, f_z, g_z, c28, c35, f_w, g_w]) rfl, congrArg (mm g ad μ) (by simp [p_fell, c11, f_z, g_z, c28, c35, f_w, g_w])⟩
      · refine pl_iconst (pc := 38) (v := 1) dX9_fell_38 (by rfl) ?_
        refine pj_goto (pc := 39) (tgt := 43) dX9_fell_39 (by decide) ?_
        refine pl_iconst (pc := 43) (v := 2) dX9_fell_43 (by rfl) ?_
        refine pl_callVd (pc := 44) (As := [_, _]) (C2 := 0) (N2 := 0) ckX9 mdX9_bad rfl q2631 q2633 qs50 q154 dX9_fell_44 rfl rfl (Nat.le_of_ble_eq_true rfl) (mm_o hA) (w_bad_1 (d := d - 1) (by omega) hA) (by omega) (by decide) (by decide) ?_
        refine pj_if_eq (pc := 47) (tgt := 54) dX9_fell_47 (by decide) (fun h => absurd h (by decide)) (fun _ => ?_)
        refine pl_iconst (pc := 50) (v := 0) dX9_fell_50 (by rfl) ?_
        refine pj_goto (pc := 51) (tgt := 60) dX9_fell_51 (by decide) ?_
        refine pj_iret (pc := 60) dX9_fell_60 rfl ?_
        exact ⟨vIe (by simp [p_fell, c11, f_z, g_z, c28, c35]) rfl, congrArg (mm g ad μ) (by simp [p_fell, c11, f_z, g_z, c28, c35])⟩
  · refine pl_iconst (pc := 14) (v := 1) dX9_fell_14 (by rfl) ?_
    refine pj_goto (pc := 15) (tgt := 19) dX9_fell_15 (by decide) ?_
    refine pl_iconst (pc := 19) (v := 1) dX9_fell_19 (by rfl) ?_
    refine pl_callVd (pc := 20) (As := [_, _]) (C2 := 0) (N2 := 0) ckX9 mdX9_bad rfl q2631 q2633 qs50 q154 dX9_fell_20 rfl rfl (Nat.le_of_ble_eq_true rfl) (mm_o hA) (w_bad_1 (d := d - 1) (by omega) hA) (by omega) (by decide) (by decide) ?_
    refine pj_if_ne (pc := 23) (tgt := 50) dX9_fell_23 (by decide) (fun _ => ?_) (fun h => absurd h (by decide))
    refine pl_iconst (pc := 50) (v := 0) dX9_fell_50 (by rfl) ?_
    refine pj_goto (pc := 51) (tgt := 60) dX9_fell_51 (by decide) ?_
    refine pj_iret (pc := 60) dX9_fell_60 rfl ?_
    exact ⟨vIe (by simp [p_fell, c11]) rfl, congrArg (mm g ad μ) (by simp [p_fell, c11])⟩
