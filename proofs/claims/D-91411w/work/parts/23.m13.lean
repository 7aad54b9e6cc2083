set_option maxRecDepth 100000
theorem bI_f : bI false = nI 0 := rfl
theorem bI_t : bI true = nI 1 := rfl
theorem isAsked_0a {σ : MS} {n : Nat} {p c : Int32} (h : inN p n = false) : p_isAsked σ n p c = (false, th σ 1) := by simp [p_isAsked, h]
theorem isAsked_0b {σ : MS} {n : Nat} {p c : Int32} (h : inN p n = true) (h2 : inN c 96 = false) : p_isAsked σ n p c = (false, th σ 1) := by simp [p_isAsked, h, h2]
theorem isAsked_1 {σ : MS} {n : Nat} {p c : Int32} (h : inN p n = true) (h2 : inN c 96 = true) : p_isAsked σ n p c = (true, s0 σ) := by simp [p_isAsked, h, h2]
theorem w_isAsked_0 {g : GP} {ad : Nat → Nat} {μ : Mem} {σ : MS} {d n : Nat} {p c : Int32} (hd : 2 ≤ d) (hA : Inj ad 18) (hn : row σ 2124 = nI n) (hP : n ≤ 100) (h : p_isAsked σ n p c = (false, th σ 1)) : PM g yX9_isAsked (ws_ yX9_isAsked cX9_isAsked 3 (some .boolean)) d 0 0 [.ref (ad 0), .int p, .int c] (mm g ad μ σ) (rQ (some (.int (nI 0))) (mm g ad μ (th σ 1))) := PM.ret (by rw [h]; rfl) (by rw [h]) (w_X9_isAsked (n := n) hd hA hn hP)
theorem w_isAsked_1 {g : GP} {ad : Nat → Nat} {μ : Mem} {σ : MS} {d n : Nat} {p c : Int32} (hd : 2 ≤ d) (hA : Inj ad 18) (hn : row σ 2124 = nI n) (hP : n ≤ 100) (h : p_isAsked σ n p c = (true, s0 σ)) : PM g yX9_isAsked (ws_ yX9_isAsked cX9_isAsked 3 (some .boolean)) d 0 0 [.ref (ad 0), .int p, .int c] (mm g ad μ σ) (rQ (some (.int (nI 1))) (mm g ad μ (s0 σ))) := PM.ret (by rw [h]; rfl) (by rw [h]) (w_X9_isAsked (n := n) hd hA hn hP)
def p_fence (σ : MS) (n : Nat) (p c : Int32) : Int32 × MS :=
  if inN p n = false then (nI 0, th σ 1) else if inN c 96 = false then (nI 0, th σ 1)
  else (let σ := s0 σ; let p := tN p; let c := tN c; if ownPastV σ p c = false then (-1, σ) else if sec σ c 4 = nI 1 then (-2, σ)
    else (let v := if per σ p 0 = nI 2 then nI 5 else nI 15; if ¬ v ≤ per σ p 1 then (-3, σ) else (nI 1, sR (s_pays σ p (-v)) (8 * c + 4) (nI 1))))
def p_stock (σ : MS) (n : Nat) (p c m : Int32) : Int32 × MS :=
  if inN p n = false then (nI 0, th σ 1) else if inN c 96 = false then (nI 0, th σ 1)
  else if m < 0 then (nI 0, th σ 2) else if ¬ m ≤ nI 1000 then (nI 0, th σ 2)
  else (let σ := s0 σ; let p := tN p; let c := tN c; if ownPastV σ p c = false then (-1, σ) else if ¬ nI 2 * m ≤ per σ p 1 then (-2, σ) else if ¬ sec σ c 3 + m ≤ nI 1000 then (-3, σ)
    else (let σ1 := s_pays σ p (-(2 : Int32) * m); let σ2 := sR σ1 (8 * c + 3) (row σ1 (8 * c + 3) + m); (sec σ2 c 3, σ2)))
set_option maxHeartbeats 4000000 in
theorem w_X9_fence {g : GP} {ad : Nat → Nat} {μ : Mem} {σ : MS} {d : Nat} {p : Int32} {c : Int32} {n : Nat} (hd : 3 ≤ d) (hA : Inj ad 18) (hn : row σ 2124 = nI n) (hP : n ≤ 100) : PM g yX9_fence (ws_ yX9_fence cX9_fence 4 (some .int)) d 0 0 [.ref (ad 0), .int p, .int c] (mm g ad μ σ) (rQ (some (.int ((p_fence σ n p c).1))) (mm g ad μ ((p_fence σ n p c).2))) := by
  refine PM.of (by decide +kernel) (Nat.le_of_ble_eq_true rfl) ?_
  show PJ g _ _ _ _ d 0 0 0 [(0, .ref (ad 0)), (1, .int p), (2, .int c)] [] _ _
  cases hap : inN p n with
  | false =>
    refine pl_aload_n (pc := 0) dX9_fence_0 rfl rfl ?_
    refine pl_iload_n (pc := 1) dX9_fence_1 rfl rfl ?_
    refine pl_iload_n (pc := 2) dX9_fence_2 rfl rfl ?_
    refine pl_callVd (pc := 3) (As := [_, _]) (C2 := 0) (N2 := 0) ckX9 mdX9_isAsked rfl q2998 q3000 qs101 q154 dX9_fence_3 rfl rfl (Nat.le_of_ble_eq_true rfl) (mm_o hA) (w_isAsked_0 (d := d - 1) (by omega) hA hn hP (isAsked_0a hap)) (by omega) (by decide) (by decide) ?_
    refine pj_if_ne (pc := 6) (tgt := 11) dX9_fence_6 (by decide) (fun h => absurd h (by decide)) (fun _ => ?_)
    refine pl_iconst (pc := 9) (v := 0) dX9_fence_9 (by rfl) ?_
    refine pj_iret (pc := 10) dX9_fence_10 rfl ?_
    exact ⟨vIe (by simp [p_fence, hap]) rfl, congrArg (mm g ad μ) (by simp [p_fence, hap])⟩
  | true =>
    obtain ⟨j_p, hj_p, rfl⟩ := inN_of (by omega) hap
    have g_p := nI_clamp (n := j_p) (by omega)
    cases hac : inN c 96 with
    | false =>
      refine pl_aload_n (pc := 0) dX9_fence_0 rfl rfl ?_
      refine pl_iload_n (pc := 1) dX9_fence_1 rfl rfl ?_
      refine pl_iload_n (pc := 2) dX9_fence_2 rfl rfl ?_
      refine pl_callVd (pc := 3) (As := [_, _]) (C2 := 0) (N2 := 0) ckX9 mdX9_isAsked rfl q2998 q3000 qs101 q154 dX9_fence_3 rfl rfl (Nat.le_of_ble_eq_true rfl) (mm_o hA) (w_isAsked_0 (d := d - 1) (by omega) hA hn hP (isAsked_0b hap hac)) (by omega) (by decide) (by decide) ?_
      refine pj_if_ne (pc := 6) (tgt := 11) dX9_fence_6 (by decide) (fun h => absurd h (by decide)) (fun _ => ?_)
      refine pl_iconst (pc := 9) (v := 0) dX9_fence_9 (by rfl) ?_
      refine pj_iret (pc := 10) dX9_fence_10 rfl ?_
      exact ⟨vIe (by simp [p_fence, hap, g_p, hac]) rfl, congrArg (mm g ad μ) (by simp [p_fence, hap, g_p, hac])⟩
    | true =>
      obtain ⟨j_c, hj_c, rfl⟩ := inN_of (by decide) hac
      have g_c := nI_clamp (n := j_c) (by omega)
      refine pl_aload_n (pc := 0) dX9_fence_0 rfl rfl ?_
      refine pl_iload_n (pc := 1) dX9_fence_1 rfl rfl ?_
      refine pl_iload_n (pc := 2) dX9_fence_2 rfl rfl ?_
      refine pl_callVd (pc := 3) (As := [_, _]) (C2 := 0) (N2 := 0) ckX9 mdX9_isAsked rfl q2998 q3000 qs101 q154 dX9_fence_3 rfl rfl (Nat.le_of_ble_eq_true rfl) (mm_o hA) (w_isAsked_1 (d := d - 1) (by omega) hA hn hP (isAsked_1 hap hac)) (by omega) (by decide) (by decide) ?_
      refine pj_if_ne (pc := 6) (tgt := 11) dX9_fence_6 (by decide) (fun _ => ?_) (fun h => absurd h (by decide))
      refine pl_aload_n (pc := 11) dX9_fence_11 rfl rfl ?_
      refine pl_iload_n (pc := 12) dX9_fence_12 rfl rfl ?_
      refine pl_iload_n (pc := 13) dX9_fence_13 rfl rfl ?_
      refine pl_callVd (pc := 14) (As := [_, _]) (C2 := 0) (N2 := 0) ckX9 mdX9_isOwnPasture rfl q3050 q3052 qs108 q154 dX9_fence_14 rfl rfl (Nat.le_of_ble_eq_true rfl) (mm_o hA) (w_X9_isOwnPasture (d := d - 1) (by omega) hA (by omega) (by omega)) (by omega) (by decide) (by decide) ?_
      refine pl_if_neB (pc := 17) (tgt := 22) dX9_fence_17 (by decide) (fun c17 => ?_) (fun c17 => ?_)
      · refine pl_aload_n (pc := 22) dX9_fence_22 rfl rfl ?_
        refine pl_iload_n (pc := 23) dX9_fence_23 rfl rfl ?_
        refine pl_iconst (pc := 24) (v := 4) dX9_fence_24 (by rfl) ?_
        refine pl_callVd (pc := 25) (As := [_, _]) (C2 := 0) (N2 := 0) ckX9 mdX9_sec rfl q2635 q2637 qs51 q154 dX9_fence_25 rfl rfl (Nat.le_of_ble_eq_true rfl) (mm_o hA) (w_X9_sec (d := d - 1) (by omega) hA (by omega) (by decide)) (by omega) (by decide) (by decide) ?_
        refine pl_iconst (pc := 28) (v := 1) dX9_fence_28 (by rfl) ?_
        refine pj_icmp_ne (pc := 29) (tgt := 35) dX9_fence_29 (by decide) (fun c29 => ?_) (fun c29 => ?_)
        · refine pl_aload_n (pc := 35) dX9_fence_35 rfl rfl ?_
          refine pl_iload_n (pc := 36) dX9_fence_36 rfl rfl ?_
          refine pl_iconst (pc := 37) (v := 0) dX9_fence_37 (by rfl) ?_
          refine pl_callVd (pc := 38) (As := [_, _]) (C2 := 0) (N2 := 0) ckX9 mdX9_per rfl q2713 q2715 qs59 q154 dX9_fence_38 rfl rfl (Nat.le_of_ble_eq_true rfl) (mm_o hA) (w_X9_per (d := d - 1) (by omega) hA (by omega) (by decide)) (by omega) (by decide) (by decide) ?_
          refine pl_iconst (pc := 41) (v := 2) dX9_fence_41 (by rfl) ?_
          refine pj_icmp_ne (pc := 42) (tgt := 49) dX9_fence_42 (by decide) (fun c42 => ?_) (fun c42 => ?_)
          · refine pl_bipush (pc := 49) (v := 15) dX9_fence_49 (by rfl) ?_
            refine pj_istore_n (pc := 51) (lv' := [(3, _), (0, _), (1, _), (2, _)]) dX9_fence_51 rfl (by decide) rfl ?_
            refine pl_aload_n (pc := 52) dX9_fence_52 rfl rfl ?_
            refine pl_iload_n (pc := 53) dX9_fence_53 rfl rfl ?_
            refine pl_iconst (pc := 54) (v := 1) dX9_fence_54 (by rfl) ?_
            refine pl_callVd (pc := 55) (As := [_, _]) (C2 := 0) (N2 := 0) ckX9 mdX9_per rfl q2713 q2715 qs59 q154 dX9_fence_55 rfl rfl (Nat.le_of_ble_eq_true rfl) (mm_o hA) (w_X9_per (d := d - 1) (by omega) hA (by omega) (by decide)) (by omega) (by decide) (by decide) ?_
            refine pl_iload_n (pc := 58) dX9_fence_58 rfl rfl ?_
            refine pj_icmp_ge (pc := 59) (tgt := 65) dX9_fence_59 (by decide) (fun c59 => ?_) (fun c59 => ?_)
            · refine pl_aload_n (pc := 65) dX9_fence_65 rfl rfl ?_
              refine pl_iload_n (pc := 66) dX9_fence_66 rfl rfl ?_
              refine pl_iload_n (pc := 67) dX9_fence_67 rfl rfl ?_
              refine pj_ineg (pc := 68) dX9_fence_68 ?_
              refine pl_callVv (pc := 69) (As := [_, _]) (C2 := 0) (N2 := 0) ckX9 mdX9_pays rfl q3006 q3008 qs103 q154 dX9_fence_69 rfl rfl (Nat.le_of_ble_eq_true rfl) (mm_o hA) (w_X9_pays (d := d - 1) (by omega) hA (by omega)) (by omega) (by decide) (by decide) ?_
              refine pl_aload_n (pc := 72) dX9_fence_72 rfl rfl ?_
              refine pj_getf (pc := 73) ckX9 1 q2517 dX9_fence_73 (by decide) (mm_o hA) rfl ?_
              refine pl_bipush (pc := 76) (v := 8) dX9_fence_76 (by rfl) ?_
              refine pl_iload_n (pc := 78) dX9_fence_78 rfl rfl ?_
              refine pl_imul (pc := 79) dX9_fence_79 ?_
              refine pl_iconst (pc := 80) (v := 4) dX9_fence_80 (by rfl) ?_
              refine pl_iadd (pc := 81) dX9_fence_81 ?_
              refine pl_iconst (pc := 82) (v := 1) dX9_fence_82 (by rfl) ?_
              refine pm_iast (pc := 83) 1 hA (by decide) (by decide) rfl dX9_fence_83 (show _ < 2132 by omega) (by decide) ?_
              refine pl_iconst (pc := 84) (v := 1) dX9_fence_84 (by rfl) ?_
              refine pj_iret (pc := 85) dX9_fence_85 rfl ?_
              exact ⟨vIe (by simp [p_fence, hap, g_p, hac, g_c, c17, c29, c42, c59]) rfl, congrArg (mm g ad μ) (by simp [p_fence, hap, g_p, hac, g_c, c17, c29, c42, c59])⟩
            · refine pj_bipush (pc := 62) (v := (-3)) dX9_fence_62 (by rfl) ?_
              refine pj_iret (pc := 64) dX9_fence_64 rfl ?_
              exact ⟨vIe (by simp [p_fence, hap, g_p, hac, g_c, c17, c29, c42, c59]) rfl, congrArg (mm g ad μ) (by simp [p_fence, hap, g_p, hac, g_c, c17, c29, c42, c59])⟩
          · refine pl_iconst (pc := 45) (v := 5) dX9_fence_45 (by rfl) ?_
            refine pj_goto (pc := 46) (tgt := 51) dX9_fence_46 (by decide) ?_
            refine pj_istore_n (pc := 51) (lv' := [(3, _), (0, _), (1, _), (2, _)]) dX9_fence_51 rfl (by decide) rfl ?_
            refine pl_aload_n (pc := 52) dX9_fence_52 rfl rfl ?_
            refine pl_iload_n (pc := 53) dX9_fence_53 rfl rfl ?_
            refine pl_iconst (pc := 54) (v := 1) dX9_fence_54 (by rfl) ?_
            refine pl_callVd (pc := 55) (As := [_, _]) (C2 := 0) (N2 := 0) ckX9 mdX9_per rfl q2713 q2715 qs59 q154 dX9_fence_55 rfl rfl (Nat.le_of_ble_eq_true rfl) (mm_o hA) (w_X9_per (d := d - 1) (by omega) hA (by omega) (by decide)) (by omega) (by decide) (by decide) ?_
            refine pl_iload_n (pc := 58) dX9_fence_58 rfl rfl ?_
            refine pj_icmp_ge (pc := 59) (tgt := 65) dX9_fence_59 (by decide) (fun c59 => ?_) (fun c59 => ?_)
            · refine pl_aload_n (pc := 65) dX9_fence_65 rfl rfl ?_
              refine pl_iload_n (pc := 66) dX9_fence_66 rfl rfl ?_
              refine pl_iload_n (pc := 67) dX9_fence_67 rfl rfl ?_
              refine pj_ineg (pc := 68) dX9_fence_68 ?_
              refine pl_callVv (pc := 69) (As := [_, _]) (C2 := 0) (N2 := 0) ckX9 mdX9_pays rfl q3006 q3008 qs103 q154 dX9_fence_69 rfl rfl (Nat.le_of_ble_eq_true rfl) (mm_o hA) (w_X9_pays (d := d - 1) (by omega) hA (by omega)) (by omega) (by decide) (by decide) ?_
              refine pl_aload_n (pc := 72) dX9_fence_72 rfl rfl ?_
              refine pj_getf (pc := 73) ckX9 1 q2517 dX9_fence_73 (by decide) (mm_o hA) rfl ?_
              refine pl_bipush (pc := 76) (v := 8) dX9_fence_76 (by rfl) ?_
              refine pl_iload_n (pc := 78) dX9_fence_78 rfl rfl ?_
              refine pl_imul (pc := 79) dX9_fence_79 ?_
              refine pl_iconst (pc := 80) (v := 4) dX9_fence_80 (by rfl) ?_
              refine pl_iadd (pc := 81) dX9_fence_81 ?_
              refine pl_iconst (pc := 82) (v := 1) dX9_fence_82 (by rfl) ?_
              refine pm_iast (pc := 83) 1 hA (by decide) (by decide) rfl dX9_fence_83 (show _ < 2132 by omega) (by decide) ?_
              refine pl_iconst (pc := 84) (v := 1) dX9_fence_84 (by rfl) ?_
              refine pj_iret (pc := 85) dX9_fence_85 rfl ?_
              exact ⟨vIe (by simp [p_fence, hap, g_p, hac, g_c, c17, c29, eq_true c42, c59]) rfl, congrArg (mm g ad μ) (by simp [p_fence, hap, g_p, hac, g_c, c17, c29, eq_true c42, c59])⟩
            · refine pj_bipush (pc := 62) (v := (-3)) dX9_fence_62 (by rfl) ?_
              refine pj_iret (pc := 64) dX9_fence_64 rfl ?_
              exact ⟨vIe (by simp [p_fence, hap, g_p, hac, g_c, c17, c29, eq_true c42, c59]) rfl, congrArg (mm g ad μ) (by simp [p_fence, hap, g_p, hac, g_c, c17, c29, eq_true c42, c59])⟩
        · refine pj_bipush (pc := 32) (v := (-2)) dX9_fence_32 (by rfl) ?_
          refine pj_iret (pc := 34) dX9_fence_34 rfl ?_
          exact ⟨vIe (by simp [p_fence, hap, g_p, hac, g_c, c17, eq_true c29]) rfl, congrArg (mm g ad μ) (by simp [p_fence, hap, g_p, hac, g_c, c17, eq_true c29])⟩
      · refine pj_iconst (pc := 20) (v := (-1)) dX9_fence_20 (by rfl) ?_
        refine pj_iret (pc := 21) dX9_fence_21 rfl ?_
        exact ⟨vIe (by simp [p_fence, hap, g_p, hac, g_c, c17]) rfl, congrArg (mm g ad μ) (by simp [p_fence, hap, g_p, hac, g_c, c17])⟩
set_option maxHeartbeats 4000000 in
theorem w_X9_stock {g : GP} {ad : Nat → Nat} {μ : Mem} {σ : MS} {d : Nat} {p : Int32} {c : Int32} {m : Int32} {n : Nat} (hd : 3 ≤ d) (hA : Inj ad 18) (hn : row σ 2124 = nI n) (hP : n ≤ 100) : PM g yX9_stock (ws_ yX9_stock cX9_stock 4 (some .int)) d 0 0 [.ref (ad 0), .int p, .int c, .int m] (mm g ad μ σ) (rQ (some (.int ((p_stock σ n p c m).1))) (mm g ad μ ((p_stock σ n p c m).2))) := by
  refine PM.of (by decide +kernel) (Nat.le_of_ble_eq_true rfl) ?_
  show PJ g _ _ _ _ d 0 0 0 [(0, .ref (ad 0)), (1, .int p), (2, .int c), (3, .int m)] [] _ _
  cases hap : inN p n with
  | false =>
    refine pl_aload_n (pc := 0) dX9_stock_0 rfl rfl ?_
    refine pl_iload_n (pc := 1) dX9_stock_1 rfl rfl ?_
    refine pl_iload_n (pc := 2) dX9_stock_2 rfl rfl ?_
    refine pl_callVd (pc := 3) (As := [_, _]) (C2 := 0) (N2 := 0) ckX9 mdX9_isAsked rfl q2998 q3000 qs101 q154 dX9_stock_3 rfl rfl (Nat.le_of_ble_eq_true rfl) (mm_o hA) (w_isAsked_0 (d := d - 1) (by omega) hA hn hP (isAsked_0a hap)) (by omega) (by decide) (by decide) ?_
    refine pj_if_eq (pc := 6) (tgt := 33) dX9_stock_6 (by decide) (fun _ => ?_) (fun h => absurd h (by decide))
    refine pl_iconst (pc := 33) (v := 0) dX9_stock_33 (by rfl) ?_
    refine pj_iret (pc := 34) dX9_stock_34 rfl ?_
    exact ⟨vIe (by simp [p_stock, hap]) rfl, congrArg (mm g ad μ) (by simp [p_stock, hap])⟩
  | true =>
    obtain ⟨j_p, hj_p, rfl⟩ := inN_of (by omega) hap
    have g_p := nI_clamp (n := j_p) (by omega)
    cases hac : inN c 96 with
    | false =>
      refine pl_aload_n (pc := 0) dX9_stock_0 rfl rfl ?_
      refine pl_iload_n (pc := 1) dX9_stock_1 rfl rfl ?_
      refine pl_iload_n (pc := 2) dX9_stock_2 rfl rfl ?_
      refine pl_callVd (pc := 3) (As := [_, _]) (C2 := 0) (N2 := 0) ckX9 mdX9_isAsked rfl q2998 q3000 qs101 q154 dX9_stock_3 rfl rfl (Nat.le_of_ble_eq_true rfl) (mm_o hA) (w_isAsked_0 (d := d - 1) (by omega) hA hn hP (isAsked_0b hap hac)) (by omega) (by decide) (by decide) ?_
      refine pj_if_eq (pc := 6) (tgt := 33) dX9_stock_6 (by decide) (fun _ => ?_) (fun h => absurd h (by decide))
      refine pl_iconst (pc := 33) (v := 0) dX9_stock_33 (by rfl) ?_
      refine pj_iret (pc := 34) dX9_stock_34 rfl ?_
      exact ⟨vIe (by simp [p_stock, hap, g_p, hac]) rfl, congrArg (mm g ad μ) (by simp [p_stock, hap, g_p, hac])⟩
    | true =>
      obtain ⟨j_c, hj_c, rfl⟩ := inN_of (by decide) hac
      have g_c := nI_clamp (n := j_c) (by omega)
      refine pl_aload_n (pc := 0) dX9_stock_0 rfl rfl ?_
      refine pl_iload_n (pc := 1) dX9_stock_1 rfl rfl ?_
      refine pl_iload_n (pc := 2) dX9_stock_2 rfl rfl ?_
      refine pl_callVd (pc := 3) (As := [_, _]) (C2 := 0) (N2 := 0) ckX9 mdX9_isAsked rfl q2998 q3000 qs101 q154 dX9_stock_3 rfl rfl (Nat.le_of_ble_eq_true rfl) (mm_o hA) (w_isAsked_1 (d := d - 1) (by omega) hA hn hP (isAsked_1 hap hac)) (by omega) (by decide) (by decide) ?_
      refine pj_if_eq (pc := 6) (tgt := 33) dX9_stock_6 (by decide) (fun h => absurd h (by decide)) (fun _ => ?_)
      refine pl_aload_n (pc := 9) dX9_stock_9 rfl rfl ?_
      refine pl_iload_n (pc := 10) dX9_stock_10 rfl rfl ?_
      refine pj_if_lt (pc := 11) (tgt := 21) dX9_stock_11 (by decide) (fun c11 => ?_) (fun c11 => ?_)
      · refine pl_iconst (pc := 21) (v := 1) dX9_stock_21 (by rfl) ?_
        refine pj_goto (pc := 22) (tgt := 26) dX9_stock_22 (by decide) ?_
        refine pl_iconst (pc := 26) (v := 2) dX9_stock_26 (by rfl) ?_
        refine pl_callVd (pc := 27) (As := [_, _]) (C2 := 0) (N2 := 0) ckX9 mdX9_bad rfl q2631 q2633 qs50 q154 dX9_stock_27 rfl rfl (Nat.le_of_ble_eq_true rfl) (mm_o hA) (w_bad_1 (d := d - 1) (by omega) hA) (by omega) (by decide) (by decide) ?_
        refine pj_if_eq (pc := 30) (tgt := 35) dX9_stock_30 (by decide) (fun h => absurd h (by decide)) (fun _ => ?_)
        refine pl_iconst (pc := 33) (v := 0) dX9_stock_33 (by rfl) ?_
        refine pj_iret (pc := 34) dX9_stock_34 rfl ?_
        exact ⟨vIe (by simp [p_stock, hap, g_p, hac, g_c, c11]) rfl, congrArg (mm g ad μ) (by simp [p_stock, hap, g_p, hac, g_c, c11])⟩
      · refine pl_iload_n (pc := 14) dX9_stock_14 rfl rfl ?_
        refine pl_sipush (pc := 15) (v := 1000) dX9_stock_15 (by rfl) ?_
        refine pj_icmp_le (pc := 18) (tgt := 25) dX9_stock_18 (by decide) (fun c18 => ?_) (fun c18 => ?_)
        · refine pl_iconst (pc := 25) (v := 0) dX9_stock_25 (by rfl) ?_
          refine pl_iconst (pc := 26) (v := 2) dX9_stock_26 (by rfl) ?_
          refine pl_callVd (pc := 27) (As := [_, _]) (C2 := 0) (N2 := 0) ckX9 mdX9_bad rfl q2631 q2633 qs50 q154 dX9_stock_27 rfl rfl (Nat.le_of_ble_eq_true rfl) (mm_o hA) (w_bad_0 (d := d - 1) (by omega) hA) (by omega) (by decide) (by decide) ?_
          refine pj_if_eq (pc := 30) (tgt := 35) dX9_stock_30 (by decide) (fun _ => ?_) (fun h => absurd h (by decide))
          refine pl_aload_n (pc := 35) dX9_stock_35 rfl rfl ?_
          refine pl_iload_n (pc := 36) dX9_stock_36 rfl rfl ?_
          refine pl_iload_n (pc := 37) dX9_stock_37 rfl rfl ?_
          refine pl_callVd (pc := 38) (As := [_, _]) (C2 := 0) (N2 := 0) ckX9 mdX9_isOwnPasture rfl q3050 q3052 qs108 q154 dX9_stock_38 rfl rfl (Nat.le_of_ble_eq_true rfl) (mm_o hA) (w_X9_isOwnPasture (d := d - 1) (by omega) hA (by omega) (by omega)) (by omega) (by decide) (by decide) ?_
          refine pl_if_neB (pc := 41) (tgt := 46) dX9_stock_41 (by decide) (fun c41 => ?_) (fun c41 => ?_)
          · refine pl_aload_n (pc := 46) dX9_stock_46 rfl rfl ?_
            refine pl_iload_n (pc := 47) dX9_stock_47 rfl rfl ?_
            refine pl_iconst (pc := 48) (v := 1) dX9_stock_48 (by rfl) ?_
            refine pl_callVd (pc := 49) (As := [_, _]) (C2 := 0) (N2 := 0) ckX9 mdX9_per rfl q2713 q2715 qs59 q154 dX9_stock_49 rfl rfl (Nat.le_of_ble_eq_true rfl) (mm_o hA) (w_X9_per (d := d - 1) (by omega) hA (by omega) (by decide)) (by omega) (by decide) (by decide) ?_
            refine pl_iconst (pc := 52) (v := 2) dX9_stock_52 (by rfl) ?_
            refine pl_iload_n (pc := 53) dX9_stock_53 rfl rfl ?_
            refine pj_imul (pc := 54) dX9_stock_54 ?_
            refine pj_icmp_ge (pc := 55) (tgt := 61) dX9_stock_55 (by decide) (fun c55 => ?_) (fun c55 => ?_)
            · refine pl_aload_n (pc := 61) dX9_stock_61 rfl rfl ?_
              refine pl_iload_n (pc := 62) dX9_stock_62 rfl rfl ?_
              refine pl_iconst (pc := 63) (v := 3) dX9_stock_63 (by rfl) ?_
              refine pl_callVd (pc := 64) (As := [_, _]) (C2 := 0) (N2 := 0) ckX9 mdX9_sec rfl q2635 q2637 qs51 q154 dX9_stock_64 rfl rfl (Nat.le_of_ble_eq_true rfl) (mm_o hA) (w_X9_sec (d := d - 1) (by omega) hA (by omega) (by decide)) (by omega) (by decide) (by decide) ?_
              refine pl_iload_n (pc := 67) dX9_stock_67 rfl rfl ?_
              refine pj_iadd (pc := 68) dX9_stock_68 ?_
              refine pl_sipush (pc := 69) (v := 1000) dX9_stock_69 (by rfl) ?_
              refine pj_icmp_le (pc := 72) (tgt := 78) dX9_stock_72 (by decide) (fun c72 => ?_) (fun c72 => ?_)
              · refine pl_aload_n (pc := 78) dX9_stock_78 rfl rfl ?_
                refine pl_iload_n (pc := 79) dX9_stock_79 rfl rfl ?_
                refine pj_bipush (pc := 80) (v := (-2)) dX9_stock_80 (by rfl) ?_
                refine pl_iload_n (pc := 82) dX9_stock_82 rfl rfl ?_
                refine pj_imul (pc := 83) dX9_stock_83 ?_
                refine pl_callVv (pc := 84) (As := [_, _]) (C2 := 0) (N2 := 0) ckX9 mdX9_pays rfl q3006 q3008 qs103 q154 dX9_stock_84 rfl rfl (Nat.le_of_ble_eq_true rfl) (mm_o hA) (w_X9_pays (d := d - 1) (by omega) hA (by omega)) (by omega) (by decide) (by decide) ?_
                refine pl_aload_n (pc := 87) dX9_stock_87 rfl rfl ?_
                refine pj_getf (pc := 88) ckX9 1 q2517 dX9_stock_88 (by decide) (mm_o hA) rfl ?_
                refine pl_bipush (pc := 91) (v := 8) dX9_stock_91 (by rfl) ?_
                refine pl_iload_n (pc := 93) dX9_stock_93 rfl rfl ?_
                refine pl_imul (pc := 94) dX9_stock_94 ?_
                refine pl_iconst (pc := 95) (v := 3) dX9_stock_95 (by rfl) ?_
                refine pl_iadd (pc := 96) dX9_stock_96 ?_
                refine pj_dup2_11 (pc := 97) dX9_stock_97 rfl rfl ?_
                refine pl_iald (pc := 98) (n := 2132) dX9_stock_98 (mm_a hA 1 (by decide) (by decide)) (by omega) (by decide) ?_
                refine pl_iload_n (pc := 99) dX9_stock_99 rfl rfl ?_
                refine pj_iadd (pc := 100) dX9_stock_100 ?_
                refine pm_iast (pc := 101) 1 hA (by decide) (by decide) rfl dX9_stock_101 (show _ < 2132 by omega) (by decide) ?_
                refine pl_aload_n (pc := 102) dX9_stock_102 rfl rfl ?_
                refine pl_iload_n (pc := 103) dX9_stock_103 rfl rfl ?_
                refine pl_iconst (pc := 104) (v := 3) dX9_stock_104 (by rfl) ?_
                refine pl_callVd (pc := 105) (As := [_, _]) (C2 := 0) (N2 := 0) ckX9 mdX9_sec rfl q2635 q2637 qs51 q154 dX9_stock_105 rfl rfl (Nat.le_of_ble_eq_true rfl) (mm_o hA) (w_X9_sec (d := d - 1) (by omega) hA (by omega) (by decide)) (by omega) (by decide) (by decide) ?_
                refine pj_iret (pc := 108) dX9_stock_108 rfl ?_
                exact ⟨vIe (by simp [p_stock, hap, g_p, hac, g_c, c11, c18, c41, c55, c72]) rfl, congrArg (mm g ad μ) (by simp [p_stock, hap, g_p, hac, g_c, c11, c18, c41, c55, c72])⟩
              · refine pj_bipush (pc := 75) (v := (-3)) dX9_stock_75 (by rfl) ?_
                refine pj_iret (pc := 77) dX9_stock_77 rfl ?_
                exact ⟨vIe (by simp [p_stock, hap, g_p, hac, g_c, c11, c18, c41, c55, c72]) rfl, congrArg (mm g ad μ) (by simp [p_stock, hap, g_p, hac, g_c, c11, c18, c41, c55, c72])⟩
            · refine pj_bipush (pc := 58) (v := (-2)) dX9_stock_58 (by rfl) ?_
              refine pj_iret (pc := 60) dX9_stock_60 rfl ?_
              exact ⟨vIe (by simp [p_stock, hap, g_p, hac, g_c, c11, c18, c41, c55]) rfl, congrArg (mm g ad μ) (by simp [p_stock, hap, g_p, hac, g_c, c11, c18, c41, c55])⟩
          · refine pj_iconst (pc := 44) (v := (-1)) dX9_stock_44 (by rfl) ?_
            refine pj_iret (pc := 45) dX9_stock_45 rfl ?_
            exact ⟨vIe (by simp [p_stock, hap, g_p, hac, g_c, c11, c18, c41]) rfl, congrArg (mm g ad μ) (by simp [p_stock, hap, g_p, hac, g_c, c11, c18, c41])⟩
        · refine pl_iconst (pc := 21) (v := 1) dX9_stock_21 (by rfl) ?_
          refine pj_goto (pc := 22) (tgt := 26) dX9_stock_22 (by decide) ?_
          refine pl_iconst (pc := 26) (v := 2) dX9_stock_26 (by rfl) ?_
          refine pl_callVd (pc := 27) (As := [_, _]) (C2 := 0) (N2 := 0) ckX9 mdX9_bad rfl q2631 q2633 qs50 q154 dX9_stock_27 rfl rfl (Nat.le_of_ble_eq_true rfl) (mm_o hA) (w_bad_1 (d := d - 1) (by omega) hA) (by omega) (by decide) (by decide) ?_
          refine pj_if_eq (pc := 30) (tgt := 35) dX9_stock_30 (by decide) (fun h => absurd h (by decide)) (fun _ => ?_)
          refine pl_iconst (pc := 33) (v := 0) dX9_stock_33 (by rfl) ?_
          refine pj_iret (pc := 34) dX9_stock_34 rfl ?_
          exact ⟨vIe (by simp [p_stock, hap, g_p, hac, g_c, c11, c18]) rfl, congrArg (mm g ad μ) (by simp [p_stock, hap, g_p, hac, g_c, c11, c18])⟩
