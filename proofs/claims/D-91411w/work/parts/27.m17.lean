set_option maxRecDepth 100000
def p_run (σ : MS) (n nl : Nat) (p c : Int32) : Int32 × MS :=
  if inN p n = false then (nI 0, th σ 1) else if inN c 96 = false then (nI 0, th σ 1)
  else (let σ := s0 σ; let p := tN p; let c := tN c; if decide (nI 2 ≤ per σ p 2) = false then (-1, σ)
    else (let v := (meanV σ n nl 3 (nI 0)).1; let own := ownPastV σ p c; let h := sec σ c 0; let m := per σ p 1; let σ := sM σ n nl 3 (nI 0); if ¬ h = nI 1 ∧ own = false then (-2, σ) else if ¬ v ≤ m then (-3, σ)
      else (let σ := s_pays σ p (-v); let σ := sR σ 2118 (row σ 2118 + v); let σ := if own = true then σ else s_holds σ c (nI 4) (nI p); let σ := sR σ (8 * c + 0) (nI 4); (v, sR σ (8 * c + 2) (row σ 2116 + nI 52)))))
def p_squat (σ : MS) (n nl : Nat) (p c : Int32) : Int32 × MS :=
  if inN p n = false then (nI 0, th σ 1) else if inN c 96 = false then (nI 0, th σ 1)
  else (let σ := s0 σ; let p := tN p; let c := tN c; if decide (nI 2 ≤ per σ p 2) = false then (-1, σ) else if ¬ sec σ c 0 = nI 1 then (-2, σ)
    else if (meanV σ n nl 7 (nI 0)).1 = 0 then (-3, sM σ n nl 7 (nI 0)) else (nI 1, s_holds (sM σ n nl 7 (nI 0)) c (nI 6) (nI p)))
def p_order (σ : MS) (n nw q : Nat) (p : Int32) : Int32 × MS :=
  if inN p n = false then (nI 0, th σ 1)
  else (let σ := s0 σ; let p := tN p; if ¬ per σ p 2 = 0 then (-1, σ) else if ¬ per σ p 6 < 0 then (-2, σ)
    else (let v := (homeV σ nw).1; let m := per σ p 1; let σ := sH σ nw; if ¬ v ≤ m then (-3, σ)
      else (let σ := s_pays σ p (-v); let σ := sR σ 2120 (row σ 2120 + v); let σ := sR σ (1780 + 3 * q + 0) (nI p); let σ := sR σ (1780 + 3 * q + 1) v; let σ := sR σ (1780 + 3 * q + 2) (nI 0); let σ := sR σ (768 + 8 * p + 6) (nI q); (nI q, sR σ 2128 (row σ 2128 + nI 1)))))
def turn1 (σ : MS) (v : Int32) (o : Nat) : Bool := decide (row σ (1780 + 3 * o + 2) = 0) && (decide (nI 2 ≤ per σ (tN (row σ (1780 + 3 * o))) 2) && !decide (v ≤ row σ 2116 - per σ (tN (row σ (1780 + 3 * o))) 5))
def turnV (σ : MS) (n nl k : Nat) : Bool := !anyN (turn1 (sM σ n nl 6 (nI 0)) (meanV σ n nl 6 (nI 0)).1) k
def p_choose (σ : MS) (n nl : Nat) (p c : Int32) : Int32 × MS :=
  if inN p n = false then (nI 0, th σ 1) else if inN c 96 = false then (nI 0, th σ 1)
  else (let σ := s0 σ; let p := tN p; let c := tN c; let k := tN (per σ p 6); if per σ p 6 < 0 then (-1, σ) else if row σ (1780 + 3 * k + 2) = nI 1 then (-1, σ) else if decide (nI 2 ≤ per σ p 2) = false then (-2, σ) else if ¬ sec σ c 0 = nI 1 then (-3, σ)
    else (let is := turnV σ n nl k; let σ := sM σ n nl 6 (nI 0); if is = false then (-4, σ)
      else (let σ := s_holds σ c (nI 5) (nI p); let σ := sR σ (8 * c + 5) (row σ (1780 + 3 * k + 1)); let σ := sR σ (1780 + 3 * k + 2) (nI 1); (nI 1, s_owns σ p))))
set_option maxHeartbeats 4000000 in
theorem w_X9_run {g : GP} {ad : Nat → Nat} {μ : Mem} {σ : MS} {d : Nat} {p : Int32} {c : Int32} {n nl : Nat} (hd : 5 ≤ d) (hA : Inj ad 18) (hn : row σ 2124 = nI n) (hP : n ≤ 100) (hl : row σ 2125 = nI nl) (hL : nl ≤ 12) (hw : Wc σ nl) : PM g yX9_run (ws_ yX9_run cX9_run 6 (some .int)) d 0 0 [.ref (ad 0), .int p, .int c] (mm g ad μ σ) (rQ (some (.int ((p_run σ n nl p c).1))) (mm g ad μ ((p_run σ n nl p c).2))) := by
  refine PM.of (by decide +kernel) (Nat.le_of_ble_eq_true rfl) ?_
  show PJ g _ _ _ _ d 0 0 0 [(0, .ref (ad 0)), (1, .int p), (2, .int c)] [] _ _
  cases hap : inN p n with
  | false =>
    refine pl_aload_n (pc := 0) dX9_run_0 rfl rfl ?_
    refine pl_iload_n (pc := 1) dX9_run_1 rfl rfl ?_
    refine pl_iload_n (pc := 2) dX9_run_2 rfl rfl ?_
    refine pl_callVd (pc := 3) (As := [_, _]) (C2 := 0) (N2 := 0) ckX9 mdX9_isAsked rfl q2998 q3000 qs101 q154 dX9_run_3 rfl rfl (Nat.le_of_ble_eq_true rfl) (mm_o hA) (w_isAsked_0 (d := d - 1) (by omega) hA hn hP (isAsked_0a hap)) (by omega) (by decide) (by decide) ?_
    refine pj_if_ne (pc := 6) (tgt := 11) dX9_run_6 (by decide) (fun h => absurd h (by decide)) (fun _ => ?_)
    refine pl_iconst (pc := 9) (v := 0) dX9_run_9 (by rfl) ?_
    refine pj_iret (pc := 10) dX9_run_10 rfl ?_
    exact ⟨vIe (by first | (simp [ownPastV, p_run, hap]; done) | (simp [ownPastV, p_run, hap]; rfl)) rfl, congrArg (mm g ad μ) (by first | (simp [ownPastV, p_run, hap]; done) | (simp [ownPastV, p_run, hap]; rfl))⟩
  | true =>
    obtain ⟨j_p, hj_p, rfl⟩ := inN_of (by omega) hap
    have g_p := nI_clamp (n := j_p) (by omega)
    cases hac : inN c 96 with
    | false =>
      refine pl_aload_n (pc := 0) dX9_run_0 rfl rfl ?_
      refine pl_iload_n (pc := 1) dX9_run_1 rfl rfl ?_
      refine pl_iload_n (pc := 2) dX9_run_2 rfl rfl ?_
      refine pl_callVd (pc := 3) (As := [_, _]) (C2 := 0) (N2 := 0) ckX9 mdX9_isAsked rfl q2998 q3000 qs101 q154 dX9_run_3 rfl rfl (Nat.le_of_ble_eq_true rfl) (mm_o hA) (w_isAsked_0 (d := d - 1) (by omega) hA hn hP (isAsked_0b hap hac)) (by omega) (by decide) (by decide) ?_
      refine pj_if_ne (pc := 6) (tgt := 11) dX9_run_6 (by decide) (fun h => absurd h (by decide)) (fun _ => ?_)
      refine pl_iconst (pc := 9) (v := 0) dX9_run_9 (by rfl) ?_
      refine pj_iret (pc := 10) dX9_run_10 rfl ?_
      exact ⟨vIe (by first | (simp [ownPastV, p_run, hap, g_p, hac]; done) | (simp [ownPastV, p_run, hap, g_p, hac]; rfl)) rfl, congrArg (mm g ad μ) (by first | (simp [ownPastV, p_run, hap, g_p, hac]; done) | (simp [ownPastV, p_run, hap, g_p, hac]; rfl))⟩
    | true =>
      obtain ⟨j_c, hj_c, rfl⟩ := inN_of (by decide) hac
      have g_c := nI_clamp (n := j_c) (by omega)
      refine pl_aload_n (pc := 0) dX9_run_0 rfl rfl ?_
      refine pl_iload_n (pc := 1) dX9_run_1 rfl rfl ?_
      refine pl_iload_n (pc := 2) dX9_run_2 rfl rfl ?_
      refine pl_callVd (pc := 3) (As := [_, _]) (C2 := 0) (N2 := 0) ckX9 mdX9_isAsked rfl q2998 q3000 qs101 q154 dX9_run_3 rfl rfl (Nat.le_of_ble_eq_true rfl) (mm_o hA) (w_isAsked_1 (d := d - 1) (by omega) hA hn hP (isAsked_1 hap hac)) (by omega) (by decide) (by decide) ?_
      refine pj_if_ne (pc := 6) (tgt := 11) dX9_run_6 (by decide) (fun _ => ?_) (fun h => absurd h (by decide))
      refine pl_aload_n (pc := 11) dX9_run_11 rfl rfl ?_
      refine pl_iload_n (pc := 12) dX9_run_12 rfl rfl ?_
      refine pl_callVd (pc := 13) (As := [_]) (C2 := 0) (N2 := 0) ckX9 mdX9_isHere rfl q2784 q2786 qs71 q154 dX9_run_13 rfl rfl (Nat.le_of_ble_eq_true rfl) (mm_o hA) (w_X9_isHere (d := d - 1) (by omega) hA (by omega)) (by omega) (by decide) (by decide) ?_
      refine pl_if_neB (pc := 16) (tgt := 21) dX9_run_16 (by decide) (fun c16 => ?_) (fun c16 => ?_)
      · refine pl_aload_n (pc := 21) dX9_run_21 rfl rfl ?_
        refine pl_iload_n (pc := 22) dX9_run_22 rfl rfl ?_
        refine pl_iconst (pc := 23) (v := 0) dX9_run_23 (by rfl) ?_
        refine pl_callVd (pc := 24) (As := [_, _]) (C2 := 0) (N2 := 0) ckX9 mdX9_sec rfl q2635 q2637 qs51 q154 dX9_run_24 rfl rfl (Nat.le_of_ble_eq_true rfl) (mm_o hA) (w_X9_sec (d := d - 1) (by omega) hA (by omega) (by decide)) (by omega) (by decide) (by decide) ?_
        refine pj_istore_n (pc := 27) (lv' := [(3, _), (0, _), (1, _), (2, _)]) dX9_run_27 rfl (by decide) rfl ?_
        refine pl_aload_n (pc := 28) dX9_run_28 rfl rfl ?_
        refine pl_iconst (pc := 29) (v := 3) dX9_run_29 (by rfl) ?_
        refine pl_iconst (pc := 30) (v := 0) dX9_run_30 (by rfl) ?_
        refine pl_callVd (pc := 31) (As := [_, _]) (C2 := 0) (N2 := 0) ckX9 mdX9_meaning rfl q2926 q2928 qs92 q154 dX9_run_31 rfl rfl (Nat.le_of_ble_eq_true rfl) (mm_o hA) (w_X9_meaning (d := d - 1) (by omega) hA hn hP hl hL (Wc_cg (σ := σ) rfl rfl rfl hw) (by omega)) (by omega) (by decide) (by decide) ?_
        refine pj_istore (pc := 34) (lv' := [(4, _), (3, _), (0, _), (1, _), (2, _)]) dX9_run_34 (by decide) rfl ?_
        refine pl_iload_n (pc := 36) dX9_run_36 rfl rfl ?_
        refine pl_callSd (pc := 37) (As := [_]) (C2 := 0) (N2 := 0) mdX9_isPasture q2678 q2679 q154 dX9_run_37 rfl rfl (Nat.le_of_ble_eq_true rfl) (w_X9_isPasture (d := d - 1) (by omega)) (by omega) (by decide) (by decide) ?_
        refine pl_if_eqB (pc := 40) (tgt := 57) dX9_run_40 (by decide) (fun c40 => ?_) (fun c40 => ?_)
        · refine pl_iconst (pc := 57) (v := 0) dX9_run_57 (by rfl) ?_
          refine pj_istore (pc := 58) (lv' := [(5, _), (4, _), (3, _), (0, _), (1, _), (2, _)]) dX9_run_58 (by decide) rfl ?_
          refine pl_iload_n (pc := 60) dX9_run_60 rfl rfl ?_
          refine pl_iconst (pc := 61) (v := 1) dX9_run_61 (by rfl) ?_
          refine pj_icmp_eq (pc := 62) (tgt := 73) dX9_run_62 (by decide) (fun c62 => ?_) (fun c62 => ?_)
          · refine pl_aload_n (pc := 73) dX9_run_73 rfl rfl ?_
            refine pl_iload_n (pc := 74) dX9_run_74 rfl rfl ?_
            refine pl_iconst (pc := 75) (v := 1) dX9_run_75 (by rfl) ?_
            refine pl_callVd (pc := 76) (As := [_, _]) (C2 := 0) (N2 := 0) ckX9 mdX9_per rfl q2713 q2715 qs59 q154 dX9_run_76 rfl rfl (Nat.le_of_ble_eq_true rfl) (mm_o hA) (w_X9_per (d := d - 1) (by omega) hA (by omega) (by decide)) (by omega) (by decide) (by decide) ?_
            refine PJ.top (y := per (s0 σ) j_p 1) rfl ?_
            refine pl_iload (pc := 79) dX9_run_79 rfl ?_
            refine pj_icmp_ge (pc := 81) (tgt := 87) dX9_run_81 (by decide) (fun c81 => ?_) (fun c81 => ?_)
            · refine pl_aload_n (pc := 87) dX9_run_87 rfl rfl ?_
              refine pl_iload_n (pc := 88) dX9_run_88 rfl rfl ?_
              refine pl_iload (pc := 89) dX9_run_89 rfl ?_
              refine pj_ineg (pc := 91) dX9_run_91 ?_
              refine pl_callVv (pc := 92) (As := [_, _]) (C2 := 0) (N2 := 0) ckX9 mdX9_pays rfl q3006 q3008 qs103 q154 dX9_run_92 rfl rfl (Nat.le_of_ble_eq_true rfl) (mm_o hA) (w_X9_pays (d := d - 1) (by omega) hA (by omega)) (by omega) (by decide) (by decide) ?_
              refine pl_aload_n (pc := 95) dX9_run_95 rfl rfl ?_
              refine pj_getf (pc := 96) ckX9 1 q2517 dX9_run_96 (by decide) (mm_o hA) rfl ?_
              refine pl_sipush (pc := 99) (v := 2118) dX9_run_99 (by rfl) ?_
              refine pj_dup2_11 (pc := 102) dX9_run_102 rfl rfl ?_
              refine pl_iald (pc := 103) (n := 2132) dX9_run_103 (mm_a hA 1 (by decide) (by decide)) (by omega) (by decide) ?_
              refine pl_iload (pc := 104) dX9_run_104 rfl ?_
              refine pj_iadd (pc := 106) dX9_run_106 ?_
              refine pm_iast (pc := 107) 1 hA (by decide) (by decide) rfl dX9_run_107 (show _ < 2132 by omega) (by decide) ?_
              refine pl_iload (pc := 108) dX9_run_108 rfl ?_
              refine pj_if_ne (pc := 110) (tgt := 120) dX9_run_110 (by decide) (fun h => absurd h (by decide)) (fun _ => ?_)
              refine pl_aload_n (pc := 113) dX9_run_113 rfl rfl ?_
              refine pl_iload_n (pc := 114) dX9_run_114 rfl rfl ?_
              refine pl_iconst (pc := 115) (v := 4) dX9_run_115 (by rfl) ?_
              refine pl_iload_n (pc := 116) dX9_run_116 rfl rfl ?_
              refine pl_callVv (pc := 117) (As := [_, _, _]) (C2 := 0) (N2 := 0) ckX9 mdX9_holds rfl q2772 q2774 qs69 q154 dX9_run_117 rfl rfl (Nat.le_of_ble_eq_true rfl) (mm_o hA) (w_X9_holds (d := d - 1) (by omega) hA (by omega)) (by omega) (by decide) (by decide) ?_
              refine pl_aload_n (pc := 120) dX9_run_120 rfl rfl ?_
              refine pj_getf (pc := 121) ckX9 1 q2517 dX9_run_121 (by decide) (mm_o hA) rfl ?_
              refine pl_bipush (pc := 124) (v := 8) dX9_run_124 (by rfl) ?_
              refine pl_iload_n (pc := 126) dX9_run_126 rfl rfl ?_
              refine pl_imul (pc := 127) dX9_run_127 ?_
              refine pl_iconst (pc := 128) (v := 0) dX9_run_128 (by rfl) ?_
              refine pl_iadd (pc := 129) dX9_run_129 ?_
              refine pl_iconst (pc := 130) (v := 4) dX9_run_130 (by rfl) ?_
              refine pm_iast (pc := 131) 1 hA (by decide) (by decide) rfl dX9_run_131 (show _ < 2132 by omega) (by decide) ?_
              refine pl_aload_n (pc := 132) dX9_run_132 rfl rfl ?_
              refine pj_getf (pc := 133) ckX9 1 q2517 dX9_run_133 (by decide) (mm_o hA) rfl ?_
              refine pl_bipush (pc := 136) (v := 8) dX9_run_136 (by rfl) ?_
              refine pl_iload_n (pc := 138) dX9_run_138 rfl rfl ?_
              refine pl_imul (pc := 139) dX9_run_139 ?_
              refine pl_iconst (pc := 140) (v := 2) dX9_run_140 (by rfl) ?_
              refine pl_iadd (pc := 141) dX9_run_141 ?_
              refine pl_aload_n (pc := 142) dX9_run_142 rfl rfl ?_
              refine pj_getf (pc := 143) ckX9 1 q2517 dX9_run_143 (by decide) (mm_o hA) rfl ?_
              refine pl_sipush (pc := 146) (v := 2116) dX9_run_146 (by rfl) ?_
              refine pl_iald (pc := 149) (n := 2132) dX9_run_149 (mm_a hA 1 (by decide) (by decide)) (by omega) (by decide) ?_
              refine pl_bipush (pc := 150) (v := 52) dX9_run_150 (by rfl) ?_
              refine pj_iadd (pc := 152) dX9_run_152 ?_
              refine pm_iast (pc := 153) 1 hA (by decide) (by decide) rfl dX9_run_153 (show _ < 2132 by omega) (by decide) ?_
              refine pl_iload (pc := 154) dX9_run_154 rfl ?_
              refine pj_iret (pc := 156) dX9_run_156 rfl ?_
              exact ⟨vIe (by first | (simp [ownPastV, p_run, hap, g_p, hac, g_c, c16, c40, eq_true c62, c81]; done) | (simp [ownPastV, p_run, hap, g_p, hac, g_c, c16, c40, eq_true c62, c81]; rfl)) rfl, congrArg (mm g ad μ) (by first | (simp [ownPastV, p_run, hap, g_p, hac, g_c, c16, c40, eq_true c62, c81]; done) | (simp [ownPastV, p_run, hap, g_p, hac, g_c, c16, c40, eq_true c62, c81]; rfl))⟩
            · refine pj_bipush (pc := 84) (v := (-3)) dX9_run_84 (by rfl) ?_
              refine pj_iret (pc := 86) dX9_run_86 rfl ?_
              exact ⟨vIe (by first | (simp [ownPastV, p_run, hap, g_p, hac, g_c, c16, c40, eq_true c62, c81]; done) | (simp [ownPastV, p_run, hap, g_p, hac, g_c, c16, c40, eq_true c62, c81]; rfl)) rfl, congrArg (mm g ad μ) (by first | (simp [ownPastV, p_run, hap, g_p, hac, g_c, c16, c40, eq_true c62, c81]; done) | (simp [ownPastV, p_run, hap, g_p, hac, g_c, c16, c40, eq_true c62, c81]; rfl))⟩
          · refine pl_iload (pc := 65) dX9_run_65 rfl ?_
            refine pj_if_ne (pc := 67) (tgt := 73) dX9_run_67 (by decide) (fun h => absurd h (by decide)) (fun _ => ?_)
            refine pj_bipush (pc := 70) (v := (-2)) dX9_run_70 (by rfl) ?_
            refine pj_iret (pc := 72) dX9_run_72 rfl ?_
            exact ⟨vIe (by first | (simp [ownPastV, p_run, hap, g_p, hac, g_c, c16, c40, c62]; done) | (simp [ownPastV, p_run, hap, g_p, hac, g_c, c16, c40, c62]; rfl)) rfl, congrArg (mm g ad μ) (by first | (simp [ownPastV, p_run, hap, g_p, hac, g_c, c16, c40, c62]; done) | (simp [ownPastV, p_run, hap, g_p, hac, g_c, c16, c40, c62]; rfl))⟩
        · refine pl_aload_n (pc := 43) dX9_run_43 rfl rfl ?_
          refine pl_iload_n (pc := 44) dX9_run_44 rfl rfl ?_
          refine pl_iconst (pc := 45) (v := 1) dX9_run_45 (by rfl) ?_
          refine pl_callVd (pc := 46) (As := [_, _]) (C2 := 0) (N2 := 0) ckX9 mdX9_sec rfl q2635 q2637 qs51 q154 dX9_run_46 rfl rfl (Nat.le_of_ble_eq_true rfl) (mm_o hA) (w_X9_sec (d := d - 1) (by omega) hA (by omega) (by decide)) (by omega) (by decide) (by decide) ?_
          refine PJ.top (y := sec (s0 σ) j_c 1) rfl ?_
          refine pl_iload_n (pc := 49) dX9_run_49 rfl rfl ?_
          refine pj_icmp_ne (pc := 50) (tgt := 57) dX9_run_50 (by decide) (fun c50 => ?_) (fun c50 => ?_)
          · refine pl_iconst (pc := 57) (v := 0) dX9_run_57 (by rfl) ?_
            refine pj_istore (pc := 58) (lv' := [(5, _), (4, _), (3, _), (0, _), (1, _), (2, _)]) dX9_run_58 (by decide) rfl ?_
            refine pl_iload_n (pc := 60) dX9_run_60 rfl rfl ?_
            refine pl_iconst (pc := 61) (v := 1) dX9_run_61 (by rfl) ?_
            refine pj_icmp_eq (pc := 62) (tgt := 73) dX9_run_62 (by decide) (fun c62 => ?_) (fun c62 => ?_)
            · refine pl_aload_n (pc := 73) dX9_run_73 rfl rfl ?_
              refine pl_iload_n (pc := 74) dX9_run_74 rfl rfl ?_
              refine pl_iconst (pc := 75) (v := 1) dX9_run_75 (by rfl) ?_
              refine pl_callVd (pc := 76) (As := [_, _]) (C2 := 0) (N2 := 0) ckX9 mdX9_per rfl q2713 q2715 qs59 q154 dX9_run_76 rfl rfl (Nat.le_of_ble_eq_true rfl) (mm_o hA) (w_X9_per (d := d - 1) (by omega) hA (by omega) (by decide)) (by omega) (by decide) (by decide) ?_
              refine PJ.top (y := per (s0 σ) j_p 1) rfl ?_
              refine pl_iload (pc := 79) dX9_run_79 rfl ?_
              refine pj_icmp_ge (pc := 81) (tgt := 87) dX9_run_81 (by decide) (fun c81 => ?_) (fun c81 => ?_)
              · refine pl_aload_n (pc := 87) dX9_run_87 rfl rfl ?_
                refine pl_iload_n (pc := 88) dX9_run_88 rfl rfl ?_
                refine pl_iload (pc := 89) dX9_run_89 rfl ?_
                refine pj_ineg (pc := 91) dX9_run_91 ?_
                refine pl_callVv (pc := 92) (As := [_, _]) (C2 := 0) (N2 := 0) ckX9 mdX9_pays rfl q3006 q3008 qs103 q154 dX9_run_92 rfl rfl (Nat.le_of_ble_eq_true rfl) (mm_o hA) (w_X9_pays (d := d - 1) (by omega) hA (by omega)) (by omega) (by decide) (by decide) ?_
                refine pl_aload_n (pc := 95) dX9_run_95 rfl rfl ?_
                refine pj_getf (pc := 96) ckX9 1 q2517 dX9_run_96 (by decide) (mm_o hA) rfl ?_
                refine pl_sipush (pc := 99) (v := 2118) dX9_run_99 (by rfl) ?_
                refine pj_dup2_11 (pc := 102) dX9_run_102 rfl rfl ?_
                refine pl_iald (pc := 103) (n := 2132) dX9_run_103 (mm_a hA 1 (by decide) (by decide)) (by omega) (by decide) ?_
                refine pl_iload (pc := 104) dX9_run_104 rfl ?_
                refine pj_iadd (pc := 106) dX9_run_106 ?_
                refine pm_iast (pc := 107) 1 hA (by decide) (by decide) rfl dX9_run_107 (show _ < 2132 by omega) (by decide) ?_
                refine pl_iload (pc := 108) dX9_run_108 rfl ?_
                refine pj_if_ne (pc := 110) (tgt := 120) dX9_run_110 (by decide) (fun h => absurd h (by decide)) (fun _ => ?_)
                refine pl_aload_n (pc := 113) dX9_run_113 rfl rfl ?_
                refine pl_iload_n (pc := 114) dX9_run_114 rfl rfl ?_
                refine pl_iconst (pc := 115) (v := 4) dX9_run_115 (by rfl) ?_
                refine pl_iload_n (pc := 116) dX9_run_116 rfl rfl ?_
                refine pl_callVv (pc := 117) (As := [_, _, _]) (C2 := 0) (N2 := 0) ckX9 mdX9_holds rfl q2772 q2774 qs69 q154 dX9_run_117 rfl rfl (Nat.le_of_ble_eq_true rfl) (mm_o hA) (w_X9_holds (d := d - 1) (by omega) hA (by omega)) (by omega) (by decide) (by decide) ?_
                refine pl_aload_n (pc := 120) dX9_run_120 rfl rfl ?_
                refine pj_getf (pc := 121) ckX9 1 q2517 dX9_run_121 (by decide) (mm_o hA) rfl ?_
                refine pl_bipush (pc := 124) (v := 8) dX9_run_124 (by rfl) ?_
                refine pl_iload_n (pc := 126) dX9_run_126 rfl rfl ?_
                refine pl_imul (pc := 127) dX9_run_127 ?_
                refine pl_iconst (pc := 128) (v := 0) dX9_run_128 (by rfl) ?_
                refine pl_iadd (pc := 129) dX9_run_129 ?_
                refine pl_iconst (pc := 130) (v := 4) dX9_run_130 (by rfl) ?_
                refine pm_iast (pc := 131) 1 hA (by decide) (by decide) rfl dX9_run_131 (show _ < 2132 by omega) (by decide) ?_
                refine pl_aload_n (pc := 132) dX9_run_132 rfl rfl ?_
                refine pj_getf (pc := 133) ckX9 1 q2517 dX9_run_133 (by decide) (mm_o hA) rfl ?_
                refine pl_bipush (pc := 136) (v := 8) dX9_run_136 (by rfl) ?_
                refine pl_iload_n (pc := 138) dX9_run_138 rfl rfl ?_
                refine pl_imul (pc := 139) dX9_run_139 ?_
                refine pl_iconst (pc := 140) (v := 2) dX9_run_140 (by rfl) ?_
                refine pl_iadd (pc := 141) dX9_run_141 ?_
                refine pl_aload_n (pc := 142) dX9_run_142 rfl rfl ?_
                refine pj_getf (pc := 143) ckX9 1 q2517 dX9_run_143 (by decide) (mm_o hA) rfl ?_
                refine pl_sipush (pc := 146) (v := 2116) dX9_run_146 (by rfl) ?_
                refine pl_iald (pc := 149) (n := 2132) dX9_run_149 (mm_a hA 1 (by decide) (by decide)) (by omega) (by decide) ?_
                refine pl_bipush (pc := 150) (v := 52) dX9_run_150 (by rfl) ?_
                refine pj_iadd (pc := 152) dX9_run_152 ?_
                refine pm_iast (pc := 153) 1 hA (by decide) (by decide) rfl dX9_run_153 (show _ < 2132 by omega) (by decide) ?_
                refine pl_iload (pc := 154) dX9_run_154 rfl ?_
                refine pj_iret (pc := 156) dX9_run_156 rfl ?_
                exact ⟨vIe (by first | (simp [ownPastV, p_run, hap, g_p, hac, g_c, c16, c40, c50, eq_true c62, c81]; done) | (simp [ownPastV, p_run, hap, g_p, hac, g_c, c16, c40, c50, eq_true c62, c81]; rfl)) rfl, congrArg (mm g ad μ) (by first | (simp [ownPastV, p_run, hap, g_p, hac, g_c, c16, c40, c50, eq_true c62, c81]; done) | (simp [ownPastV, p_run, hap, g_p, hac, g_c, c16, c40, c50, eq_true c62, c81]; rfl))⟩
              · refine pj_bipush (pc := 84) (v := (-3)) dX9_run_84 (by rfl) ?_
                refine pj_iret (pc := 86) dX9_run_86 rfl ?_
                exact ⟨vIe (by first | (simp [ownPastV, p_run, hap, g_p, hac, g_c, c16, c40, c50, eq_true c62, c81]; done) | (simp [ownPastV, p_run, hap, g_p, hac, g_c, c16, c40, c50, eq_true c62, c81]; rfl)) rfl, congrArg (mm g ad μ) (by first | (simp [ownPastV, p_run, hap, g_p, hac, g_c, c16, c40, c50, eq_true c62, c81]; done) | (simp [ownPastV, p_run, hap, g_p, hac, g_c, c16, c40, c50, eq_true c62, c81]; rfl))⟩
            · refine pl_iload (pc := 65) dX9_run_65 rfl ?_
              refine pj_if_ne (pc := 67) (tgt := 73) dX9_run_67 (by decide) (fun h => absurd h (by decide)) (fun _ => ?_)
              refine pj_bipush (pc := 70) (v := (-2)) dX9_run_70 (by rfl) ?_
              refine pj_iret (pc := 72) dX9_run_72 rfl ?_
              exact ⟨vIe (by first | (simp [ownPastV, p_run, hap, g_p, hac, g_c, c16, c40, c50, c62]; done) | (simp [ownPastV, p_run, hap, g_p, hac, g_c, c16, c40, c50, c62]; rfl)) rfl, congrArg (mm g ad μ) (by first | (simp [ownPastV, p_run, hap, g_p, hac, g_c, c16, c40, c50, c62]; done) | (simp [ownPastV, p_run, hap, g_p, hac, g_c, c16, c40, c50, c62]; rfl))⟩
          · refine pl_iconst (pc := 53) (v := 1) dX9_run_53 (by rfl) ?_
            refine pj_goto (pc := 54) (tgt := 58) dX9_run_54 (by decide) ?_
            refine pj_istore (pc := 58) (lv' := [(5, _), (4, _), (3, _), (0, _), (1, _), (2, _)]) dX9_run_58 (by decide) rfl ?_
            refine pl_iload_n (pc := 60) dX9_run_60 rfl rfl ?_
            refine pl_iconst (pc := 61) (v := 1) dX9_run_61 (by rfl) ?_
            refine pj_icmp_eq (pc := 62) (tgt := 73) dX9_run_62 (by decide) (fun c62 => ?_) (fun c62 => ?_)
            · refine pl_aload_n (pc := 73) dX9_run_73 rfl rfl ?_
              refine pl_iload_n (pc := 74) dX9_run_74 rfl rfl ?_
              refine pl_iconst (pc := 75) (v := 1) dX9_run_75 (by rfl) ?_
              refine pl_callVd (pc := 76) (As := [_, _]) (C2 := 0) (N2 := 0) ckX9 mdX9_per rfl q2713 q2715 qs59 q154 dX9_run_76 rfl rfl (Nat.le_of_ble_eq_true rfl) (mm_o hA) (w_X9_per (d := d - 1) (by omega) hA (by omega) (by decide)) (by omega) (by decide) (by decide) ?_
              refine PJ.top (y := per (s0 σ) j_p 1) rfl ?_
              refine pl_iload (pc := 79) dX9_run_79 rfl ?_
              refine pj_icmp_ge (pc := 81) (tgt := 87) dX9_run_81 (by decide) (fun c81 => ?_) (fun c81 => ?_)
              · refine pl_aload_n (pc := 87) dX9_run_87 rfl rfl ?_
                refine pl_iload_n (pc := 88) dX9_run_88 rfl rfl ?_
                refine pl_iload (pc := 89) dX9_run_89 rfl ?_
                refine pj_ineg (pc := 91) dX9_run_91 ?_
                refine pl_callVv (pc := 92) (As := [_, _]) (C2 := 0) (N2 := 0) ckX9 mdX9_pays rfl q3006 q3008 qs103 q154 dX9_run_92 rfl rfl (Nat.le_of_ble_eq_true rfl) (mm_o hA) (w_X9_pays (d := d - 1) (by omega) hA (by omega)) (by omega) (by decide) (by decide) ?_
                refine pl_aload_n (pc := 95) dX9_run_95 rfl rfl ?_
                refine pj_getf (pc := 96) ckX9 1 q2517 dX9_run_96 (by decide) (mm_o hA) rfl ?_
                refine pl_sipush (pc := 99) (v := 2118) dX9_run_99 (by rfl) ?_
                refine pj_dup2_11 (pc := 102) dX9_run_102 rfl rfl ?_
                refine pl_iald (pc := 103) (n := 2132) dX9_run_103 (mm_a hA 1 (by decide) (by decide)) (by omega) (by decide) ?_
                refine pl_iload (pc := 104) dX9_run_104 rfl ?_
                refine pj_iadd (pc := 106) dX9_run_106 ?_
                refine pm_iast (pc := 107) 1 hA (by decide) (by decide) rfl dX9_run_107 (show _ < 2132 by omega) (by decide) ?_
                refine pl_iload (pc := 108) dX9_run_108 rfl ?_
                refine pj_if_ne (pc := 110) (tgt := 120) dX9_run_110 (by decide) (fun _ => ?_) (fun h => absurd h (by decide))
                refine pl_aload_n (pc := 120) dX9_run_120 rfl rfl ?_
                refine pj_getf (pc := 121) ckX9 1 q2517 dX9_run_121 (by decide) (mm_o hA) rfl ?_
                refine pl_bipush (pc := 124) (v := 8) dX9_run_124 (by rfl) ?_
                refine pl_iload_n (pc := 126) dX9_run_126 rfl rfl ?_
                refine pl_imul (pc := 127) dX9_run_127 ?_
                refine pl_iconst (pc := 128) (v := 0) dX9_run_128 (by rfl) ?_
                refine pl_iadd (pc := 129) dX9_run_129 ?_
                refine pl_iconst (pc := 130) (v := 4) dX9_run_130 (by rfl) ?_
                refine pm_iast (pc := 131) 1 hA (by decide) (by decide) rfl dX9_run_131 (show _ < 2132 by omega) (by decide) ?_
                refine pl_aload_n (pc := 132) dX9_run_132 rfl rfl ?_
                refine pj_getf (pc := 133) ckX9 1 q2517 dX9_run_133 (by decide) (mm_o hA) rfl ?_
                refine pl_bipush (pc := 136) (v := 8) dX9_run_136 (by rfl) ?_
                refine pl_iload_n (pc := 138) dX9_run_138 rfl rfl ?_
                refine pl_imul (pc := 139) dX9_run_139 ?_
                refine pl_iconst (pc := 140) (v := 2) dX9_run_140 (by rfl) ?_
                refine pl_iadd (pc := 141) dX9_run_141 ?_
                refine pl_aload_n (pc := 142) dX9_run_142 rfl rfl ?_
                refine pj_getf (pc := 143) ckX9 1 q2517 dX9_run_143 (by decide) (mm_o hA) rfl ?_
                refine pl_sipush (pc := 146) (v := 2116) dX9_run_146 (by rfl) ?_
                refine pl_iald (pc := 149) (n := 2132) dX9_run_149 (mm_a hA 1 (by decide) (by decide)) (by omega) (by decide) ?_
                refine pl_bipush (pc := 150) (v := 52) dX9_run_150 (by rfl) ?_
                refine pj_iadd (pc := 152) dX9_run_152 ?_
                refine pm_iast (pc := 153) 1 hA (by decide) (by decide) rfl dX9_run_153 (show _ < 2132 by omega) (by decide) ?_
                refine pl_iload (pc := 154) dX9_run_154 rfl ?_
                refine pj_iret (pc := 156) dX9_run_156 rfl ?_
                exact ⟨vIe (by first | (simp [ownPastV, p_run, hap, g_p, hac, g_c, c16, c40, eq_true c50, eq_true c62, c81]; done) | (simp [ownPastV, p_run, hap, g_p, hac, g_c, c16, c40, eq_true c50, eq_true c62, c81]; rfl)) rfl, congrArg (mm g ad μ) (by first | (simp [ownPastV, p_run, hap, g_p, hac, g_c, c16, c40, eq_true c50, eq_true c62, c81]; done) | (simp [ownPastV, p_run, hap, g_p, hac, g_c, c16, c40, eq_true c50, eq_true c62, c81]; rfl))⟩
              · refine pj_bipush (pc := 84) (v := (-3)) dX9_run_84 (by rfl) ?_
                refine pj_iret (pc := 86) dX9_run_86 rfl ?_
                exact ⟨vIe (by first | (simp [ownPastV, p_run, hap, g_p, hac, g_c, c16, c40, eq_true c50, eq_true c62, c81]; done) | (simp [ownPastV, p_run, hap, g_p, hac, g_c, c16, c40, eq_true c50, eq_true c62, c81]; rfl)) rfl, congrArg (mm g ad μ) (by first | (simp [ownPastV, p_run, hap, g_p, hac, g_c, c16, c40, eq_true c50, eq_true c62, c81]; done) | (simp [ownPastV, p_run, hap, g_p, hac, g_c, c16, c40, eq_true c50, eq_true c62, c81]; rfl))⟩
            · refine pl_iload (pc := 65) dX9_run_65 rfl ?_
              refine pj_if_ne (pc := 67) (tgt := 73) dX9_run_67 (by decide) (fun _ => ?_) (fun h => absurd h (by decide))
              refine pl_aload_n (pc := 73) dX9_run_73 rfl rfl ?_
              refine pl_iload_n (pc := 74) dX9_run_74 rfl rfl ?_
              refine pl_iconst (pc := 75) (v := 1) dX9_run_75 (by rfl) ?_
              refine pl_callVd (pc := 76) (As := [_, _]) (C2 := 0) (N2 := 0) ckX9 mdX9_per rfl q2713 q2715 qs59 q154 dX9_run_76 rfl rfl (Nat.le_of_ble_eq_true rfl) (mm_o hA) (w_X9_per (d := d - 1) (by omega) hA (by omega) (by decide)) (by omega) (by decide) (by decide) ?_
              refine PJ.top (y := per (s0 σ) j_p 1) rfl ?_
              refine pl_iload (pc := 79) dX9_run_79 rfl ?_
              refine pj_icmp_ge (pc := 81) (tgt := 87) dX9_run_81 (by decide) (fun c81 => ?_) (fun c81 => ?_)
              · refine pl_aload_n (pc := 87) dX9_run_87 rfl rfl ?_
                refine pl_iload_n (pc := 88) dX9_run_88 rfl rfl ?_
                refine pl_iload (pc := 89) dX9_run_89 rfl ?_
                refine pj_ineg (pc := 91) dX9_run_91 ?_
                refine pl_callVv (pc := 92) (As := [_, _]) (C2 := 0) (N2 := 0) ckX9 mdX9_pays rfl q3006 q3008 qs103 q154 dX9_run_92 rfl rfl (Nat.le_of_ble_eq_true rfl) (mm_o hA) (w_X9_pays (d := d - 1) (by omega) hA (by omega)) (by omega) (by decide) (by decide) ?_
                refine pl_aload_n (pc := 95) dX9_run_95 rfl rfl ?_
                refine pj_getf (pc := 96) ckX9 1 q2517 dX9_run_96 (by decide) (mm_o hA) rfl ?_
                refine pl_sipush (pc := 99) (v := 2118) dX9_run_99 (by rfl) ?_
                refine pj_dup2_11 (pc := 102) dX9_run_102 rfl rfl ?_
                refine pl_iald (pc := 103) (n := 2132) dX9_run_103 (mm_a hA 1 (by decide) (by decide)) (by omega) (by decide) ?_
                refine pl_iload (pc := 104) dX9_run_104 rfl ?_
                refine pj_iadd (pc := 106) dX9_run_106 ?_
                refine pm_iast (pc := 107) 1 hA (by decide) (by decide) rfl dX9_run_107 (show _ < 2132 by omega) (by decide) ?_
                refine pl_iload (pc := 108) dX9_run_108 rfl ?_
                refine pj_if_ne (pc := 110) (tgt := 120) dX9_run_110 (by decide) (fun _ => ?_) (fun h => absurd h (by decide))
                refine pl_aload_n (pc := 120) dX9_run_120 rfl rfl ?_
                refine pj_getf (pc := 121) ckX9 1 q2517 dX9_run_121 (by decide) (mm_o hA) rfl ?_
                refine pl_bipush (pc := 124) (v := 8) dX9_run_124 (by rfl) ?_
                refine pl_iload_n (pc := 126) dX9_run_126 rfl rfl ?_
                refine pl_imul (pc := 127) dX9_run_127 ?_
                refine pl_iconst (pc := 128) (v := 0) dX9_run_128 (by rfl) ?_
                refine pl_iadd (pc := 129) dX9_run_129 ?_
                refine pl_iconst (pc := 130) (v := 4) dX9_run_130 (by rfl) ?_
                refine pm_iast (pc := 131) 1 hA (by decide) (by decide) rfl dX9_run_131 (show _ < 2132 by omega) (by decide) ?_
                refine pl_aload_n (pc := 132) dX9_run_132 rfl rfl ?_
                refine pj_getf (pc := 133) ckX9 1 q2517 dX9_run_133 (by decide) (mm_o hA) rfl ?_
                refine pl_bipush (pc := 136) (v := 8) dX9_run_136 (by rfl) ?_
                refine pl_iload_n (pc := 138) dX9_run_138 rfl rfl ?_
                refine pl_imul (pc := 139) dX9_run_139 ?_
                refine pl_iconst (pc := 140) (v := 2) dX9_run_140 (by rfl) ?_
                refine pl_iadd (pc := 141) dX9_run_141 ?_
                refine pl_aload_n (pc := 142) dX9_run_142 rfl rfl ?_
                refine pj_getf (pc := 143) ckX9 1 q2517 dX9_run_143 (by decide) (mm_o hA) rfl ?_
                refine pl_sipush (pc := 146) (v := 2116) dX9_run_146 (by rfl) ?_
                refine pl_iald (pc := 149) (n := 2132) dX9_run_149 (mm_a hA 1 (by decide) (by decide)) (by omega) (by decide) ?_
                refine pl_bipush (pc := 150) (v := 52) dX9_run_150 (by rfl) ?_
                refine pj_iadd (pc := 152) dX9_run_152 ?_
                refine pm_iast (pc := 153) 1 hA (by decide) (by decide) rfl dX9_run_153 (show _ < 2132 by omega) (by decide) ?_
                refine pl_iload (pc := 154) dX9_run_154 rfl ?_
                refine pj_iret (pc := 156) dX9_run_156 rfl ?_
                exact ⟨vIe (by first | (simp [ownPastV, p_run, hap, g_p, hac, g_c, c16, c40, eq_true c50, c62, c81]; done) | (simp [ownPastV, p_run, hap, g_p, hac, g_c, c16, c40, eq_true c50, c62, c81]; rfl)) rfl, congrArg (mm g ad μ) (by first | (simp [ownPastV, p_run, hap, g_p, hac, g_c, c16, c40, eq_true c50, c62, c81]; done) | (simp [ownPastV, p_run, hap, g_p, hac, g_c, c16, c40, eq_true c50, c62, c81]; rfl))⟩
              · refine pj_bipush (pc := 84) (v := (-3)) dX9_run_84 (by rfl) ?_
                refine pj_iret (pc := 86) dX9_run_86 rfl ?_
                exact ⟨vIe (by first | (simp [ownPastV, p_run, hap, g_p, hac, g_c, c16, c40, eq_true c50, c62, c81]; done) | (simp [ownPastV, p_run, hap, g_p, hac, g_c, c16, c40, eq_true c50, c62, c81]; rfl)) rfl, congrArg (mm g ad μ) (by first | (simp [ownPastV, p_run, hap, g_p, hac, g_c, c16, c40, eq_true c50, c62, c81]; done) | (simp [ownPastV, p_run, hap, g_p, hac, g_c, c16, c40, eq_true c50, c62, c81]; rfl))⟩
      · refine pj_iconst (pc := 19) (v := (-1)) dX9_run_19 (by rfl) ?_
        refine pj_iret (pc := 20) dX9_run_20 rfl ?_
        exact ⟨vIe (by first | (simp [ownPastV, p_run, hap, g_p, hac, g_c, c16]; done) | (simp [ownPastV, p_run, hap, g_p, hac, g_c, c16]; rfl)) rfl, congrArg (mm g ad μ) (by first | (simp [ownPastV, p_run, hap, g_p, hac, g_c, c16]; done) | (simp [ownPastV, p_run, hap, g_p, hac, g_c, c16]; rfl))⟩
set_option maxHeartbeats 4000000 in
theorem w_X9_squat {g : GP} {ad : Nat → Nat} {μ : Mem} {σ : MS} {d : Nat} {p : Int32} {c : Int32} {n nl : Nat} (hd : 5 ≤ d) (hA : Inj ad 18) (hn : row σ 2124 = nI n) (hP : n ≤ 100) (hl : row σ 2125 = nI nl) (hL : nl ≤ 12) (hw : Wc σ nl) : PM g yX9_squat (ws_ yX9_squat cX9_squat 3 (some .int)) d 0 0 [.ref (ad 0), .int p, .int c] (mm g ad μ σ) (rQ (some (.int ((p_squat σ n nl p c).1))) (mm g ad μ ((p_squat σ n nl p c).2))) := by
  refine PM.of (by decide +kernel) (Nat.le_of_ble_eq_true rfl) ?_
  show PJ g _ _ _ _ d 0 0 0 [(0, .ref (ad 0)), (1, .int p), (2, .int c)] [] _ _
  cases hap : inN p n with
  | false =>
    refine pl_aload_n (pc := 0) dX9_squat_0 rfl rfl ?_
    refine pl_iload_n (pc := 1) dX9_squat_1 rfl rfl ?_
    refine pl_iload_n (pc := 2) dX9_squat_2 rfl rfl ?_
    refine pl_callVd (pc := 3) (As := [_, _]) (C2 := 0) (N2 := 0) ckX9 mdX9_isAsked rfl q2998 q3000 qs101 q154 dX9_squat_3 rfl rfl (Nat.le_of_ble_eq_true rfl) (mm_o hA) (w_isAsked_0 (d := d - 1) (by omega) hA hn hP (isAsked_0a hap)) (by omega) (by decide) (by decide) ?_
    refine pj_if_ne (pc := 6) (tgt := 11) dX9_squat_6 (by decide) (fun h => absurd h (by decide)) (fun _ => ?_)
    refine pl_iconst (pc := 9) (v := 0) dX9_squat_9 (by rfl) ?_
    refine pj_iret (pc := 10) dX9_squat_10 rfl ?_
    exact ⟨vIe (by first | (simp [p_squat, hap]; done) | (simp [p_squat, hap]; rfl)) rfl, congrArg (mm g ad μ) (by first | (simp [p_squat, hap]; done) | (simp [p_squat, hap]; rfl))⟩
  | true =>
    obtain ⟨j_p, hj_p, rfl⟩ := inN_of (by omega) hap
    have g_p := nI_clamp (n := j_p) (by omega)
    cases hac : inN c 96 with
    | false =>
      refine pl_aload_n (pc := 0) dX9_squat_0 rfl rfl ?_
      refine pl_iload_n (pc := 1) dX9_squat_1 rfl rfl ?_
      refine pl_iload_n (pc := 2) dX9_squat_2 rfl rfl ?_
      refine pl_callVd (pc := 3) (As := [_, _]) (C2 := 0) (N2 := 0) ckX9 mdX9_isAsked rfl q2998 q3000 qs101 q154 dX9_squat_3 rfl rfl (Nat.le_of_ble_eq_true rfl) (mm_o hA) (w_isAsked_0 (d := d - 1) (by omega) hA hn hP (isAsked_0b hap hac)) (by omega) (by decide) (by decide) ?_
      refine pj_if_ne (pc := 6) (tgt := 11) dX9_squat_6 (by decide) (fun h => absurd h (by decide)) (fun _ => ?_)
      refine pl_iconst (pc := 9) (v := 0) dX9_squat_9 (by rfl) ?_
      refine pj_iret (pc := 10) dX9_squat_10 rfl ?_
      exact ⟨vIe (by first | (simp [p_squat, hap, g_p, hac]; done) | (simp [p_squat, hap, g_p, hac]; rfl)) rfl, congrArg (mm g ad μ) (by first | (simp [p_squat, hap, g_p, hac]; done) | (simp [p_squat, hap, g_p, hac]; rfl))⟩
    | true =>
      obtain ⟨j_c, hj_c, rfl⟩ := inN_of (by decide) hac
      have g_c := nI_clamp (n := j_c) (by omega)
      refine pl_aload_n (pc := 0) dX9_squat_0 rfl rfl ?_
      refine pl_iload_n (pc := 1) dX9_squat_1 rfl rfl ?_
      refine pl_iload_n (pc := 2) dX9_squat_2 rfl rfl ?_
      refine pl_callVd (pc := 3) (As := [_, _]) (C2 := 0) (N2 := 0) ckX9 mdX9_isAsked rfl q2998 q3000 qs101 q154 dX9_squat_3 rfl rfl (Nat.le_of_ble_eq_true rfl) (mm_o hA) (w_isAsked_1 (d := d - 1) (by omega) hA hn hP (isAsked_1 hap hac)) (by omega) (by decide) (by decide) ?_
      refine pj_if_ne (pc := 6) (tgt := 11) dX9_squat_6 (by decide) (fun _ => ?_) (fun h => absurd h (by decide))
      refine pl_aload_n (pc := 11) dX9_squat_11 rfl rfl ?_
      refine pl_iload_n (pc := 12) dX9_squat_12 rfl rfl ?_
      refine pl_callVd (pc := 13) (As := [_]) (C2 := 0) (N2 := 0) ckX9 mdX9_isHere rfl q2784 q2786 qs71 q154 dX9_squat_13 rfl rfl (Nat.le_of_ble_eq_true rfl) (mm_o hA) (w_X9_isHere (d := d - 1) (by omega) hA (by omega)) (by omega) (by decide) (by decide) ?_
      refine pl_if_neB (pc := 16) (tgt := 21) dX9_squat_16 (by decide) (fun c16 => ?_) (fun c16 => ?_)
      · refine pl_aload_n (pc := 21) dX9_squat_21 rfl rfl ?_
        refine pl_iload_n (pc := 22) dX9_squat_22 rfl rfl ?_
        refine pl_iconst (pc := 23) (v := 0) dX9_squat_23 (by rfl) ?_
        refine pl_callVd (pc := 24) (As := [_, _]) (C2 := 0) (N2 := 0) ckX9 mdX9_sec rfl q2635 q2637 qs51 q154 dX9_squat_24 rfl rfl (Nat.le_of_ble_eq_true rfl) (mm_o hA) (w_X9_sec (d := d - 1) (by omega) hA (by omega) (by decide)) (by omega) (by decide) (by decide) ?_
        refine pl_iconst (pc := 27) (v := 1) dX9_squat_27 (by rfl) ?_
        refine pj_icmp_eq (pc := 28) (tgt := 34) dX9_squat_28 (by decide) (fun c28 => ?_) (fun c28 => ?_)
        · refine pl_aload_n (pc := 34) dX9_squat_34 rfl rfl ?_
          refine pl_bipush (pc := 35) (v := 7) dX9_squat_35 (by rfl) ?_
          refine pl_iconst (pc := 37) (v := 0) dX9_squat_37 (by rfl) ?_
          refine pl_callVd (pc := 38) (As := [_, _]) (C2 := 0) (N2 := 0) ckX9 mdX9_meaning rfl q2926 q2928 qs92 q154 dX9_squat_38 rfl rfl (Nat.le_of_ble_eq_true rfl) (mm_o hA) (w_X9_meaning (d := d - 1) (by omega) hA hn hP hl hL (Wc_cg (σ := σ) rfl rfl rfl hw) (by omega)) (by omega) (by decide) (by decide) ?_
          refine pj_if_ne (pc := 41) (tgt := 47) dX9_squat_41 (by decide) (fun c41 => ?_) (fun c41 => ?_)
          · refine pl_aload_n (pc := 47) dX9_squat_47 rfl rfl ?_
            refine pl_iload_n (pc := 48) dX9_squat_48 rfl rfl ?_
            refine pl_bipush (pc := 49) (v := 6) dX9_squat_49 (by rfl) ?_
            refine pl_iload_n (pc := 51) dX9_squat_51 rfl rfl ?_
            refine pl_callVv (pc := 52) (As := [_, _, _]) (C2 := 0) (N2 := 0) ckX9 mdX9_holds rfl q2772 q2774 qs69 q154 dX9_squat_52 rfl rfl (Nat.le_of_ble_eq_true rfl) (mm_o hA) (w_X9_holds (d := d - 1) (by omega) hA (by omega)) (by omega) (by decide) (by decide) ?_
            refine pl_iconst (pc := 55) (v := 1) dX9_squat_55 (by rfl) ?_
            refine pj_iret (pc := 56) dX9_squat_56 rfl ?_
            exact ⟨vIe (by first | (simp [p_squat, hap, g_p, hac, g_c, c16, eq_true c28, c41]; done) | (simp [p_squat, hap, g_p, hac, g_c, c16, eq_true c28, c41]; rfl)) rfl, congrArg (mm g ad μ) (by first | (simp [p_squat, hap, g_p, hac, g_c, c16, eq_true c28, c41]; done) | (simp [p_squat, hap, g_p, hac, g_c, c16, eq_true c28, c41]; rfl))⟩
          · refine pj_bipush (pc := 44) (v := (-3)) dX9_squat_44 (by rfl) ?_
            refine pj_iret (pc := 46) dX9_squat_46 rfl ?_
            exact ⟨vIe (by first | (simp [p_squat, hap, g_p, hac, g_c, c16, eq_true c28, eq_true c41]; done) | (simp [p_squat, hap, g_p, hac, g_c, c16, eq_true c28, eq_true c41]; rfl)) rfl, congrArg (mm g ad μ) (by first | (simp [p_squat, hap, g_p, hac, g_c, c16, eq_true c28, eq_true c41]; done) | (simp [p_squat, hap, g_p, hac, g_c, c16, eq_true c28, eq_true c41]; rfl))⟩
        · refine pj_bipush (pc := 31) (v := (-2)) dX9_squat_31 (by rfl) ?_
          refine pj_iret (pc := 33) dX9_squat_33 rfl ?_
          exact ⟨vIe (by first | (simp [p_squat, hap, g_p, hac, g_c, c16, c28]; done) | (simp [p_squat, hap, g_p, hac, g_c, c16, c28]; rfl)) rfl, congrArg (mm g ad μ) (by first | (simp [p_squat, hap, g_p, hac, g_c, c16, c28]; done) | (simp [p_squat, hap, g_p, hac, g_c, c16, c28]; rfl))⟩
      · refine pj_iconst (pc := 19) (v := (-1)) dX9_squat_19 (by rfl) ?_
        refine pj_iret (pc := 20) dX9_squat_20 rfl ?_
        exact ⟨vIe (by first | (simp [p_squat, hap, g_p, hac, g_c, c16]; done) | (simp [p_squat, hap, g_p, hac, g_c, c16]; rfl)) rfl, congrArg (mm g ad μ) (by first | (simp [p_squat, hap, g_p, hac, g_c, c16]; done) | (simp [p_squat, hap, g_p, hac, g_c, c16]; rfl))⟩
set_option maxHeartbeats 4000000 in
theorem w_X9_order {g : GP} {ad : Nat → Nat} {μ : Mem} {σ : MS} {d : Nat} {p : Int32} {n nw nl q : Nat} (hd : 4 ≤ d) (hA : Inj ad 18) (hn : row σ 2124 = nI n) (hP : n ≤ 100) (hnw : row σ 2116 = nI nw) (hNW : nw ≤ 1000) (hL : nl ≤ 12) (hw : Wc σ nl) (hF : ∀ w, w < nw → Lb (σ.2.1 14 (7 * w + 6)) nl) (hor : row σ 2128 = nI q) (hQ : q ≤ 100) (hq2 : ∀ p, p < n → per σ p 6 < 0 → q < 100) : PM g yX9_order (ws_ yX9_order cX9_order 4 (some .int)) d 0 0 [.ref (ad 0), .int p] (mm g ad μ σ) (rQ (some (.int ((p_order σ n nw q p).1))) (mm g ad μ ((p_order σ n nw q p).2))) := by
  refine PM.of (by decide +kernel) (Nat.le_of_ble_eq_true rfl) ?_
  show PJ g _ _ _ _ d 0 0 0 [(0, .ref (ad 0)), (1, .int p)] [] _ _
  refine pl_aload_n (pc := 0) dX9_order_0 rfl rfl ?_
  refine pl_iconst (pc := 1) (v := 0) dX9_order_1 (by rfl) ?_
  refine pm_putI (pc := 2) 0 hA q2516 dX9_order_2 (by decide) rfl (by rfl) (by rfl) rfl ?_
  refine pl_aload_n (pc := 5) dX9_order_5 rfl rfl ?_
  refine pl_aload_n (pc := 6) dX9_order_6 rfl rfl ?_
  refine pl_iload_n (pc := 7) dX9_order_7 rfl rfl ?_
  refine pl_callVd (pc := 8) (As := [_]) (C2 := 0) (N2 := 0) ckX9 mdX9_isPerson rfl q2709 q2711 qs58 q154 dX9_order_8 rfl rfl (Nat.le_of_ble_eq_true rfl) (mm_o hA) (w_X9_isPerson (d := d - 1) (by omega) hA (by first | omega | assumption | exact hn | exact hl | exact hb | exact hq | exact hdr | exact has)) (by omega) (by decide) (by decide) ?_
  refine pl_if_neB (pc := 11) (tgt := 18) dX9_order_11 (by decide) (fun c11 => ?_) (fun c11 => ?_)
  · obtain ⟨j_p, hj_p, rfl⟩ := inN_of (by omega) c11
    have f_p := inN_nI hj_p (by omega)
    have g_p := nI_clamp (n := j_p) (by omega)
    refine pl_iconst (pc := 18) (v := 0) dX9_order_18 (by rfl) ?_
    refine pl_iconst (pc := 19) (v := 1) dX9_order_19 (by rfl) ?_
    refine pl_callVd (pc := 20) (As := [_, _]) (C2 := 0) (N2 := 0) ckX9 mdX9_bad rfl q2631 q2633 qs50 q154 dX9_order_20 rfl rfl (Nat.le_of_ble_eq_true rfl) (mm_o hA) (w_bad_0 (d := d - 1) (by omega) hA) (by omega) (by decide) (by decide) ?_
    refine pj_if_eq (pc := 23) (tgt := 28) dX9_order_23 (by decide) (fun _ => ?_) (fun h => absurd h (by decide))
    refine pl_aload_n (pc := 28) dX9_order_28 rfl rfl ?_
    refine pl_iload_n (pc := 29) dX9_order_29 rfl rfl ?_
    refine pl_iconst (pc := 30) (v := 2) dX9_order_30 (by rfl) ?_
    refine pl_callVd (pc := 31) (As := [_, _]) (C2 := 0) (N2 := 0) ckX9 mdX9_per rfl q2713 q2715 qs59 q154 dX9_order_31 rfl rfl (Nat.le_of_ble_eq_true rfl) (mm_o hA) (w_X9_per (d := d - 1) (by omega) hA (by omega) (by decide)) (by omega) (by decide) (by decide) ?_
    refine pj_if_eq (pc := 34) (tgt := 39) dX9_order_34 (by decide) (fun c34 => ?_) (fun c34 => ?_)
    · refine pl_aload_n (pc := 39) dX9_order_39 rfl rfl ?_
      refine pl_iload_n (pc := 40) dX9_order_40 rfl rfl ?_
      refine pl_bipush (pc := 41) (v := 6) dX9_order_41 (by rfl) ?_
      refine pl_callVd (pc := 43) (As := [_, _]) (C2 := 0) (N2 := 0) ckX9 mdX9_per rfl q2713 q2715 qs59 q154 dX9_order_43 rfl rfl (Nat.le_of_ble_eq_true rfl) (mm_o hA) (w_X9_per (d := d - 1) (by omega) hA (by omega) (by decide)) (by omega) (by decide) (by decide) ?_
      refine pj_if_lt (pc := 46) (tgt := 52) dX9_order_46 (by decide) (fun c46 => ?_) (fun c46 => ?_)
      · have hq100 := hq2 j_p (by omega) c46
        refine pl_aload_n (pc := 52) dX9_order_52 rfl rfl ?_
        refine pl_callVd (pc := 53) (As := []) (C2 := 0) (N2 := 0) ckX9 mdX9_homePrice rfl q3018 q3020 qs105 q154 dX9_order_53 rfl rfl (Nat.le_of_ble_eq_true rfl) (mm_o hA) (w_X9_homePrice (d := d - 1) (by omega) hA hnw hNW hL (Wc_cg (σ := σ) rfl rfl rfl hw) hF) (by omega) (by decide) (by decide) ?_
        refine pj_istore_n (pc := 56) (lv' := [(2, _), (0, _), (1, _)]) dX9_order_56 rfl (by decide) rfl ?_
        refine pl_aload_n (pc := 57) dX9_order_57 rfl rfl ?_
        refine pj_getf (pc := 58) ckX9 1 q2517 dX9_order_58 (by decide) (mm_o hA) rfl ?_
        refine pl_sipush (pc := 61) (v := 2128) dX9_order_61 (by rfl) ?_
        refine pl_iald (pc := 64) (n := 2132) dX9_order_64 (mm_a hA 1 (by decide) (by decide)) (by omega) (by decide) ?_
        refine PJ.top (y := nI _) (hor) ?_
        refine pj_istore_n (pc := 65) (lv' := [(3, _), (2, _), (0, _), (1, _)]) dX9_order_65 rfl (by decide) rfl ?_
        refine pl_aload_n (pc := 66) dX9_order_66 rfl rfl ?_
        refine pl_iload_n (pc := 67) dX9_order_67 rfl rfl ?_
        refine pl_iconst (pc := 68) (v := 1) dX9_order_68 (by rfl) ?_
        refine pl_callVd (pc := 69) (As := [_, _]) (C2 := 0) (N2 := 0) ckX9 mdX9_per rfl q2713 q2715 qs59 q154 dX9_order_69 rfl rfl (Nat.le_of_ble_eq_true rfl) (mm_o hA) (w_X9_per (d := d - 1) (by omega) hA (by omega) (by decide)) (by omega) (by decide) (by decide) ?_
        refine PJ.top (y := per (s0 σ) j_p 1) rfl ?_
        refine pl_iload_n (pc := 72) dX9_order_72 rfl rfl ?_
        refine pj_icmp_ge (pc := 73) (tgt := 79) dX9_order_73 (by decide) (fun c73 => ?_) (fun c73 => ?_)
        · refine pl_aload_n (pc := 79) dX9_order_79 rfl rfl ?_
          refine pl_iload_n (pc := 80) dX9_order_80 rfl rfl ?_
          refine pl_iload_n (pc := 81) dX9_order_81 rfl rfl ?_
          refine pj_ineg (pc := 82) dX9_order_82 ?_
          refine pl_callVv (pc := 83) (As := [_, _]) (C2 := 0) (N2 := 0) ckX9 mdX9_pays rfl q3006 q3008 qs103 q154 dX9_order_83 rfl rfl (Nat.le_of_ble_eq_true rfl) (mm_o hA) (w_X9_pays (d := d - 1) (by omega) hA (by omega)) (by omega) (by decide) (by decide) ?_
          refine pl_aload_n (pc := 86) dX9_order_86 rfl rfl ?_
          refine pj_getf (pc := 87) ckX9 1 q2517 dX9_order_87 (by decide) (mm_o hA) rfl ?_
          refine pl_sipush (pc := 90) (v := 2120) dX9_order_90 (by rfl) ?_
          refine pj_dup2_11 (pc := 93) dX9_order_93 rfl rfl ?_
          refine pl_iald (pc := 94) (n := 2132) dX9_order_94 (mm_a hA 1 (by decide) (by decide)) (by omega) (by decide) ?_
          refine pl_iload_n (pc := 95) dX9_order_95 rfl rfl ?_
          refine pj_iadd (pc := 96) dX9_order_96 ?_
          refine pm_iast (pc := 97) 1 hA (by decide) (by decide) rfl dX9_order_97 (show _ < 2132 by omega) (by decide) ?_
          refine pl_aload_n (pc := 98) dX9_order_98 rfl rfl ?_
          refine pj_getf (pc := 99) ckX9 1 q2517 dX9_order_99 (by decide) (mm_o hA) rfl ?_
          refine pl_sipush (pc := 102) (v := 1780) dX9_order_102 (by rfl) ?_
          refine pl_iconst (pc := 105) (v := 3) dX9_order_105 (by rfl) ?_
          refine pl_iload_n (pc := 106) dX9_order_106 rfl rfl ?_
          refine pl_imul (pc := 107) dX9_order_107 ?_
          refine pl_iadd (pc := 108) dX9_order_108 ?_
          refine pl_iconst (pc := 109) (v := 0) dX9_order_109 (by rfl) ?_
          refine pl_iadd (pc := 110) dX9_order_110 ?_
          refine pl_iload_n (pc := 111) dX9_order_111 rfl rfl ?_
          refine pm_iast (pc := 112) 1 hA (by decide) (by decide) rfl dX9_order_112 (show _ < 2132 by omega) (by decide) ?_
          refine pl_aload_n (pc := 113) dX9_order_113 rfl rfl ?_
          refine pj_getf (pc := 114) ckX9 1 q2517 dX9_order_114 (by decide) (mm_o hA) rfl ?_
          refine pl_sipush (pc := 117) (v := 1780) dX9_order_117 (by rfl) ?_
          refine pl_iconst (pc := 120) (v := 3) dX9_order_120 (by rfl) ?_
          refine pl_iload_n (pc := 121) dX9_order_121 rfl rfl ?_
          refine pl_imul (pc := 122) dX9_order_122 ?_
          refine pl_iadd (pc := 123) dX9_order_123 ?_
          refine pl_iconst (pc := 124) (v := 1) dX9_order_124 (by rfl) ?_
          refine pl_iadd (pc := 125) dX9_order_125 ?_
          refine pl_iload_n (pc := 126) dX9_order_126 rfl rfl ?_
          refine pm_iast (pc := 127) 1 hA (by decide) (by decide) rfl dX9_order_127 (show _ < 2132 by omega) (by decide) ?_
          refine pl_aload_n (pc := 128) dX9_order_128 rfl rfl ?_
          refine pj_getf (pc := 129) ckX9 1 q2517 dX9_order_129 (by decide) (mm_o hA) rfl ?_
          refine pl_sipush (pc := 132) (v := 1780) dX9_order_132 (by rfl) ?_
          refine pl_iconst (pc := 135) (v := 3) dX9_order_135 (by rfl) ?_
          refine pl_iload_n (pc := 136) dX9_order_136 rfl rfl ?_
          refine pl_imul (pc := 137) dX9_order_137 ?_
          refine pl_iadd (pc := 138) dX9_order_138 ?_
          refine pl_iconst (pc := 139) (v := 2) dX9_order_139 (by rfl) ?_
          refine pl_iadd (pc := 140) dX9_order_140 ?_
          refine pl_iconst (pc := 141) (v := 0) dX9_order_141 (by rfl) ?_
          refine pm_iast (pc := 142) 1 hA (by decide) (by decide) rfl dX9_order_142 (show _ < 2132 by omega) (by decide) ?_
          refine pl_aload_n (pc := 143) dX9_order_143 rfl rfl ?_
          refine pl_iload_n (pc := 144) dX9_order_144 rfl rfl ?_
          refine pl_bipush (pc := 145) (v := 6) dX9_order_145 (by rfl) ?_
          refine pl_iload_n (pc := 147) dX9_order_147 rfl rfl ?_
          refine pl_callVv (pc := 148) (As := [_, _, _]) (C2 := 0) (N2 := 0) ckX9 mdX9_setPer rfl q2701 q2703 qs57 q154 dX9_order_148 rfl rfl (Nat.le_of_ble_eq_true rfl) (mm_o hA) (w_X9_setPer (d := d - 1) (by omega) hA (by omega) (by decide)) (by omega) (by decide) (by decide) ?_
          refine pl_aload_n (pc := 151) dX9_order_151 rfl rfl ?_
          refine pj_getf (pc := 152) ckX9 1 q2517 dX9_order_152 (by decide) (mm_o hA) rfl ?_
          refine pl_sipush (pc := 155) (v := 2128) dX9_order_155 (by rfl) ?_
          refine pj_dup2_11 (pc := 158) dX9_order_158 rfl rfl ?_
          refine pl_iald (pc := 159) (n := 2132) dX9_order_159 (mm_a hA 1 (by decide) (by decide)) (by omega) (by decide) ?_
          refine pl_iconst (pc := 160) (v := 1) dX9_order_160 (by rfl) ?_
          refine pj_iadd (pc := 161) dX9_order_161 ?_
          refine pm_iast (pc := 162) 1 hA (by decide) (by decide) rfl dX9_order_162 (show _ < 2132 by omega) (by decide) ?_
          refine pl_iload_n (pc := 163) dX9_order_163 rfl rfl ?_
          refine pj_iret (pc := 164) dX9_order_164 rfl ?_
          exact ⟨vIe (by first | (simp [p_order, c11, f_p, g_p, eq_true c34, c46, c73]; done) | (simp [p_order, c11, f_p, g_p, eq_true c34, c46, c73]; rfl)) rfl, congrArg (mm g ad μ) (by first | (simp [p_order, c11, f_p, g_p, eq_true c34, c46, c73]; done) | (simp [p_order, c11, f_p, g_p, eq_true c34, c46, c73]; rfl))⟩
        · refine pj_bipush (pc := 76) (v := (-3)) dX9_order_76 (by rfl) ?_
          refine pj_iret (pc := 78) dX9_order_78 rfl ?_
          exact ⟨vIe (by first | (simp [p_order, c11, f_p, g_p, eq_true c34, c46, c73]; done) | (simp [p_order, c11, f_p, g_p, eq_true c34, c46, c73]; rfl)) rfl, congrArg (mm g ad μ) (by first | (simp [p_order, c11, f_p, g_p, eq_true c34, c46, c73]; done) | (simp [p_order, c11, f_p, g_p, eq_true c34, c46, c73]; rfl))⟩
      · refine pj_bipush (pc := 49) (v := (-2)) dX9_order_49 (by rfl) ?_
        refine pj_iret (pc := 51) dX9_order_51 rfl ?_
        exact ⟨vIe (by first | (simp [p_order, c11, f_p, g_p, eq_true c34, c46]; done) | (simp [p_order, c11, f_p, g_p, eq_true c34, c46]; rfl)) rfl, congrArg (mm g ad μ) (by first | (simp [p_order, c11, f_p, g_p, eq_true c34, c46]; done) | (simp [p_order, c11, f_p, g_p, eq_true c34, c46]; rfl))⟩
    · refine pj_iconst (pc := 37) (v := (-1)) dX9_order_37 (by rfl) ?_
      refine pj_iret (pc := 38) dX9_order_38 rfl ?_
      exact ⟨vIe (by first | (simp [p_order, c11, f_p, g_p, c34]; done) | (simp [p_order, c11, f_p, g_p, c34]; rfl)) rfl, congrArg (mm g ad μ) (by first | (simp [p_order, c11, f_p, g_p, c34]; done) | (simp [p_order, c11, f_p, g_p, c34]; rfl))⟩
  · refine pl_iconst (pc := 14) (v := 1) dX9_order_14 (by rfl) ?_
    refine pj_goto (pc := 15) (tgt := 19) dX9_order_15 (by decide) ?_
    refine pl_iconst (pc := 19) (v := 1) dX9_order_19 (by rfl) ?_
    refine pl_callVd (pc := 20) (As := [_, _]) (C2 := 0) (N2 := 0) ckX9 mdX9_bad rfl q2631 q2633 qs50 q154 dX9_order_20 rfl rfl (Nat.le_of_ble_eq_true rfl) (mm_o hA) (w_bad_1 (d := d - 1) (by omega) hA) (by omega) (by decide) (by decide) ?_
    refine pj_if_eq (pc := 23) (tgt := 28) dX9_order_23 (by decide) (fun h => absurd h (by decide)) (fun _ => ?_)
    refine pl_iconst (pc := 26) (v := 0) dX9_order_26 (by rfl) ?_
    refine pj_iret (pc := 27) dX9_order_27 rfl ?_
    exact ⟨vIe (by first | (simp [p_order, c11]; done) | (simp [p_order, c11]; rfl)) rfl, congrArg (mm g ad μ) (by first | (simp [p_order, c11]; done) | (simp [p_order, c11]; rfl))⟩
set_option maxHeartbeats 4000000 in
theorem w_X9_isTurn {g : GP} {ad : Nat → Nat} {μ : Mem} {σ : MS} {d : Nat} {k : Nat} {n nl q : Nat} (hd : 5 ≤ d) (hA : Inj ad 18) (hn : row σ 2124 = nI n) (hP : n ≤ 100) (hl : row σ 2125 = nI nl) (hL : nl ≤ 12) (hw : Wc σ nl) (hO : ∀ o, o < q → ∃ p, p < n ∧ row σ (1780 + 3 * o + 0) = nI p) (hk : k ≤ q) (hQ : q ≤ 100) : PM g yX9_isTurn (ws_ yX9_isTurn cX9_isTurn 5 (some .boolean)) d 0 0 [.ref (ad 0), .int (nI k)] (mm g ad μ σ) (rQ (some (.int (bI (turnV σ n nl k)))) (mm g ad μ (sM σ n nl 6 (nI 0)))) := by
  refine PM.of (by decide +kernel) (Nat.le_of_ble_eq_true rfl) ?_
  show PJ g _ _ _ _ d 0 0 0 [(0, .ref (ad 0)), (1, .int (nI k))] [] _ _
  refine pl_aload_n (pc := 0) dX9_isTurn_0 rfl rfl ?_
  refine pl_bipush (pc := 1) (v := 6) dX9_isTurn_1 (by rfl) ?_
  refine pl_iconst (pc := 3) (v := 0) dX9_isTurn_3 (by rfl) ?_
  refine pl_callVd (pc := 4) (As := [_, _]) (C2 := 0) (N2 := 0) ckX9 mdX9_meaning rfl q2926 q2928 qs92 q154 dX9_isTurn_4 rfl rfl (Nat.le_of_ble_eq_true rfl) (mm_o hA) (w_X9_meaning (d := d - 1) (by omega) hA hn hP hl hL (Wc_cg (σ := σ) rfl rfl rfl hw) (by omega)) (by omega) (by decide) (by decide) ?_
  refine pj_istore_n (pc := 7) (lv' := [(2, _), (0, _), (1, _)]) dX9_isTurn_7 rfl (by decide) rfl ?_
  refine pl_iconst (pc := 8) (v := 0) dX9_isTurn_8 (by rfl) ?_
  refine pj_istore_n (pc := 9) (lv' := [(3, _), (2, _), (0, _), (1, _)]) dX9_isTurn_9 rfl (by decide) rfl ?_
  refine PJ.sub [0, 1, 3, 2] rfl ?_
  refine ind_dn (n := k) (P := fun i => anyN (turn1 (sM σ n nl 6 (nI 0)) (meanV σ n nl 6 (nI 0)).1) i = false → PJ g _ _ _ _ d 0 0 10 [(3, .int (nI i)), (2, .int (meanV σ n nl 6 (nI 0)).1), (1, .int (nI k)), (0, .ref (ad 0))] [] (mm g ad μ (sM σ n nl 6 (nI 0))) _) (fun i hi ih hv => ?_) 0 (Nat.zero_le _) (rfl)
  refine pl_iload_n (pc := 10) dX9_isTurn_10 rfl rfl ?_
  refine pl_iload_n (pc := 11) dX9_isTurn_11 rfl rfl ?_
  refine pl_icmp_ge (pc := 12) (tgt := 85) dX9_isTurn_12 (by decide) (by omega) (by omega) (fun c12 => ?_) (fun c12 => ?_)
  · refine pl_iconst (pc := 85) (v := 1) dX9_isTurn_85 (by rfl) ?_
    refine pj_zret (pc := 86) .boolean dX9_isTurn_86 rfl (by rfl) ?_
    have e9 : i = k := by omega
    subst e9
    exact ⟨vB1 (by unfold turnV; rw [hv]; rfl), rfl⟩
  · obtain ⟨o, ho, e_o1⟩ := hO i (by omega)
    have e_o : row (sM σ n nl 6 (nI 0)) (1780 + 3 * i + 0) = nI o := e_o1
    have e_o2 : row (sM σ n nl 6 (nI 0)) (1780 + 3 * i) = nI o := e_o1
    have g_o := tN_nI (n := o) (by omega)
    refine pl_aload_n (pc := 15) dX9_isTurn_15 rfl rfl ?_
    refine pj_getf (pc := 16) ckX9 1 q2517 dX9_isTurn_16 (by decide) (mm_o hA) rfl ?_
    refine pl_sipush (pc := 19) (v := 1780) dX9_isTurn_19 (by rfl) ?_
    refine pl_iconst (pc := 22) (v := 3) dX9_isTurn_22 (by rfl) ?_
    refine pl_iload_n (pc := 23) dX9_isTurn_23 rfl rfl ?_
    refine pl_imul (pc := 24) dX9_isTurn_24 ?_
    refine pl_iadd (pc := 25) dX9_isTurn_25 ?_
    refine pl_iconst (pc := 26) (v := 0) dX9_isTurn_26 (by rfl) ?_
    refine pl_iadd (pc := 27) dX9_isTurn_27 ?_
    refine pl_iald (pc := 28) (n := 2132) dX9_isTurn_28 (mm_a hA 1 (by decide) (by decide)) (by omega) (by decide) ?_
    refine PJ.top (y := nI _) (e_o) ?_
    refine pj_istore (pc := 29) (lv' := [(4, _), (3, _), (2, _), (1, _), (0, _)]) dX9_isTurn_29 (by decide) rfl ?_
    refine pl_aload_n (pc := 31) dX9_isTurn_31 rfl rfl ?_
    refine pj_getf (pc := 32) ckX9 1 q2517 dX9_isTurn_32 (by decide) (mm_o hA) rfl ?_
    refine pl_sipush (pc := 35) (v := 1780) dX9_isTurn_35 (by rfl) ?_
    refine pl_iconst (pc := 38) (v := 3) dX9_isTurn_38 (by rfl) ?_
    refine pl_iload_n (pc := 39) dX9_isTurn_39 rfl rfl ?_
    refine pl_imul (pc := 40) dX9_isTurn_40 ?_
    refine pl_iadd (pc := 41) dX9_isTurn_41 ?_
    refine pl_iconst (pc := 42) (v := 2) dX9_isTurn_42 (by rfl) ?_
    refine pl_iadd (pc := 43) dX9_isTurn_43 ?_
    refine pl_iald (pc := 44) (n := 2132) dX9_isTurn_44 (mm_a hA 1 (by decide) (by decide)) (by omega) (by decide) ?_
    refine pj_if_ne (pc := 45) (tgt := 79) dX9_isTurn_45 (by decide) (fun c45 => ?_) (fun c45 => ?_)
    · refine pl_iinc1 (pc := 79) (lv' := [(3, _), (4, _), (2, _), (1, _), (0, _)]) dX9_isTurn_79 rfl rfl (by decide) rfl ?_
      refine pj_goto (pc := 82) (tgt := 10) dX9_isTurn_82 (by decide) ?_
      refine PJ.sub [0, 2, 3, 4] rfl ?_
      exact ih (by omega) (anyN_up hv (by simp [turn1, e_o2, g_o, c12, c45]))
    · refine pl_aload_n (pc := 48) dX9_isTurn_48 rfl rfl ?_
      refine pl_iload (pc := 49) dX9_isTurn_49 rfl ?_
      refine pl_callVd (pc := 51) (As := [_]) (C2 := 0) (N2 := 0) ckX9 mdX9_isHere rfl q2784 q2786 qs71 q154 dX9_isTurn_51 rfl rfl (Nat.le_of_ble_eq_true rfl) (mm_o hA) (w_X9_isHere (d := d - 1) (by omega) hA (by omega)) (by omega) (by decide) (by decide) ?_
      refine pl_if_eqB (pc := 54) (tgt := 79) dX9_isTurn_54 (by decide) (fun c54 => ?_) (fun c54 => ?_)
      · refine pl_iinc1 (pc := 79) (lv' := [(3, _), (4, _), (2, _), (1, _), (0, _)]) dX9_isTurn_79 rfl rfl (by decide) rfl ?_
        refine pj_goto (pc := 82) (tgt := 10) dX9_isTurn_82 (by decide) ?_
        refine PJ.sub [0, 2, 3, 4] rfl ?_
        exact ih (by omega) (anyN_up hv (by simp [turn1, e_o2, g_o, c12, eq_true c45, c54]))
      · refine pl_aload_n (pc := 57) dX9_isTurn_57 rfl rfl ?_
        refine pj_getf (pc := 58) ckX9 1 q2517 dX9_isTurn_58 (by decide) (mm_o hA) rfl ?_
        refine pl_sipush (pc := 61) (v := 2116) dX9_isTurn_61 (by rfl) ?_
        refine pl_iald (pc := 64) (n := 2132) dX9_isTurn_64 (mm_a hA 1 (by decide) (by decide)) (by omega) (by decide) ?_
        refine pl_aload_n (pc := 65) dX9_isTurn_65 rfl rfl ?_
        refine pl_iload (pc := 66) dX9_isTurn_66 rfl ?_
        refine pl_iconst (pc := 68) (v := 5) dX9_isTurn_68 (by rfl) ?_
        refine pl_callVd (pc := 69) (As := [_, _]) (C2 := 0) (N2 := 0) ckX9 mdX9_per rfl q2713 q2715 qs59 q154 dX9_isTurn_69 rfl rfl (Nat.le_of_ble_eq_true rfl) (mm_o hA) (w_X9_per (d := d - 1) (by omega) hA (by omega) (by decide)) (by omega) (by decide) (by decide) ?_
        refine pj_isub (pc := 72) dX9_isTurn_72 ?_
        refine pl_iload_n (pc := 73) dX9_isTurn_73 rfl rfl ?_
        refine pj_icmp_ge (pc := 74) (tgt := 79) dX9_isTurn_74 (by decide) (fun c74 => ?_) (fun c74 => ?_)
        · refine pl_iinc1 (pc := 79) (lv' := [(3, _), (4, _), (2, _), (1, _), (0, _)]) dX9_isTurn_79 rfl rfl (by decide) rfl ?_
          refine pj_goto (pc := 82) (tgt := 10) dX9_isTurn_82 (by decide) ?_
          refine PJ.sub [0, 2, 3, 4] rfl ?_
          exact ih (by omega) (anyN_up hv (by simp [turn1, e_o2, g_o, c12, eq_true c45, c54, c74]))
        · refine pl_iconst (pc := 77) (v := 0) dX9_isTurn_77 (by rfl) ?_
          refine pj_zret (pc := 78) .boolean dX9_isTurn_78 rfl (by rfl) ?_
          exact ⟨vB0 (by unfold turnV; rw [anyN_hit (i := i) c12 (by simp [turn1, e_o2, g_o, c12, eq_true c45, c54, c74])]; rfl), rfl⟩
set_option maxHeartbeats 4000000 in
theorem w_X9_choose {g : GP} {ad : Nat → Nat} {μ : Mem} {σ : MS} {d : Nat} {p : Int32} {c : Int32} {n nl q : Nat} (hd : 6 ≤ d) (hA : Inj ad 18) (hn : row σ 2124 = nI n) (hP : n ≤ 100) (hl : row σ 2125 = nI nl) (hL : nl ≤ 12) (hw : Wc σ nl) (hO : ∀ o, o < q → ∃ p, p < n ∧ row σ (1780 + 3 * o + 0) = nI p) (hQ : q ≤ 100) (hK : ∀ p, p < n → ¬ per σ p 6 < 0 → ∃ k, k < q ∧ per σ p 6 = nI k) : PM g yX9_choose (ws_ yX9_choose cX9_choose 4 (some .int)) d 0 0 [.ref (ad 0), .int p, .int c] (mm g ad μ σ) (rQ (some (.int ((p_choose σ n nl p c).1))) (mm g ad μ ((p_choose σ n nl p c).2))) := by
  refine PM.of (by decide +kernel) (Nat.le_of_ble_eq_true rfl) ?_
  show PJ g _ _ _ _ d 0 0 0 [(0, .ref (ad 0)), (1, .int p), (2, .int c)] [] _ _
  cases hap : inN p n with
  | false =>
    refine pl_aload_n (pc := 0) dX9_choose_0 rfl rfl ?_
    refine pl_iload_n (pc := 1) dX9_choose_1 rfl rfl ?_
    refine pl_iload_n (pc := 2) dX9_choose_2 rfl rfl ?_
    refine pl_callVd (pc := 3) (As := [_, _]) (C2 := 0) (N2 := 0) ckX9 mdX9_isAsked rfl q2998 q3000 qs101 q154 dX9_choose_3 rfl rfl (Nat.le_of_ble_eq_true rfl) (mm_o hA) (w_isAsked_0 (d := d - 1) (by omega) hA hn hP (isAsked_0a hap)) (by omega) (by decide) (by decide) ?_
    refine pj_if_ne (pc := 6) (tgt := 11) dX9_choose_6 (by decide) (fun h => absurd h (by decide)) (fun _ => ?_)
    refine pl_iconst (pc := 9) (v := 0) dX9_choose_9 (by rfl) ?_
    refine pj_iret (pc := 10) dX9_choose_10 rfl ?_
    exact ⟨vIe (by first | (simp [p_choose, hap]; done) | (simp [p_choose, hap]; rfl)) rfl, congrArg (mm g ad μ) (by first | (simp [p_choose, hap]; done) | (simp [p_choose, hap]; rfl))⟩
  | true =>
    obtain ⟨j_p, hj_p, rfl⟩ := inN_of (by omega) hap
    have g_p := nI_clamp (n := j_p) (by omega)
    cases hac : inN c 96 with
    | false =>
      refine pl_aload_n (pc := 0) dX9_choose_0 rfl rfl ?_
      refine pl_iload_n (pc := 1) dX9_choose_1 rfl rfl ?_
      refine pl_iload_n (pc := 2) dX9_choose_2 rfl rfl ?_
      refine pl_callVd (pc := 3) (As := [_, _]) (C2 := 0) (N2 := 0) ckX9 mdX9_isAsked rfl q2998 q3000 qs101 q154 dX9_choose_3 rfl rfl (Nat.le_of_ble_eq_true rfl) (mm_o hA) (w_isAsked_0 (d := d - 1) (by omega) hA hn hP (isAsked_0b hap hac)) (by omega) (by decide) (by decide) ?_
      refine pj_if_ne (pc := 6) (tgt := 11) dX9_choose_6 (by decide) (fun h => absurd h (by decide)) (fun _ => ?_)
      refine pl_iconst (pc := 9) (v := 0) dX9_choose_9 (by rfl) ?_
      refine pj_iret (pc := 10) dX9_choose_10 rfl ?_
      exact ⟨vIe (by first | (simp [p_choose, hap, g_p, hac]; done) | (simp [p_choose, hap, g_p, hac]; rfl)) rfl, congrArg (mm g ad μ) (by first | (simp [p_choose, hap, g_p, hac]; done) | (simp [p_choose, hap, g_p, hac]; rfl))⟩
    | true =>
      obtain ⟨j_c, hj_c, rfl⟩ := inN_of (by decide) hac
      have g_c := nI_clamp (n := j_c) (by omega)
      refine pl_aload_n (pc := 0) dX9_choose_0 rfl rfl ?_
      refine pl_iload_n (pc := 1) dX9_choose_1 rfl rfl ?_
      refine pl_iload_n (pc := 2) dX9_choose_2 rfl rfl ?_
      refine pl_callVd (pc := 3) (As := [_, _]) (C2 := 0) (N2 := 0) ckX9 mdX9_isAsked rfl q2998 q3000 qs101 q154 dX9_choose_3 rfl rfl (Nat.le_of_ble_eq_true rfl) (mm_o hA) (w_isAsked_1 (d := d - 1) (by omega) hA hn hP (isAsked_1 hap hac)) (by omega) (by decide) (by decide) ?_
      refine pj_if_ne (pc := 6) (tgt := 11) dX9_choose_6 (by decide) (fun _ => ?_) (fun h => absurd h (by decide))
      refine pl_aload_n (pc := 11) dX9_choose_11 rfl rfl ?_
      refine pl_iload_n (pc := 12) dX9_choose_12 rfl rfl ?_
      refine pl_bipush (pc := 13) (v := 6) dX9_choose_13 (by rfl) ?_
      refine pl_callVd (pc := 15) (As := [_, _]) (C2 := 0) (N2 := 0) ckX9 mdX9_per rfl q2713 q2715 qs59 q154 dX9_choose_15 rfl rfl (Nat.le_of_ble_eq_true rfl) (mm_o hA) (w_X9_per (d := d - 1) (by omega) hA (by omega) (by decide)) (by omega) (by decide) (by decide) ?_
      rcases Decidable.em (per σ j_p 6 < 0) with hs18 | hs18
      · refine pj_istore_n (pc := 18) (lv' := [(3, _), (0, _), (1, _), (2, _)]) dX9_choose_18 rfl (by decide) rfl ?_
        refine pl_iload_n (pc := 19) dX9_choose_19 rfl rfl ?_
        refine pj_if_lt (pc := 20) (tgt := 41) dX9_choose_20 (by decide) (fun c20 => ?_) (fun c20 => ?_)
        · refine pj_iconst (pc := 41) (v := (-1)) dX9_choose_41 (by rfl) ?_
          refine pj_iret (pc := 42) dX9_choose_42 rfl ?_
          exact ⟨vIe (by first | (simp [p_choose, hap, g_p, hac, g_c, hs18, c20]; done) | (simp [p_choose, hap, g_p, hac, g_c, hs18, c20]; rfl)) rfl, congrArg (mm g ad μ) (by first | (simp [p_choose, hap, g_p, hac, g_c, hs18, c20]; done) | (simp [p_choose, hap, g_p, hac, g_c, hs18, c20]; rfl))⟩
        · exact absurd hs18 c20
      · obtain ⟨k, hk, e_k⟩ := hK j_p (by omega) hs18
        have e_k1 : per (s0 σ) j_p 6 = nI k := e_k
        have g_k := tN_nI (n := k) (by omega)
        have p_k : ¬ nI k < 0 := Int32.not_lt.mpr (nI_pos' (by omega))
        refine PJ.top (y := nI k) e_k ?_
        refine pj_istore_n (pc := 18) (lv' := [(3, _), (0, _), (1, _), (2, _)]) dX9_choose_18 rfl (by decide) rfl ?_
        refine pl_iload_n (pc := 19) dX9_choose_19 rfl rfl ?_
        refine pl_if_ltN (pc := 20) dX9_choose_20 ⟨41, by decide⟩ (by omega) ?_
        refine pl_aload_n (pc := 23) dX9_choose_23 rfl rfl ?_
        refine pj_getf (pc := 24) ckX9 1 q2517 dX9_choose_24 (by decide) (mm_o hA) rfl ?_
        refine pl_sipush (pc := 27) (v := 1780) dX9_choose_27 (by rfl) ?_
        refine pl_iconst (pc := 30) (v := 3) dX9_choose_30 (by rfl) ?_
        refine pl_iload_n (pc := 31) dX9_choose_31 rfl rfl ?_
        refine pl_imul (pc := 32) dX9_choose_32 ?_
        refine pl_iadd (pc := 33) dX9_choose_33 ?_
        refine pl_iconst (pc := 34) (v := 2) dX9_choose_34 (by rfl) ?_
        refine pl_iadd (pc := 35) dX9_choose_35 ?_
        refine pl_iald (pc := 36) (n := 2132) dX9_choose_36 (mm_a hA 1 (by decide) (by decide)) (by omega) (by decide) ?_
        refine pl_iconst (pc := 37) (v := 1) dX9_choose_37 (by rfl) ?_
        refine pj_icmp_ne (pc := 38) (tgt := 43) dX9_choose_38 (by decide) (fun c38 => ?_) (fun c38 => ?_)
        · refine pl_aload_n (pc := 43) dX9_choose_43 rfl rfl ?_
          refine pl_iload_n (pc := 44) dX9_choose_44 rfl rfl ?_
          refine pl_callVd (pc := 45) (As := [_]) (C2 := 0) (N2 := 0) ckX9 mdX9_isHere rfl q2784 q2786 qs71 q154 dX9_choose_45 rfl rfl (Nat.le_of_ble_eq_true rfl) (mm_o hA) (w_X9_isHere (d := d - 1) (by omega) hA (by omega)) (by omega) (by decide) (by decide) ?_
          refine pl_if_neB (pc := 48) (tgt := 54) dX9_choose_48 (by decide) (fun c48 => ?_) (fun c48 => ?_)
          · refine pl_aload_n (pc := 54) dX9_choose_54 rfl rfl ?_
            refine pl_iload_n (pc := 55) dX9_choose_55 rfl rfl ?_
            refine pl_iconst (pc := 56) (v := 0) dX9_choose_56 (by rfl) ?_
            refine pl_callVd (pc := 57) (As := [_, _]) (C2 := 0) (N2 := 0) ckX9 mdX9_sec rfl q2635 q2637 qs51 q154 dX9_choose_57 rfl rfl (Nat.le_of_ble_eq_true rfl) (mm_o hA) (w_X9_sec (d := d - 1) (by omega) hA (by omega) (by decide)) (by omega) (by decide) (by decide) ?_
            refine pl_iconst (pc := 60) (v := 1) dX9_choose_60 (by rfl) ?_
            refine pj_icmp_eq (pc := 61) (tgt := 67) dX9_choose_61 (by decide) (fun c61 => ?_) (fun c61 => ?_)
            · refine pl_aload_n (pc := 67) dX9_choose_67 rfl rfl ?_
              refine pl_iload_n (pc := 68) dX9_choose_68 rfl rfl ?_
              refine pl_callVd (pc := 69) (As := [_]) (C2 := 0) (N2 := 0) ckX9 mdX9_isTurn rfl q3034 q3036 qs107 q154 dX9_choose_69 rfl rfl (Nat.le_of_ble_eq_true rfl) (mm_o hA) (w_X9_isTurn (d := d - 1) (by omega) hA hn hP hl hL (Wc_cg (σ := σ) rfl rfl rfl hw) hO (by omega) hQ) (by omega) (by decide) (by decide) ?_
              refine pl_if_neB (pc := 72) (tgt := 78) dX9_choose_72 (by decide) (fun c72 => ?_) (fun c72 => ?_)
              · refine pl_aload_n (pc := 78) dX9_choose_78 rfl rfl ?_
                refine pl_iload_n (pc := 79) dX9_choose_79 rfl rfl ?_
                refine pl_iconst (pc := 80) (v := 5) dX9_choose_80 (by rfl) ?_
                refine pl_iload_n (pc := 81) dX9_choose_81 rfl rfl ?_
                refine pl_callVv (pc := 82) (As := [_, _, _]) (C2 := 0) (N2 := 0) ckX9 mdX9_holds rfl q2772 q2774 qs69 q154 dX9_choose_82 rfl rfl (Nat.le_of_ble_eq_true rfl) (mm_o hA) (w_X9_holds (d := d - 1) (by omega) hA (by omega)) (by omega) (by decide) (by decide) ?_
                refine pl_aload_n (pc := 85) dX9_choose_85 rfl rfl ?_
                refine pj_getf (pc := 86) ckX9 1 q2517 dX9_choose_86 (by decide) (mm_o hA) rfl ?_
                refine pl_bipush (pc := 89) (v := 8) dX9_choose_89 (by rfl) ?_
                refine pl_iload_n (pc := 91) dX9_choose_91 rfl rfl ?_
                refine pl_imul (pc := 92) dX9_choose_92 ?_
                refine pl_iconst (pc := 93) (v := 5) dX9_choose_93 (by rfl) ?_
                refine pl_iadd (pc := 94) dX9_choose_94 ?_
                refine pl_aload_n (pc := 95) dX9_choose_95 rfl rfl ?_
                refine pj_getf (pc := 96) ckX9 1 q2517 dX9_choose_96 (by decide) (mm_o hA) rfl ?_
                refine pl_sipush (pc := 99) (v := 1780) dX9_choose_99 (by rfl) ?_
                refine pl_iconst (pc := 102) (v := 3) dX9_choose_102 (by rfl) ?_
                refine pl_iload_n (pc := 103) dX9_choose_103 rfl rfl ?_
                refine pl_imul (pc := 104) dX9_choose_104 ?_
                refine pl_iadd (pc := 105) dX9_choose_105 ?_
                refine pl_iconst (pc := 106) (v := 1) dX9_choose_106 (by rfl) ?_
                refine pl_iadd (pc := 107) dX9_choose_107 ?_
                refine pl_iald (pc := 108) (n := 2132) dX9_choose_108 (mm_a hA 1 (by decide) (by decide)) (by omega) (by decide) ?_
                refine pm_iast (pc := 109) 1 hA (by decide) (by decide) rfl dX9_choose_109 (show _ < 2132 by omega) (by decide) ?_
                refine pl_aload_n (pc := 110) dX9_choose_110 rfl rfl ?_
                refine pj_getf (pc := 111) ckX9 1 q2517 dX9_choose_111 (by decide) (mm_o hA) rfl ?_
                refine pl_sipush (pc := 114) (v := 1780) dX9_choose_114 (by rfl) ?_
                refine pl_iconst (pc := 117) (v := 3) dX9_choose_117 (by rfl) ?_
                refine pl_iload_n (pc := 118) dX9_choose_118 rfl rfl ?_
                refine pl_imul (pc := 119) dX9_choose_119 ?_
                refine pl_iadd (pc := 120) dX9_choose_120 ?_
                refine pl_iconst (pc := 121) (v := 2) dX9_choose_121 (by rfl) ?_
                refine pl_iadd (pc := 122) dX9_choose_122 ?_
                refine pl_iconst (pc := 123) (v := 1) dX9_choose_123 (by rfl) ?_
                refine pm_iast (pc := 124) 1 hA (by decide) (by decide) rfl dX9_choose_124 (show _ < 2132 by omega) (by decide) ?_
                refine pl_aload_n (pc := 125) dX9_choose_125 rfl rfl ?_
                refine pl_iload_n (pc := 126) dX9_choose_126 rfl rfl ?_
                refine pl_callVv (pc := 127) (As := [_]) (C2 := 0) (N2 := 0) ckX9 mdX9_owns rfl q3010 q3012 qs104 q154 dX9_choose_127 rfl rfl (Nat.le_of_ble_eq_true rfl) (mm_o hA) (w_X9_owns (d := d - 1) (by omega) hA (by omega)) (by omega) (by decide) (by decide) ?_
                refine pl_iconst (pc := 130) (v := 1) dX9_choose_130 (by rfl) ?_
                refine pj_iret (pc := 131) dX9_choose_131 rfl ?_
                exact ⟨vIe (by first | (simp [p_choose, hap, g_p, hac, g_c, e_k1, g_k, p_k, c38, c48, eq_true c61, c72]; done) | (simp [p_choose, hap, g_p, hac, g_c, e_k1, g_k, p_k, c38, c48, eq_true c61, c72]; rfl)) rfl, congrArg (mm g ad μ) (by first | (simp [p_choose, hap, g_p, hac, g_c, e_k1, g_k, p_k, c38, c48, eq_true c61, c72]; done) | (simp [p_choose, hap, g_p, hac, g_c, e_k1, g_k, p_k, c38, c48, eq_true c61, c72]; rfl))⟩
              · refine pj_bipush (pc := 75) (v := (-4)) dX9_choose_75 (by rfl) ?_
                refine pj_iret (pc := 77) dX9_choose_77 rfl ?_
                exact ⟨vIe (by first | (simp [p_choose, hap, g_p, hac, g_c, e_k1, g_k, p_k, c38, c48, eq_true c61, c72]; done) | (simp [p_choose, hap, g_p, hac, g_c, e_k1, g_k, p_k, c38, c48, eq_true c61, c72]; rfl)) rfl, congrArg (mm g ad μ) (by first | (simp [p_choose, hap, g_p, hac, g_c, e_k1, g_k, p_k, c38, c48, eq_true c61, c72]; done) | (simp [p_choose, hap, g_p, hac, g_c, e_k1, g_k, p_k, c38, c48, eq_true c61, c72]; rfl))⟩
            · refine pj_bipush (pc := 64) (v := (-3)) dX9_choose_64 (by rfl) ?_
              refine pj_iret (pc := 66) dX9_choose_66 rfl ?_
              exact ⟨vIe (by first | (simp [p_choose, hap, g_p, hac, g_c, e_k1, g_k, p_k, c38, c48, c61]; done) | (simp [p_choose, hap, g_p, hac, g_c, e_k1, g_k, p_k, c38, c48, c61]; rfl)) rfl, congrArg (mm g ad μ) (by first | (simp [p_choose, hap, g_p, hac, g_c, e_k1, g_k, p_k, c38, c48, c61]; done) | (simp [p_choose, hap, g_p, hac, g_c, e_k1, g_k, p_k, c38, c48, c61]; rfl))⟩
          · refine pj_bipush (pc := 51) (v := (-2)) dX9_choose_51 (by rfl) ?_
            refine pj_iret (pc := 53) dX9_choose_53 rfl ?_
            exact ⟨vIe (by first | (simp [p_choose, hap, g_p, hac, g_c, e_k1, g_k, p_k, c38, c48]; done) | (simp [p_choose, hap, g_p, hac, g_c, e_k1, g_k, p_k, c38, c48]; rfl)) rfl, congrArg (mm g ad μ) (by first | (simp [p_choose, hap, g_p, hac, g_c, e_k1, g_k, p_k, c38, c48]; done) | (simp [p_choose, hap, g_p, hac, g_c, e_k1, g_k, p_k, c38, c48]; rfl))⟩
        · refine pj_iconst (pc := 41) (v := (-1)) dX9_choose_41 (by rfl) ?_
          refine pj_iret (pc := 42) dX9_choose_42 rfl ?_
          exact ⟨vIe (by first | (simp [p_choose, hap, g_p, hac, g_c, e_k1, g_k, p_k, eq_true c38]; done) | (simp [p_choose, hap, g_p, hac, g_c, e_k1, g_k, p_k, eq_true c38]; rfl)) rfl, congrArg (mm g ad μ) (by first | (simp [p_choose, hap, g_p, hac, g_c, e_k1, g_k, p_k, eq_true c38]; done) | (simp [p_choose, hap, g_p, hac, g_c, e_k1, g_k, p_k, eq_true c38]; rfl))⟩
