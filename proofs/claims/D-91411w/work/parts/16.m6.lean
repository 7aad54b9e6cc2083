set_option maxRecDepth 100000
abbrev rn (σ : MS) (z w : Nat) : Int32 := σ.2.1 5 (1000 * z + w)
def p_person (σ : MS) (n : Nat) (p w : Int32) : Int32 × MS :=
  if inN p n = false then (nI 0, th σ 1) else if w < 0 then (nI 0, th σ 2) else if ¬ w ≤ nI 8 then (nI 0, th σ 2)
  else (let σ := s0 σ; let i := tN p;
    if w = nI 0 then per σ i 0 else if w = nI 1 then per σ i 1 else if w = nI 2 then per σ i 2 else if w = nI 3 then (if per σ i 2 = nI 3 then per σ i 3 else -1)
    else if w = nI 4 then nI (hiredC σ n p) else if w = nI 5 then nI (farmsOfC σ p 96) else if w = nI 6 then per σ i 6 else if w = nI 7 then per σ i 4 else per σ i 5, s0 σ)
set_option maxHeartbeats 4000000 in
theorem w_X9_person {g : GP} {ad : Nat → Nat} {μ : Mem} {σ : MS} {d : Nat} {p : Int32} {w : Int32} {n : Nat} (hd : 3 ≤ d) (hA : Inj ad 18) (hn : row σ 2124 = nI n) (hP : n ≤ 100) : PM g yX9_person (ws_ yX9_person cX9_person 3 (some .int)) d 0 0 [.ref (ad 0), .int p, .int w] (mm g ad μ σ) (rQ (some (.int ((p_person σ n p w).1))) (mm g ad μ ((p_person σ n p w).2))) := by
  refine PM.of (by decide +kernel) (Nat.le_of_ble_eq_true rfl) ?_
  show PJ g _ _ _ _ d 0 0 0 [(0, .ref (ad 0)), (1, .int p), (2, .int w)] [] _ _
  refine pl_aload_n (pc := 0) dX9_person_0 rfl rfl ?_
  refine pl_iconst (pc := 1) (v := 0) dX9_person_1 (by rfl) ?_
  refine pm_putI (pc := 2) 0 hA q2516 dX9_person_2 (by decide) rfl (by rfl) (by rfl) rfl ?_
  refine pl_aload_n (pc := 5) dX9_person_5 rfl rfl ?_
  refine pl_aload_n (pc := 6) dX9_person_6 rfl rfl ?_
  refine pl_iload_n (pc := 7) dX9_person_7 rfl rfl ?_
  refine pl_callVd (pc := 8) (As := [_]) (C2 := 0) (N2 := 0) ckX9 mdX9_isPerson rfl q2709 q2711 qs58 q154 dX9_person_8 rfl rfl (Nat.le_of_ble_eq_true rfl) (mm_o hA) (w_X9_isPerson (d := d - 1) (by omega) hA (by first | omega | assumption | exact hn | exact hl | exact hb | exact hq | exact hdr | exact has)) (by omega) (by decide) (by decide) ?_
  refine pl_if_neB (pc := 11) (tgt := 18) dX9_person_11 (by decide) (fun c11 => ?_) (fun c11 => ?_)
  · obtain ⟨j_p, hj_p, rfl⟩ := inN_of (by omega) c11
    have f_p := inN_nI hj_p (by omega)
    have g_p := nI_clamp (n := j_p) (by omega)
    refine pl_iconst (pc := 18) (v := 0) dX9_person_18 (by rfl) ?_
    refine pl_iconst (pc := 19) (v := 1) dX9_person_19 (by rfl) ?_
    refine pl_callVd (pc := 20) (As := [_, _]) (C2 := 0) (N2 := 0) ckX9 mdX9_bad rfl q2631 q2633 qs50 q154 dX9_person_20 rfl rfl (Nat.le_of_ble_eq_true rfl) (mm_o hA) (w_bad_0 (d := d - 1) (by omega) hA) (by omega) (by decide) (by decide) ?_
    refine pj_if_ne (pc := 23) (tgt := 49) dX9_person_23 (by decide) (fun h => absurd h (by decide)) (fun _ => ?_)
    refine pl_aload_n (pc := 26) dX9_person_26 rfl rfl ?_
    refine pl_iload_n (pc := 27) dX9_person_27 rfl rfl ?_
    refine pj_if_lt (pc := 28) (tgt := 37) dX9_person_28 (by decide) (fun c28 => ?_) (fun c28 => ?_)
    · refine pl_iconst (pc := 37) (v := 1) dX9_person_37 (by rfl) ?_
      refine pj_goto (pc := 38) (tgt := 42) dX9_person_38 (by decide) ?_
      refine pl_iconst (pc := 42) (v := 2) dX9_person_42 (by rfl) ?_
      refine pl_callVd (pc := 43) (As := [_, _]) (C2 := 0) (N2 := 0) ckX9 mdX9_bad rfl q2631 q2633 qs50 q154 dX9_person_43 rfl rfl (Nat.le_of_ble_eq_true rfl) (mm_o hA) (w_bad_1 (d := d - 1) (by omega) hA) (by omega) (by decide) (by decide) ?_
      refine pj_if_eq (pc := 46) (tgt := 51) dX9_person_46 (by decide) (fun h => absurd h (by decide)) (fun _ => ?_)
      refine pl_iconst (pc := 49) (v := 0) dX9_person_49 (by rfl) ?_
      refine pj_iret (pc := 50) dX9_person_50 rfl ?_
      exact ⟨vIe (by simp [p_person, c11, f_p, g_p, c28]) rfl, congrArg (mm g ad μ) (by simp [p_person, c11, f_p, g_p, c28])⟩
    · refine pl_iload_n (pc := 31) dX9_person_31 rfl rfl ?_
      refine pl_bipush (pc := 32) (v := 8) dX9_person_32 (by rfl) ?_
      refine pj_icmp_le (pc := 34) (tgt := 41) dX9_person_34 (by decide) (fun c34 => ?_) (fun c34 => ?_)
      · refine pl_iconst (pc := 41) (v := 0) dX9_person_41 (by rfl) ?_
        refine pl_iconst (pc := 42) (v := 2) dX9_person_42 (by rfl) ?_
        refine pl_callVd (pc := 43) (As := [_, _]) (C2 := 0) (N2 := 0) ckX9 mdX9_bad rfl q2631 q2633 qs50 q154 dX9_person_43 rfl rfl (Nat.le_of_ble_eq_true rfl) (mm_o hA) (w_bad_0 (d := d - 1) (by omega) hA) (by omega) (by decide) (by decide) ?_
        refine pj_if_eq (pc := 46) (tgt := 51) dX9_person_46 (by decide) (fun _ => ?_) (fun h => absurd h (by decide))
        refine pl_iload_n (pc := 51) dX9_person_51 rfl rfl ?_
        refine pl_tsw (pc := 52) 0 (tgt := 100) dX9_person_52 (by rfl) (by decide) (by decide) (by rfl) (by decide) (fun c52_0 => ?_) (fun c52_0 => ?_)
        · refine pl_aload_n (pc := 100) dX9_person_100 rfl rfl ?_
          refine pl_iload_n (pc := 101) dX9_person_101 rfl rfl ?_
          refine pl_iconst (pc := 102) (v := 0) dX9_person_102 (by rfl) ?_
          refine pl_callVd (pc := 103) (As := [_, _]) (C2 := 0) (N2 := 0) ckX9 mdX9_per rfl q2713 q2715 qs59 q154 dX9_person_103 rfl rfl (Nat.le_of_ble_eq_true rfl) (mm_o hA) (w_X9_per (d := d - 1) (by omega) hA (by first | omega | assumption | exact hn | exact hl | exact hb | exact hq | exact hdr | exact has) (by first | omega | assumption | exact hn | exact hl | exact hb | exact hq | exact hdr | exact has)) (by omega) (by decide) (by decide) ?_
          refine pj_iret (pc := 106) dX9_person_106 rfl ?_
          exact ⟨vIe (by simp [p_person, c11, f_p, g_p, c28, c34, eq_true c52_0]) rfl, congrArg (mm g ad μ) (by simp [p_person, c11, f_p, g_p, c28, c34, eq_true c52_0])⟩
        refine pl_tsw (pc := 52) 1 (tgt := 107) dX9_person_52 (by rfl) (by decide) (by decide) (by rfl) (by decide) (fun c52_1 => ?_) (fun c52_1 => ?_)
        · refine pl_aload_n (pc := 107) dX9_person_107 rfl rfl ?_
          refine pl_iload_n (pc := 108) dX9_person_108 rfl rfl ?_
          refine pl_iconst (pc := 109) (v := 1) dX9_person_109 (by rfl) ?_
          refine pl_callVd (pc := 110) (As := [_, _]) (C2 := 0) (N2 := 0) ckX9 mdX9_per rfl q2713 q2715 qs59 q154 dX9_person_110 rfl rfl (Nat.le_of_ble_eq_true rfl) (mm_o hA) (w_X9_per (d := d - 1) (by omega) hA (by first | omega | assumption | exact hn | exact hl | exact hb | exact hq | exact hdr | exact has) (by first | omega | assumption | exact hn | exact hl | exact hb | exact hq | exact hdr | exact has)) (by omega) (by decide) (by decide) ?_
          refine pj_iret (pc := 113) dX9_person_113 rfl ?_
          exact ⟨vIe (by simp [p_person, c11, f_p, g_p, c28, c34, c52_0, eq_true c52_1]) rfl, congrArg (mm g ad μ) (by simp [p_person, c11, f_p, g_p, c28, c34, c52_0, eq_true c52_1])⟩
        refine pl_tsw (pc := 52) 2 (tgt := 114) dX9_person_52 (by rfl) (by decide) (by decide) (by rfl) (by decide) (fun c52_2 => ?_) (fun c52_2 => ?_)
        · refine pl_aload_n (pc := 114) dX9_person_114 rfl rfl ?_
          refine pl_iload_n (pc := 115) dX9_person_115 rfl rfl ?_
          refine pl_iconst (pc := 116) (v := 2) dX9_person_116 (by rfl) ?_
          refine pl_callVd (pc := 117) (As := [_, _]) (C2 := 0) (N2 := 0) ckX9 mdX9_per rfl q2713 q2715 qs59 q154 dX9_person_117 rfl rfl (Nat.le_of_ble_eq_true rfl) (mm_o hA) (w_X9_per (d := d - 1) (by omega) hA (by first | omega | assumption | exact hn | exact hl | exact hb | exact hq | exact hdr | exact has) (by first | omega | assumption | exact hn | exact hl | exact hb | exact hq | exact hdr | exact has)) (by omega) (by decide) (by decide) ?_
          refine pj_iret (pc := 120) dX9_person_120 rfl ?_
          exact ⟨vIe (by simp [p_person, c11, f_p, g_p, c28, c34, c52_0, c52_1, eq_true c52_2]) rfl, congrArg (mm g ad μ) (by simp [p_person, c11, f_p, g_p, c28, c34, c52_0, c52_1, eq_true c52_2])⟩
        refine pl_tsw (pc := 52) 3 (tgt := 121) dX9_person_52 (by rfl) (by decide) (by decide) (by rfl) (by decide) (fun c52_3 => ?_) (fun c52_3 => ?_)
        · refine pl_aload_n (pc := 121) dX9_person_121 rfl rfl ?_
          refine pl_iload_n (pc := 122) dX9_person_122 rfl rfl ?_
          refine pl_iconst (pc := 123) (v := 2) dX9_person_123 (by rfl) ?_
          refine pl_callVd (pc := 124) (As := [_, _]) (C2 := 0) (N2 := 0) ckX9 mdX9_per rfl q2713 q2715 qs59 q154 dX9_person_124 rfl rfl (Nat.le_of_ble_eq_true rfl) (mm_o hA) (w_X9_per (d := d - 1) (by omega) hA (by first | omega | assumption | exact hn | exact hl | exact hb | exact hq | exact hdr | exact has) (by first | omega | assumption | exact hn | exact hl | exact hb | exact hq | exact hdr | exact has)) (by omega) (by decide) (by decide) ?_
          refine pl_iconst (pc := 127) (v := 3) dX9_person_127 (by rfl) ?_
          refine pj_icmp_ne (pc := 128) (tgt := 140) dX9_person_128 (by decide) (fun c128 => ?_) (fun c128 => ?_)
          · refine pj_iconst (pc := 140) (v := (-1)) dX9_person_140 (by rfl) ?_
            refine pj_iret (pc := 141) dX9_person_141 rfl ?_
            exact ⟨vIe (by simp [p_person, c11, f_p, g_p, c28, c34, c52_0, c52_1, c52_2, eq_true c52_3, c128]) rfl, congrArg (mm g ad μ) (by simp [p_person, c11, f_p, g_p, c28, c34, c52_0, c52_1, c52_2, eq_true c52_3, c128])⟩
          · refine pl_aload_n (pc := 131) dX9_person_131 rfl rfl ?_
            refine pl_iload_n (pc := 132) dX9_person_132 rfl rfl ?_
            refine pl_iconst (pc := 133) (v := 3) dX9_person_133 (by rfl) ?_
            refine pl_callVd (pc := 134) (As := [_, _]) (C2 := 0) (N2 := 0) ckX9 mdX9_per rfl q2713 q2715 qs59 q154 dX9_person_134 rfl rfl (Nat.le_of_ble_eq_true rfl) (mm_o hA) (w_X9_per (d := d - 1) (by omega) hA (by first | omega | assumption | exact hn | exact hl | exact hb | exact hq | exact hdr | exact has) (by first | omega | assumption | exact hn | exact hl | exact hb | exact hq | exact hdr | exact has)) (by omega) (by decide) (by decide) ?_
            refine pj_goto (pc := 137) (tgt := 141) dX9_person_137 (by decide) ?_
            refine pj_iret (pc := 141) dX9_person_141 rfl ?_
            exact ⟨vIe (by simp [p_person, c11, f_p, g_p, c28, c34, c52_0, c52_1, c52_2, eq_true c52_3, eq_true c128]) rfl, congrArg (mm g ad μ) (by simp [p_person, c11, f_p, g_p, c28, c34, c52_0, c52_1, c52_2, eq_true c52_3, eq_true c128])⟩
        refine pl_tsw (pc := 52) 4 (tgt := 142) dX9_person_52 (by rfl) (by decide) (by decide) (by rfl) (by decide) (fun c52_4 => ?_) (fun c52_4 => ?_)
        · refine pl_aload_n (pc := 142) dX9_person_142 rfl rfl ?_
          refine pl_iload_n (pc := 143) dX9_person_143 rfl rfl ?_
          refine pl_callVd (pc := 144) (As := [_]) (C2 := 0) (N2 := 0) ckX9 mdX9_hiredBy rfl q2717 q2719 qs60 q154 dX9_person_144 rfl rfl (Nat.le_of_ble_eq_true rfl) (mm_o hA) (w_X9_hiredBy (d := d - 1) (by omega) hA (by first | omega | assumption | exact hn | exact hl | exact hb | exact hq | exact hdr | exact has) (by first | omega | assumption | exact hn | exact hl | exact hb | exact hq | exact hdr | exact has)) (by omega) (by decide) (by decide) ?_
          refine pj_iret (pc := 147) dX9_person_147 rfl ?_
          exact ⟨vIe (by simp [p_person, c11, f_p, g_p, c28, c34, c52_0, c52_1, c52_2, c52_3, eq_true c52_4]) rfl, congrArg (mm g ad μ) (by simp [p_person, c11, f_p, g_p, c28, c34, c52_0, c52_1, c52_2, c52_3, eq_true c52_4])⟩
        refine pl_tsw (pc := 52) 5 (tgt := 148) dX9_person_52 (by rfl) (by decide) (by decide) (by rfl) (by decide) (fun c52_5 => ?_) (fun c52_5 => ?_)
        · refine pl_aload_n (pc := 148) dX9_person_148 rfl rfl ?_
          refine pl_iload_n (pc := 149) dX9_person_149 rfl rfl ?_
          refine pl_callVd (pc := 150) (As := [_]) (C2 := 0) (N2 := 0) ckX9 mdX9_farmsOf rfl q2721 q2723 qs61 q154 dX9_person_150 rfl rfl (Nat.le_of_ble_eq_true rfl) (mm_o hA) (w_X9_farmsOf (d := d - 1) (by omega) hA) (by omega) (by decide) (by decide) ?_
          refine pj_iret (pc := 153) dX9_person_153 rfl ?_
          exact ⟨vIe (by simp [p_person, c11, f_p, g_p, c28, c34, c52_0, c52_1, c52_2, c52_3, c52_4, eq_true c52_5]) rfl, congrArg (mm g ad μ) (by simp [p_person, c11, f_p, g_p, c28, c34, c52_0, c52_1, c52_2, c52_3, c52_4, eq_true c52_5])⟩
        refine pl_tsw (pc := 52) 6 (tgt := 154) dX9_person_52 (by rfl) (by decide) (by decide) (by rfl) (by decide) (fun c52_6 => ?_) (fun c52_6 => ?_)
        · refine pl_aload_n (pc := 154) dX9_person_154 rfl rfl ?_
          refine pl_iload_n (pc := 155) dX9_person_155 rfl rfl ?_
          refine pl_bipush (pc := 156) (v := 6) dX9_person_156 (by rfl) ?_
          refine pl_callVd (pc := 158) (As := [_, _]) (C2 := 0) (N2 := 0) ckX9 mdX9_per rfl q2713 q2715 qs59 q154 dX9_person_158 rfl rfl (Nat.le_of_ble_eq_true rfl) (mm_o hA) (w_X9_per (d := d - 1) (by omega) hA (by first | omega | assumption | exact hn | exact hl | exact hb | exact hq | exact hdr | exact has) (by first | omega | assumption | exact hn | exact hl | exact hb | exact hq | exact hdr | exact has)) (by omega) (by decide) (by decide) ?_
          refine pj_iret (pc := 161) dX9_person_161 rfl ?_
          exact ⟨vIe (by simp [p_person, c11, f_p, g_p, c28, c34, c52_0, c52_1, c52_2, c52_3, c52_4, c52_5, eq_true c52_6]) rfl, congrArg (mm g ad μ) (by simp [p_person, c11, f_p, g_p, c28, c34, c52_0, c52_1, c52_2, c52_3, c52_4, c52_5, eq_true c52_6])⟩
        refine pl_tsw (pc := 52) 7 (tgt := 162) dX9_person_52 (by rfl) (by decide) (by decide) (by rfl) (by decide) (fun c52_7 => ?_) (fun c52_7 => ?_)
        · refine pl_aload_n (pc := 162) dX9_person_162 rfl rfl ?_
          refine pl_iload_n (pc := 163) dX9_person_163 rfl rfl ?_
          refine pl_iconst (pc := 164) (v := 4) dX9_person_164 (by rfl) ?_
          refine pl_callVd (pc := 165) (As := [_, _]) (C2 := 0) (N2 := 0) ckX9 mdX9_per rfl q2713 q2715 qs59 q154 dX9_person_165 rfl rfl (Nat.le_of_ble_eq_true rfl) (mm_o hA) (w_X9_per (d := d - 1) (by omega) hA (by first | omega | assumption | exact hn | exact hl | exact hb | exact hq | exact hdr | exact has) (by first | omega | assumption | exact hn | exact hl | exact hb | exact hq | exact hdr | exact has)) (by omega) (by decide) (by decide) ?_
          refine pj_iret (pc := 168) dX9_person_168 rfl ?_
          exact ⟨vIe (by simp [p_person, c11, f_p, g_p, c28, c34, c52_0, c52_1, c52_2, c52_3, c52_4, c52_5, c52_6, eq_true c52_7]) rfl, congrArg (mm g ad μ) (by simp [p_person, c11, f_p, g_p, c28, c34, c52_0, c52_1, c52_2, c52_3, c52_4, c52_5, c52_6, eq_true c52_7])⟩
        refine pj_tableOut (pc := 52) (tgt := 169) dX9_person_52 (by have q0 := nI_nec c52_0; have q1 := nI_nec c52_1; have q2 := nI_nec c52_2; have q3 := nI_nec c52_3; have q4 := nI_nec c52_4; have q5 := nI_nec c52_5; have q6 := nI_nec c52_6; have q7 := nI_nec c52_7; omega) (by decide) ?_
        refine pl_aload_n (pc := 169) dX9_person_169 rfl rfl ?_
        refine pl_iload_n (pc := 170) dX9_person_170 rfl rfl ?_
        refine pl_iconst (pc := 171) (v := 5) dX9_person_171 (by rfl) ?_
        refine pl_callVd (pc := 172) (As := [_, _]) (C2 := 0) (N2 := 0) ckX9 mdX9_per rfl q2713 q2715 qs59 q154 dX9_person_172 rfl rfl (Nat.le_of_ble_eq_true rfl) (mm_o hA) (w_X9_per (d := d - 1) (by omega) hA (by first | omega | assumption | exact hn | exact hl | exact hb | exact hq | exact hdr | exact has) (by first | omega | assumption | exact hn | exact hl | exact hb | exact hq | exact hdr | exact has)) (by omega) (by decide) (by decide) ?_
        refine pj_iret (pc := 175) dX9_person_175 rfl ?_
        exact ⟨vIe (by simp [p_person, c11, f_p, g_p, c28, c34, c52_0, c52_1, c52_2, c52_3, c52_4, c52_5, c52_6, c52_7]) rfl, congrArg (mm g ad μ) (by simp [p_person, c11, f_p, g_p, c28, c34, c52_0, c52_1, c52_2, c52_3, c52_4, c52_5, c52_6, c52_7])⟩
      · refine pl_iconst (pc := 37) (v := 1) dX9_person_37 (by rfl) ?_
        refine pj_goto (pc := 38) (tgt := 42) dX9_person_38 (by decide) ?_
        refine pl_iconst (pc := 42) (v := 2) dX9_person_42 (by rfl) ?_
        refine pl_callVd (pc := 43) (As := [_, _]) (C2 := 0) (N2 := 0) ckX9 mdX9_bad rfl q2631 q2633 qs50 q154 dX9_person_43 rfl rfl (Nat.le_of_ble_eq_true rfl) (mm_o hA) (w_bad_1 (d := d - 1) (by omega) hA) (by omega) (by decide) (by decide) ?_
        refine pj_if_eq (pc := 46) (tgt := 51) dX9_person_46 (by decide) (fun h => absurd h (by decide)) (fun _ => ?_)
        refine pl_iconst (pc := 49) (v := 0) dX9_person_49 (by rfl) ?_
        refine pj_iret (pc := 50) dX9_person_50 rfl ?_
        exact ⟨vIe (by simp [p_person, c11, f_p, g_p, c28, c34]) rfl, congrArg (mm g ad μ) (by simp [p_person, c11, f_p, g_p, c28, c34])⟩
  · refine pl_iconst (pc := 14) (v := 1) dX9_person_14 (by rfl) ?_
    refine pj_goto (pc := 15) (tgt := 19) dX9_person_15 (by decide) ?_
    refine pl_iconst (pc := 19) (v := 1) dX9_person_19 (by rfl) ?_
    refine pl_callVd (pc := 20) (As := [_, _]) (C2 := 0) (N2 := 0) ckX9 mdX9_bad rfl q2631 q2633 qs50 q154 dX9_person_20 rfl rfl (Nat.le_of_ble_eq_true rfl) (mm_o hA) (w_bad_1 (d := d - 1) (by omega) hA) (by omega) (by decide) (by decide) ?_
    refine pj_if_ne (pc := 23) (tgt := 49) dX9_person_23 (by decide) (fun _ => ?_) (fun h => absurd h (by decide))
    refine pl_iconst (pc := 49) (v := 0) dX9_person_49 (by rfl) ?_
    refine pj_iret (pc := 50) dX9_person_50 rfl ?_
    exact ⟨vIe (by simp [p_person, c11]) rfl, congrArg (mm g ad μ) (by simp [p_person, c11])⟩
