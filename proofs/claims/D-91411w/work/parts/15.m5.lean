set_option maxRecDepth 100000
abbrev rm (σ : MS) (z : Nat) : Int32 := σ.2.1 6 z
def rain1 (z : Nat) (v : Int32) (_ : Nat) (σ : MS) : MS := let σ1 := wA σ 5 (1000 * z + tN (rm σ z)) v; wA σ1 6 z (rm σ1 z + nI 1)
def p_rains (σ : MS) (z v n : Int32) : Int32 × MS :=
  if inN z 4 = false then (nI 0, th σ 1) else if v < 0 then (nI 0, th σ 2) else if nI 500 < v then (nI 0, th σ 2) else if n < nI 1 then (nI 0, th σ 2) else if ¬ n ≤ nI 1000 then (nI 0, th σ 2)
  else if ¬ rm (s0 σ) (tN z) + n ≤ nI 1000 then (-1, s0 σ)
  else (let σ1 := upto (rain1 (tN z) v) (tN n) (s0 σ); (rm σ1 (tN z), σ1))
theorem rain1_rm {z r i : Nat} {v : Int32} {σ : MS} (h : rm σ z = nI r) : rm (rain1 z v i σ) z = nI (r + 1) := by
  simp [rain1, rm, sA, upd, nI_add]
  exact congrArg (· + nI 1) h |>.trans (nI_add r 1)
set_option maxHeartbeats 4000000 in
theorem w_X9_rains {g : GP} {ad : Nat → Nat} {μ : Mem} {σ : MS} {d : Nat} {z : Int32} {v : Int32} {n : Int32}  (hd : 2 ≤ d) (hA : Inj ad 18) (hR : ∀ z, z < 4 → ∃ r, r ≤ 1000 ∧ σ.2.1 6 z = nI r) : PM g yX9_rains (ws_ yX9_rains cX9_rains 5 (some .int)) d 0 0 [.ref (ad 0), .int z, .int v, .int n] (mm g ad μ σ) (rQ (some (.int ((p_rains σ z v n).1))) (mm g ad μ ((p_rains σ z v n).2))) := by
  refine PM.of (by decide +kernel) (Nat.le_of_ble_eq_true rfl) ?_
  show PJ g _ _ _ _ d 0 0 0 [(0, .ref (ad 0)), (1, .int z), (2, .int v), (3, .int n)] [] _ _
  refine pl_aload_n (pc := 0) dX9_rains_0 rfl rfl ?_
  refine pl_iconst (pc := 1) (v := 0) dX9_rains_1 (by rfl) ?_
  refine pm_putI (pc := 2) 0 hA q2516 dX9_rains_2 (by decide) rfl (by rfl) (by rfl) rfl ?_
  refine pl_aload_n (pc := 5) dX9_rains_5 rfl rfl ?_
  refine pl_aload_n (pc := 6) dX9_rains_6 rfl rfl ?_
  refine pl_iload_n (pc := 7) dX9_rains_7 rfl rfl ?_
  refine pl_callVd (pc := 8) (As := [_]) (C2 := 0) (N2 := 0) ckX9 mdX9_isZone rfl q2643 q2645 qs52 q154 dX9_rains_8 rfl rfl (Nat.le_of_ble_eq_true rfl) (mm_o hA) (w_X9_isZone (d := d - 1) (by omega) hA) (by omega) (by decide) (by decide) ?_
  refine pl_if_neB (pc := 11) (tgt := 18) dX9_rains_11 (by decide) (fun c11 => ?_) (fun c11 => ?_)
  · obtain ⟨j_z, hj_z, rfl⟩ := inN_of (by decide) c11
    have f_z := inN_nI hj_z (by omega)
    have g_z := nI_clamp (n := j_z) (by omega)
    refine pl_iconst (pc := 18) (v := 0) dX9_rains_18 (by rfl) ?_
    refine pl_iconst (pc := 19) (v := 1) dX9_rains_19 (by rfl) ?_
    refine pl_callVd (pc := 20) (As := [_, _]) (C2 := 0) (N2 := 0) ckX9 mdX9_bad rfl q2631 q2633 qs50 q154 dX9_rains_20 rfl rfl (Nat.le_of_ble_eq_true rfl) (mm_o hA) (w_bad_0 (d := d - 1) (by omega) hA) (by omega) (by decide) (by decide) ?_
    refine pj_if_ne (pc := 23) (tgt := 62) dX9_rains_23 (by decide) (fun h => absurd h (by decide)) (fun _ => ?_)
    refine pl_aload_n (pc := 26) dX9_rains_26 rfl rfl ?_
    refine pl_iload_n (pc := 27) dX9_rains_27 rfl rfl ?_
    refine pj_if_lt (pc := 28) (tgt := 50) dX9_rains_28 (by decide) (fun c28 => ?_) (fun c28 => ?_)
    · refine pl_iconst (pc := 50) (v := 1) dX9_rains_50 (by rfl) ?_
      refine pj_goto (pc := 51) (tgt := 55) dX9_rains_51 (by decide) ?_
      refine pl_iconst (pc := 55) (v := 2) dX9_rains_55 (by rfl) ?_
      refine pl_callVd (pc := 56) (As := [_, _]) (C2 := 0) (N2 := 0) ckX9 mdX9_bad rfl q2631 q2633 qs50 q154 dX9_rains_56 rfl rfl (Nat.le_of_ble_eq_true rfl) (mm_o hA) (w_bad_1 (d := d - 1) (by omega) hA) (by omega) (by decide) (by decide) ?_
      refine pj_if_eq (pc := 59) (tgt := 64) dX9_rains_59 (by decide) (fun h => absurd h (by decide)) (fun _ => ?_)
      refine pl_iconst (pc := 62) (v := 0) dX9_rains_62 (by rfl) ?_
      refine pj_iret (pc := 63) dX9_rains_63 rfl ?_
      exact ⟨vIe (by simp [p_rains, c11, f_z, g_z, c28]) rfl, congrArg (mm g ad μ) (by simp [p_rains, c11, f_z, g_z, c28])⟩
    · refine pl_iload_n (pc := 31) dX9_rains_31 rfl rfl ?_
      refine pl_sipush (pc := 32) (v := 500) dX9_rains_32 (by rfl) ?_
      refine pj_icmp_gt (pc := 35) (tgt := 50) dX9_rains_35 (by decide) (fun c35 => ?_) (fun c35 => ?_)
      · refine pl_iconst (pc := 50) (v := 1) dX9_rains_50 (by rfl) ?_
        refine pj_goto (pc := 51) (tgt := 55) dX9_rains_51 (by decide) ?_
        refine pl_iconst (pc := 55) (v := 2) dX9_rains_55 (by rfl) ?_
        refine pl_callVd (pc := 56) (As := [_, _]) (C2 := 0) (N2 := 0) ckX9 mdX9_bad rfl q2631 q2633 qs50 q154 dX9_rains_56 rfl rfl (Nat.le_of_ble_eq_true rfl) (mm_o hA) (w_bad_1 (d := d - 1) (by omega) hA) (by omega) (by decide) (by decide) ?_
        refine pj_if_eq (pc := 59) (tgt := 64) dX9_rains_59 (by decide) (fun h => absurd h (by decide)) (fun _ => ?_)
        refine pl_iconst (pc := 62) (v := 0) dX9_rains_62 (by rfl) ?_
        refine pj_iret (pc := 63) dX9_rains_63 rfl ?_
        exact ⟨vIe (by simp [p_rains, c11, f_z, g_z, c28, c35]) rfl, congrArg (mm g ad μ) (by simp [p_rains, c11, f_z, g_z, c28, c35])⟩
      · refine pl_iload_n (pc := 38) dX9_rains_38 rfl rfl ?_
        refine pl_iconst (pc := 39) (v := 1) dX9_rains_39 (by rfl) ?_
        refine pj_icmp_lt (pc := 40) (tgt := 50) dX9_rains_40 (by decide) (fun c40 => ?_) (fun c40 => ?_)
        · refine pl_iconst (pc := 50) (v := 1) dX9_rains_50 (by rfl) ?_
          refine pj_goto (pc := 51) (tgt := 55) dX9_rains_51 (by decide) ?_
          refine pl_iconst (pc := 55) (v := 2) dX9_rains_55 (by rfl) ?_
          refine pl_callVd (pc := 56) (As := [_, _]) (C2 := 0) (N2 := 0) ckX9 mdX9_bad rfl q2631 q2633 qs50 q154 dX9_rains_56 rfl rfl (Nat.le_of_ble_eq_true rfl) (mm_o hA) (w_bad_1 (d := d - 1) (by omega) hA) (by omega) (by decide) (by decide) ?_
          refine pj_if_eq (pc := 59) (tgt := 64) dX9_rains_59 (by decide) (fun h => absurd h (by decide)) (fun _ => ?_)
          refine pl_iconst (pc := 62) (v := 0) dX9_rains_62 (by rfl) ?_
          refine pj_iret (pc := 63) dX9_rains_63 rfl ?_
          exact ⟨vIe (by simp [p_rains, c11, f_z, g_z, c28, c35, c40]) rfl, congrArg (mm g ad μ) (by simp [p_rains, c11, f_z, g_z, c28, c35, c40])⟩
        · refine pl_iload_n (pc := 43) dX9_rains_43 rfl rfl ?_
          refine pl_sipush (pc := 44) (v := 1000) dX9_rains_44 (by rfl) ?_
          refine pj_icmp_le (pc := 47) (tgt := 54) dX9_rains_47 (by decide) (fun c47 => ?_) (fun c47 => ?_)
          · refine pl_iconst (pc := 54) (v := 0) dX9_rains_54 (by rfl) ?_
            refine pl_iconst (pc := 55) (v := 2) dX9_rains_55 (by rfl) ?_
            refine pl_callVd (pc := 56) (As := [_, _]) (C2 := 0) (N2 := 0) ckX9 mdX9_bad rfl q2631 q2633 qs50 q154 dX9_rains_56 rfl rfl (Nat.le_of_ble_eq_true rfl) (mm_o hA) (w_bad_0 (d := d - 1) (by omega) hA) (by omega) (by decide) (by decide) ?_
            refine pj_if_eq (pc := 59) (tgt := 64) dX9_rains_59 (by decide) (fun _ => ?_) (fun h => absurd h (by decide))
            obtain ⟨r, hr, er⟩ := hR j_z hj_z
            have er1 : rm (sF σ 0 (nI 0)) j_z = nI r := er
            have g_r := nI_clamp (n := r) (by omega)
            refine pl_aload_n (pc := 64) dX9_rains_64 rfl rfl ?_
            refine pj_getf (pc := 65) ckX9 6 q2522 dX9_rains_65 (by decide) (mm_o hA) rfl ?_
            refine pl_iload_n (pc := 68) dX9_rains_68 rfl rfl ?_
            refine pl_iald (pc := 69) (n := 4) dX9_rains_69 (mm_a hA 6 (by decide) (by decide)) (by omega) (by decide) ?_
            refine pl_iload_n (pc := 70) dX9_rains_70 rfl rfl ?_
            refine pj_iadd (pc := 71) dX9_rains_71 ?_
            refine pl_sipush (pc := 72) (v := 1000) dX9_rains_72 (by rfl) ?_
            refine pj_icmp_le (pc := 75) (tgt := 80) dX9_rains_75 (by decide) (fun c75 => ?_) (fun c75 => ?_)
            · have c75b : rm (sF σ 0 (nI 0)) j_z + n ≤ nI 1000 := c75
              obtain ⟨j_n, hj_n, rfl⟩ := inN_of (n := 1001) (by decide) (inN_ok (x := n) (fun z => c40 (Int32.lt_of_lt_of_le z (by decide))) (fun z => Int32.lt_irrefl (Int32.lt_of_lt_of_le (by decide) (Int32.le_trans z c47))))
              have g_n := nI_clamp (n := j_n) (by omega)
              have hrn : r + j_n ≤ 1000 := (nI_leI (by omega) (by decide)).mp (by rw [← nI_add, ← er1]; exact c75b)
              refine pl_iconst (pc := 80) (v := 0) dX9_rains_80 (by rfl) ?_
              refine pj_istore (pc := 81) (lv' := [(4, _), (0, _), (1, _), (2, _), (3, _)]) dX9_rains_81 (by decide) rfl ?_
              refine PJ.sub [0, 4, 3, 2, 1] rfl ?_
              refine ind_dn (n := j_n) (P := fun i => rm (upto (rain1 j_z v) i (s0 σ)) j_z = nI (r + i) → PJ g _ _ _ _ d 0 0 83 [(4, .int (nI i)), (3, .int (nI j_n)), (2, .int v), (1, .int (nI j_z)), (0, .ref (ad 0))] [] (mm g ad μ (upto (rain1 j_z v) i (s0 σ))) _) (fun i hi ih hv => ?_) 0 (Nat.zero_le _) (er1)
              refine pl_iload (pc := 83) dX9_rains_83 rfl ?_
              refine pl_iload_n (pc := 85) dX9_rains_85 rfl rfl ?_
              refine pl_icmp_ge (pc := 86) (tgt := 123) dX9_rains_86 (by decide) (by omega) (by omega) (fun c86 => ?_) (fun c86 => ?_)
              · refine pl_aload_n (pc := 123) dX9_rains_123 rfl rfl ?_
                refine pj_getf (pc := 124) ckX9 6 q2522 dX9_rains_124 (by decide) (mm_o hA) rfl ?_
                refine pl_iload_n (pc := 127) dX9_rains_127 rfl rfl ?_
                refine pl_iald (pc := 128) (n := 4) dX9_rains_128 (mm_a hA 6 (by decide) (by decide)) (by omega) (by decide) ?_
                refine pj_iret (pc := 129) dX9_rains_129 rfl ?_
                have e9 : i = j_n := by omega
                subst e9
                exact ⟨vIe (by simp [p_rains, c11, f_z, g_z, c28, c35, c40, c47, g_r, c75, g_n, c86]) rfl, congrArg (mm g ad μ) (by simp [p_rains, c11, f_z, g_z, c28, c35, c40, c47, g_r, c75, g_n, c86])⟩
              · refine pl_aload_n (pc := 89) dX9_rains_89 rfl rfl ?_
                refine pj_getf (pc := 90) ckX9 5 q2521 dX9_rains_90 (by decide) (mm_o hA) rfl ?_
                refine pl_sipush (pc := 93) (v := 1000) dX9_rains_93 (by rfl) ?_
                refine pl_iload_n (pc := 96) dX9_rains_96 rfl rfl ?_
                refine pl_imul (pc := 97) dX9_rains_97 ?_
                refine pl_aload_n (pc := 98) dX9_rains_98 rfl rfl ?_
                refine pj_getf (pc := 99) ckX9 6 q2522 dX9_rains_99 (by decide) (mm_o hA) rfl ?_
                refine pl_iload_n (pc := 102) dX9_rains_102 rfl rfl ?_
                refine pl_iald (pc := 103) (n := 4) dX9_rains_103 (mm_a hA 6 (by decide) (by decide)) (by omega) (by decide) ?_
                refine PJ.top (y := nI _) (hv) ?_
                refine pl_iadd (pc := 104) dX9_rains_104 ?_
                refine pl_iload_n (pc := 105) dX9_rains_105 rfl rfl ?_
                refine pm_iast (pc := 106) 5 hA (by decide) (by decide) rfl dX9_rains_106 (show _ < 4000 by omega) (by decide) ?_
                refine pl_aload_n (pc := 107) dX9_rains_107 rfl rfl ?_
                refine pj_getf (pc := 108) ckX9 6 q2522 dX9_rains_108 (by decide) (mm_o hA) rfl ?_
                refine pl_iload_n (pc := 111) dX9_rains_111 rfl rfl ?_
                refine pj_dup2_11 (pc := 112) dX9_rains_112 rfl rfl ?_
                refine pl_iald (pc := 113) (n := 4) dX9_rains_113 (mm_a hA 6 (by decide) (by decide)) (by omega) (by decide) ?_
                refine pl_iconst (pc := 114) (v := 1) dX9_rains_114 (by rfl) ?_
                refine pj_iadd (pc := 115) dX9_rains_115 ?_
                refine pm_iast (pc := 116) 6 hA (by decide) (by decide) rfl dX9_rains_116 (show _ < 4 by omega) (by decide) ?_
                refine pl_iinc1 (pc := 117) (lv' := [(4, _), (3, _), (2, _), (1, _), (0, _)]) dX9_rains_117 rfl rfl (by decide) rfl ?_
                refine pj_goto (pc := 120) (tgt := 83) dX9_rains_120 (by decide) ?_
                have e9 : rm (upto (rain1 j_z v) (i + 1) (s0 σ)) j_z = nI (r + (i + 1)) := rain1_rm hv
                exact PJ.conv rfl rfl (by simp [upto, rain1, hv, nI_clamp (show r + i < 2 ^ 31 by omega)]) (ih (by omega) e9)
            · refine pj_iconst (pc := 78) (v := (-1)) dX9_rains_78 (by rfl) ?_
              refine pj_iret (pc := 79) dX9_rains_79 rfl ?_
              exact ⟨vIe (by simp [p_rains, c11, f_z, g_z, c28, c35, c40, c47, g_r, c75]) rfl, congrArg (mm g ad μ) (by simp [p_rains, c11, f_z, g_z, c28, c35, c40, c47, g_r, c75])⟩
          · refine pl_iconst (pc := 50) (v := 1) dX9_rains_50 (by rfl) ?_
            refine pj_goto (pc := 51) (tgt := 55) dX9_rains_51 (by decide) ?_
            refine pl_iconst (pc := 55) (v := 2) dX9_rains_55 (by rfl) ?_
            refine pl_callVd (pc := 56) (As := [_, _]) (C2 := 0) (N2 := 0) ckX9 mdX9_bad rfl q2631 q2633 qs50 q154 dX9_rains_56 rfl rfl (Nat.le_of_ble_eq_true rfl) (mm_o hA) (w_bad_1 (d := d - 1) (by omega) hA) (by omega) (by decide) (by decide) ?_
            refine pj_if_eq (pc := 59) (tgt := 64) dX9_rains_59 (by decide) (fun h => absurd h (by decide)) (fun _ => ?_)
            refine pl_iconst (pc := 62) (v := 0) dX9_rains_62 (by rfl) ?_
            refine pj_iret (pc := 63) dX9_rains_63 rfl ?_
            exact ⟨vIe (by simp [p_rains, c11, f_z, g_z, c28, c35, c40, c47]) rfl, congrArg (mm g ad μ) (by simp [p_rains, c11, f_z, g_z, c28, c35, c40, c47])⟩
  · refine pl_iconst (pc := 14) (v := 1) dX9_rains_14 (by rfl) ?_
    refine pj_goto (pc := 15) (tgt := 19) dX9_rains_15 (by decide) ?_
    refine pl_iconst (pc := 19) (v := 1) dX9_rains_19 (by rfl) ?_
    refine pl_callVd (pc := 20) (As := [_, _]) (C2 := 0) (N2 := 0) ckX9 mdX9_bad rfl q2631 q2633 qs50 q154 dX9_rains_20 rfl rfl (Nat.le_of_ble_eq_true rfl) (mm_o hA) (w_bad_1 (d := d - 1) (by omega) hA) (by omega) (by decide) (by decide) ?_
    refine pj_if_ne (pc := 23) (tgt := 62) dX9_rains_23 (by decide) (fun _ => ?_) (fun h => absurd h (by decide))
    refine pl_iconst (pc := 62) (v := 0) dX9_rains_62 (by rfl) ?_
    refine pj_iret (pc := 63) dX9_rains_63 rfl ?_
    exact ⟨vIe (by simp [p_rains, c11]) rfl, congrArg (mm g ad μ) (by simp [p_rains, c11])⟩
