set_option maxRecDepth 100000
theorem w_bad_1 {g : GP} {ad : Nat → Nat} {μ : Mem} {σ : MS} {d : Nat} {v : Int32} (hd : 1 ≤ d) (hA : Inj ad 18) : PM g yX9_bad (ws_ yX9_bad cX9_bad 3 (some .boolean)) d 0 0 [.ref (ad 0), .int (nI 1), .int v] (mm g ad μ σ) (rQ (some (.int (nI 1))) (mm g ad μ (sF σ 0 v))) := w_X9_bad (b := true) hd hA
theorem w_bad_0 {g : GP} {ad : Nat → Nat} {μ : Mem} {σ : MS} {d : Nat} {v : Int32} (hd : 1 ≤ d) (hA : Inj ad 18) : PM g yX9_bad (ws_ yX9_bad cX9_bad 3 (some .boolean)) d 0 0 [.ref (ad 0), .int (nI 0), .int v] (mm g ad μ σ) (rQ (some (.int (nI 0))) (mm g ad μ σ)) := w_X9_bad (b := false) hd hA
/-- thrown is set anew by every call -/
abbrev s0 (σ : MS) : MS := sF σ 0 (nI 0)
abbrev th (σ : MS) (k : Nat) : MS := sF (s0 σ) 0 (nI k)
abbrev tN (x : Int32) : Nat := x.toNatClampNeg
abbrev wA (σ : MS) (k j : Nat) (v : Int32) : MS := sA σ k (upd (σ.2.1 k) j v)
def p_land (σ : MS) (c v : Int32) (w : Bool) : Int32 × MS :=
  if inN c 96 = false then (nI 0, th σ 1) else if v < 0 then (nI 0, th σ 2) else if ¬ v ≤ nI 9 then (nI 0, th σ 2)
  else if sec (s0 σ) (tN c) 0 = 0 then (nI 1, sR (wA (wA (s0 σ) 3 (tN c) v) 4 (tN c) (bI w)) (8 * tN c + 7) (nI 0))
  else (-1, s0 σ)
set_option maxHeartbeats 4000000 in
theorem w_X9_land {g : GP} {ad : Nat → Nat} {μ : Mem} {σ : MS} {d : Nat} {c : Int32} {v : Int32} {w : Bool}  (hd : 2 ≤ d) (hA : Inj ad 18) : PM g yX9_land (ws_ yX9_land cX9_land 4 (some .int)) d 0 0 [.ref (ad 0), .int c, .int v, .int (bI w)] (mm g ad μ σ) (rQ (some (.int ((p_land σ c v w).1))) (mm g ad μ ((p_land σ c v w).2))) := by
  refine PM.of (by decide +kernel) (Nat.le_of_ble_eq_true rfl) ?_
  show PJ g _ _ _ _ d 0 0 0 [(0, .ref (ad 0)), (1, .int c), (2, .int v), (3, .int (bI w))] [] _ _
  refine pl_aload_n (pc := 0) dX9_land_0 rfl rfl ?_
  refine pl_iconst (pc := 1) (v := 0) dX9_land_1 (by rfl) ?_
  refine pm_putI (pc := 2) 0 hA q2516 dX9_land_2 (by decide) rfl (by rfl) (by rfl) rfl ?_
  refine pl_aload_n (pc := 5) dX9_land_5 rfl rfl ?_
  refine pl_aload_n (pc := 6) dX9_land_6 rfl rfl ?_
  refine pl_iload_n (pc := 7) dX9_land_7 rfl rfl ?_
  refine pl_callVd (pc := 8) (As := [_]) (C2 := 0) (N2 := 0) ckX9 mdX9_isSection rfl q2627 q2629 qs49 q154 dX9_land_8 rfl rfl (Nat.le_of_ble_eq_true rfl) (mm_o hA) (w_X9_isSection (d := d - 1) (by omega) hA) (by omega) (by decide) (by decide) ?_
  refine pl_if_neB (pc := 11) (tgt := 18) dX9_land_11 (by decide) (fun c11 => ?_) (fun c11 => ?_)
  · obtain ⟨j_c, hj_c, rfl⟩ := inN_of (by decide) c11
    have f_c := inN_nI hj_c (by omega)
    have g_c := nI_clamp (n := j_c) (by omega)
    refine pl_iconst (pc := 18) (v := 0) dX9_land_18 (by rfl) ?_
    refine pl_iconst (pc := 19) (v := 1) dX9_land_19 (by rfl) ?_
    refine pl_callVd (pc := 20) (As := [_, _]) (C2 := 0) (N2 := 0) ckX9 mdX9_bad rfl q2631 q2633 qs50 q154 dX9_land_20 rfl rfl (Nat.le_of_ble_eq_true rfl) (mm_o hA) (w_bad_0 (d := d - 1) (by omega) hA) (by omega) (by decide) (by decide) ?_
    refine pj_if_ne (pc := 23) (tgt := 49) dX9_land_23 (by decide) (fun h => absurd h (by decide)) (fun _ => ?_)
    refine pl_aload_n (pc := 26) dX9_land_26 rfl rfl ?_
    refine pl_iload_n (pc := 27) dX9_land_27 rfl rfl ?_
    refine pj_if_lt (pc := 28) (tgt := 37) dX9_land_28 (by decide) (fun c28 => ?_) (fun c28 => ?_)
    · refine pl_iconst (pc := 37) (v := 1) dX9_land_37 (by rfl) ?_
      refine pj_goto (pc := 38) (tgt := 42) dX9_land_38 (by decide) ?_
      refine pl_iconst (pc := 42) (v := 2) dX9_land_42 (by rfl) ?_
      refine pl_callVd (pc := 43) (As := [_, _]) (C2 := 0) (N2 := 0) ckX9 mdX9_bad rfl q2631 q2633 qs50 q154 dX9_land_43 rfl rfl (Nat.le_of_ble_eq_true rfl) (mm_o hA) (w_bad_1 (d := d - 1) (by omega) hA) (by omega) (by decide) (by decide) ?_
      refine pj_if_eq (pc := 46) (tgt := 51) dX9_land_46 (by decide) (fun h => absurd h (by decide)) (fun _ => ?_)
      refine pl_iconst (pc := 49) (v := 0) dX9_land_49 (by rfl) ?_
      refine pj_iret (pc := 50) dX9_land_50 rfl ?_
      exact ⟨vIe (by simp [nar_bI, p_land, c11, f_c, g_c, c28]) rfl, congrArg (mm g ad μ) (by simp [nar_bI, p_land, c11, f_c, g_c, c28])⟩
    · refine pl_iload_n (pc := 31) dX9_land_31 rfl rfl ?_
      refine pl_bipush (pc := 32) (v := 9) dX9_land_32 (by rfl) ?_
      refine pj_icmp_le (pc := 34) (tgt := 41) dX9_land_34 (by decide) (fun c34 => ?_) (fun c34 => ?_)
      · refine pl_iconst (pc := 41) (v := 0) dX9_land_41 (by rfl) ?_
        refine pl_iconst (pc := 42) (v := 2) dX9_land_42 (by rfl) ?_
        refine pl_callVd (pc := 43) (As := [_, _]) (C2 := 0) (N2 := 0) ckX9 mdX9_bad rfl q2631 q2633 qs50 q154 dX9_land_43 rfl rfl (Nat.le_of_ble_eq_true rfl) (mm_o hA) (w_bad_0 (d := d - 1) (by omega) hA) (by omega) (by decide) (by decide) ?_
        refine pj_if_eq (pc := 46) (tgt := 51) dX9_land_46 (by decide) (fun _ => ?_) (fun h => absurd h (by decide))
        refine pl_aload_n (pc := 51) dX9_land_51 rfl rfl ?_
        refine pl_iload_n (pc := 52) dX9_land_52 rfl rfl ?_
        refine pl_iconst (pc := 53) (v := 0) dX9_land_53 (by rfl) ?_
        refine pl_callVd (pc := 54) (As := [_, _]) (C2 := 0) (N2 := 0) ckX9 mdX9_sec rfl q2635 q2637 qs51 q154 dX9_land_54 rfl rfl (Nat.le_of_ble_eq_true rfl) (mm_o hA) (w_X9_sec (d := d - 1) (by omega) hA (by first | omega | assumption | exact hn | exact hl | exact hb | exact hq | exact hdr | exact has) (by first | omega | assumption | exact hn | exact hl | exact hb | exact hq | exact hdr | exact has)) (by omega) (by decide) (by decide) ?_
        refine pj_if_eq (pc := 57) (tgt := 62) dX9_land_57 (by decide) (fun c57 => ?_) (fun c57 => ?_)
        · refine pl_aload_n (pc := 62) dX9_land_62 rfl rfl ?_
          refine pj_getf (pc := 63) ckX9 3 q2519 dX9_land_63 (by decide) (mm_o hA) rfl ?_
          refine pl_iload_n (pc := 66) dX9_land_66 rfl rfl ?_
          refine pl_iload_n (pc := 67) dX9_land_67 rfl rfl ?_
          refine pm_iast (pc := 68) 3 hA (by decide) (by decide) rfl dX9_land_68 (show _ < 96 by omega) (by decide) ?_
          refine pl_aload_n (pc := 69) dX9_land_69 rfl rfl ?_
          refine pj_getf (pc := 70) ckX9 4 q2520 dX9_land_70 (by decide) (mm_o hA) rfl ?_
          refine pl_iload_n (pc := 73) dX9_land_73 rfl rfl ?_
          refine pl_iload_n (pc := 74) dX9_land_74 rfl rfl ?_
          refine pm_zast (pc := 75) 4 hA (by decide) (by decide) rfl dX9_land_75 (show _ < 96 by omega) (by decide) ?_
          refine pl_aload_n (pc := 76) dX9_land_76 rfl rfl ?_
          refine pj_getf (pc := 77) ckX9 1 q2517 dX9_land_77 (by decide) (mm_o hA) rfl ?_
          refine pl_bipush (pc := 80) (v := 8) dX9_land_80 (by rfl) ?_
          refine pl_iload_n (pc := 82) dX9_land_82 rfl rfl ?_
          refine pl_imul (pc := 83) dX9_land_83 ?_
          refine pl_bipush (pc := 84) (v := 7) dX9_land_84 (by rfl) ?_
          refine pl_iadd (pc := 86) dX9_land_86 ?_
          refine pl_iconst (pc := 87) (v := 0) dX9_land_87 (by rfl) ?_
          refine pm_iast (pc := 88) 1 hA (by decide) (by decide) rfl dX9_land_88 (show _ < 2132 by omega) (by decide) ?_
          refine pl_iconst (pc := 89) (v := 1) dX9_land_89 (by rfl) ?_
          refine pj_iret (pc := 90) dX9_land_90 rfl ?_
          exact ⟨vIe (by simp [nar_bI, p_land, c11, f_c, g_c, c28, c34, eq_true c57]) rfl, congrArg (mm g ad μ) (by simp [nar_bI, p_land, c11, f_c, g_c, c28, c34, eq_true c57])⟩
        · refine pj_iconst (pc := 60) (v := (-1)) dX9_land_60 (by rfl) ?_
          refine pj_iret (pc := 61) dX9_land_61 rfl ?_
          exact ⟨vIe (by simp [nar_bI, p_land, c11, f_c, g_c, c28, c34, c57]) rfl, congrArg (mm g ad μ) (by simp [nar_bI, p_land, c11, f_c, g_c, c28, c34, c57])⟩
      · refine pl_iconst (pc := 37) (v := 1) dX9_land_37 (by rfl) ?_
        refine pj_goto (pc := 38) (tgt := 42) dX9_land_38 (by decide) ?_
        refine pl_iconst (pc := 42) (v := 2) dX9_land_42 (by rfl) ?_
        refine pl_callVd (pc := 43) (As := [_, _]) (C2 := 0) (N2 := 0) ckX9 mdX9_bad rfl q2631 q2633 qs50 q154 dX9_land_43 rfl rfl (Nat.le_of_ble_eq_true rfl) (mm_o hA) (w_bad_1 (d := d - 1) (by omega) hA) (by omega) (by decide) (by decide) ?_
        refine pj_if_eq (pc := 46) (tgt := 51) dX9_land_46 (by decide) (fun h => absurd h (by decide)) (fun _ => ?_)
        refine pl_iconst (pc := 49) (v := 0) dX9_land_49 (by rfl) ?_
        refine pj_iret (pc := 50) dX9_land_50 rfl ?_
        exact ⟨vIe (by simp [nar_bI, p_land, c11, f_c, g_c, c28, c34]) rfl, congrArg (mm g ad μ) (by simp [nar_bI, p_land, c11, f_c, g_c, c28, c34])⟩
  · refine pl_iconst (pc := 14) (v := 1) dX9_land_14 (by rfl) ?_
    refine pj_goto (pc := 15) (tgt := 19) dX9_land_15 (by decide) ?_
    refine pl_iconst (pc := 19) (v := 1) dX9_land_19 (by rfl) ?_
    refine pl_callVd (pc := 20) (As := [_, _]) (C2 := 0) (N2 := 0) ckX9 mdX9_bad rfl q2631 q2633 qs50 q154 dX9_land_20 rfl rfl (Nat.le_of_ble_eq_true rfl) (mm_o hA) (w_bad_1 (d := d - 1) (by omega) hA) (by omega) (by decide) (by decide) ?_
    refine pj_if_ne (pc := 23) (tgt := 49) dX9_land_23 (by decide) (fun _ => ?_) (fun h => absurd h (by decide))
    refine pl_iconst (pc := 49) (v := 0) dX9_land_49 (by rfl) ?_
    refine pj_iret (pc := 50) dX9_land_50 rfl ?_
    exact ⟨vIe (by simp [nar_bI, p_land, c11]) rfl, congrArg (mm g ad μ) (by simp [nar_bI, p_land, c11])⟩
def p_section (σ : MS) (c w : Int32) : Int32 × MS :=
  if inN c 96 = false then (nI 0, th σ 1) else if w < 0 then (nI 0, th σ 2) else if ¬ w ≤ nI 6 then (nI 0, th σ 2)
  else (let σ := s0 σ; let i := tN c; let h := sec σ i 0;
    if w = nI 0 then h else if w = nI 1 then (if h ≤ nI 1 then -1 else sec σ i 1) else if w = nI 2 then (if h = nI 4 then sec σ i 2 else -1)
    else if w = nI 3 then (if isPastV h = true then sec σ i 3 else -1) else if w = nI 4 then (if isPastV h = true then sec σ i 4 else -1)
    else if w = nI 5 then (if isFarmV h = true then sec σ i 5 else -1) else if h = 0 then milesV (σ.2.1 4 i) (σ.2.1 3 i) - sec σ i 7 else nI 0, s0 σ)
set_option maxHeartbeats 4000000 in
theorem w_X9_section {g : GP} {ad : Nat → Nat} {μ : Mem} {σ : MS} {d : Nat} {c : Int32} {w : Int32}  (hd : 2 ≤ d) (hA : Inj ad 18) : PM g yX9_section (ws_ yX9_section cX9_section 4 (some .int)) d 0 0 [.ref (ad 0), .int c, .int w] (mm g ad μ σ) (rQ (some (.int ((p_section σ c w).1))) (mm g ad μ ((p_section σ c w).2))) := by
  refine PM.of (by decide +kernel) (Nat.le_of_ble_eq_true rfl) ?_
  show PJ g _ _ _ _ d 0 0 0 [(0, .ref (ad 0)), (1, .int c), (2, .int w)] [] _ _
  refine pl_aload_n (pc := 0) dX9_section_0 rfl rfl ?_
  refine pl_iconst (pc := 1) (v := 0) dX9_section_1 (by rfl) ?_
  refine pm_putI (pc := 2) 0 hA q2516 dX9_section_2 (by decide) rfl (by rfl) (by rfl) rfl ?_
  refine pl_aload_n (pc := 5) dX9_section_5 rfl rfl ?_
  refine pl_aload_n (pc := 6) dX9_section_6 rfl rfl ?_
  refine pl_iload_n (pc := 7) dX9_section_7 rfl rfl ?_
  refine pl_callVd (pc := 8) (As := [_]) (C2 := 0) (N2 := 0) ckX9 mdX9_isSection rfl q2627 q2629 qs49 q154 dX9_section_8 rfl rfl (Nat.le_of_ble_eq_true rfl) (mm_o hA) (w_X9_isSection (d := d - 1) (by omega) hA) (by omega) (by decide) (by decide) ?_
  refine pl_if_neB (pc := 11) (tgt := 18) dX9_section_11 (by decide) (fun c11 => ?_) (fun c11 => ?_)
  · obtain ⟨j_c, hj_c, rfl⟩ := inN_of (by decide) c11
    have f_c := inN_nI hj_c (by omega)
    have g_c := nI_clamp (n := j_c) (by omega)
    refine pl_iconst (pc := 18) (v := 0) dX9_section_18 (by rfl) ?_
    refine pl_iconst (pc := 19) (v := 1) dX9_section_19 (by rfl) ?_
    refine pl_callVd (pc := 20) (As := [_, _]) (C2 := 0) (N2 := 0) ckX9 mdX9_bad rfl q2631 q2633 qs50 q154 dX9_section_20 rfl rfl (Nat.le_of_ble_eq_true rfl) (mm_o hA) (w_bad_0 (d := d - 1) (by omega) hA) (by omega) (by decide) (by decide) ?_
    refine pj_if_ne (pc := 23) (tgt := 49) dX9_section_23 (by decide) (fun h => absurd h (by decide)) (fun _ => ?_)
    refine pl_aload_n (pc := 26) dX9_section_26 rfl rfl ?_
    refine pl_iload_n (pc := 27) dX9_section_27 rfl rfl ?_
    refine pj_if_lt (pc := 28) (tgt := 37) dX9_section_28 (by decide) (fun c28 => ?_) (fun c28 => ?_)
    · refine pl_iconst (pc := 37) (v := 1) dX9_section_37 (by rfl) ?_
      refine pj_goto (pc := 38) (tgt := 42) dX9_section_38 (by decide) ?_
      refine pl_iconst (pc := 42) (v := 2) dX9_section_42 (by rfl) ?_
      refine pl_callVd (pc := 43) (As := [_, _]) (C2 := 0) (N2 := 0) ckX9 mdX9_bad rfl q2631 q2633 qs50 q154 dX9_section_43 rfl rfl (Nat.le_of_ble_eq_true rfl) (mm_o hA) (w_bad_1 (d := d - 1) (by omega) hA) (by omega) (by decide) (by decide) ?_
      refine pj_if_eq (pc := 46) (tgt := 51) dX9_section_46 (by decide) (fun h => absurd h (by decide)) (fun _ => ?_)
      refine pl_iconst (pc := 49) (v := 0) dX9_section_49 (by rfl) ?_
      refine pj_iret (pc := 50) dX9_section_50 rfl ?_
      exact ⟨vIe (by simp [p_section, c11, f_c, g_c, c28]) rfl, congrArg (mm g ad μ) (by simp [p_section, c11, f_c, g_c, c28])⟩
    · refine pl_iload_n (pc := 31) dX9_section_31 rfl rfl ?_
      refine pl_bipush (pc := 32) (v := 6) dX9_section_32 (by rfl) ?_
      refine pj_icmp_le (pc := 34) (tgt := 41) dX9_section_34 (by decide) (fun c34 => ?_) (fun c34 => ?_)
      · refine pl_iconst (pc := 41) (v := 0) dX9_section_41 (by rfl) ?_
        refine pl_iconst (pc := 42) (v := 2) dX9_section_42 (by rfl) ?_
        refine pl_callVd (pc := 43) (As := [_, _]) (C2 := 0) (N2 := 0) ckX9 mdX9_bad rfl q2631 q2633 qs50 q154 dX9_section_43 rfl rfl (Nat.le_of_ble_eq_true rfl) (mm_o hA) (w_bad_0 (d := d - 1) (by omega) hA) (by omega) (by decide) (by decide) ?_
        refine pj_if_eq (pc := 46) (tgt := 51) dX9_section_46 (by decide) (fun _ => ?_) (fun h => absurd h (by decide))
        refine pl_aload_n (pc := 51) dX9_section_51 rfl rfl ?_
        refine pl_iload_n (pc := 52) dX9_section_52 rfl rfl ?_
        refine pl_iconst (pc := 53) (v := 0) dX9_section_53 (by rfl) ?_
        refine pl_callVd (pc := 54) (As := [_, _]) (C2 := 0) (N2 := 0) ckX9 mdX9_sec rfl q2635 q2637 qs51 q154 dX9_section_54 rfl rfl (Nat.le_of_ble_eq_true rfl) (mm_o hA) (w_X9_sec (d := d - 1) (by omega) hA (by first | omega | assumption | exact hn | exact hl | exact hb | exact hq | exact hdr | exact has) (by first | omega | assumption | exact hn | exact hl | exact hb | exact hq | exact hdr | exact has)) (by omega) (by decide) (by decide) ?_
        refine pj_istore_n (pc := 57) (lv' := [(3, _), (0, _), (1, _), (2, _)]) dX9_section_57 rfl (by decide) rfl ?_
        refine pl_iload_n (pc := 58) dX9_section_58 rfl rfl ?_
        refine pl_tsw (pc := 59) 0 (tgt := 96) dX9_section_59 (by rfl) (by decide) (by decide) (by rfl) (by decide) (fun c59_0 => ?_) (fun c59_0 => ?_)
        · refine pl_iload_n (pc := 96) dX9_section_96 rfl rfl ?_
          refine pj_iret (pc := 97) dX9_section_97 rfl ?_
          exact ⟨vIe (by simp [p_section, c11, f_c, g_c, c28, c34, eq_true c59_0]) rfl, congrArg (mm g ad μ) (by simp [p_section, c11, f_c, g_c, c28, c34, eq_true c59_0])⟩
        refine pl_tsw (pc := 59) 1 (tgt := 98) dX9_section_59 (by rfl) (by decide) (by decide) (by rfl) (by decide) (fun c59_1 => ?_) (fun c59_1 => ?_)
        · refine pl_iload_n (pc := 98) dX9_section_98 rfl rfl ?_
          refine pl_iconst (pc := 99) (v := 1) dX9_section_99 (by rfl) ?_
          refine pj_icmp_le (pc := 100) (tgt := 112) dX9_section_100 (by decide) (fun c100 => ?_) (fun c100 => ?_)
          · refine pj_iconst (pc := 112) (v := (-1)) dX9_section_112 (by rfl) ?_
            refine pj_iret (pc := 113) dX9_section_113 rfl ?_
            exact ⟨vIe (by simp [p_section, c11, f_c, g_c, c28, c34, c59_0, eq_true c59_1, c100]) rfl, congrArg (mm g ad μ) (by simp [p_section, c11, f_c, g_c, c28, c34, c59_0, eq_true c59_1, c100])⟩
          · refine pl_aload_n (pc := 103) dX9_section_103 rfl rfl ?_
            refine pl_iload_n (pc := 104) dX9_section_104 rfl rfl ?_
            refine pl_iconst (pc := 105) (v := 1) dX9_section_105 (by rfl) ?_
            refine pl_callVd (pc := 106) (As := [_, _]) (C2 := 0) (N2 := 0) ckX9 mdX9_sec rfl q2635 q2637 qs51 q154 dX9_section_106 rfl rfl (Nat.le_of_ble_eq_true rfl) (mm_o hA) (w_X9_sec (d := d - 1) (by omega) hA (by first | omega | assumption | exact hn | exact hl | exact hb | exact hq | exact hdr | exact has) (by first | omega | assumption | exact hn | exact hl | exact hb | exact hq | exact hdr | exact has)) (by omega) (by decide) (by decide) ?_
            refine pj_goto (pc := 109) (tgt := 113) dX9_section_109 (by decide) ?_
            refine pj_iret (pc := 113) dX9_section_113 rfl ?_
            exact ⟨vIe (by simp [p_section, c11, f_c, g_c, c28, c34, c59_0, eq_true c59_1, c100]) rfl, congrArg (mm g ad μ) (by simp [p_section, c11, f_c, g_c, c28, c34, c59_0, eq_true c59_1, c100])⟩
        refine pl_tsw (pc := 59) 2 (tgt := 114) dX9_section_59 (by rfl) (by decide) (by decide) (by rfl) (by decide) (fun c59_2 => ?_) (fun c59_2 => ?_)
        · refine pl_iload_n (pc := 114) dX9_section_114 rfl rfl ?_
          refine pl_iconst (pc := 115) (v := 4) dX9_section_115 (by rfl) ?_
          refine pj_icmp_ne (pc := 116) (tgt := 128) dX9_section_116 (by decide) (fun c116 => ?_) (fun c116 => ?_)
          · refine pj_iconst (pc := 128) (v := (-1)) dX9_section_128 (by rfl) ?_
            refine pj_iret (pc := 129) dX9_section_129 rfl ?_
            exact ⟨vIe (by simp [p_section, c11, f_c, g_c, c28, c34, c59_0, c59_1, eq_true c59_2, c116]) rfl, congrArg (mm g ad μ) (by simp [p_section, c11, f_c, g_c, c28, c34, c59_0, c59_1, eq_true c59_2, c116])⟩
          · refine pl_aload_n (pc := 119) dX9_section_119 rfl rfl ?_
            refine pl_iload_n (pc := 120) dX9_section_120 rfl rfl ?_
            refine pl_iconst (pc := 121) (v := 2) dX9_section_121 (by rfl) ?_
            refine pl_callVd (pc := 122) (As := [_, _]) (C2 := 0) (N2 := 0) ckX9 mdX9_sec rfl q2635 q2637 qs51 q154 dX9_section_122 rfl rfl (Nat.le_of_ble_eq_true rfl) (mm_o hA) (w_X9_sec (d := d - 1) (by omega) hA (by first | omega | assumption | exact hn | exact hl | exact hb | exact hq | exact hdr | exact has) (by first | omega | assumption | exact hn | exact hl | exact hb | exact hq | exact hdr | exact has)) (by omega) (by decide) (by decide) ?_
            refine pj_goto (pc := 125) (tgt := 129) dX9_section_125 (by decide) ?_
            refine pj_iret (pc := 129) dX9_section_129 rfl ?_
            exact ⟨vIe (by simp [p_section, c11, f_c, g_c, c28, c34, c59_0, c59_1, eq_true c59_2, eq_true c116]) rfl, congrArg (mm g ad μ) (by simp [p_section, c11, f_c, g_c, c28, c34, c59_0, c59_1, eq_true c59_2, eq_true c116])⟩
        refine pl_tsw (pc := 59) 3 (tgt := 130) dX9_section_59 (by rfl) (by decide) (by decide) (by rfl) (by decide) (fun c59_3 => ?_) (fun c59_3 => ?_)
        · refine pl_iload_n (pc := 130) dX9_section_130 rfl rfl ?_
          refine pl_callSd (pc := 131) (As := [_]) (C2 := 0) (N2 := 0) mdX9_isPasture q2678 q2679 q154 dX9_section_131 rfl rfl (Nat.le_of_ble_eq_true rfl) (w_X9_isPasture (d := d - 1) (by omega)) (by omega) (by decide) (by decide) ?_
          refine pl_if_eqB (pc := 134) (tgt := 146) dX9_section_134 (by decide) (fun c134 => ?_) (fun c134 => ?_)
          · refine pj_iconst (pc := 146) (v := (-1)) dX9_section_146 (by rfl) ?_
            refine pj_iret (pc := 147) dX9_section_147 rfl ?_
            exact ⟨vIe (by simp [p_section, c11, f_c, g_c, c28, c34, c59_0, c59_1, c59_2, eq_true c59_3, c134]) rfl, congrArg (mm g ad μ) (by simp [p_section, c11, f_c, g_c, c28, c34, c59_0, c59_1, c59_2, eq_true c59_3, c134])⟩
          · refine pl_aload_n (pc := 137) dX9_section_137 rfl rfl ?_
            refine pl_iload_n (pc := 138) dX9_section_138 rfl rfl ?_
            refine pl_iconst (pc := 139) (v := 3) dX9_section_139 (by rfl) ?_
            refine pl_callVd (pc := 140) (As := [_, _]) (C2 := 0) (N2 := 0) ckX9 mdX9_sec rfl q2635 q2637 qs51 q154 dX9_section_140 rfl rfl (Nat.le_of_ble_eq_true rfl) (mm_o hA) (w_X9_sec (d := d - 1) (by omega) hA (by first | omega | assumption | exact hn | exact hl | exact hb | exact hq | exact hdr | exact has) (by first | omega | assumption | exact hn | exact hl | exact hb | exact hq | exact hdr | exact has)) (by omega) (by decide) (by decide) ?_
            refine pj_goto (pc := 143) (tgt := 147) dX9_section_143 (by decide) ?_
            refine pj_iret (pc := 147) dX9_section_147 rfl ?_
            exact ⟨vIe (by simp [p_section, c11, f_c, g_c, c28, c34, c59_0, c59_1, c59_2, eq_true c59_3, c134]) rfl, congrArg (mm g ad μ) (by simp [p_section, c11, f_c, g_c, c28, c34, c59_0, c59_1, c59_2, eq_true c59_3, c134])⟩
        refine pl_tsw (pc := 59) 4 (tgt := 148) dX9_section_59 (by rfl) (by decide) (by decide) (by rfl) (by decide) (fun c59_4 => ?_) (fun c59_4 => ?_)
        · refine pl_iload_n (pc := 148) dX9_section_148 rfl rfl ?_
          refine pl_callSd (pc := 149) (As := [_]) (C2 := 0) (N2 := 0) mdX9_isPasture q2678 q2679 q154 dX9_section_149 rfl rfl (Nat.le_of_ble_eq_true rfl) (w_X9_isPasture (d := d - 1) (by omega)) (by omega) (by decide) (by decide) ?_
          refine pl_if_eqB (pc := 152) (tgt := 164) dX9_section_152 (by decide) (fun c152 => ?_) (fun c152 => ?_)
          · refine pj_iconst (pc := 164) (v := (-1)) dX9_section_164 (by rfl) ?_
            refine pj_iret (pc := 165) dX9_section_165 rfl ?_
            exact ⟨vIe (by simp [p_section, c11, f_c, g_c, c28, c34, c59_0, c59_1, c59_2, c59_3, eq_true c59_4, c152]) rfl, congrArg (mm g ad μ) (by simp [p_section, c11, f_c, g_c, c28, c34, c59_0, c59_1, c59_2, c59_3, eq_true c59_4, c152])⟩
          · refine pl_aload_n (pc := 155) dX9_section_155 rfl rfl ?_
            refine pl_iload_n (pc := 156) dX9_section_156 rfl rfl ?_
            refine pl_iconst (pc := 157) (v := 4) dX9_section_157 (by rfl) ?_
            refine pl_callVd (pc := 158) (As := [_, _]) (C2 := 0) (N2 := 0) ckX9 mdX9_sec rfl q2635 q2637 qs51 q154 dX9_section_158 rfl rfl (Nat.le_of_ble_eq_true rfl) (mm_o hA) (w_X9_sec (d := d - 1) (by omega) hA (by first | omega | assumption | exact hn | exact hl | exact hb | exact hq | exact hdr | exact has) (by first | omega | assumption | exact hn | exact hl | exact hb | exact hq | exact hdr | exact has)) (by omega) (by decide) (by decide) ?_
            refine pj_goto (pc := 161) (tgt := 165) dX9_section_161 (by decide) ?_
            refine pj_iret (pc := 165) dX9_section_165 rfl ?_
            exact ⟨vIe (by simp [p_section, c11, f_c, g_c, c28, c34, c59_0, c59_1, c59_2, c59_3, eq_true c59_4, c152]) rfl, congrArg (mm g ad μ) (by simp [p_section, c11, f_c, g_c, c28, c34, c59_0, c59_1, c59_2, c59_3, eq_true c59_4, c152])⟩
        refine pl_tsw (pc := 59) 5 (tgt := 166) dX9_section_59 (by rfl) (by decide) (by decide) (by rfl) (by decide) (fun c59_5 => ?_) (fun c59_5 => ?_)
        · refine pl_iload_n (pc := 166) dX9_section_166 rfl rfl ?_
          refine pl_callSd (pc := 167) (As := [_]) (C2 := 0) (N2 := 0) mdX9_isFarm q2681 q2682 q154 dX9_section_167 rfl rfl (Nat.le_of_ble_eq_true rfl) (w_X9_isFarm (d := d - 1) (by omega)) (by omega) (by decide) (by decide) ?_
          refine pl_if_eqB (pc := 170) (tgt := 182) dX9_section_170 (by decide) (fun c170 => ?_) (fun c170 => ?_)
          · refine pj_iconst (pc := 182) (v := (-1)) dX9_section_182 (by rfl) ?_
            refine pj_iret (pc := 183) dX9_section_183 rfl ?_
            exact ⟨vIe (by simp [p_section, c11, f_c, g_c, c28, c34, c59_0, c59_1, c59_2, c59_3, c59_4, eq_true c59_5, c170]) rfl, congrArg (mm g ad μ) (by simp [p_section, c11, f_c, g_c, c28, c34, c59_0, c59_1, c59_2, c59_3, c59_4, eq_true c59_5, c170])⟩
          · refine pl_aload_n (pc := 173) dX9_section_173 rfl rfl ?_
            refine pl_iload_n (pc := 174) dX9_section_174 rfl rfl ?_
            refine pl_iconst (pc := 175) (v := 5) dX9_section_175 (by rfl) ?_
            refine pl_callVd (pc := 176) (As := [_, _]) (C2 := 0) (N2 := 0) ckX9 mdX9_sec rfl q2635 q2637 qs51 q154 dX9_section_176 rfl rfl (Nat.le_of_ble_eq_true rfl) (mm_o hA) (w_X9_sec (d := d - 1) (by omega) hA (by first | omega | assumption | exact hn | exact hl | exact hb | exact hq | exact hdr | exact has) (by first | omega | assumption | exact hn | exact hl | exact hb | exact hq | exact hdr | exact has)) (by omega) (by decide) (by decide) ?_
            refine pj_goto (pc := 179) (tgt := 183) dX9_section_179 (by decide) ?_
            refine pj_iret (pc := 183) dX9_section_183 rfl ?_
            exact ⟨vIe (by simp [p_section, c11, f_c, g_c, c28, c34, c59_0, c59_1, c59_2, c59_3, c59_4, eq_true c59_5, c170]) rfl, congrArg (mm g ad μ) (by simp [p_section, c11, f_c, g_c, c28, c34, c59_0, c59_1, c59_2, c59_3, c59_4, eq_true c59_5, c170])⟩
        refine pj_tableOut (pc := 59) (tgt := 184) dX9_section_59 (by have q0 := nI_nec c59_0; have q1 := nI_nec c59_1; have q2 := nI_nec c59_2; have q3 := nI_nec c59_3; have q4 := nI_nec c59_4; have q5 := nI_nec c59_5; omega) (by decide) ?_
        refine pl_iload_n (pc := 184) dX9_section_184 rfl rfl ?_
        refine pj_if_ne (pc := 185) (tgt := 204) dX9_section_185 (by decide) (fun c185 => ?_) (fun c185 => ?_)
        · refine pl_iconst (pc := 204) (v := 0) dX9_section_204 (by rfl) ?_
          refine pj_iret (pc := 205) dX9_section_205 rfl ?_
          exact ⟨vIe (by simp [p_section, c11, f_c, g_c, c28, c34, c59_0, c59_1, c59_2, c59_3, c59_4, c59_5, c185]) rfl, congrArg (mm g ad μ) (by simp [p_section, c11, f_c, g_c, c28, c34, c59_0, c59_1, c59_2, c59_3, c59_4, c59_5, c185])⟩
        · refine pl_aload_n (pc := 188) dX9_section_188 rfl rfl ?_
          refine pl_iload_n (pc := 189) dX9_section_189 rfl rfl ?_
          refine pl_callVd (pc := 190) (As := [_]) (C2 := 0) (N2 := 0) ckX9 mdX9_miles rfl q2684 q2686 qs55 q154 dX9_section_190 rfl rfl (Nat.le_of_ble_eq_true rfl) (mm_o hA) (w_X9_miles (d := d - 1) (by omega) hA (by first | omega | assumption | exact hn | exact hl | exact hb | exact hq | exact hdr | exact has)) (by omega) (by decide) (by decide) ?_
          refine pl_aload_n (pc := 193) dX9_section_193 rfl rfl ?_
          refine pl_iload_n (pc := 194) dX9_section_194 rfl rfl ?_
          refine pl_bipush (pc := 195) (v := 7) dX9_section_195 (by rfl) ?_
          refine pl_callVd (pc := 197) (As := [_, _]) (C2 := 0) (N2 := 0) ckX9 mdX9_sec rfl q2635 q2637 qs51 q154 dX9_section_197 rfl rfl (Nat.le_of_ble_eq_true rfl) (mm_o hA) (w_X9_sec (d := d - 1) (by omega) hA (by first | omega | assumption | exact hn | exact hl | exact hb | exact hq | exact hdr | exact has) (by first | omega | assumption | exact hn | exact hl | exact hb | exact hq | exact hdr | exact has)) (by omega) (by decide) (by decide) ?_
          refine pj_isub (pc := 200) dX9_section_200 ?_
          refine pj_goto (pc := 201) (tgt := 205) dX9_section_201 (by decide) ?_
          refine pj_iret (pc := 205) dX9_section_205 rfl ?_
          exact ⟨vIe (by simp [p_section, c11, f_c, g_c, c28, c34, c59_0, c59_1, c59_2, c59_3, c59_4, c59_5, eq_true c185]) rfl, congrArg (mm g ad μ) (by simp [p_section, c11, f_c, g_c, c28, c34, c59_0, c59_1, c59_2, c59_3, c59_4, c59_5, eq_true c185])⟩
      · refine pl_iconst (pc := 37) (v := 1) dX9_section_37 (by rfl) ?_
        refine pj_goto (pc := 38) (tgt := 42) dX9_section_38 (by decide) ?_
        refine pl_iconst (pc := 42) (v := 2) dX9_section_42 (by rfl) ?_
        refine pl_callVd (pc := 43) (As := [_, _]) (C2 := 0) (N2 := 0) ckX9 mdX9_bad rfl q2631 q2633 qs50 q154 dX9_section_43 rfl rfl (Nat.le_of_ble_eq_true rfl) (mm_o hA) (w_bad_1 (d := d - 1) (by omega) hA) (by omega) (by decide) (by decide) ?_
        refine pj_if_eq (pc := 46) (tgt := 51) dX9_section_46 (by decide) (fun h => absurd h (by decide)) (fun _ => ?_)
        refine pl_iconst (pc := 49) (v := 0) dX9_section_49 (by rfl) ?_
        refine pj_iret (pc := 50) dX9_section_50 rfl ?_
        exact ⟨vIe (by simp [p_section, c11, f_c, g_c, c28, c34]) rfl, congrArg (mm g ad μ) (by simp [p_section, c11, f_c, g_c, c28, c34])⟩
  · refine pl_iconst (pc := 14) (v := 1) dX9_section_14 (by rfl) ?_
    refine pj_goto (pc := 15) (tgt := 19) dX9_section_15 (by decide) ?_
    refine pl_iconst (pc := 19) (v := 1) dX9_section_19 (by rfl) ?_
    refine pl_callVd (pc := 20) (As := [_, _]) (C2 := 0) (N2 := 0) ckX9 mdX9_bad rfl q2631 q2633 qs50 q154 dX9_section_20 rfl rfl (Nat.le_of_ble_eq_true rfl) (mm_o hA) (w_bad_1 (d := d - 1) (by omega) hA) (by omega) (by decide) (by decide) ?_
    refine pj_if_ne (pc := 23) (tgt := 49) dX9_section_23 (by decide) (fun _ => ?_) (fun h => absurd h (by decide))
    refine pl_iconst (pc := 49) (v := 0) dX9_section_49 (by rfl) ?_
    refine pj_iret (pc := 50) dX9_section_50 rfl ?_
    exact ⟨vIe (by simp [p_section, c11]) rfl, congrArg (mm g ad μ) (by simp [p_section, c11])⟩
def p_is (σ : MS) (c w : Int32) : Bool × MS :=
  if inN c 96 = false then (false, th σ 1) else if w < 0 then (false, th σ 2) else if ¬ w ≤ nI 3 then (false, th σ 2)
  else (let h := sec (s0 σ) (tN c) 0; if w = 0 then decide (h ≠ 0) else if w = nI 1 then isFarmV h else if w = nI 2 then isPastV h else decide (¬ h ≤ nI 1), s0 σ)
def p_seen (σ : MS) (z : Int32) : Int32 × MS := if inN z 4 = false then (nI 0, th σ 1) else (row (s0 σ) (2108 + tN z), s0 σ)
def p_acre (σ : MS) (k : Int32) : Int32 × MS := if k < 0 then (nI 0, th σ 1) else if ¬ k < nI 12 then (nI 0, th σ 1) else (row (s0 σ) (2080 + tN k), s0 σ)
def p_fund (σ : MS) (v : Int32) : Int32 × MS := if v < 0 then (nI 0, th σ 1) else if ¬ v ≤ 100000 then (nI 0, th σ 1) else (let σ1 := sR (s0 σ) 2123 (row (s0 σ) 2123 + v); (row σ1 2123, σ1))
def promiseV (σ : MS) (c : Nat) : Int32 := nI 10 * σ.2.1 3 c + (if row σ (2108 + c % 12 / 3) = 0 then nI 0 else row σ (2112 + c % 12 / 3) / row σ (2108 + c % 12 / 3) / nI 10)
def p_promise (σ : MS) (c : Int32) : Int32 × MS := if inN c 96 = false then (nI 0, th σ 1) else (promiseV (s0 σ) (tN c), s0 σ)
def p_force (σ : MS) (n : Nat) (l : Int32) : Int32 × MS := if inN l n = false then (nI 0, th σ 1) else (lawv (s0 σ) (tN l) 0, s0 σ)
def p_billed (σ : MS) (n : Nat) (b : Int32) : Int32 × MS := if inN b n = false then (nI 0, th σ 1) else (row (s0 σ) (1640 + 4 * tN b + 2), s0 σ)
set_option maxHeartbeats 4000000 in
theorem w_X9_is {g : GP} {ad : Nat → Nat} {μ : Mem} {σ : MS} {d : Nat} {c : Int32} {w : Int32}  (hd : 2 ≤ d) (hA : Inj ad 18) : PM g yX9_is (ws_ yX9_is cX9_is 4 (some .boolean)) d 0 0 [.ref (ad 0), .int c, .int w] (mm g ad μ σ) (rQ (some (.int (bI ((p_is σ c w).1)))) (mm g ad μ ((p_is σ c w).2))) := by
  refine PM.of (by decide +kernel) (Nat.le_of_ble_eq_true rfl) ?_
  show PJ g _ _ _ _ d 0 0 0 [(0, .ref (ad 0)), (1, .int c), (2, .int w)] [] _ _
  refine pl_aload_n (pc := 0) dX9_is_0 rfl rfl ?_
  refine pl_iconst (pc := 1) (v := 0) dX9_is_1 (by rfl) ?_
  refine pm_putI (pc := 2) 0 hA q2516 dX9_is_2 (by decide) rfl (by rfl) (by rfl) rfl ?_
  refine pl_aload_n (pc := 5) dX9_is_5 rfl rfl ?_
  refine pl_aload_n (pc := 6) dX9_is_6 rfl rfl ?_
  refine pl_iload_n (pc := 7) dX9_is_7 rfl rfl ?_
  refine pl_callVd (pc := 8) (As := [_]) (C2 := 0) (N2 := 0) ckX9 mdX9_isSection rfl q2627 q2629 qs49 q154 dX9_is_8 rfl rfl (Nat.le_of_ble_eq_true rfl) (mm_o hA) (w_X9_isSection (d := d - 1) (by omega) hA) (by omega) (by decide) (by decide) ?_
  refine pl_if_neB (pc := 11) (tgt := 18) dX9_is_11 (by decide) (fun c11 => ?_) (fun c11 => ?_)
  · obtain ⟨j_c, hj_c, rfl⟩ := inN_of (by decide) c11
    have f_c := inN_nI hj_c (by omega)
    have g_c := nI_clamp (n := j_c) (by omega)
    refine pl_iconst (pc := 18) (v := 0) dX9_is_18 (by rfl) ?_
    refine pl_iconst (pc := 19) (v := 1) dX9_is_19 (by rfl) ?_
    refine pl_callVd (pc := 20) (As := [_, _]) (C2 := 0) (N2 := 0) ckX9 mdX9_bad rfl q2631 q2633 qs50 q154 dX9_is_20 rfl rfl (Nat.le_of_ble_eq_true rfl) (mm_o hA) (w_bad_0 (d := d - 1) (by omega) hA) (by omega) (by decide) (by decide) ?_
    refine pj_if_ne (pc := 23) (tgt := 48) dX9_is_23 (by decide) (fun h => absurd h (by decide)) (fun _ => ?_)
    refine pl_aload_n (pc := 26) dX9_is_26 rfl rfl ?_
    refine pl_iload_n (pc := 27) dX9_is_27 rfl rfl ?_
    refine pj_if_lt (pc := 28) (tgt := 36) dX9_is_28 (by decide) (fun c28 => ?_) (fun c28 => ?_)
    · refine pl_iconst (pc := 36) (v := 1) dX9_is_36 (by rfl) ?_
      refine pj_goto (pc := 37) (tgt := 41) dX9_is_37 (by decide) ?_
      refine pl_iconst (pc := 41) (v := 2) dX9_is_41 (by rfl) ?_
      refine pl_callVd (pc := 42) (As := [_, _]) (C2 := 0) (N2 := 0) ckX9 mdX9_bad rfl q2631 q2633 qs50 q154 dX9_is_42 rfl rfl (Nat.le_of_ble_eq_true rfl) (mm_o hA) (w_bad_1 (d := d - 1) (by omega) hA) (by omega) (by decide) (by decide) ?_
      refine pj_if_eq (pc := 45) (tgt := 50) dX9_is_45 (by decide) (fun h => absurd h (by decide)) (fun _ => ?_)
      refine pl_iconst (pc := 48) (v := 0) dX9_is_48 (by rfl) ?_
      refine pj_zret (pc := 49) .boolean dX9_is_49 rfl (by rfl) ?_
      exact ⟨vB0 (by simp [p_is, c11, f_c, g_c, c28]), congrArg (mm g ad μ) (by simp [p_is, c11, f_c, g_c, c28])⟩
    · refine pl_iload_n (pc := 31) dX9_is_31 rfl rfl ?_
      refine pl_iconst (pc := 32) (v := 3) dX9_is_32 (by rfl) ?_
      refine pj_icmp_le (pc := 33) (tgt := 40) dX9_is_33 (by decide) (fun c33 => ?_) (fun c33 => ?_)
      · refine pl_iconst (pc := 40) (v := 0) dX9_is_40 (by rfl) ?_
        refine pl_iconst (pc := 41) (v := 2) dX9_is_41 (by rfl) ?_
        refine pl_callVd (pc := 42) (As := [_, _]) (C2 := 0) (N2 := 0) ckX9 mdX9_bad rfl q2631 q2633 qs50 q154 dX9_is_42 rfl rfl (Nat.le_of_ble_eq_true rfl) (mm_o hA) (w_bad_0 (d := d - 1) (by omega) hA) (by omega) (by decide) (by decide) ?_
        refine pj_if_eq (pc := 45) (tgt := 50) dX9_is_45 (by decide) (fun _ => ?_) (fun h => absurd h (by decide))
        refine pl_aload_n (pc := 50) dX9_is_50 rfl rfl ?_
        refine pl_iload_n (pc := 51) dX9_is_51 rfl rfl ?_
        refine pl_iconst (pc := 52) (v := 0) dX9_is_52 (by rfl) ?_
        refine pl_callVd (pc := 53) (As := [_, _]) (C2 := 0) (N2 := 0) ckX9 mdX9_sec rfl q2635 q2637 qs51 q154 dX9_is_53 rfl rfl (Nat.le_of_ble_eq_true rfl) (mm_o hA) (w_X9_sec (d := d - 1) (by omega) hA (by first | omega | assumption | exact hn | exact hl | exact hb | exact hq | exact hdr | exact has) (by first | omega | assumption | exact hn | exact hl | exact hb | exact hq | exact hdr | exact has)) (by omega) (by decide) (by decide) ?_
        refine pj_istore_n (pc := 56) (lv' := [(3, _), (0, _), (1, _), (2, _)]) dX9_is_56 rfl (by decide) rfl ?_
        refine pl_iload_n (pc := 57) dX9_is_57 rfl rfl ?_
        refine pj_if_ne (pc := 58) (tgt := 73) dX9_is_58 (by decide) (fun c58 => ?_) (fun c58 => ?_)
        · refine pl_iload_n (pc := 73) dX9_is_73 rfl rfl ?_
          refine pl_iconst (pc := 74) (v := 1) dX9_is_74 (by rfl) ?_
          refine pj_icmp_ne (pc := 75) (tgt := 85) dX9_is_75 (by decide) (fun c75 => ?_) (fun c75 => ?_)
          · refine pl_iload_n (pc := 85) dX9_is_85 rfl rfl ?_
            refine pl_iconst (pc := 86) (v := 2) dX9_is_86 (by rfl) ?_
            refine pj_icmp_ne (pc := 87) (tgt := 97) dX9_is_87 (by decide) (fun c87 => ?_) (fun c87 => ?_)
            · refine pl_iload_n (pc := 97) dX9_is_97 rfl rfl ?_
              refine pl_iconst (pc := 98) (v := 1) dX9_is_98 (by rfl) ?_
              refine pj_icmp_le (pc := 99) (tgt := 106) dX9_is_99 (by decide) (fun c99 => ?_) (fun c99 => ?_)
              · refine pl_iconst (pc := 106) (v := 0) dX9_is_106 (by rfl) ?_
                refine pj_zret (pc := 107) .boolean dX9_is_107 rfl (by rfl) ?_
                exact ⟨vB0 (by simp [p_is, c11, f_c, g_c, c28, c33, c58, c75, c87, c99]), congrArg (mm g ad μ) (by simp [p_is, c11, f_c, g_c, c28, c33, c58, c75, c87, c99])⟩
              · refine pl_iconst (pc := 102) (v := 1) dX9_is_102 (by rfl) ?_
                refine pj_goto (pc := 103) (tgt := 107) dX9_is_103 (by decide) ?_
                refine pj_zret (pc := 107) .boolean dX9_is_107 rfl (by rfl) ?_
                exact ⟨vB1 (by simp [p_is, c11, f_c, g_c, c28, c33, c58, c75, c87, c99]), congrArg (mm g ad μ) (by simp [p_is, c11, f_c, g_c, c28, c33, c58, c75, c87, c99])⟩
            · refine pl_iload_n (pc := 90) dX9_is_90 rfl rfl ?_
              refine pl_callSd (pc := 91) (As := [_]) (C2 := 0) (N2 := 0) mdX9_isPasture q2678 q2679 q154 dX9_is_91 rfl rfl (Nat.le_of_ble_eq_true rfl) (w_X9_isPasture (d := d - 1) (by omega)) (by omega) (by decide) (by decide) ?_
              refine pj_goto (pc := 94) (tgt := 107) dX9_is_94 (by decide) ?_
              refine pj_zret (pc := 107) .boolean dX9_is_107 rfl (narrow_bI _) ?_
              exact ⟨vBe (by simp [p_is, c11, f_c, g_c, c28, c33, c58, c75, eq_true c87]), congrArg (mm g ad μ) (by simp [p_is, c11, f_c, g_c, c28, c33, c58, c75, eq_true c87])⟩
          · refine pl_iload_n (pc := 78) dX9_is_78 rfl rfl ?_
            refine pl_callSd (pc := 79) (As := [_]) (C2 := 0) (N2 := 0) mdX9_isFarm q2681 q2682 q154 dX9_is_79 rfl rfl (Nat.le_of_ble_eq_true rfl) (w_X9_isFarm (d := d - 1) (by omega)) (by omega) (by decide) (by decide) ?_
            refine pj_goto (pc := 82) (tgt := 107) dX9_is_82 (by decide) ?_
            refine pj_zret (pc := 107) .boolean dX9_is_107 rfl (narrow_bI _) ?_
            exact ⟨vBe (by simp [p_is, c11, f_c, g_c, c28, c33, c58, eq_true c75]), congrArg (mm g ad μ) (by simp [p_is, c11, f_c, g_c, c28, c33, c58, eq_true c75])⟩
        · refine pl_iload_n (pc := 61) dX9_is_61 rfl rfl ?_
          refine pj_if_eq (pc := 62) (tgt := 69) dX9_is_62 (by decide) (fun c62 => ?_) (fun c62 => ?_)
          · refine pl_iconst (pc := 69) (v := 0) dX9_is_69 (by rfl) ?_
            refine pj_goto (pc := 70) (tgt := 107) dX9_is_70 (by decide) ?_
            refine pj_zret (pc := 107) .boolean dX9_is_107 rfl (by rfl) ?_
            exact ⟨vB0 (by simp [p_is, c11, f_c, g_c, c28, c33, eq_true c58, eq_true c62]), congrArg (mm g ad μ) (by simp [p_is, c11, f_c, g_c, c28, c33, eq_true c58, eq_true c62])⟩
          · refine pl_iconst (pc := 65) (v := 1) dX9_is_65 (by rfl) ?_
            refine pj_goto (pc := 66) (tgt := 107) dX9_is_66 (by decide) ?_
            refine pj_zret (pc := 107) .boolean dX9_is_107 rfl (by rfl) ?_
            exact ⟨vB1 (by simp [p_is, c11, f_c, g_c, c28, c33, eq_true c58, c62]), congrArg (mm g ad μ) (by simp [p_is, c11, f_c, g_c, c28, c33, eq_true c58, c62])⟩
      · refine pl_iconst (pc := 36) (v := 1) dX9_is_36 (by rfl) ?_
        refine pj_goto (pc := 37) (tgt := 41) dX9_is_37 (by decide) ?_
        refine pl_iconst (pc := 41) (v := 2) dX9_is_41 (by rfl) ?_
        refine pl_callVd (pc := 42) (As := [_, _]) (C2 := 0) (N2 := 0) ckX9 mdX9_bad rfl q2631 q2633 qs50 q154 dX9_is_42 rfl rfl (Nat.le_of_ble_eq_true rfl) (mm_o hA) (w_bad_1 (d := d - 1) (by omega) hA) (by omega) (by decide) (by decide) ?_
        refine pj_if_eq (pc := 45) (tgt := 50) dX9_is_45 (by decide) (fun h => absurd h (by decide)) (fun _ => ?_)
        refine pl_iconst (pc := 48) (v := 0) dX9_is_48 (by rfl) ?_
        refine pj_zret (pc := 49) .boolean dX9_is_49 rfl (by rfl) ?_
        exact ⟨vB0 (by simp [p_is, c11, f_c, g_c, c28, c33]), congrArg (mm g ad μ) (by simp [p_is, c11, f_c, g_c, c28, c33])⟩
  · refine pl_iconst (pc := 14) (v := 1) dX9_is_14 (by rfl) ?_
    refine pj_goto (pc := 15) (tgt := 19) dX9_is_15 (by decide) ?_
    refine pl_iconst (pc := 19) (v := 1) dX9_is_19 (by rfl) ?_
    refine pl_callVd (pc := 20) (As := [_, _]) (C2 := 0) (N2 := 0) ckX9 mdX9_bad rfl q2631 q2633 qs50 q154 dX9_is_20 rfl rfl (Nat.le_of_ble_eq_true rfl) (mm_o hA) (w_bad_1 (d := d - 1) (by omega) hA) (by omega) (by decide) (by decide) ?_
    refine pj_if_ne (pc := 23) (tgt := 48) dX9_is_23 (by decide) (fun _ => ?_) (fun h => absurd h (by decide))
    refine pl_iconst (pc := 48) (v := 0) dX9_is_48 (by rfl) ?_
    refine pj_zret (pc := 49) .boolean dX9_is_49 rfl (by rfl) ?_
    exact ⟨vB0 (by simp [p_is, c11]), congrArg (mm g ad μ) (by simp [p_is, c11])⟩
set_option maxHeartbeats 4000000 in
theorem w_X9_acre {g : GP} {ad : Nat → Nat} {μ : Mem} {σ : MS} {d : Nat} {k : Int32}  (hd : 2 ≤ d) (hA : Inj ad 18) : PM g yX9_acre (ws_ yX9_acre cX9_acre 2 (some .int)) d 0 0 [.ref (ad 0), .int k] (mm g ad μ σ) (rQ (some (.int ((p_acre σ k).1))) (mm g ad μ ((p_acre σ k).2))) := by
  refine PM.of (by decide +kernel) (Nat.le_of_ble_eq_true rfl) ?_
  show PJ g _ _ _ _ d 0 0 0 [(0, .ref (ad 0)), (1, .int k)] [] _ _
  refine pl_aload_n (pc := 0) dX9_acre_0 rfl rfl ?_
  refine pl_iconst (pc := 1) (v := 0) dX9_acre_1 (by rfl) ?_
  refine pm_putI (pc := 2) 0 hA q2516 dX9_acre_2 (by decide) rfl (by rfl) (by rfl) rfl ?_
  refine pl_aload_n (pc := 5) dX9_acre_5 rfl rfl ?_
  refine pl_iload_n (pc := 6) dX9_acre_6 rfl rfl ?_
  refine pj_if_lt (pc := 7) (tgt := 16) dX9_acre_7 (by decide) (fun c7 => ?_) (fun c7 => ?_)
  · refine pl_iconst (pc := 16) (v := 1) dX9_acre_16 (by rfl) ?_
    refine pj_goto (pc := 17) (tgt := 21) dX9_acre_17 (by decide) ?_
    refine pl_iconst (pc := 21) (v := 1) dX9_acre_21 (by rfl) ?_
    refine pl_callVd (pc := 22) (As := [_, _]) (C2 := 0) (N2 := 0) ckX9 mdX9_bad rfl q2631 q2633 qs50 q154 dX9_acre_22 rfl rfl (Nat.le_of_ble_eq_true rfl) (mm_o hA) (w_bad_1 (d := d - 1) (by omega) hA) (by omega) (by decide) (by decide) ?_
    refine pj_if_eq (pc := 25) (tgt := 32) dX9_acre_25 (by decide) (fun h => absurd h (by decide)) (fun _ => ?_)
    refine pl_iconst (pc := 28) (v := 0) dX9_acre_28 (by rfl) ?_
    refine pj_goto (pc := 29) (tgt := 42) dX9_acre_29 (by decide) ?_
    refine pj_iret (pc := 42) dX9_acre_42 rfl ?_
    exact ⟨vIe (by simp [p_acre, c7]) rfl, congrArg (mm g ad μ) (by simp [p_acre, c7])⟩
  · refine pl_iload_n (pc := 10) dX9_acre_10 rfl rfl ?_
    refine pl_bipush (pc := 11) (v := 12) dX9_acre_11 (by rfl) ?_
    refine pj_icmp_lt (pc := 13) (tgt := 20) dX9_acre_13 (by decide) (fun c13 => ?_) (fun c13 => ?_)
    · refine pl_iconst (pc := 20) (v := 0) dX9_acre_20 (by rfl) ?_
      refine pl_iconst (pc := 21) (v := 1) dX9_acre_21 (by rfl) ?_
      refine pl_callVd (pc := 22) (As := [_, _]) (C2 := 0) (N2 := 0) ckX9 mdX9_bad rfl q2631 q2633 qs50 q154 dX9_acre_22 rfl rfl (Nat.le_of_ble_eq_true rfl) (mm_o hA) (w_bad_0 (d := d - 1) (by omega) hA) (by omega) (by decide) (by decide) ?_
      refine pj_if_eq (pc := 25) (tgt := 32) dX9_acre_25 (by decide) (fun _ => ?_) (fun h => absurd h (by decide))
      obtain ⟨j_k, hj_k, rfl⟩ := inN_of (n := 12) (by omega) (inN_ok2 c7 c13)
      have f_k := inN_nI hj_k (by omega)
      have g_k := nI_clamp (n := j_k) (by omega)
      refine pl_aload_n (pc := 32) dX9_acre_32 rfl rfl ?_
      refine pj_getf (pc := 33) ckX9 1 q2517 dX9_acre_33 (by decide) (mm_o hA) rfl ?_
      refine pl_sipush (pc := 36) (v := 2080) dX9_acre_36 (by rfl) ?_
      refine pl_iload_n (pc := 39) dX9_acre_39 rfl rfl ?_
      refine pl_iadd (pc := 40) dX9_acre_40 ?_
      refine pl_iald (pc := 41) (n := 2132) dX9_acre_41 (mm_a hA 1 (by decide) (by decide)) (by omega) (by decide) ?_
      refine pj_iret (pc := 42) dX9_acre_42 rfl ?_
      exact ⟨vIe (by simp [p_acre, c7, c13, f_k, g_k]) rfl, congrArg (mm g ad μ) (by simp [p_acre, c7, c13, f_k, g_k])⟩
    · refine pl_iconst (pc := 16) (v := 1) dX9_acre_16 (by rfl) ?_
      refine pj_goto (pc := 17) (tgt := 21) dX9_acre_17 (by decide) ?_
      refine pl_iconst (pc := 21) (v := 1) dX9_acre_21 (by rfl) ?_
      refine pl_callVd (pc := 22) (As := [_, _]) (C2 := 0) (N2 := 0) ckX9 mdX9_bad rfl q2631 q2633 qs50 q154 dX9_acre_22 rfl rfl (Nat.le_of_ble_eq_true rfl) (mm_o hA) (w_bad_1 (d := d - 1) (by omega) hA) (by omega) (by decide) (by decide) ?_
      refine pj_if_eq (pc := 25) (tgt := 32) dX9_acre_25 (by decide) (fun h => absurd h (by decide)) (fun _ => ?_)
      refine pl_iconst (pc := 28) (v := 0) dX9_acre_28 (by rfl) ?_
      refine pj_goto (pc := 29) (tgt := 42) dX9_acre_29 (by decide) ?_
      refine pj_iret (pc := 42) dX9_acre_42 rfl ?_
      exact ⟨vIe (by simp [p_acre, c7, c13]) rfl, congrArg (mm g ad μ) (by simp [p_acre, c7, c13])⟩
set_option maxHeartbeats 4000000 in
theorem w_X9_seen {g : GP} {ad : Nat → Nat} {μ : Mem} {σ : MS} {d : Nat} {z : Int32}  (hd : 2 ≤ d) (hA : Inj ad 18) : PM g yX9_seen (ws_ yX9_seen cX9_seen 2 (some .int)) d 0 0 [.ref (ad 0), .int z] (mm g ad μ σ) (rQ (some (.int ((p_seen σ z).1))) (mm g ad μ ((p_seen σ z).2))) := by
  refine PM.of (by decide +kernel) (Nat.le_of_ble_eq_true rfl) ?_
  show PJ g _ _ _ _ d 0 0 0 [(0, .ref (ad 0)), (1, .int z)] [] _ _
  refine pl_aload_n (pc := 0) dX9_seen_0 rfl rfl ?_
  refine pl_iconst (pc := 1) (v := 0) dX9_seen_1 (by rfl) ?_
  refine pm_putI (pc := 2) 0 hA q2516 dX9_seen_2 (by decide) rfl (by rfl) (by rfl) rfl ?_
  refine pl_aload_n (pc := 5) dX9_seen_5 rfl rfl ?_
  refine pl_aload_n (pc := 6) dX9_seen_6 rfl rfl ?_
  refine pl_iload_n (pc := 7) dX9_seen_7 rfl rfl ?_
  refine pl_callVd (pc := 8) (As := [_]) (C2 := 0) (N2 := 0) ckX9 mdX9_isZone rfl q2643 q2645 qs52 q154 dX9_seen_8 rfl rfl (Nat.le_of_ble_eq_true rfl) (mm_o hA) (w_X9_isZone (d := d - 1) (by omega) hA) (by omega) (by decide) (by decide) ?_
  refine pl_if_neB (pc := 11) (tgt := 18) dX9_seen_11 (by decide) (fun c11 => ?_) (fun c11 => ?_)
  · obtain ⟨j_z, hj_z, rfl⟩ := inN_of (by decide) c11
    have f_z := inN_nI hj_z (by omega)
    have g_z := nI_clamp (n := j_z) (by omega)
    refine pl_iconst (pc := 18) (v := 0) dX9_seen_18 (by rfl) ?_
    refine pl_iconst (pc := 19) (v := 1) dX9_seen_19 (by rfl) ?_
    refine pl_callVd (pc := 20) (As := [_, _]) (C2 := 0) (N2 := 0) ckX9 mdX9_bad rfl q2631 q2633 qs50 q154 dX9_seen_20 rfl rfl (Nat.le_of_ble_eq_true rfl) (mm_o hA) (w_bad_0 (d := d - 1) (by omega) hA) (by omega) (by decide) (by decide) ?_
    refine pj_if_eq (pc := 23) (tgt := 30) dX9_seen_23 (by decide) (fun _ => ?_) (fun h => absurd h (by decide))
    refine pl_aload_n (pc := 30) dX9_seen_30 rfl rfl ?_
    refine pj_getf (pc := 31) ckX9 1 q2517 dX9_seen_31 (by decide) (mm_o hA) rfl ?_
    refine pl_sipush (pc := 34) (v := 2108) dX9_seen_34 (by rfl) ?_
    refine pl_iload_n (pc := 37) dX9_seen_37 rfl rfl ?_
    refine pl_iadd (pc := 38) dX9_seen_38 ?_
    refine pl_iald (pc := 39) (n := 2132) dX9_seen_39 (mm_a hA 1 (by decide) (by decide)) (by omega) (by decide) ?_
    refine pj_iret (pc := 40) dX9_seen_40 rfl ?_
    exact ⟨vIe (by simp [p_seen, c11, f_z, g_z]) rfl, congrArg (mm g ad μ) (by simp [p_seen, c11, f_z, g_z])⟩
  · refine pl_iconst (pc := 14) (v := 1) dX9_seen_14 (by rfl) ?_
    refine pj_goto (pc := 15) (tgt := 19) dX9_seen_15 (by decide) ?_
    refine pl_iconst (pc := 19) (v := 1) dX9_seen_19 (by rfl) ?_
    refine pl_callVd (pc := 20) (As := [_, _]) (C2 := 0) (N2 := 0) ckX9 mdX9_bad rfl q2631 q2633 qs50 q154 dX9_seen_20 rfl rfl (Nat.le_of_ble_eq_true rfl) (mm_o hA) (w_bad_1 (d := d - 1) (by omega) hA) (by omega) (by decide) (by decide) ?_
    refine pj_if_eq (pc := 23) (tgt := 30) dX9_seen_23 (by decide) (fun h => absurd h (by decide)) (fun _ => ?_)
    refine pl_iconst (pc := 26) (v := 0) dX9_seen_26 (by rfl) ?_
    refine pj_goto (pc := 27) (tgt := 40) dX9_seen_27 (by decide) ?_
    refine pj_iret (pc := 40) dX9_seen_40 rfl ?_
    exact ⟨vIe (by simp [p_seen, c11]) rfl, congrArg (mm g ad μ) (by simp [p_seen, c11])⟩
set_option maxHeartbeats 4000000 in
theorem w_X9_promiseOf {g : GP} {ad : Nat → Nat} {μ : Mem} {σ : MS} {d : Nat} {c : Nat}  (hd : 2 ≤ d) (hA : Inj ad 18) (hc : c < 96) : PM g yX9_promiseOf (ws_ yX9_promiseOf cX9_promiseOf 3 (some .int)) d 0 0 [.ref (ad 0), .int (nI c)] (mm g ad μ σ) (rQ (some (.int (promiseV σ c))) (mm g ad μ (σ))) := by
  refine PM.of (by decide +kernel) (Nat.le_of_ble_eq_true rfl) ?_
  show PJ g _ _ _ _ d 0 0 0 [(0, .ref (ad 0)), (1, .int (nI c))] [] _ _
  refine pl_iload_n (pc := 0) dX9_promiseOf_0 rfl rfl ?_
  refine pl_callSd (pc := 1) (As := [_]) (C2 := 0) (N2 := 0) mdX9_zoneOf q2671 q2672 q154 dX9_promiseOf_1 rfl rfl (Nat.le_of_ble_eq_true rfl) (w_X9_zoneOf (d := d - 1) (by omega) (by first | omega | assumption | exact hn | exact hl | exact hb | exact hq | exact hdr | exact has)) (by omega) (by decide) (by decide) ?_
  refine pj_istore_n (pc := 4) (lv' := [(2, _), (0, _), (1, _)]) dX9_promiseOf_4 rfl (by decide) rfl ?_
  refine pl_bipush (pc := 5) (v := 10) dX9_promiseOf_5 (by rfl) ?_
  refine pl_aload_n (pc := 7) dX9_promiseOf_7 rfl rfl ?_
  refine pj_getf (pc := 8) ckX9 3 q2519 dX9_promiseOf_8 (by decide) (mm_o hA) rfl ?_
  refine pl_iload_n (pc := 11) dX9_promiseOf_11 rfl rfl ?_
  refine pl_iald (pc := 12) (n := 96) dX9_promiseOf_12 (mm_a hA 3 (by decide) (by decide)) (by omega) (by decide) ?_
  refine pj_imul (pc := 13) dX9_promiseOf_13 ?_
  refine pl_aload_n (pc := 14) dX9_promiseOf_14 rfl rfl ?_
  refine pj_getf (pc := 15) ckX9 1 q2517 dX9_promiseOf_15 (by decide) (mm_o hA) rfl ?_
  refine pl_sipush (pc := 18) (v := 2108) dX9_promiseOf_18 (by rfl) ?_
  refine pl_iload_n (pc := 21) dX9_promiseOf_21 rfl rfl ?_
  refine pl_iadd (pc := 22) dX9_promiseOf_22 ?_
  refine pl_iald (pc := 23) (n := 2132) dX9_promiseOf_23 (mm_a hA 1 (by decide) (by decide)) (by omega) (by decide) ?_
  refine pj_if_ne (pc := 24) (tgt := 31) dX9_promiseOf_24 (by decide) (fun c24 => ?_) (fun c24 => ?_)
  · refine pl_aload_n (pc := 31) dX9_promiseOf_31 rfl rfl ?_
    refine pj_getf (pc := 32) ckX9 1 q2517 dX9_promiseOf_32 (by decide) (mm_o hA) rfl ?_
    refine pl_sipush (pc := 35) (v := 2112) dX9_promiseOf_35 (by rfl) ?_
    refine pl_iload_n (pc := 38) dX9_promiseOf_38 rfl rfl ?_
    refine pl_iadd (pc := 39) dX9_promiseOf_39 ?_
    refine pl_iald (pc := 40) (n := 2132) dX9_promiseOf_40 (mm_a hA 1 (by decide) (by decide)) (by omega) (by decide) ?_
    refine pl_aload_n (pc := 41) dX9_promiseOf_41 rfl rfl ?_
    refine pj_getf (pc := 42) ckX9 1 q2517 dX9_promiseOf_42 (by decide) (mm_o hA) rfl ?_
    refine pl_sipush (pc := 45) (v := 2108) dX9_promiseOf_45 (by rfl) ?_
    refine pl_iload_n (pc := 48) dX9_promiseOf_48 rfl rfl ?_
    refine pl_iadd (pc := 49) dX9_promiseOf_49 ?_
    refine pl_iald (pc := 50) (n := 2132) dX9_promiseOf_50 (mm_a hA 1 (by decide) (by decide)) (by omega) (by decide) ?_
    refine pj_idiv (pc := 51) dX9_promiseOf_51 ‹_› ?_
    refine pl_bipush (pc := 52) (v := 10) dX9_promiseOf_52 (by rfl) ?_
    refine pj_idiv (pc := 54) dX9_promiseOf_54 (by decide) ?_
    refine pj_iadd (pc := 55) dX9_promiseOf_55 ?_
    refine pj_iret (pc := 56) dX9_promiseOf_56 rfl ?_
    exact ⟨vIe (by simp [promiseV, c24]) rfl, rfl⟩
  · refine pl_iconst (pc := 27) (v := 0) dX9_promiseOf_27 (by rfl) ?_
    refine pj_goto (pc := 28) (tgt := 55) dX9_promiseOf_28 (by decide) ?_
    refine pj_iadd (pc := 55) dX9_promiseOf_55 ?_
    refine pj_iret (pc := 56) dX9_promiseOf_56 rfl ?_
    exact ⟨vIe (by simp [promiseV, eq_true c24]) rfl, rfl⟩
set_option maxHeartbeats 4000000 in
theorem w_X9_promise {g : GP} {ad : Nat → Nat} {μ : Mem} {σ : MS} {d : Nat} {c : Int32}  (hd : 3 ≤ d) (hA : Inj ad 18) : PM g yX9_promise (ws_ yX9_promise cX9_promise 2 (some .int)) d 0 0 [.ref (ad 0), .int c] (mm g ad μ σ) (rQ (some (.int ((p_promise σ c).1))) (mm g ad μ ((p_promise σ c).2))) := by
  refine PM.of (by decide +kernel) (Nat.le_of_ble_eq_true rfl) ?_
  show PJ g _ _ _ _ d 0 0 0 [(0, .ref (ad 0)), (1, .int c)] [] _ _
  refine pl_aload_n (pc := 0) dX9_promise_0 rfl rfl ?_
  refine pl_iconst (pc := 1) (v := 0) dX9_promise_1 (by rfl) ?_
  refine pm_putI (pc := 2) 0 hA q2516 dX9_promise_2 (by decide) rfl (by rfl) (by rfl) rfl ?_
  refine pl_aload_n (pc := 5) dX9_promise_5 rfl rfl ?_
  refine pl_aload_n (pc := 6) dX9_promise_6 rfl rfl ?_
  refine pl_iload_n (pc := 7) dX9_promise_7 rfl rfl ?_
  refine pl_callVd (pc := 8) (As := [_]) (C2 := 0) (N2 := 0) ckX9 mdX9_isSection rfl q2627 q2629 qs49 q154 dX9_promise_8 rfl rfl (Nat.le_of_ble_eq_true rfl) (mm_o hA) (w_X9_isSection (d := d - 1) (by omega) hA) (by omega) (by decide) (by decide) ?_
  refine pl_if_neB (pc := 11) (tgt := 18) dX9_promise_11 (by decide) (fun c11 => ?_) (fun c11 => ?_)
  · obtain ⟨j_c, hj_c, rfl⟩ := inN_of (by decide) c11
    have f_c := inN_nI hj_c (by omega)
    have g_c := nI_clamp (n := j_c) (by omega)
    refine pl_iconst (pc := 18) (v := 0) dX9_promise_18 (by rfl) ?_
    refine pl_iconst (pc := 19) (v := 1) dX9_promise_19 (by rfl) ?_
    refine pl_callVd (pc := 20) (As := [_, _]) (C2 := 0) (N2 := 0) ckX9 mdX9_bad rfl q2631 q2633 qs50 q154 dX9_promise_20 rfl rfl (Nat.le_of_ble_eq_true rfl) (mm_o hA) (w_bad_0 (d := d - 1) (by omega) hA) (by omega) (by decide) (by decide) ?_
    refine pj_if_eq (pc := 23) (tgt := 30) dX9_promise_23 (by decide) (fun _ => ?_) (fun h => absurd h (by decide))
    refine pl_aload_n (pc := 30) dX9_promise_30 rfl rfl ?_
    refine pl_iload_n (pc := 31) dX9_promise_31 rfl rfl ?_
    refine pl_callVd (pc := 32) (As := [_]) (C2 := 0) (N2 := 0) ckX9 mdX9_promiseOf rfl q2667 q2669 qs54 q154 dX9_promise_32 rfl rfl (Nat.le_of_ble_eq_true rfl) (mm_o hA) (w_X9_promiseOf (d := d - 1) (by omega) hA (by first | omega | assumption | exact hn | exact hl | exact hb | exact hq | exact hdr | exact has)) (by omega) (by decide) (by decide) ?_
    refine pj_iret (pc := 35) dX9_promise_35 rfl ?_
    exact ⟨vIe (by simp [p_promise, c11, f_c, g_c]) rfl, congrArg (mm g ad μ) (by simp [p_promise, c11, f_c, g_c])⟩
  · refine pl_iconst (pc := 14) (v := 1) dX9_promise_14 (by rfl) ?_
    refine pj_goto (pc := 15) (tgt := 19) dX9_promise_15 (by decide) ?_
    refine pl_iconst (pc := 19) (v := 1) dX9_promise_19 (by rfl) ?_
    refine pl_callVd (pc := 20) (As := [_, _]) (C2 := 0) (N2 := 0) ckX9 mdX9_bad rfl q2631 q2633 qs50 q154 dX9_promise_20 rfl rfl (Nat.le_of_ble_eq_true rfl) (mm_o hA) (w_bad_1 (d := d - 1) (by omega) hA) (by omega) (by decide) (by decide) ?_
    refine pj_if_eq (pc := 23) (tgt := 30) dX9_promise_23 (by decide) (fun h => absurd h (by decide)) (fun _ => ?_)
    refine pl_iconst (pc := 26) (v := 0) dX9_promise_26 (by rfl) ?_
    refine pj_goto (pc := 27) (tgt := 35) dX9_promise_27 (by decide) ?_
    refine pj_iret (pc := 35) dX9_promise_35 rfl ?_
    exact ⟨vIe (by simp [p_promise, c11]) rfl, congrArg (mm g ad μ) (by simp [p_promise, c11])⟩
set_option maxHeartbeats 4000000 in
theorem w_X9_fund {g : GP} {ad : Nat → Nat} {μ : Mem} {σ : MS} {d : Nat} {v : Int32}  (hd : 2 ≤ d) (hA : Inj ad 18) : PM g yX9_fund (ws_ yX9_fund cX9_fund 2 (some .int)) d 0 0 [.ref (ad 0), .int v] (mm g ad μ σ) (rQ (some (.int ((p_fund σ v).1))) (mm g ad μ ((p_fund σ v).2))) := by
  refine PM.of (by decide +kernel) (Nat.le_of_ble_eq_true rfl) ?_
  show PJ g _ _ _ _ d 0 0 0 [(0, .ref (ad 0)), (1, .int v)] [] _ _
  refine pl_aload_n (pc := 0) dX9_fund_0 rfl rfl ?_
  refine pl_iconst (pc := 1) (v := 0) dX9_fund_1 (by rfl) ?_
  refine pm_putI (pc := 2) 0 hA q2516 dX9_fund_2 (by decide) rfl (by rfl) (by rfl) rfl ?_
  refine pl_aload_n (pc := 5) dX9_fund_5 rfl rfl ?_
  refine pl_iload_n (pc := 6) dX9_fund_6 rfl rfl ?_
  refine pj_if_lt (pc := 7) (tgt := 17) dX9_fund_7 (by decide) (fun c7 => ?_) (fun c7 => ?_)
  · refine pl_iconst (pc := 17) (v := 1) dX9_fund_17 (by rfl) ?_
    refine pj_goto (pc := 18) (tgt := 22) dX9_fund_18 (by decide) ?_
    refine pl_iconst (pc := 22) (v := 1) dX9_fund_22 (by rfl) ?_
    refine pl_callVd (pc := 23) (As := [_, _]) (C2 := 0) (N2 := 0) ckX9 mdX9_bad rfl q2631 q2633 qs50 q154 dX9_fund_23 rfl rfl (Nat.le_of_ble_eq_true rfl) (mm_o hA) (w_bad_1 (d := d - 1) (by omega) hA) (by omega) (by decide) (by decide) ?_
    refine pj_if_eq (pc := 26) (tgt := 31) dX9_fund_26 (by decide) (fun h => absurd h (by decide)) (fun _ => ?_)
    refine pl_iconst (pc := 29) (v := 0) dX9_fund_29 (by rfl) ?_
    refine pj_iret (pc := 30) dX9_fund_30 rfl ?_
    exact ⟨vIe (by simp [p_fund, c7]) rfl, congrArg (mm g ad μ) (by simp [p_fund, c7])⟩
  · refine pl_iload_n (pc := 10) dX9_fund_10 rfl rfl ?_
    refine pj_ldcw (pc := 11) q2869 dX9_fund_11 ?_
    refine pj_icmp_le (pc := 14) (tgt := 21) dX9_fund_14 (by decide) (fun c14 => ?_) (fun c14 => ?_)
    · refine pl_iconst (pc := 21) (v := 0) dX9_fund_21 (by rfl) ?_
      refine pl_iconst (pc := 22) (v := 1) dX9_fund_22 (by rfl) ?_
      refine pl_callVd (pc := 23) (As := [_, _]) (C2 := 0) (N2 := 0) ckX9 mdX9_bad rfl q2631 q2633 qs50 q154 dX9_fund_23 rfl rfl (Nat.le_of_ble_eq_true rfl) (mm_o hA) (w_bad_0 (d := d - 1) (by omega) hA) (by omega) (by decide) (by decide) ?_
      refine pj_if_eq (pc := 26) (tgt := 31) dX9_fund_26 (by decide) (fun _ => ?_) (fun h => absurd h (by decide))
      refine pl_aload_n (pc := 31) dX9_fund_31 rfl rfl ?_
      refine pj_getf (pc := 32) ckX9 1 q2517 dX9_fund_32 (by decide) (mm_o hA) rfl ?_
      refine pl_sipush (pc := 35) (v := 2123) dX9_fund_35 (by rfl) ?_
      refine pj_dup2_11 (pc := 38) dX9_fund_38 rfl rfl ?_
      refine pl_iald (pc := 39) (n := 2132) dX9_fund_39 (mm_a hA 1 (by decide) (by decide)) (by omega) (by decide) ?_
      refine pl_iload_n (pc := 40) dX9_fund_40 rfl rfl ?_
      refine pj_iadd (pc := 41) dX9_fund_41 ?_
      refine pm_iast (pc := 42) 1 hA (by decide) (by decide) rfl dX9_fund_42 (show _ < 2132 by omega) (by decide) ?_
      refine pl_aload_n (pc := 43) dX9_fund_43 rfl rfl ?_
      refine pj_getf (pc := 44) ckX9 1 q2517 dX9_fund_44 (by decide) (mm_o hA) rfl ?_
      refine pl_sipush (pc := 47) (v := 2123) dX9_fund_47 (by rfl) ?_
      refine pl_iald (pc := 50) (n := 2132) dX9_fund_50 (mm_a hA 1 (by decide) (by decide)) (by omega) (by decide) ?_
      refine pj_iret (pc := 51) dX9_fund_51 rfl ?_
      exact ⟨vIe (by simp [p_fund, c7, c14]) rfl, congrArg (mm g ad μ) (by simp [p_fund, c7, c14])⟩
    · refine pl_iconst (pc := 17) (v := 1) dX9_fund_17 (by rfl) ?_
      refine pj_goto (pc := 18) (tgt := 22) dX9_fund_18 (by decide) ?_
      refine pl_iconst (pc := 22) (v := 1) dX9_fund_22 (by rfl) ?_
      refine pl_callVd (pc := 23) (As := [_, _]) (C2 := 0) (N2 := 0) ckX9 mdX9_bad rfl q2631 q2633 qs50 q154 dX9_fund_23 rfl rfl (Nat.le_of_ble_eq_true rfl) (mm_o hA) (w_bad_1 (d := d - 1) (by omega) hA) (by omega) (by decide) (by decide) ?_
      refine pj_if_eq (pc := 26) (tgt := 31) dX9_fund_26 (by decide) (fun h => absurd h (by decide)) (fun _ => ?_)
      refine pl_iconst (pc := 29) (v := 0) dX9_fund_29 (by rfl) ?_
      refine pj_iret (pc := 30) dX9_fund_30 rfl ?_
      exact ⟨vIe (by simp [p_fund, c7, c14]) rfl, congrArg (mm g ad μ) (by simp [p_fund, c7, c14])⟩
