set_option maxRecDepth 100000
set_option maxHeartbeats 4000000 in
theorem w_X9_adds {g : GP} {ad : Nat → Nat} {μ : Mem} {σ : MS} {d : Nat} {t : Int32} {c : Int32} {s : Int32} {l : Int32} {n : Nat} (hd : 2 ≤ d) (hA : Inj ad 18) (hn : row σ 2124 = nI n) (hP1 : n < 100) : PM g yX9_adds (ws_ yX9_adds cX9_adds 6 none) d 0 0 [.ref (ad 0), .int t, .int c, .int s, .int l] (mm g ad μ σ) (rQ none (mm g ad μ (s_adds σ t c s l))) := by
  refine PM.of (by decide +kernel) (Nat.le_of_ble_eq_true rfl) ?_
  show PJ g _ _ _ _ d 0 0 0 [(0, .ref (ad 0)), (1, .int t), (2, .int c), (3, .int s), (4, .int l)] [] _ _
  refine pl_aload_n (pc := 0) dX9_adds_0 rfl rfl ?_
  refine pj_getf (pc := 1) ckX9 1 q2517 dX9_adds_1 (by decide) (mm_o hA) rfl ?_
  refine pl_sipush (pc := 4) (v := 2124) dX9_adds_4 (by rfl) ?_
  refine pl_iald (pc := 7) (n := 2132) dX9_adds_7 (mm_a hA 1 (by decide) (by decide)) (by omega) (by decide) ?_
  refine PJ.top (y := nI _) (hn) ?_
  refine pj_istore (pc := 8) (lv' := [(5, _), (0, _), (1, _), (2, _), (3, _), (4, _)]) dX9_adds_8 (by decide) rfl ?_
  refine pl_aload_n (pc := 10) dX9_adds_10 rfl rfl ?_
  refine pl_iload (pc := 11) dX9_adds_11 rfl ?_
  refine pl_iconst (pc := 13) (v := 0) dX9_adds_13 (by rfl) ?_
  refine pl_iload_n (pc := 14) dX9_adds_14 rfl rfl ?_
  refine pl_callVv (pc := 15) (As := [_, _, _]) (C2 := 0) (N2 := 0) ckX9 mdX9_setPer rfl q2701 q2703 qs57 q154 dX9_adds_15 rfl rfl (Nat.le_of_ble_eq_true rfl) (mm_o hA) (w_X9_setPer (d := d - 1) (by omega) hA (by first | omega | assumption | exact hn | exact hl | exact hb | exact hq | exact hdr | exact has) (by first | omega | assumption | exact hn | exact hl | exact hb | exact hq | exact hdr | exact has)) (by omega) (by decide) (by decide) ?_
  refine pl_aload_n (pc := 18) dX9_adds_18 rfl rfl ?_
  refine pl_iload (pc := 19) dX9_adds_19 rfl ?_
  refine pl_iconst (pc := 21) (v := 1) dX9_adds_21 (by rfl) ?_
  refine pl_iload_n (pc := 22) dX9_adds_22 rfl rfl ?_
  refine pl_callVv (pc := 23) (As := [_, _, _]) (C2 := 0) (N2 := 0) ckX9 mdX9_setPer rfl q2701 q2703 qs57 q154 dX9_adds_23 rfl rfl (Nat.le_of_ble_eq_true rfl) (mm_o hA) (w_X9_setPer (d := d - 1) (by omega) hA (by first | omega | assumption | exact hn | exact hl | exact hb | exact hq | exact hdr | exact has) (by first | omega | assumption | exact hn | exact hl | exact hb | exact hq | exact hdr | exact has)) (by omega) (by decide) (by decide) ?_
  refine pl_aload_n (pc := 26) dX9_adds_26 rfl rfl ?_
  refine pl_iload (pc := 27) dX9_adds_27 rfl ?_
  refine pl_iconst (pc := 29) (v := 2) dX9_adds_29 (by rfl) ?_
  refine pl_iload_n (pc := 30) dX9_adds_30 rfl rfl ?_
  refine pl_callVv (pc := 31) (As := [_, _, _]) (C2 := 0) (N2 := 0) ckX9 mdX9_setPer rfl q2701 q2703 qs57 q154 dX9_adds_31 rfl rfl (Nat.le_of_ble_eq_true rfl) (mm_o hA) (w_X9_setPer (d := d - 1) (by omega) hA (by first | omega | assumption | exact hn | exact hl | exact hb | exact hq | exact hdr | exact has) (by first | omega | assumption | exact hn | exact hl | exact hb | exact hq | exact hdr | exact has)) (by omega) (by decide) (by decide) ?_
  refine pl_aload_n (pc := 34) dX9_adds_34 rfl rfl ?_
  refine pl_iload (pc := 35) dX9_adds_35 rfl ?_
  refine pl_iconst (pc := 37) (v := 3) dX9_adds_37 (by rfl) ?_
  refine pj_iconst (pc := 38) (v := (-1)) dX9_adds_38 (by rfl) ?_
  refine pl_callVv (pc := 39) (As := [_, _, _]) (C2 := 0) (N2 := 0) ckX9 mdX9_setPer rfl q2701 q2703 qs57 q154 dX9_adds_39 rfl rfl (Nat.le_of_ble_eq_true rfl) (mm_o hA) (w_X9_setPer (d := d - 1) (by omega) hA (by first | omega | assumption | exact hn | exact hl | exact hb | exact hq | exact hdr | exact has) (by first | omega | assumption | exact hn | exact hl | exact hb | exact hq | exact hdr | exact has)) (by omega) (by decide) (by decide) ?_
  refine pl_aload_n (pc := 42) dX9_adds_42 rfl rfl ?_
  refine pl_iload (pc := 43) dX9_adds_43 rfl ?_
  refine pl_iconst (pc := 45) (v := 4) dX9_adds_45 (by rfl) ?_
  refine pl_iconst (pc := 46) (v := 0) dX9_adds_46 (by rfl) ?_
  refine pl_callVv (pc := 47) (As := [_, _, _]) (C2 := 0) (N2 := 0) ckX9 mdX9_setPer rfl q2701 q2703 qs57 q154 dX9_adds_47 rfl rfl (Nat.le_of_ble_eq_true rfl) (mm_o hA) (w_X9_setPer (d := d - 1) (by omega) hA (by first | omega | assumption | exact hn | exact hl | exact hb | exact hq | exact hdr | exact has) (by first | omega | assumption | exact hn | exact hl | exact hb | exact hq | exact hdr | exact has)) (by omega) (by decide) (by decide) ?_
  refine pl_aload_n (pc := 50) dX9_adds_50 rfl rfl ?_
  refine pl_iload (pc := 51) dX9_adds_51 rfl ?_
  refine pl_iconst (pc := 53) (v := 5) dX9_adds_53 (by rfl) ?_
  refine pl_iload (pc := 54) dX9_adds_54 rfl ?_
  refine pl_callVv (pc := 56) (As := [_, _, _]) (C2 := 0) (N2 := 0) ckX9 mdX9_setPer rfl q2701 q2703 qs57 q154 dX9_adds_56 rfl rfl (Nat.le_of_ble_eq_true rfl) (mm_o hA) (w_X9_setPer (d := d - 1) (by omega) hA (by first | omega | assumption | exact hn | exact hl | exact hb | exact hq | exact hdr | exact has) (by first | omega | assumption | exact hn | exact hl | exact hb | exact hq | exact hdr | exact has)) (by omega) (by decide) (by decide) ?_
  refine pl_aload_n (pc := 59) dX9_adds_59 rfl rfl ?_
  refine pl_iload (pc := 60) dX9_adds_60 rfl ?_
  refine pl_bipush (pc := 62) (v := 6) dX9_adds_62 (by rfl) ?_
  refine pj_iconst (pc := 64) (v := (-1)) dX9_adds_64 (by rfl) ?_
  refine pl_callVv (pc := 65) (As := [_, _, _]) (C2 := 0) (N2 := 0) ckX9 mdX9_setPer rfl q2701 q2703 qs57 q154 dX9_adds_65 rfl rfl (Nat.le_of_ble_eq_true rfl) (mm_o hA) (w_X9_setPer (d := d - 1) (by omega) hA (by first | omega | assumption | exact hn | exact hl | exact hb | exact hq | exact hdr | exact has) (by first | omega | assumption | exact hn | exact hl | exact hb | exact hq | exact hdr | exact has)) (by omega) (by decide) (by decide) ?_
  refine pl_aload_n (pc := 68) dX9_adds_68 rfl rfl ?_
  refine pj_getf (pc := 69) ckX9 1 q2517 dX9_adds_69 (by decide) (mm_o hA) rfl ?_
  refine pl_sipush (pc := 72) (v := 2124) dX9_adds_72 (by rfl) ?_
  refine pj_dup2_11 (pc := 75) dX9_adds_75 rfl rfl ?_
  refine pl_iald (pc := 76) (n := 2132) dX9_adds_76 (mm_a hA 1 (by decide) (by decide)) (by omega) (by decide) ?_
  refine pl_iconst (pc := 77) (v := 1) dX9_adds_77 (by rfl) ?_
  refine pj_iadd (pc := 78) dX9_adds_78 ?_
  refine pm_iast (pc := 79) 1 hA (by decide) (by decide) rfl dX9_adds_79 (show _ < 2132 by omega) (by decide) ?_
  refine pj_vret (pc := 80) dX9_adds_80 rfl ?_
  exact ⟨rfl, congrArg (mm g ad μ) (by unfold s_adds; rw [hn, tN_nI (by omega)])⟩
theorem adds_n {σ : MS} {n : Nat} {t c s l : Int32} (hn : row σ 2124 = nI n) (hP : n < 100) : row (s_adds σ t c s l) 2124 = nI (n + 1) := by
  unfold s_adds
  rw [hn, tN_nI (by omega), rowS_eq, rowS_ne (by omega), rowS_ne (by omega), rowS_ne (by omega), rowS_ne (by omega), rowS_ne (by omega), rowS_ne (by omega), rowS_ne (by omega), hn, nI_add]
def p_people (σ : MS) (n : Nat) (m t c : Int32) : Int32 × MS :=
  if t < 0 then (nI 0, th σ 1) else if nI 3 < t then (nI 0, th σ 1) else if c < 0 then (nI 0, th σ 1) else if ¬ c ≤ 1000000 then (nI 0, th σ 1)
  else if ¬ m ≤ nI 100 - nI n then (-1, s0 σ) else if ¬ 0 ≤ m then (-2, s0 σ)
  else (nI n, upto (fun _ σ => s_adds σ t c (nI 0) (-1)) (tN m) (s0 σ))
def land1 (p : Nat) (σ : MS) : MS := if ¬ per σ p 2 = nI 1 then σ else if ¬ per σ p 5 = row σ 2116 then σ else sR σ (768 + 8 * p + 2) (nI 2)
def s_lands (σ : MS) (n : Nat) : MS := upto land1 n σ
theorem land1_row {p j : Nat} {σ : MS} (hj : j ≠ 768 + 8 * p + 2) : row (land1 p σ) j = row σ j := by
  unfold land1
  split
  · rfl
  · split
    · rfl
    · exact rowS_ne hj
theorem lands_row {j : Nat} {σ : MS} : ∀ n, (∀ p, p < n → j ≠ 768 + 8 * p + 2) → row (s_lands σ n) j = row σ j
  | 0, _ => rfl
  | n + 1, h => (land1_row (h n (by omega))).trans (lands_row n (fun p hp => h p (by omega)))
def p_isAsked (σ : MS) (n : Nat) (p c : Int32) : Bool × MS := if inN p n = false then (false, th σ 1) else if inN c 96 = false then (false, th σ 1) else (true, s0 σ)
def ownPastV (σ : MS) (p c : Nat) : Bool := isPastV (sec σ c 0) && decide (sec σ c 1 = nI p)
set_option maxHeartbeats 4000000 in
theorem w_X9_people {g : GP} {ad : Nat → Nat} {μ : Mem} {σ : MS} {d : Nat} {m : Int32} {t : Int32} {c : Int32} {n : Nat} (hd : 3 ≤ d) (hA : Inj ad 18) (hn : row σ 2124 = nI n) (hP : n ≤ 100) : PM g yX9_people (ws_ yX9_people cX9_people 6 (some .int)) d 0 0 [.ref (ad 0), .int m, .int t, .int c] (mm g ad μ σ) (rQ (some (.int ((p_people σ n m t c).1))) (mm g ad μ ((p_people σ n m t c).2))) := by
  refine PM.of (by decide +kernel) (Nat.le_of_ble_eq_true rfl) ?_
  show PJ g _ _ _ _ d 0 0 0 [(0, .ref (ad 0)), (1, .int m), (2, .int t), (3, .int c)] [] _ _
  refine pl_aload_n (pc := 0) dX9_people_0 rfl rfl ?_
  refine pl_iconst (pc := 1) (v := 0) dX9_people_1 (by rfl) ?_
  refine pm_putI (pc := 2) 0 hA q2516 dX9_people_2 (by decide) rfl (by rfl) (by rfl) rfl ?_
  refine pl_aload_n (pc := 5) dX9_people_5 rfl rfl ?_
  refine pl_iload_n (pc := 6) dX9_people_6 rfl rfl ?_
  refine pj_if_lt (pc := 7) (tgt := 25) dX9_people_7 (by decide) (fun c7 => ?_) (fun c7 => ?_)
  · refine pl_iconst (pc := 25) (v := 1) dX9_people_25 (by rfl) ?_
    refine pj_goto (pc := 26) (tgt := 30) dX9_people_26 (by decide) ?_
    refine pl_iconst (pc := 30) (v := 1) dX9_people_30 (by rfl) ?_
    refine pl_callVd (pc := 31) (As := [_, _]) (C2 := 0) (N2 := 0) ckX9 mdX9_bad rfl q2631 q2633 qs50 q154 dX9_people_31 rfl rfl (Nat.le_of_ble_eq_true rfl) (mm_o hA) (w_bad_1 (d := d - 1) (by omega) hA) (by omega) (by decide) (by decide) ?_
    refine pj_if_eq (pc := 34) (tgt := 39) dX9_people_34 (by decide) (fun h => absurd h (by decide)) (fun _ => ?_)
    refine pl_iconst (pc := 37) (v := 0) dX9_people_37 (by rfl) ?_
    refine pj_iret (pc := 38) dX9_people_38 rfl ?_
    exact ⟨vIe (by simp [p_people, c7]) rfl, congrArg (mm g ad μ) (by simp [p_people, c7])⟩
  · refine pl_iload_n (pc := 10) dX9_people_10 rfl rfl ?_
    refine pl_iconst (pc := 11) (v := 3) dX9_people_11 (by rfl) ?_
    refine pj_icmp_gt (pc := 12) (tgt := 25) dX9_people_12 (by decide) (fun c12 => ?_) (fun c12 => ?_)
    · refine pl_iconst (pc := 25) (v := 1) dX9_people_25 (by rfl) ?_
      refine pj_goto (pc := 26) (tgt := 30) dX9_people_26 (by decide) ?_
      refine pl_iconst (pc := 30) (v := 1) dX9_people_30 (by rfl) ?_
      refine pl_callVd (pc := 31) (As := [_, _]) (C2 := 0) (N2 := 0) ckX9 mdX9_bad rfl q2631 q2633 qs50 q154 dX9_people_31 rfl rfl (Nat.le_of_ble_eq_true rfl) (mm_o hA) (w_bad_1 (d := d - 1) (by omega) hA) (by omega) (by decide) (by decide) ?_
      refine pj_if_eq (pc := 34) (tgt := 39) dX9_people_34 (by decide) (fun h => absurd h (by decide)) (fun _ => ?_)
      refine pl_iconst (pc := 37) (v := 0) dX9_people_37 (by rfl) ?_
      refine pj_iret (pc := 38) dX9_people_38 rfl ?_
      exact ⟨vIe (by simp [p_people, c7, c12]) rfl, congrArg (mm g ad μ) (by simp [p_people, c7, c12])⟩
    · refine pl_iload_n (pc := 15) dX9_people_15 rfl rfl ?_
      refine pj_if_lt (pc := 16) (tgt := 25) dX9_people_16 (by decide) (fun c16 => ?_) (fun c16 => ?_)
      · refine pl_iconst (pc := 25) (v := 1) dX9_people_25 (by rfl) ?_
        refine pj_goto (pc := 26) (tgt := 30) dX9_people_26 (by decide) ?_
        refine pl_iconst (pc := 30) (v := 1) dX9_people_30 (by rfl) ?_
        refine pl_callVd (pc := 31) (As := [_, _]) (C2 := 0) (N2 := 0) ckX9 mdX9_bad rfl q2631 q2633 qs50 q154 dX9_people_31 rfl rfl (Nat.le_of_ble_eq_true rfl) (mm_o hA) (w_bad_1 (d := d - 1) (by omega) hA) (by omega) (by decide) (by decide) ?_
        refine pj_if_eq (pc := 34) (tgt := 39) dX9_people_34 (by decide) (fun h => absurd h (by decide)) (fun _ => ?_)
        refine pl_iconst (pc := 37) (v := 0) dX9_people_37 (by rfl) ?_
        refine pj_iret (pc := 38) dX9_people_38 rfl ?_
        exact ⟨vIe (by simp [p_people, c7, c12, c16]) rfl, congrArg (mm g ad μ) (by simp [p_people, c7, c12, c16])⟩
      · refine pl_iload_n (pc := 19) dX9_people_19 rfl rfl ?_
        refine pj_ldc (pc := 20) q2696 dX9_people_20 ?_
        refine pj_icmp_le (pc := 22) (tgt := 29) dX9_people_22 (by decide) (fun c22 => ?_) (fun c22 => ?_)
        · refine pl_iconst (pc := 29) (v := 0) dX9_people_29 (by rfl) ?_
          refine pl_iconst (pc := 30) (v := 1) dX9_people_30 (by rfl) ?_
          refine pl_callVd (pc := 31) (As := [_, _]) (C2 := 0) (N2 := 0) ckX9 mdX9_bad rfl q2631 q2633 qs50 q154 dX9_people_31 rfl rfl (Nat.le_of_ble_eq_true rfl) (mm_o hA) (w_bad_0 (d := d - 1) (by omega) hA) (by omega) (by decide) (by decide) ?_
          refine pj_if_eq (pc := 34) (tgt := 39) dX9_people_34 (by decide) (fun _ => ?_) (fun h => absurd h (by decide))
          refine pl_iload_n (pc := 39) dX9_people_39 rfl rfl ?_
          refine pl_bipush (pc := 40) (v := 100) dX9_people_40 (by rfl) ?_
          refine pl_aload_n (pc := 42) dX9_people_42 rfl rfl ?_
          refine pj_getf (pc := 43) ckX9 1 q2517 dX9_people_43 (by decide) (mm_o hA) rfl ?_
          refine pl_sipush (pc := 46) (v := 2124) dX9_people_46 (by rfl) ?_
          refine pl_iald (pc := 49) (n := 2132) dX9_people_49 (mm_a hA 1 (by decide) (by decide)) (by omega) (by decide) ?_
          refine PJ.top (y := nI _) (hn) ?_
          refine pj_isub (pc := 50) dX9_people_50 ?_
          refine pj_icmp_le (pc := 51) (tgt := 56) dX9_people_51 (by decide) (fun c51 => ?_) (fun c51 => ?_)
          · refine pl_iload_n (pc := 56) dX9_people_56 rfl rfl ?_
            refine pj_if_ge (pc := 57) (tgt := 63) dX9_people_57 (by decide) (fun c57 => ?_) (fun c57 => ?_)
            · have hm9 : m.toInt ≤ 100 - n := by
                have h9 := Int32.le_iff_toInt_le.mp c51
                rw [pk_sub (by omega), nI_toInt (by omega)] at h9
                omega
              obtain ⟨j_m, hj_m, rfl⟩ := nI_of (x := m) (Int32.not_lt.mpr c57)
              have hm8 : j_m ≤ 100 - n := by rw [nI_toInt hj_m] at hm9; omega
              have g_m := nI_clamp (n := j_m) (by omega)
              refine pl_aload_n (pc := 63) dX9_people_63 rfl rfl ?_
              refine pj_getf (pc := 64) ckX9 1 q2517 dX9_people_64 (by decide) (mm_o hA) rfl ?_
              refine pl_sipush (pc := 67) (v := 2124) dX9_people_67 (by rfl) ?_
              refine pl_iald (pc := 70) (n := 2132) dX9_people_70 (mm_a hA 1 (by decide) (by decide)) (by omega) (by decide) ?_
              refine PJ.top (y := nI _) (hn) ?_
              refine pj_istore (pc := 71) (lv' := [(4, _), (0, _), (1, _), (2, _), (3, _)]) dX9_people_71 (by decide) rfl ?_
              refine pl_iconst (pc := 73) (v := 0) dX9_people_73 (by rfl) ?_
              refine pj_istore (pc := 74) (lv' := [(5, _), (4, _), (0, _), (1, _), (2, _), (3, _)]) dX9_people_74 (by decide) rfl ?_
              refine PJ.sub [0, 1, 5, 4, 3, 2] rfl ?_
              refine ind_dn (n := j_m) (P := fun i => row (upto (fun _ σ => s_adds σ t c (nI 0) (-1)) i (s0 σ)) 2124 = nI (n + i) → PJ g _ _ _ _ d 0 0 76 [(5, .int (nI i)), (4, .int (nI n)), (3, .int c), (2, .int t), (1, .int (nI j_m)), (0, .ref (ad 0))] [] (mm g ad μ (upto (fun _ σ => s_adds σ t c (nI 0) (-1)) i (s0 σ))) _) (fun i hi ih hv => ?_) 0 (Nat.zero_le _) (hn)
              refine pl_iload (pc := 76) dX9_people_76 rfl ?_
              refine pl_iload_n (pc := 78) dX9_people_78 rfl rfl ?_
              refine pl_icmp_ge (pc := 79) (tgt := 96) dX9_people_79 (by decide) (by omega) (by omega) (fun c79 => ?_) (fun c79 => ?_)
              · refine pl_iload (pc := 96) dX9_people_96 rfl ?_
                refine pj_iret (pc := 98) dX9_people_98 rfl ?_
                have e9 : i = j_m := by omega
                subst e9
                exact ⟨vIe (by simp [p_people, c7, c12, c16, c22, c51, c57, g_m, c79]) rfl, congrArg (mm g ad μ) (by simp [p_people, c7, c12, c16, c22, c51, c57, g_m, c79])⟩
              · refine pl_aload_n (pc := 82) dX9_people_82 rfl rfl ?_
                refine pl_iload_n (pc := 83) dX9_people_83 rfl rfl ?_
                refine pl_iload_n (pc := 84) dX9_people_84 rfl rfl ?_
                refine pl_iconst (pc := 85) (v := 0) dX9_people_85 (by rfl) ?_
                refine pj_iconst (pc := 86) (v := (-1)) dX9_people_86 (by rfl) ?_
                refine pl_callVv (pc := 87) (As := [_, _, _, _]) (C2 := 0) (N2 := 0) ckX9 mdX9_adds rfl q2697 q2699 qs56 q154 dX9_people_87 rfl rfl (Nat.le_of_ble_eq_true rfl) (mm_o hA) (w_X9_adds (d := d - 1) (by omega) hA hv (by omega)) (by omega) (by decide) (by decide) ?_
                refine pl_iinc1 (pc := 90) (lv' := [(5, _), (4, _), (3, _), (2, _), (1, _), (0, _)]) dX9_people_90 rfl rfl (by decide) rfl ?_
                refine pj_goto (pc := 93) (tgt := 76) dX9_people_93 (by decide) ?_
                exact ih (by omega) (adds_n (n := n + i) hv (by omega))
            · refine pj_bipush (pc := 60) (v := (-2)) dX9_people_60 (by rfl) ?_
              refine pj_iret (pc := 62) dX9_people_62 rfl ?_
              exact ⟨vIe (by simp [p_people, c7, c12, c16, c22, c51, c57]) rfl, congrArg (mm g ad μ) (by simp [p_people, c7, c12, c16, c22, c51, c57])⟩
          · refine pj_iconst (pc := 54) (v := (-1)) dX9_people_54 (by rfl) ?_
            refine pj_iret (pc := 55) dX9_people_55 rfl ?_
            exact ⟨vIe (by simp [p_people, c7, c12, c16, c22, c51]) rfl, congrArg (mm g ad μ) (by simp [p_people, c7, c12, c16, c22, c51])⟩
        · refine pl_iconst (pc := 25) (v := 1) dX9_people_25 (by rfl) ?_
          refine pj_goto (pc := 26) (tgt := 30) dX9_people_26 (by decide) ?_
          refine pl_iconst (pc := 30) (v := 1) dX9_people_30 (by rfl) ?_
          refine pl_callVd (pc := 31) (As := [_, _]) (C2 := 0) (N2 := 0) ckX9 mdX9_bad rfl q2631 q2633 qs50 q154 dX9_people_31 rfl rfl (Nat.le_of_ble_eq_true rfl) (mm_o hA) (w_bad_1 (d := d - 1) (by omega) hA) (by omega) (by decide) (by decide) ?_
          refine pj_if_eq (pc := 34) (tgt := 39) dX9_people_34 (by decide) (fun h => absurd h (by decide)) (fun _ => ?_)
          refine pl_iconst (pc := 37) (v := 0) dX9_people_37 (by rfl) ?_
          refine pj_iret (pc := 38) dX9_people_38 rfl ?_
          exact ⟨vIe (by simp [p_people, c7, c12, c16, c22]) rfl, congrArg (mm g ad μ) (by simp [p_people, c7, c12, c16, c22])⟩
set_option maxHeartbeats 4000000 in
theorem w_X9_lands {g : GP} {ad : Nat → Nat} {μ : Mem} {σ : MS} {d : Nat}  {n nw : Nat} (hd : 2 ≤ d) (hA : Inj ad 18) (hn : row σ 2124 = nI n) (hP : n ≤ 100) (hnw : row σ 2116 = nI nw) (hNW : nw ≤ 1000) : PM g yX9_lands (ws_ yX9_lands cX9_lands 2 none) d 0 0 [.ref (ad 0)] (mm g ad μ σ) (rQ none (mm g ad μ (s_lands σ n))) := by
  refine PM.of (by decide +kernel) (Nat.le_of_ble_eq_true rfl) ?_
  show PJ g _ _ _ _ d 0 0 0 [(0, .ref (ad 0))] [] _ _
  refine pl_iconst (pc := 0) (v := 0) dX9_lands_0 (by rfl) ?_
  refine pj_istore_n (pc := 1) (lv' := [(1, _), (0, _)]) dX9_lands_1 rfl (by decide) rfl ?_
  refine ind_dn (n := n) (P := fun i => row (s_lands σ i) 2124 = nI n → PJ g _ _ _ _ d 0 0 2 [(1, .int (nI i)), (0, .ref (ad 0))] [] (mm g ad μ (s_lands σ i)) _) (fun i hi ih hv => ?_) 0 (Nat.zero_le _) (hn)
  refine pl_iload_n (pc := 2) dX9_lands_2 rfl rfl ?_
  refine pl_aload_n (pc := 3) dX9_lands_3 rfl rfl ?_
  refine pj_getf (pc := 4) ckX9 1 q2517 dX9_lands_4 (by decide) (mm_o hA) rfl ?_
  refine pl_sipush (pc := 7) (v := 2124) dX9_lands_7 (by rfl) ?_
  refine pl_iald (pc := 10) (n := 2132) dX9_lands_10 (mm_a hA 1 (by decide) (by decide)) (by omega) (by decide) ?_
  refine PJ.top (y := nI _) (hv) ?_
  refine pl_icmp_ge (pc := 11) (tgt := 54) dX9_lands_11 (by decide) (by omega) (by omega) (fun c11 => ?_) (fun c11 => ?_)
  · refine pj_vret (pc := 54) dX9_lands_54 rfl ?_
    have e9 : i = n := by omega
    subst e9
    exact ⟨rfl, rfl⟩
  · refine pl_aload_n (pc := 14) dX9_lands_14 rfl rfl ?_
    refine pl_iload_n (pc := 15) dX9_lands_15 rfl rfl ?_
    refine pl_iconst (pc := 16) (v := 2) dX9_lands_16 (by rfl) ?_
    refine pl_callVd (pc := 17) (As := [_, _]) (C2 := 0) (N2 := 0) ckX9 mdX9_per rfl q2713 q2715 qs59 q154 dX9_lands_17 rfl rfl (Nat.le_of_ble_eq_true rfl) (mm_o hA) (w_X9_per (d := d - 1) (by omega) hA (by omega) (by decide)) (by omega) (by decide) (by decide) ?_
    refine pl_iconst (pc := 20) (v := 1) dX9_lands_20 (by rfl) ?_
    refine pj_icmp_ne (pc := 21) (tgt := 48) dX9_lands_21 (by decide) (fun c21 => ?_) (fun c21 => ?_)
    · refine pl_iinc1 (pc := 48) (lv' := [(1, _), (0, _)]) dX9_lands_48 rfl rfl (by decide) rfl ?_
      refine pj_goto (pc := 51) (tgt := 2) dX9_lands_51 (by decide) ?_
      have e9 : row (s_lands σ (i + 1)) 2124 = nI n := (land1_row (by omega)).trans hv
      exact PJ.conv rfl rfl (congrArg (mm g ad μ) (by show _ = land1 i (s_lands σ i); simp [land1, c11, c21])) (ih (by omega) e9)
    · refine pl_aload_n (pc := 24) dX9_lands_24 rfl rfl ?_
      refine pl_iload_n (pc := 25) dX9_lands_25 rfl rfl ?_
      refine pl_iconst (pc := 26) (v := 5) dX9_lands_26 (by rfl) ?_
      refine pl_callVd (pc := 27) (As := [_, _]) (C2 := 0) (N2 := 0) ckX9 mdX9_per rfl q2713 q2715 qs59 q154 dX9_lands_27 rfl rfl (Nat.le_of_ble_eq_true rfl) (mm_o hA) (w_X9_per (d := d - 1) (by omega) hA (by omega) (by decide)) (by omega) (by decide) (by decide) ?_
      refine pl_aload_n (pc := 30) dX9_lands_30 rfl rfl ?_
      refine pj_getf (pc := 31) ckX9 1 q2517 dX9_lands_31 (by decide) (mm_o hA) rfl ?_
      refine pl_sipush (pc := 34) (v := 2116) dX9_lands_34 (by rfl) ?_
      refine pl_iald (pc := 37) (n := 2132) dX9_lands_37 (mm_a hA 1 (by decide) (by decide)) (by omega) (by decide) ?_
      refine pj_icmp_ne (pc := 38) (tgt := 48) dX9_lands_38 (by decide) (fun c38 => ?_) (fun c38 => ?_)
      · refine pl_iinc1 (pc := 48) (lv' := [(1, _), (0, _)]) dX9_lands_48 rfl rfl (by decide) rfl ?_
        refine pj_goto (pc := 51) (tgt := 2) dX9_lands_51 (by decide) ?_
        have e9 : row (s_lands σ (i + 1)) 2124 = nI n := (land1_row (by omega)).trans hv
        exact PJ.conv rfl rfl (congrArg (mm g ad μ) (by show _ = land1 i (s_lands σ i); simp [land1, c11, eq_true c21, c38])) (ih (by omega) e9)
      · refine pl_aload_n (pc := 41) dX9_lands_41 rfl rfl ?_
        refine pl_iload_n (pc := 42) dX9_lands_42 rfl rfl ?_
        refine pl_iconst (pc := 43) (v := 2) dX9_lands_43 (by rfl) ?_
        refine pl_iconst (pc := 44) (v := 2) dX9_lands_44 (by rfl) ?_
        refine pl_callVv (pc := 45) (As := [_, _, _]) (C2 := 0) (N2 := 0) ckX9 mdX9_setPer rfl q2701 q2703 qs57 q154 dX9_lands_45 rfl rfl (Nat.le_of_ble_eq_true rfl) (mm_o hA) (w_X9_setPer (d := d - 1) (by omega) hA (by omega) (by decide)) (by omega) (by decide) (by decide) ?_
        refine pl_iinc1 (pc := 48) (lv' := [(1, _), (0, _)]) dX9_lands_48 rfl rfl (by decide) rfl ?_
        refine pj_goto (pc := 51) (tgt := 2) dX9_lands_51 (by decide) ?_
        have e9 : row (s_lands σ (i + 1)) 2124 = nI n := (land1_row (by omega)).trans hv
        exact PJ.conv rfl rfl (congrArg (mm g ad μ) (by show _ = land1 i (s_lands σ i); simp [land1, c11, eq_true c21, eq_true c38])) (ih (by omega) e9)
set_option maxHeartbeats 4000000 in
theorem w_X9_isAsked {g : GP} {ad : Nat → Nat} {μ : Mem} {σ : MS} {d : Nat} {p : Int32} {c : Int32} {n : Nat} (hd : 2 ≤ d) (hA : Inj ad 18) (hn : row σ 2124 = nI n) (hP : n ≤ 100) : PM g yX9_isAsked (ws_ yX9_isAsked cX9_isAsked 3 (some .boolean)) d 0 0 [.ref (ad 0), .int p, .int c] (mm g ad μ σ) (rQ (some (.int (bI ((p_isAsked σ n p c).1)))) (mm g ad μ ((p_isAsked σ n p c).2))) := by
  refine PM.of (by decide +kernel) (Nat.le_of_ble_eq_true rfl) ?_
  show PJ g _ _ _ _ d 0 0 0 [(0, .ref (ad 0)), (1, .int p), (2, .int c)] [] _ _
  refine pl_aload_n (pc := 0) dX9_isAsked_0 rfl rfl ?_
  refine pl_iconst (pc := 1) (v := 0) dX9_isAsked_1 (by rfl) ?_
  refine pm_putI (pc := 2) 0 hA q2516 dX9_isAsked_2 (by decide) rfl (by rfl) (by rfl) rfl ?_
  refine pl_aload_n (pc := 5) dX9_isAsked_5 rfl rfl ?_
  refine pl_aload_n (pc := 6) dX9_isAsked_6 rfl rfl ?_
  refine pl_iload_n (pc := 7) dX9_isAsked_7 rfl rfl ?_
  refine pl_callVd (pc := 8) (As := [_]) (C2 := 0) (N2 := 0) ckX9 mdX9_isPerson rfl q2709 q2711 qs58 q154 dX9_isAsked_8 rfl rfl (Nat.le_of_ble_eq_true rfl) (mm_o hA) (w_X9_isPerson (d := d - 1) (by omega) hA (by first | omega | assumption | exact hn | exact hl | exact hb | exact hq | exact hdr | exact has)) (by omega) (by decide) (by decide) ?_
  refine pl_if_eqB (pc := 11) (tgt := 22) dX9_isAsked_11 (by decide) (fun c11 => ?_) (fun c11 => ?_)
  · refine pl_iconst (pc := 22) (v := 1) dX9_isAsked_22 (by rfl) ?_
    refine pj_goto (pc := 23) (tgt := 27) dX9_isAsked_23 (by decide) ?_
    refine pl_iconst (pc := 27) (v := 1) dX9_isAsked_27 (by rfl) ?_
    refine pl_callVd (pc := 28) (As := [_, _]) (C2 := 0) (N2 := 0) ckX9 mdX9_bad rfl q2631 q2633 qs50 q154 dX9_isAsked_28 rfl rfl (Nat.le_of_ble_eq_true rfl) (mm_o hA) (w_bad_1 (d := d - 1) (by omega) hA) (by omega) (by decide) (by decide) ?_
    refine pj_if_ne (pc := 31) (tgt := 38) dX9_isAsked_31 (by decide) (fun _ => ?_) (fun h => absurd h (by decide))
    refine pl_iconst (pc := 38) (v := 0) dX9_isAsked_38 (by rfl) ?_
    refine pj_zret (pc := 39) .boolean dX9_isAsked_39 rfl (by rfl) ?_
    exact ⟨vB0 (by simp [p_isAsked, c11]), congrArg (mm g ad μ) (by simp [p_isAsked, c11])⟩
  · obtain ⟨j_p, hj_p, rfl⟩ := inN_of (by omega) c11
    have f_p := inN_nI hj_p (by omega)
    have g_p := nI_clamp (n := j_p) (by omega)
    refine pl_aload_n (pc := 14) dX9_isAsked_14 rfl rfl ?_
    refine pl_iload_n (pc := 15) dX9_isAsked_15 rfl rfl ?_
    refine pl_callVd (pc := 16) (As := [_]) (C2 := 0) (N2 := 0) ckX9 mdX9_isSection rfl q2627 q2629 qs49 q154 dX9_isAsked_16 rfl rfl (Nat.le_of_ble_eq_true rfl) (mm_o hA) (w_X9_isSection (d := d - 1) (by omega) hA) (by omega) (by decide) (by decide) ?_
    refine pl_if_neB (pc := 19) (tgt := 26) dX9_isAsked_19 (by decide) (fun c19 => ?_) (fun c19 => ?_)
    · obtain ⟨j_c, hj_c, rfl⟩ := inN_of (by decide) c19
      have f_c := inN_nI hj_c (by omega)
      have g_c := nI_clamp (n := j_c) (by omega)
      refine pl_iconst (pc := 26) (v := 0) dX9_isAsked_26 (by rfl) ?_
      refine pl_iconst (pc := 27) (v := 1) dX9_isAsked_27 (by rfl) ?_
      refine pl_callVd (pc := 28) (As := [_, _]) (C2 := 0) (N2 := 0) ckX9 mdX9_bad rfl q2631 q2633 qs50 q154 dX9_isAsked_28 rfl rfl (Nat.le_of_ble_eq_true rfl) (mm_o hA) (w_bad_0 (d := d - 1) (by omega) hA) (by omega) (by decide) (by decide) ?_
      refine pj_if_ne (pc := 31) (tgt := 38) dX9_isAsked_31 (by decide) (fun h => absurd h (by decide)) (fun _ => ?_)
      refine pl_iconst (pc := 34) (v := 1) dX9_isAsked_34 (by rfl) ?_
      refine pj_goto (pc := 35) (tgt := 39) dX9_isAsked_35 (by decide) ?_
      refine pj_zret (pc := 39) .boolean dX9_isAsked_39 rfl (by rfl) ?_
      exact ⟨vB1 (by simp [p_isAsked, c11, f_p, g_p, c19, f_c, g_c]), congrArg (mm g ad μ) (by simp [p_isAsked, c11, f_p, g_p, c19, f_c, g_c])⟩
    · refine pl_iconst (pc := 22) (v := 1) dX9_isAsked_22 (by rfl) ?_
      refine pj_goto (pc := 23) (tgt := 27) dX9_isAsked_23 (by decide) ?_
      refine pl_iconst (pc := 27) (v := 1) dX9_isAsked_27 (by rfl) ?_
      refine pl_callVd (pc := 28) (As := [_, _]) (C2 := 0) (N2 := 0) ckX9 mdX9_bad rfl q2631 q2633 qs50 q154 dX9_isAsked_28 rfl rfl (Nat.le_of_ble_eq_true rfl) (mm_o hA) (w_bad_1 (d := d - 1) (by omega) hA) (by omega) (by decide) (by decide) ?_
      refine pj_if_ne (pc := 31) (tgt := 38) dX9_isAsked_31 (by decide) (fun _ => ?_) (fun h => absurd h (by decide))
      refine pl_iconst (pc := 38) (v := 0) dX9_isAsked_38 (by rfl) ?_
      refine pj_zret (pc := 39) .boolean dX9_isAsked_39 rfl (by rfl) ?_
      exact ⟨vB0 (by simp [p_isAsked, c11, f_p, g_p, c19]), congrArg (mm g ad μ) (by simp [p_isAsked, c11, f_p, g_p, c19])⟩
set_option maxHeartbeats 4000000 in
theorem w_X9_isOwnPasture {g : GP} {ad : Nat → Nat} {μ : Mem} {σ : MS} {d : Nat} {p : Nat} {c : Nat}  (hd : 2 ≤ d) (hA : Inj ad 18) (hp : p < 100) (hc : c < 96) : PM g yX9_isOwnPasture (ws_ yX9_isOwnPasture cX9_isOwnPasture 3 (some .boolean)) d 0 0 [.ref (ad 0), .int (nI p), .int (nI c)] (mm g ad μ σ) (rQ (some (.int (bI (ownPastV σ p c)))) (mm g ad μ (σ))) := by
  refine PM.of (by decide +kernel) (Nat.le_of_ble_eq_true rfl) ?_
  show PJ g _ _ _ _ d 0 0 0 [(0, .ref (ad 0)), (1, .int (nI p)), (2, .int (nI c))] [] _ _
  refine pl_aload_n (pc := 0) dX9_isOwnPasture_0 rfl rfl ?_
  refine pl_iload_n (pc := 1) dX9_isOwnPasture_1 rfl rfl ?_
  refine pl_iconst (pc := 2) (v := 0) dX9_isOwnPasture_2 (by rfl) ?_
  refine pl_callVd (pc := 3) (As := [_, _]) (C2 := 0) (N2 := 0) ckX9 mdX9_sec rfl q2635 q2637 qs51 q154 dX9_isOwnPasture_3 rfl rfl (Nat.le_of_ble_eq_true rfl) (mm_o hA) (w_X9_sec (d := d - 1) (by omega) hA (by first | omega | assumption | exact hn | exact hl | exact hb | exact hq | exact hdr | exact has) (by first | omega | assumption | exact hn | exact hl | exact hb | exact hq | exact hdr | exact has)) (by omega) (by decide) (by decide) ?_
  refine pl_callSd (pc := 6) (As := [_]) (C2 := 0) (N2 := 0) mdX9_isPasture q2678 q2679 q154 dX9_isOwnPasture_6 rfl rfl (Nat.le_of_ble_eq_true rfl) (w_X9_isPasture (d := d - 1) (by omega)) (by omega) (by decide) (by decide) ?_
  refine pl_if_eqB (pc := 9) (tgt := 26) dX9_isOwnPasture_9 (by decide) (fun c9 => ?_) (fun c9 => ?_)
  · refine pl_iconst (pc := 26) (v := 0) dX9_isOwnPasture_26 (by rfl) ?_
    refine pj_zret (pc := 27) .boolean dX9_isOwnPasture_27 rfl (by rfl) ?_
    exact ⟨vB0 (by simp [ownPastV, c9]), rfl⟩
  · refine pl_aload_n (pc := 12) dX9_isOwnPasture_12 rfl rfl ?_
    refine pl_iload_n (pc := 13) dX9_isOwnPasture_13 rfl rfl ?_
    refine pl_iconst (pc := 14) (v := 1) dX9_isOwnPasture_14 (by rfl) ?_
    refine pl_callVd (pc := 15) (As := [_, _]) (C2 := 0) (N2 := 0) ckX9 mdX9_sec rfl q2635 q2637 qs51 q154 dX9_isOwnPasture_15 rfl rfl (Nat.le_of_ble_eq_true rfl) (mm_o hA) (w_X9_sec (d := d - 1) (by omega) hA (by first | omega | assumption | exact hn | exact hl | exact hb | exact hq | exact hdr | exact has) (by first | omega | assumption | exact hn | exact hl | exact hb | exact hq | exact hdr | exact has)) (by omega) (by decide) (by decide) ?_
    refine pl_iload_n (pc := 18) dX9_isOwnPasture_18 rfl rfl ?_
    refine pj_icmp_ne (pc := 19) (tgt := 26) dX9_isOwnPasture_19 (by decide) (fun c19 => ?_) (fun c19 => ?_)
    · refine pl_iconst (pc := 26) (v := 0) dX9_isOwnPasture_26 (by rfl) ?_
      refine pj_zret (pc := 27) .boolean dX9_isOwnPasture_27 rfl (by rfl) ?_
      exact ⟨vB0 (by simp [ownPastV, c9, c19]), rfl⟩
    · refine pl_iconst (pc := 22) (v := 1) dX9_isOwnPasture_22 (by rfl) ?_
      refine pj_goto (pc := 23) (tgt := 27) dX9_isOwnPasture_23 (by decide) ?_
      refine pj_zret (pc := 27) .boolean dX9_isOwnPasture_27 rfl (by rfl) ?_
      exact ⟨vB1 (by simp [ownPastV, c9, eq_true c19]), rfl⟩
