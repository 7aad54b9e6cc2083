set_option maxRecDepth 100000
theorem row_ne {σ : MS} {j k : Nat} {v : Int32} (h : k ≠ j) : (sA σ 1 (upd (σ.2.1 1) j v)).2.1 1 k = σ.2.1 1 k := by simp [sA, upd, h]
theorem row_eq {σ : MS} {j : Nat} {v : Int32} : (sA σ 1 (upd (σ.2.1 1) j v)).2.1 1 j = v := by simp [sA, upd]
def s_pays (σ : MS) (p : Nat) (a : Int32) : MS := sR σ (768 + 8 * p + 1) (if ¬ per σ p 1 + a ≤ 1000000 then 1000000 else per σ p 1 + a)
def s_owns (σ : MS) (p : Nat) : MS := sR (sR σ (768 + 8 * p + 2) (nI 4)) (768 + 8 * p + 3) (-1)
def frees1 (p : Nat) (o : Nat) (σ : MS) : MS := if ¬ per σ o 2 = nI 3 then σ else if ¬ per σ o 3 = nI p then σ else sR (sR σ (768 + 8 * o + 2) (nI 2)) (768 + 8 * o + 3) (-1)
def s_loses (n : Nat) (σ : MS) (p : Nat) : MS := if ¬ per σ p 2 = nI 4 then σ else if 0 < farmsOfC σ (nI p) 96 then σ else upto (frees1 p) n (sR σ (768 + 8 * p + 2) (nI 2))
def s_adds (σ : MS) (t c s l : Int32) : MS := let p := tN (row σ 2124); let σ1 := sR (sR (sR (sR (sR (sR (sR σ (768 + 8 * p + 0) t) (768 + 8 * p + 1) c) (768 + 8 * p + 2) s) (768 + 8 * p + 3) (-1)) (768 + 8 * p + 4) (nI 0)) (768 + 8 * p + 5) l) (768 + 8 * p + 6) (-1); sR σ1 2124 (row σ1 2124 + nI 1)
set_option maxHeartbeats 4000000 in
theorem w_X9_pays {g : GP} {ad : Nat → Nat} {μ : Mem} {σ : MS} {d : Nat} {p : Nat} {a : Int32}  (hd : 2 ≤ d) (hA : Inj ad 18) (hp : p < 100) : PM g yX9_pays (ws_ yX9_pays cX9_pays 4 none) d 0 0 [.ref (ad 0), .int (nI p), .int a] (mm g ad μ σ) (rQ none (mm g ad μ (s_pays σ p a))) := by
  refine PM.of (by decide +kernel) (Nat.le_of_ble_eq_true rfl) ?_
  show PJ g _ _ _ _ d 0 0 0 [(0, .ref (ad 0)), (1, .int (nI p)), (2, .int a)] [] _ _
  refine pl_aload_n (pc := 0) dX9_pays_0 rfl rfl ?_
  refine pl_iload_n (pc := 1) dX9_pays_1 rfl rfl ?_
  refine pl_iconst (pc := 2) (v := 1) dX9_pays_2 (by rfl) ?_
  refine pl_callVd (pc := 3) (As := [_, _]) (C2 := 0) (N2 := 0) ckX9 mdX9_per rfl q2713 q2715 qs59 q154 dX9_pays_3 rfl rfl (Nat.le_of_ble_eq_true rfl) (mm_o hA) (w_X9_per (d := d - 1) (by omega) hA (by first | omega | assumption | exact hn | exact hl | exact hb | exact hq | exact hdr | exact has) (by first | omega | assumption | exact hn | exact hl | exact hb | exact hq | exact hdr | exact has)) (by omega) (by decide) (by decide) ?_
  refine pl_iload_n (pc := 6) dX9_pays_6 rfl rfl ?_
  refine pj_iadd (pc := 7) dX9_pays_7 ?_
  refine pj_istore_n (pc := 8) (lv' := [(3, _), (0, _), (1, _), (2, _)]) dX9_pays_8 rfl (by decide) rfl ?_
  refine pl_aload_n (pc := 9) dX9_pays_9 rfl rfl ?_
  refine pl_iload_n (pc := 10) dX9_pays_10 rfl rfl ?_
  refine pl_iconst (pc := 11) (v := 1) dX9_pays_11 (by rfl) ?_
  refine pl_iload_n (pc := 12) dX9_pays_12 rfl rfl ?_
  refine pj_ldc (pc := 13) q2696 dX9_pays_13 ?_
  refine pj_icmp_le (pc := 15) (tgt := 23) dX9_pays_15 (by decide) (fun c15 => ?_) (fun c15 => ?_)
  · refine pl_iload_n (pc := 23) dX9_pays_23 rfl rfl ?_
    refine pl_callVv (pc := 24) (As := [_, _, _]) (C2 := 0) (N2 := 0) ckX9 mdX9_setPer rfl q2701 q2703 qs57 q154 dX9_pays_24 rfl rfl (Nat.le_of_ble_eq_true rfl) (mm_o hA) (w_X9_setPer (d := d - 1) (by omega) hA (by first | omega | assumption | exact hn | exact hl | exact hb | exact hq | exact hdr | exact has) (by first | omega | assumption | exact hn | exact hl | exact hb | exact hq | exact hdr | exact has)) (by omega) (by decide) (by decide) ?_
    refine pj_vret (pc := 27) dX9_pays_27 rfl ?_
    exact ⟨rfl, congrArg (mm g ad μ) (by simp [s_pays, c15])⟩
  · refine pj_ldc (pc := 18) q2696 dX9_pays_18 ?_
    refine pj_goto (pc := 20) (tgt := 24) dX9_pays_20 (by decide) ?_
    refine pl_callVv (pc := 24) (As := [_, _, _]) (C2 := 0) (N2 := 0) ckX9 mdX9_setPer rfl q2701 q2703 qs57 q154 dX9_pays_24 rfl rfl (Nat.le_of_ble_eq_true rfl) (mm_o hA) (w_X9_setPer (d := d - 1) (by omega) hA (by first | omega | assumption | exact hn | exact hl | exact hb | exact hq | exact hdr | exact has) (by first | omega | assumption | exact hn | exact hl | exact hb | exact hq | exact hdr | exact has)) (by omega) (by decide) (by decide) ?_
    refine pj_vret (pc := 27) dX9_pays_27 rfl ?_
    exact ⟨rfl, congrArg (mm g ad μ) (by simp [s_pays, c15])⟩
set_option maxHeartbeats 4000000 in
theorem w_X9_owns {g : GP} {ad : Nat → Nat} {μ : Mem} {σ : MS} {d : Nat} {p : Nat}  (hd : 2 ≤ d) (hA : Inj ad 18) (hp : p < 100) : PM g yX9_owns (ws_ yX9_owns cX9_owns 2 none) d 0 0 [.ref (ad 0), .int (nI p)] (mm g ad μ σ) (rQ none (mm g ad μ (s_owns σ p))) := by
  refine PM.of (by decide +kernel) (Nat.le_of_ble_eq_true rfl) ?_
  show PJ g _ _ _ _ d 0 0 0 [(0, .ref (ad 0)), (1, .int (nI p))] [] _ _
  refine pl_aload_n (pc := 0) dX9_owns_0 rfl rfl ?_
  refine pl_iload_n (pc := 1) dX9_owns_1 rfl rfl ?_
  refine pl_iconst (pc := 2) (v := 2) dX9_owns_2 (by rfl) ?_
  refine pl_iconst (pc := 3) (v := 4) dX9_owns_3 (by rfl) ?_
  refine pl_callVv (pc := 4) (As := [_, _, _]) (C2 := 0) (N2 := 0) ckX9 mdX9_setPer rfl q2701 q2703 qs57 q154 dX9_owns_4 rfl rfl (Nat.le_of_ble_eq_true rfl) (mm_o hA) (w_X9_setPer (d := d - 1) (by omega) hA (by first | omega | assumption | exact hn | exact hl | exact hb | exact hq | exact hdr | exact has) (by first | omega | assumption | exact hn | exact hl | exact hb | exact hq | exact hdr | exact has)) (by omega) (by decide) (by decide) ?_
  refine pl_aload_n (pc := 7) dX9_owns_7 rfl rfl ?_
  refine pl_iload_n (pc := 8) dX9_owns_8 rfl rfl ?_
  refine pl_iconst (pc := 9) (v := 3) dX9_owns_9 (by rfl) ?_
  refine pj_iconst (pc := 10) (v := (-1)) dX9_owns_10 (by rfl) ?_
  refine pl_callVv (pc := 11) (As := [_, _, _]) (C2 := 0) (N2 := 0) ckX9 mdX9_setPer rfl q2701 q2703 qs57 q154 dX9_owns_11 rfl rfl (Nat.le_of_ble_eq_true rfl) (mm_o hA) (w_X9_setPer (d := d - 1) (by omega) hA (by first | omega | assumption | exact hn | exact hl | exact hb | exact hq | exact hdr | exact has) (by first | omega | assumption | exact hn | exact hl | exact hb | exact hq | exact hdr | exact has)) (by omega) (by decide) (by decide) ?_
  refine pj_vret (pc := 14) dX9_owns_14 rfl ?_
  exact ⟨rfl, congrArg (mm g ad μ) (by simp [s_owns])⟩
set_option maxHeartbeats 4000000 in
theorem w_X9_row {g : GP} {ad : Nat → Nat} {μ : Mem} {σ : MS} {d : Nat} {w : Nat} {k : Nat}  (hd : 1 ≤ d) (hA : Inj ad 18) (hw : w ≤ 1000) (hk : k < 7) : PM g yX9_row (ws_ yX9_row cX9_row 3 (some .int)) d 0 0 [.ref (ad 0), .int (nI w), .int (nI k)] (mm g ad μ σ) (rQ (some (.int (σ.2.1 14 (7 * w + k)))) (mm g ad μ (σ))) := by
  refine PM.of (by decide +kernel) (Nat.le_of_ble_eq_true rfl) ?_
  show PJ g _ _ _ _ d 0 0 0 [(0, .ref (ad 0)), (1, .int (nI w)), (2, .int (nI k))] [] _ _
  refine pl_aload_n (pc := 0) dX9_row_0 rfl rfl ?_
  refine pj_getf (pc := 1) ckX9 25 q2541 dX9_row_1 (by decide) (mm_o hA) rfl ?_
  refine pl_bipush (pc := 4) (v := 7) dX9_row_4 (by rfl) ?_
  refine pl_iload_n (pc := 6) dX9_row_6 rfl rfl ?_
  refine pl_imul (pc := 7) dX9_row_7 ?_
  refine pl_iload_n (pc := 8) dX9_row_8 rfl rfl ?_
  refine pl_iadd (pc := 9) dX9_row_9 ?_
  refine pl_iald (pc := 10) (n := 7007) dX9_row_10 (mm_a hA 14 (by decide) (by decide)) (by omega) (by decide) ?_
  refine pj_iret (pc := 11) dX9_row_11 rfl ?_
  exact ⟨rfl, rfl⟩
set_option maxHeartbeats 4000000 in
theorem w_X9_fault {g : GP} {ad : Nat → Nat} {μ : Mem} {σ : MS} {d : Nat}   (hd : 1 ≤ d) (hA : Inj ad 18) : PM g yX9_fault (ws_ yX9_fault cX9_fault 1 (some .int)) d 0 0 [.ref (ad 0)] (mm g ad μ σ) (rQ (some (.int ((sF σ 0 (nI 0)).1 13))) (mm g ad μ (sF σ 0 (nI 0)))) := by
  refine PM.of (by decide +kernel) (Nat.le_of_ble_eq_true rfl) ?_
  show PJ g _ _ _ _ d 0 0 0 [(0, .ref (ad 0))] [] _ _
  refine pl_aload_n (pc := 0) dX9_fault_0 rfl rfl ?_
  refine pl_iconst (pc := 1) (v := 0) dX9_fault_1 (by rfl) ?_
  refine pm_putI (pc := 2) 0 hA q2516 dX9_fault_2 (by decide) rfl (by rfl) (by rfl) rfl ?_
  refine pl_aload_n (pc := 5) dX9_fault_5 rfl rfl ?_
  refine pj_getf (pc := 6) ckX9 13 q2529 dX9_fault_6 (by decide) (mm_o hA) rfl ?_
  refine pj_iret (pc := 9) dX9_fault_9 rfl ?_
  exact ⟨rfl, rfl⟩
set_option maxHeartbeats 4000000 in
theorem w_X9_isDigit {g : GP} {μ : Mem} {d : Nat} {c : Int32}  (hd : 1 ≤ d) : PM g yX9_isDigit (ws_ yX9_isDigit cX9_isDigit 1 (some .boolean)) d 0 0 [.int c] μ (rQ (some (.int (bI (decide (nI 48 ≤ c) && decide (c ≤ nI 57))))) μ) := by
  refine PM.of (by decide +kernel) (Nat.le_of_ble_eq_true rfl) ?_
  show PJ g _ _ _ _ d 0 0 0 [(0, .int c)] [] _ _
  refine pl_iload_n (pc := 0) dX9_isDigit_0 rfl rfl ?_
  refine pl_bipush (pc := 1) (v := 48) dX9_isDigit_1 (by rfl) ?_
  refine pj_icmp_lt (pc := 3) (tgt := 16) dX9_isDigit_3 (by decide) (fun c3 => ?_) (fun c3 => ?_)
  · refine pl_iconst (pc := 16) (v := 0) dX9_isDigit_16 (by rfl) ?_
    refine pj_zret (pc := 17) .boolean dX9_isDigit_17 rfl (by rfl) ?_
    exact ⟨vB0 (by simp only [Bool.and_eq_true, Bool.and_eq_false_iff, decide_eq_true_eq, decide_eq_false_iff_not]; first | exact ⟨Int32.not_lt.mp c3, Int32.not_lt.mp c9⟩ | exact Or.inl (Int32.not_le.mpr c3) | exact Or.inr (Int32.not_le.mpr c9)), rfl⟩
  · refine pl_iload_n (pc := 6) dX9_isDigit_6 rfl rfl ?_
    refine pl_bipush (pc := 7) (v := 57) dX9_isDigit_7 (by rfl) ?_
    refine pj_icmp_gt (pc := 9) (tgt := 16) dX9_isDigit_9 (by decide) (fun c9 => ?_) (fun c9 => ?_)
    · refine pl_iconst (pc := 16) (v := 0) dX9_isDigit_16 (by rfl) ?_
      refine pj_zret (pc := 17) .boolean dX9_isDigit_17 rfl (by rfl) ?_
      exact ⟨vB0 (by simp only [Bool.and_eq_true, Bool.and_eq_false_iff, decide_eq_true_eq, decide_eq_false_iff_not]; first | exact ⟨Int32.not_lt.mp c3, Int32.not_lt.mp c9⟩ | exact Or.inl (Int32.not_le.mpr c3) | exact Or.inr (Int32.not_le.mpr c9)), rfl⟩
    · refine pl_iconst (pc := 12) (v := 1) dX9_isDigit_12 (by rfl) ?_
      refine pj_goto (pc := 13) (tgt := 17) dX9_isDigit_13 (by decide) ?_
      refine pj_zret (pc := 17) .boolean dX9_isDigit_17 rfl (by rfl) ?_
      exact ⟨vB1 (by simp only [Bool.and_eq_true, Bool.and_eq_false_iff, decide_eq_true_eq, decide_eq_false_iff_not]; first | exact ⟨Int32.not_lt.mp c3, Int32.not_lt.mp c9⟩ | exact Or.inl (Int32.not_le.mpr c3) | exact Or.inr (Int32.not_le.mpr c9)), rfl⟩
def p_rain (σ : MS) (z v : Int32) : Int32 × MS :=
  if inN z 4 = false then (nI 0, th σ 1) else if v < -1 then (nI 0, th σ 2) else if ¬ v ≤ nI 500 then (nI 0, th σ 2)
  else if (s0 σ).2.1 6 (tN z) = nI 1000 then (-1, s0 σ)
  else (let σ1 := wA (s0 σ) 5 (1000 * tN z + tN ((s0 σ).2.1 6 (tN z))) v; let σ2 := wA σ1 6 (tN z) (σ1.2.1 6 (tN z) + nI 1); (σ2.2.1 6 (tN z), σ2))
set_option maxHeartbeats 4000000 in
theorem w_X9_rain {g : GP} {ad : Nat → Nat} {μ : Mem} {σ : MS} {d : Nat} {z : Int32} {v : Int32}  (hd : 2 ≤ d) (hA : Inj ad 18) (hR : ∀ z, z < 4 → ∃ r, r ≤ 1000 ∧ σ.2.1 6 z = nI r) : PM g yX9_rain (ws_ yX9_rain cX9_rain 3 (some .int)) d 0 0 [.ref (ad 0), .int z, .int v] (mm g ad μ σ) (rQ (some (.int ((p_rain σ z v).1))) (mm g ad μ ((p_rain σ z v).2))) := by
  refine PM.of (by decide +kernel) (Nat.le_of_ble_eq_true rfl) ?_
  show PJ g _ _ _ _ d 0 0 0 [(0, .ref (ad 0)), (1, .int z), (2, .int v)] [] _ _
  refine pl_aload_n (pc := 0) dX9_rain_0 rfl rfl ?_
  refine pl_iconst (pc := 1) (v := 0) dX9_rain_1 (by rfl) ?_
  refine pm_putI (pc := 2) 0 hA q2516 dX9_rain_2 (by decide) rfl (by rfl) (by rfl) rfl ?_
  refine pl_aload_n (pc := 5) dX9_rain_5 rfl rfl ?_
  refine pl_aload_n (pc := 6) dX9_rain_6 rfl rfl ?_
  refine pl_iload_n (pc := 7) dX9_rain_7 rfl rfl ?_
  refine pl_callVd (pc := 8) (As := [_]) (C2 := 0) (N2 := 0) ckX9 mdX9_isZone rfl q2643 q2645 qs52 q154 dX9_rain_8 rfl rfl (Nat.le_of_ble_eq_true rfl) (mm_o hA) (w_X9_isZone (d := d - 1) (by omega) hA) (by omega) (by decide) (by decide) ?_
  refine pl_if_neB (pc := 11) (tgt := 18) dX9_rain_11 (by decide) (fun c11 => ?_) (fun c11 => ?_)
  · obtain ⟨j_z, hj_z, rfl⟩ := inN_of (by decide) c11
    have f_z := inN_nI hj_z (by omega)
    have g_z := nI_clamp (n := j_z) (by omega)
    refine pl_iconst (pc := 18) (v := 0) dX9_rain_18 (by rfl) ?_
    refine pl_iconst (pc := 19) (v := 1) dX9_rain_19 (by rfl) ?_
    refine pl_callVd (pc := 20) (As := [_, _]) (C2 := 0) (N2 := 0) ckX9 mdX9_bad rfl q2631 q2633 qs50 q154 dX9_rain_20 rfl rfl (Nat.le_of_ble_eq_true rfl) (mm_o hA) (w_bad_0 (d := d - 1) (by omega) hA) (by omega) (by decide) (by decide) ?_
    refine pj_if_ne (pc := 23) (tgt := 51) dX9_rain_23 (by decide) (fun h => absurd h (by decide)) (fun _ => ?_)
    refine pl_aload_n (pc := 26) dX9_rain_26 rfl rfl ?_
    refine pl_iload_n (pc := 27) dX9_rain_27 rfl rfl ?_
    refine pj_iconst (pc := 28) (v := (-1)) dX9_rain_28 (by rfl) ?_
    refine pj_icmp_lt (pc := 29) (tgt := 39) dX9_rain_29 (by decide) (fun c29 => ?_) (fun c29 => ?_)
    · refine pl_iconst (pc := 39) (v := 1) dX9_rain_39 (by rfl) ?_
      refine pj_goto (pc := 40) (tgt := 44) dX9_rain_40 (by decide) ?_
      refine pl_iconst (pc := 44) (v := 2) dX9_rain_44 (by rfl) ?_
      refine pl_callVd (pc := 45) (As := [_, _]) (C2 := 0) (N2 := 0) ckX9 mdX9_bad rfl q2631 q2633 qs50 q154 dX9_rain_45 rfl rfl (Nat.le_of_ble_eq_true rfl) (mm_o hA) (w_bad_1 (d := d - 1) (by omega) hA) (by omega) (by decide) (by decide) ?_
      refine pj_if_eq (pc := 48) (tgt := 53) dX9_rain_48 (by decide) (fun h => absurd h (by decide)) (fun _ => ?_)
      refine pl_iconst (pc := 51) (v := 0) dX9_rain_51 (by rfl) ?_
      refine pj_iret (pc := 52) dX9_rain_52 rfl ?_
      exact ⟨vIe (by simp [p_rain, c11, f_z, g_z, c29]) rfl, congrArg (mm g ad μ) (by simp [p_rain, c11, f_z, g_z, c29])⟩
    · refine pl_iload_n (pc := 32) dX9_rain_32 rfl rfl ?_
      refine pl_sipush (pc := 33) (v := 500) dX9_rain_33 (by rfl) ?_
      refine pj_icmp_le (pc := 36) (tgt := 43) dX9_rain_36 (by decide) (fun c36 => ?_) (fun c36 => ?_)
      · refine pl_iconst (pc := 43) (v := 0) dX9_rain_43 (by rfl) ?_
        refine pl_iconst (pc := 44) (v := 2) dX9_rain_44 (by rfl) ?_
        refine pl_callVd (pc := 45) (As := [_, _]) (C2 := 0) (N2 := 0) ckX9 mdX9_bad rfl q2631 q2633 qs50 q154 dX9_rain_45 rfl rfl (Nat.le_of_ble_eq_true rfl) (mm_o hA) (w_bad_0 (d := d - 1) (by omega) hA) (by omega) (by decide) (by decide) ?_
        refine pj_if_eq (pc := 48) (tgt := 53) dX9_rain_48 (by decide) (fun _ => ?_) (fun h => absurd h (by decide))
        obtain ⟨r, hr, er⟩ := hR j_z hj_z
        have er1 : (sF σ 0 (nI 0)).2.1 6 j_z = nI r := er
        have g_r := nI_clamp (n := r) (by omega)
        refine pl_aload_n (pc := 53) dX9_rain_53 rfl rfl ?_
        refine pj_getf (pc := 54) ckX9 6 q2522 dX9_rain_54 (by decide) (mm_o hA) rfl ?_
        refine pl_iload_n (pc := 57) dX9_rain_57 rfl rfl ?_
        refine pl_iald (pc := 58) (n := 4) dX9_rain_58 (mm_a hA 6 (by decide) (by decide)) (by omega) (by decide) ?_
        refine pl_sipush (pc := 59) (v := 1000) dX9_rain_59 (by rfl) ?_
        refine pj_icmp_ne (pc := 62) (tgt := 67) dX9_rain_62 (by decide) (fun c62 => ?_) (fun c62 => ?_)
        · rw [er1] at c62
          have hr1 : ¬ r = 1000 := fun h => c62 (by rw [h])
          refine pl_aload_n (pc := 67) dX9_rain_67 rfl rfl ?_
          refine pj_getf (pc := 68) ckX9 5 q2521 dX9_rain_68 (by decide) (mm_o hA) rfl ?_
          refine pl_sipush (pc := 71) (v := 1000) dX9_rain_71 (by rfl) ?_
          refine pl_iload_n (pc := 74) dX9_rain_74 rfl rfl ?_
          refine pl_imul (pc := 75) dX9_rain_75 ?_
          refine pl_aload_n (pc := 76) dX9_rain_76 rfl rfl ?_
          refine pj_getf (pc := 77) ckX9 6 q2522 dX9_rain_77 (by decide) (mm_o hA) rfl ?_
          refine pl_iload_n (pc := 80) dX9_rain_80 rfl rfl ?_
          refine pl_iald (pc := 81) (n := 4) dX9_rain_81 (mm_a hA 6 (by decide) (by decide)) (by omega) (by decide) ?_
          rw [er1]
          refine pl_iadd (pc := 82) dX9_rain_82 ?_
          refine pl_iload_n (pc := 83) dX9_rain_83 rfl rfl ?_
          refine pm_iast (pc := 84) 5 hA (by decide) (by decide) rfl dX9_rain_84 (show _ < 4000 by omega) (by decide) ?_
          refine pl_aload_n (pc := 85) dX9_rain_85 rfl rfl ?_
          refine pj_getf (pc := 86) ckX9 6 q2522 dX9_rain_86 (by decide) (mm_o hA) rfl ?_
          refine pl_iload_n (pc := 89) dX9_rain_89 rfl rfl ?_
          refine pj_dup2_11 (pc := 90) dX9_rain_90 rfl rfl ?_
          refine pl_iald (pc := 91) (n := 4) dX9_rain_91 (mm_a hA 6 (by decide) (by decide)) (by omega) (by decide) ?_
          refine pl_iconst (pc := 92) (v := 1) dX9_rain_92 (by rfl) ?_
          refine pj_iadd (pc := 93) dX9_rain_93 ?_
          refine pm_iast (pc := 94) 6 hA (by decide) (by decide) rfl dX9_rain_94 (show _ < 4 by omega) (by decide) ?_
          refine pl_aload_n (pc := 95) dX9_rain_95 rfl rfl ?_
          refine pj_getf (pc := 96) ckX9 6 q2522 dX9_rain_96 (by decide) (mm_o hA) rfl ?_
          refine pl_iload_n (pc := 99) dX9_rain_99 rfl rfl ?_
          refine pl_iald (pc := 100) (n := 4) dX9_rain_100 (mm_a hA 6 (by decide) (by decide)) (by omega) (by decide) ?_
          refine pj_iret (pc := 101) dX9_rain_101 rfl ?_
          exact ⟨vIe (by simp [p_rain, c11, f_z, g_z, c29, c36, g_r, c62, er1]) rfl, congrArg (mm g ad μ) (by simp [p_rain, c11, f_z, g_z, c29, c36, g_r, c62, er1])⟩
        · refine pj_iconst (pc := 65) (v := (-1)) dX9_rain_65 (by rfl) ?_
          refine pj_iret (pc := 66) dX9_rain_66 rfl ?_
          exact ⟨vIe (by simp [p_rain, c11, f_z, g_z, c29, c36, g_r, eq_true c62]) rfl, congrArg (mm g ad μ) (by simp [p_rain, c11, f_z, g_z, c29, c36, g_r, eq_true c62])⟩
      · refine pl_iconst (pc := 39) (v := 1) dX9_rain_39 (by rfl) ?_
        refine pj_goto (pc := 40) (tgt := 44) dX9_rain_40 (by decide) ?_
        refine pl_iconst (pc := 44) (v := 2) dX9_rain_44 (by rfl) ?_
        refine pl_callVd (pc := 45) (As := [_, _]) (C2 := 0) (N2 := 0) ckX9 mdX9_bad rfl q2631 q2633 qs50 q154 dX9_rain_45 rfl rfl (Nat.le_of_ble_eq_true rfl) (mm_o hA) (w_bad_1 (d := d - 1) (by omega) hA) (by omega) (by decide) (by decide) ?_
        refine pj_if_eq (pc := 48) (tgt := 53) dX9_rain_48 (by decide) (fun h => absurd h (by decide)) (fun _ => ?_)
        refine pl_iconst (pc := 51) (v := 0) dX9_rain_51 (by rfl) ?_
        refine pj_iret (pc := 52) dX9_rain_52 rfl ?_
        exact ⟨vIe (by simp [p_rain, c11, f_z, g_z, c29, c36]) rfl, congrArg (mm g ad μ) (by simp [p_rain, c11, f_z, g_z, c29, c36])⟩
  · refine pl_iconst (pc := 14) (v := 1) dX9_rain_14 (by rfl) ?_
    refine pj_goto (pc := 15) (tgt := 19) dX9_rain_15 (by decide) ?_
    refine pl_iconst (pc := 19) (v := 1) dX9_rain_19 (by rfl) ?_
    refine pl_callVd (pc := 20) (As := [_, _]) (C2 := 0) (N2 := 0) ckX9 mdX9_bad rfl q2631 q2633 qs50 q154 dX9_rain_20 rfl rfl (Nat.le_of_ble_eq_true rfl) (mm_o hA) (w_bad_1 (d := d - 1) (by omega) hA) (by omega) (by decide) (by decide) ?_
    refine pj_if_ne (pc := 23) (tgt := 51) dX9_rain_23 (by decide) (fun _ => ?_) (fun h => absurd h (by decide))
    refine pl_iconst (pc := 51) (v := 0) dX9_rain_51 (by rfl) ?_
    refine pj_iret (pc := 52) dX9_rain_52 rfl ?_
    exact ⟨vIe (by simp [p_rain, c11]) rfl, congrArg (mm g ad μ) (by simp [p_rain, c11])⟩
