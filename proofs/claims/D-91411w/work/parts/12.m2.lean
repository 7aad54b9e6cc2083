set_option maxRecDepth 100000
abbrev farmsC (σ : MS) (n : Nat) : Nat := cnt (fun c => isFarmV (sec σ c 0)) n
abbrev hereC (σ : MS) (n : Nat) : Nat := cnt (fun p => decide (nI 2 ≤ per σ p 2)) n
abbrev hiredC (σ : MS) (n : Nat) (p : Int32) : Nat := cnt (fun o => decide (per σ o 2 = nI 3) && decide (per σ o 3 = p)) n
abbrev farmsOfC (σ : MS) (p : Int32) (n : Nat) : Nat := cnt (fun c => isFarmV (sec σ c 0) && decide (sec σ c 1 = p)) n
set_option maxHeartbeats 4000000 in
theorem w_X9_farms {g : GP} {ad : Nat → Nat} {μ : Mem} {σ : MS} {d : Nat}   (hd : 2 ≤ d) (hA : Inj ad 18) : PM g yX9_farms (ws_ yX9_farms cX9_farms 3 (some .int)) d 0 0 [.ref (ad 0)] (mm g ad μ σ) (rQ (some (.int (nI (farmsC σ 96)))) (mm g ad μ (σ))) := by
  refine PM.of (by decide +kernel) (Nat.le_of_ble_eq_true rfl) ?_
  show PJ g _ _ _ _ d 0 0 0 [(0, .ref (ad 0))] [] _ _
  refine pl_iconst (pc := 0) (v := 0) dX9_farms_0 (by rfl) ?_
  refine pj_istore_n (pc := 1) (lv' := [(1, _), (0, _)]) dX9_farms_1 rfl (by decide) rfl ?_
  refine pl_iconst (pc := 2) (v := 0) dX9_farms_2 (by rfl) ?_
  refine pj_istore_n (pc := 3) (lv' := [(2, _), (1, _), (0, _)]) dX9_farms_3 rfl (by decide) rfl ?_
  refine ind_dn (n := 96) (P := fun i => PJ g _ _ _ _ d 0 0 4 [(2, .int (nI i)), (1, .int (nI (farmsC σ i))), (0, .ref (ad 0))] [] (mm g ad μ σ) _) (fun i hi ih => ?_) 0 (Nat.zero_le _)
  refine pl_iload_n (pc := 4) dX9_farms_4 rfl rfl ?_
  refine pl_bipush (pc := 5) (v := 96) dX9_farms_5 (by rfl) ?_
  refine pl_icmp_ge (pc := 7) (tgt := 36) dX9_farms_7 (by decide) (by omega) (by omega) (fun c7 => ?_) (fun c7 => ?_)
  · refine pl_iload_n (pc := 36) dX9_farms_36 rfl rfl ?_
    refine pj_iret (pc := 37) dX9_farms_37 rfl ?_
    have e : i = 96 := by omega
    subst e
    exact ⟨rfl, rfl⟩
  · refine pl_iload_n (pc := 10) dX9_farms_10 rfl rfl ?_
    refine pl_aload_n (pc := 11) dX9_farms_11 rfl rfl ?_
    refine pl_iload_n (pc := 12) dX9_farms_12 rfl rfl ?_
    refine pl_iconst (pc := 13) (v := 0) dX9_farms_13 (by rfl) ?_
    refine pl_callVd (pc := 14) (As := [_, _]) (C2 := 0) (N2 := 0) ckX9 mdX9_sec rfl q2635 q2637 qs51 q154 dX9_farms_14 rfl rfl (Nat.le_of_ble_eq_true rfl) (mm_o hA) (w_X9_sec (d := d - 1) (by omega) hA (by omega) (by decide)) (by omega) (by decide) (by decide) ?_
    refine pl_callSd (pc := 17) (As := [_]) (C2 := 0) (N2 := 0) mdX9_isFarm q2681 q2682 q154 dX9_farms_17 rfl rfl (Nat.le_of_ble_eq_true rfl) (w_X9_isFarm (d := d - 1) (by omega)) (by omega) (by decide) (by decide) ?_
    refine pl_if_eqB (pc := 20) (tgt := 27) dX9_farms_20 (by decide) (fun c20 => ?_) (fun c20 => ?_)
    · refine pl_iconst (pc := 27) (v := 0) dX9_farms_27 (by rfl) ?_
      refine pl_iadd (pc := 28) dX9_farms_28 ?_
      refine pj_istore_n (pc := 29) (lv' := [(1, _), (2, _), (0, _)]) dX9_farms_29 rfl (by decide) rfl ?_
      refine pl_iinc1 (pc := 30) (lv' := [(2, _), (1, _), (0, _)]) dX9_farms_30 rfl rfl (by decide) rfl ?_
      refine pj_goto (pc := 33) (tgt := 4) dX9_farms_33 (by decide) ?_
      exact PJ.conv (by simp [cnt, c7, c20]) rfl (rfl) (ih (by omega))
    · refine pl_iconst (pc := 23) (v := 1) dX9_farms_23 (by rfl) ?_
      refine pj_goto (pc := 24) (tgt := 28) dX9_farms_24 (by decide) ?_
      refine pl_iadd (pc := 28) dX9_farms_28 ?_
      refine pj_istore_n (pc := 29) (lv' := [(1, _), (2, _), (0, _)]) dX9_farms_29 rfl (by decide) rfl ?_
      refine pl_iinc1 (pc := 30) (lv' := [(2, _), (1, _), (0, _)]) dX9_farms_30 rfl rfl (by decide) rfl ?_
      refine pj_goto (pc := 33) (tgt := 4) dX9_farms_33 (by decide) ?_
      exact PJ.conv (by simp [cnt, c7, c20]) rfl (rfl) (ih (by omega))
set_option maxHeartbeats 4000000 in
theorem w_X9_here {g : GP} {ad : Nat → Nat} {μ : Mem} {σ : MS} {d : Nat}  {n : Nat} (hd : 3 ≤ d) (hA : Inj ad 18) (hn : row σ 2124 = nI n) (hP : n ≤ 100) : PM g yX9_here (ws_ yX9_here cX9_here 3 (some .int)) d 0 0 [.ref (ad 0)] (mm g ad μ σ) (rQ (some (.int (nI (hereC σ n)))) (mm g ad μ (σ))) := by
  refine PM.of (by decide +kernel) (Nat.le_of_ble_eq_true rfl) ?_
  show PJ g _ _ _ _ d 0 0 0 [(0, .ref (ad 0))] [] _ _
  refine pl_iconst (pc := 0) (v := 0) dX9_here_0 (by rfl) ?_
  refine pj_istore_n (pc := 1) (lv' := [(1, _), (0, _)]) dX9_here_1 rfl (by decide) rfl ?_
  refine pl_iconst (pc := 2) (v := 0) dX9_here_2 (by rfl) ?_
  refine pj_istore_n (pc := 3) (lv' := [(2, _), (1, _), (0, _)]) dX9_here_3 rfl (by decide) rfl ?_
  refine ind_dn (n := n) (P := fun i => PJ g _ _ _ _ d 0 0 4 [(2, .int (nI i)), (1, .int (nI (hereC σ i))), (0, .ref (ad 0))] [] (mm g ad μ σ) _) (fun i hi ih => ?_) 0 (Nat.zero_le _)
  refine pl_iload_n (pc := 4) dX9_here_4 rfl rfl ?_
  refine pl_aload_n (pc := 5) dX9_here_5 rfl rfl ?_
  refine pj_getf (pc := 6) ckX9 1 q2517 dX9_here_6 (by decide) (mm_o hA) rfl ?_
  refine pl_sipush (pc := 9) (v := 2124) dX9_here_9 (by rfl) ?_
  refine pl_iald (pc := 12) (n := 2132) dX9_here_12 (mm_a hA 1 (by decide) (by decide)) (by decide) (by decide) ?_
  refine PJ.top (y := nI _) (hn) ?_
  refine pl_icmp_ge (pc := 13) (tgt := 38) dX9_here_13 (by decide) (by omega) (by omega) (fun c13 => ?_) (fun c13 => ?_)
  · refine pl_iload_n (pc := 38) dX9_here_38 rfl rfl ?_
    refine pj_iret (pc := 39) dX9_here_39 rfl ?_
    have e : i = n := by omega
    subst e
    exact ⟨rfl, rfl⟩
  · refine pl_iload_n (pc := 16) dX9_here_16 rfl rfl ?_
    refine pl_aload_n (pc := 17) dX9_here_17 rfl rfl ?_
    refine pl_iload_n (pc := 18) dX9_here_18 rfl rfl ?_
    refine pl_callVd (pc := 19) (As := [_]) (C2 := 0) (N2 := 0) ckX9 mdX9_isHere rfl q2784 q2786 qs71 q154 dX9_here_19 rfl rfl (Nat.le_of_ble_eq_true rfl) (mm_o hA) (w_X9_isHere (d := d - 1) (by omega) hA (by omega)) (by omega) (by decide) (by decide) ?_
    refine pl_if_eqB (pc := 22) (tgt := 29) dX9_here_22 (by decide) (fun c22 => ?_) (fun c22 => ?_)
    · refine pl_iconst (pc := 29) (v := 0) dX9_here_29 (by rfl) ?_
      refine pl_iadd (pc := 30) dX9_here_30 ?_
      refine pj_istore_n (pc := 31) (lv' := [(1, _), (2, _), (0, _)]) dX9_here_31 rfl (by decide) rfl ?_
      refine pl_iinc1 (pc := 32) (lv' := [(2, _), (1, _), (0, _)]) dX9_here_32 rfl rfl (by decide) rfl ?_
      refine pj_goto (pc := 35) (tgt := 4) dX9_here_35 (by decide) ?_
      exact PJ.conv (by simp [cnt, c13, c22]) rfl (rfl) (ih (by omega))
    · refine pl_iconst (pc := 25) (v := 1) dX9_here_25 (by rfl) ?_
      refine pj_goto (pc := 26) (tgt := 30) dX9_here_26 (by decide) ?_
      refine pl_iadd (pc := 30) dX9_here_30 ?_
      refine pj_istore_n (pc := 31) (lv' := [(1, _), (2, _), (0, _)]) dX9_here_31 rfl (by decide) rfl ?_
      refine pl_iinc1 (pc := 32) (lv' := [(2, _), (1, _), (0, _)]) dX9_here_32 rfl rfl (by decide) rfl ?_
      refine pj_goto (pc := 35) (tgt := 4) dX9_here_35 (by decide) ?_
      exact PJ.conv (by simp [cnt, c13, c22]) rfl (rfl) (ih (by omega))
set_option maxHeartbeats 4000000 in
theorem w_X9_hiredBy {g : GP} {ad : Nat → Nat} {μ : Mem} {σ : MS} {d : Nat} {p : Int32} {n : Nat} (hd : 2 ≤ d) (hA : Inj ad 18) (hn : row σ 2124 = nI n) (hP : n ≤ 100) : PM g yX9_hiredBy (ws_ yX9_hiredBy cX9_hiredBy 4 (some .int)) d 0 0 [.ref (ad 0), .int p] (mm g ad μ σ) (rQ (some (.int (nI (hiredC σ n p)))) (mm g ad μ (σ))) := by
  refine PM.of (by decide +kernel) (Nat.le_of_ble_eq_true rfl) ?_
  show PJ g _ _ _ _ d 0 0 0 [(0, .ref (ad 0)), (1, .int p)] [] _ _
  refine pl_iconst (pc := 0) (v := 0) dX9_hiredBy_0 (by rfl) ?_
  refine pj_istore_n (pc := 1) (lv' := [(2, _), (0, _), (1, _)]) dX9_hiredBy_1 rfl (by decide) rfl ?_
  refine pl_iconst (pc := 2) (v := 0) dX9_hiredBy_2 (by rfl) ?_
  refine pj_istore_n (pc := 3) (lv' := [(3, _), (2, _), (0, _), (1, _)]) dX9_hiredBy_3 rfl (by decide) rfl ?_
  refine PJ.sub [0, 1, 3, 2] rfl ?_
  refine ind_dn (n := n) (P := fun i => PJ g _ _ _ _ d 0 0 4 [(3, .int (nI i)), (2, .int (nI (hiredC σ i p))), (1, .int p), (0, .ref (ad 0))] [] (mm g ad μ σ) _) (fun i hi ih => ?_) 0 (Nat.zero_le _)
  refine pl_iload_n (pc := 4) dX9_hiredBy_4 rfl rfl ?_
  refine pl_aload_n (pc := 5) dX9_hiredBy_5 rfl rfl ?_
  refine pj_getf (pc := 6) ckX9 1 q2517 dX9_hiredBy_6 (by decide) (mm_o hA) rfl ?_
  refine pl_sipush (pc := 9) (v := 2124) dX9_hiredBy_9 (by rfl) ?_
  refine pl_iald (pc := 12) (n := 2132) dX9_hiredBy_12 (mm_a hA 1 (by decide) (by decide)) (by decide) (by decide) ?_
  refine PJ.top (y := nI _) (hn) ?_
  refine pl_icmp_ge (pc := 13) (tgt := 50) dX9_hiredBy_13 (by decide) (by omega) (by omega) (fun c13 => ?_) (fun c13 => ?_)
  · refine pl_iload_n (pc := 50) dX9_hiredBy_50 rfl rfl ?_
    refine pj_iret (pc := 51) dX9_hiredBy_51 rfl ?_
    have e : i = n := by omega
    subst e
    exact ⟨rfl, rfl⟩
  · refine pl_iload_n (pc := 16) dX9_hiredBy_16 rfl rfl ?_
    refine pl_aload_n (pc := 17) dX9_hiredBy_17 rfl rfl ?_
    refine pl_iload_n (pc := 18) dX9_hiredBy_18 rfl rfl ?_
    refine pl_iconst (pc := 19) (v := 2) dX9_hiredBy_19 (by rfl) ?_
    refine pl_callVd (pc := 20) (As := [_, _]) (C2 := 0) (N2 := 0) ckX9 mdX9_per rfl q2713 q2715 qs59 q154 dX9_hiredBy_20 rfl rfl (Nat.le_of_ble_eq_true rfl) (mm_o hA) (w_X9_per (d := d - 1) (by omega) hA (by omega) (by decide)) (by omega) (by decide) (by decide) ?_
    refine pl_iconst (pc := 23) (v := 3) dX9_hiredBy_23 (by rfl) ?_
    refine pj_icmp_ne (pc := 24) (tgt := 41) dX9_hiredBy_24 (by decide) (fun c24 => ?_) (fun c24 => ?_)
    · refine pl_iconst (pc := 41) (v := 0) dX9_hiredBy_41 (by rfl) ?_
      refine pl_iadd (pc := 42) dX9_hiredBy_42 ?_
      refine pj_istore_n (pc := 43) (lv' := [(2, _), (3, _), (1, _), (0, _)]) dX9_hiredBy_43 rfl (by decide) rfl ?_
      refine pl_iinc1 (pc := 44) (lv' := [(3, _), (2, _), (1, _), (0, _)]) dX9_hiredBy_44 rfl rfl (by decide) rfl ?_
      refine pj_goto (pc := 47) (tgt := 4) dX9_hiredBy_47 (by decide) ?_
      exact PJ.conv (by simp [cnt, c13, c24]) rfl (rfl) (ih (by omega))
    · refine pl_aload_n (pc := 27) dX9_hiredBy_27 rfl rfl ?_
      refine pl_iload_n (pc := 28) dX9_hiredBy_28 rfl rfl ?_
      refine pl_iconst (pc := 29) (v := 3) dX9_hiredBy_29 (by rfl) ?_
      refine pl_callVd (pc := 30) (As := [_, _]) (C2 := 0) (N2 := 0) ckX9 mdX9_per rfl q2713 q2715 qs59 q154 dX9_hiredBy_30 rfl rfl (Nat.le_of_ble_eq_true rfl) (mm_o hA) (w_X9_per (d := d - 1) (by omega) hA (by omega) (by decide)) (by omega) (by decide) (by decide) ?_
      refine pl_iload_n (pc := 33) dX9_hiredBy_33 rfl rfl ?_
      refine pj_icmp_ne (pc := 34) (tgt := 41) dX9_hiredBy_34 (by decide) (fun c34 => ?_) (fun c34 => ?_)
      · refine pl_iconst (pc := 41) (v := 0) dX9_hiredBy_41 (by rfl) ?_
        refine pl_iadd (pc := 42) dX9_hiredBy_42 ?_
        refine pj_istore_n (pc := 43) (lv' := [(2, _), (3, _), (1, _), (0, _)]) dX9_hiredBy_43 rfl (by decide) rfl ?_
        refine pl_iinc1 (pc := 44) (lv' := [(3, _), (2, _), (1, _), (0, _)]) dX9_hiredBy_44 rfl rfl (by decide) rfl ?_
        refine pj_goto (pc := 47) (tgt := 4) dX9_hiredBy_47 (by decide) ?_
        exact PJ.conv (by simp [cnt, c13, eq_true c24, c34]) rfl (rfl) (ih (by omega))
      · refine pl_iconst (pc := 37) (v := 1) dX9_hiredBy_37 (by rfl) ?_
        refine pj_goto (pc := 38) (tgt := 42) dX9_hiredBy_38 (by decide) ?_
        refine pl_iadd (pc := 42) dX9_hiredBy_42 ?_
        refine pj_istore_n (pc := 43) (lv' := [(2, _), (3, _), (1, _), (0, _)]) dX9_hiredBy_43 rfl (by decide) rfl ?_
        refine pl_iinc1 (pc := 44) (lv' := [(3, _), (2, _), (1, _), (0, _)]) dX9_hiredBy_44 rfl rfl (by decide) rfl ?_
        refine pj_goto (pc := 47) (tgt := 4) dX9_hiredBy_47 (by decide) ?_
        exact PJ.conv (by simp [cnt, c13, eq_true c24, eq_true c34]) rfl (rfl) (ih (by omega))
set_option maxHeartbeats 4000000 in
theorem w_X9_farmsOf {g : GP} {ad : Nat → Nat} {μ : Mem} {σ : MS} {d : Nat} {p : Int32}  (hd : 2 ≤ d) (hA : Inj ad 18) : PM g yX9_farmsOf (ws_ yX9_farmsOf cX9_farmsOf 4 (some .int)) d 0 0 [.ref (ad 0), .int p] (mm g ad μ σ) (rQ (some (.int (nI (farmsOfC σ p 96)))) (mm g ad μ (σ))) := by
  refine PM.of (by decide +kernel) (Nat.le_of_ble_eq_true rfl) ?_
  show PJ g _ _ _ _ d 0 0 0 [(0, .ref (ad 0)), (1, .int p)] [] _ _
  refine pl_iconst (pc := 0) (v := 0) dX9_farmsOf_0 (by rfl) ?_
  refine pj_istore_n (pc := 1) (lv' := [(2, _), (0, _), (1, _)]) dX9_farmsOf_1 rfl (by decide) rfl ?_
  refine pl_iconst (pc := 2) (v := 0) dX9_farmsOf_2 (by rfl) ?_
  refine pj_istore_n (pc := 3) (lv' := [(3, _), (2, _), (0, _), (1, _)]) dX9_farmsOf_3 rfl (by decide) rfl ?_
  refine PJ.sub [0, 1, 3, 2] rfl ?_
  refine ind_dn (n := 96) (P := fun i => PJ g _ _ _ _ d 0 0 4 [(3, .int (nI i)), (2, .int (nI (farmsOfC σ p i))), (1, .int p), (0, .ref (ad 0))] [] (mm g ad μ σ) _) (fun i hi ih => ?_) 0 (Nat.zero_le _)
  refine pl_iload_n (pc := 4) dX9_farmsOf_4 rfl rfl ?_
  refine pl_bipush (pc := 5) (v := 96) dX9_farmsOf_5 (by rfl) ?_
  refine pl_icmp_ge (pc := 7) (tgt := 46) dX9_farmsOf_7 (by decide) (by omega) (by omega) (fun c7 => ?_) (fun c7 => ?_)
  · refine pl_iload_n (pc := 46) dX9_farmsOf_46 rfl rfl ?_
    refine pj_iret (pc := 47) dX9_farmsOf_47 rfl ?_
    have e : i = 96 := by omega
    subst e
    exact ⟨rfl, rfl⟩
  · refine pl_iload_n (pc := 10) dX9_farmsOf_10 rfl rfl ?_
    refine pl_aload_n (pc := 11) dX9_farmsOf_11 rfl rfl ?_
    refine pl_iload_n (pc := 12) dX9_farmsOf_12 rfl rfl ?_
    refine pl_iconst (pc := 13) (v := 0) dX9_farmsOf_13 (by rfl) ?_
    refine pl_callVd (pc := 14) (As := [_, _]) (C2 := 0) (N2 := 0) ckX9 mdX9_sec rfl q2635 q2637 qs51 q154 dX9_farmsOf_14 rfl rfl (Nat.le_of_ble_eq_true rfl) (mm_o hA) (w_X9_sec (d := d - 1) (by omega) hA (by omega) (by decide)) (by omega) (by decide) (by decide) ?_
    refine pl_callSd (pc := 17) (As := [_]) (C2 := 0) (N2 := 0) mdX9_isFarm q2681 q2682 q154 dX9_farmsOf_17 rfl rfl (Nat.le_of_ble_eq_true rfl) (w_X9_isFarm (d := d - 1) (by omega)) (by omega) (by decide) (by decide) ?_
    refine pl_if_eqB (pc := 20) (tgt := 37) dX9_farmsOf_20 (by decide) (fun c20 => ?_) (fun c20 => ?_)
    · refine pl_iconst (pc := 37) (v := 0) dX9_farmsOf_37 (by rfl) ?_
      refine pl_iadd (pc := 38) dX9_farmsOf_38 ?_
      refine pj_istore_n (pc := 39) (lv' := [(2, _), (3, _), (1, _), (0, _)]) dX9_farmsOf_39 rfl (by decide) rfl ?_
      refine pl_iinc1 (pc := 40) (lv' := [(3, _), (2, _), (1, _), (0, _)]) dX9_farmsOf_40 rfl rfl (by decide) rfl ?_
      refine pj_goto (pc := 43) (tgt := 4) dX9_farmsOf_43 (by decide) ?_
      exact PJ.conv (by simp [cnt, c7, c20]) rfl (rfl) (ih (by omega))
    · refine pl_aload_n (pc := 23) dX9_farmsOf_23 rfl rfl ?_
      refine pl_iload_n (pc := 24) dX9_farmsOf_24 rfl rfl ?_
      refine pl_iconst (pc := 25) (v := 1) dX9_farmsOf_25 (by rfl) ?_
      refine pl_callVd (pc := 26) (As := [_, _]) (C2 := 0) (N2 := 0) ckX9 mdX9_sec rfl q2635 q2637 qs51 q154 dX9_farmsOf_26 rfl rfl (Nat.le_of_ble_eq_true rfl) (mm_o hA) (w_X9_sec (d := d - 1) (by omega) hA (by omega) (by decide)) (by omega) (by decide) (by decide) ?_
      refine pl_iload_n (pc := 29) dX9_farmsOf_29 rfl rfl ?_
      refine pj_icmp_ne (pc := 30) (tgt := 37) dX9_farmsOf_30 (by decide) (fun c30 => ?_) (fun c30 => ?_)
      · refine pl_iconst (pc := 37) (v := 0) dX9_farmsOf_37 (by rfl) ?_
        refine pl_iadd (pc := 38) dX9_farmsOf_38 ?_
        refine pj_istore_n (pc := 39) (lv' := [(2, _), (3, _), (1, _), (0, _)]) dX9_farmsOf_39 rfl (by decide) rfl ?_
        refine pl_iinc1 (pc := 40) (lv' := [(3, _), (2, _), (1, _), (0, _)]) dX9_farmsOf_40 rfl rfl (by decide) rfl ?_
        refine pj_goto (pc := 43) (tgt := 4) dX9_farmsOf_43 (by decide) ?_
        exact PJ.conv (by simp [cnt, c7, c20, c30]) rfl (rfl) (ih (by omega))
      · refine pl_iconst (pc := 33) (v := 1) dX9_farmsOf_33 (by rfl) ?_
        refine pj_goto (pc := 34) (tgt := 38) dX9_farmsOf_34 (by decide) ?_
        refine pl_iadd (pc := 38) dX9_farmsOf_38 ?_
        refine pj_istore_n (pc := 39) (lv' := [(2, _), (3, _), (1, _), (0, _)]) dX9_farmsOf_39 rfl (by decide) rfl ?_
        refine pl_iinc1 (pc := 40) (lv' := [(3, _), (2, _), (1, _), (0, _)]) dX9_farmsOf_40 rfl rfl (by decide) rfl ?_
        refine pj_goto (pc := 43) (tgt := 4) dX9_farmsOf_43 (by decide) ?_
        exact PJ.conv (by simp [cnt, c7, c20, eq_true c30]) rfl (rfl) (ih (by omega))
