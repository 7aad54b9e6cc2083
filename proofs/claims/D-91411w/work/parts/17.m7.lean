set_option maxRecDepth 100000
theorem nar1 : vp_nar .boolean (nI 1) = nI 1 := rfl
theorem nar0 : vp_nar .boolean (nI 0) = nI 0 := rfl
def p_party (σ : MS) (q : Nat) (v : Int32) : Int32 × MS :=
  if v < nI 1 then (nI 0, th σ 1) else if ¬ v ≤ nI 9 then (nI 0, th σ 1) else if q = 4 then (-1, s0 σ)
  else (let σ1 := sR (s0 σ) (1720 + 15 * q + 0) v; let σ2 := sR σ1 2127 (row σ1 2127 + nI 1); (row σ2 2127 - nI 1, σ2))
def p_queue (σ : MS) (q : Nat) (p c : Int32) : Int32 × MS :=
  if inN p q = false then (nI 0, th σ 1) else if inN c 96 = false then (nI 0, th σ 1)
  else (let σ := s0 σ; let a0 := 1720 + 15 * tN p; if row σ (a0 + 2) = nI 12 then (-1, σ) else if ¬ sec σ (tN c) 0 = 0 then (-2, σ)
    else (let σ1 := sR σ (a0 + 3 + tN (row σ (a0 + 2))) c; let σ2 := sR σ1 (a0 + 2) (row σ1 (a0 + 2) + nI 1); (row σ2 (a0 + 2), σ2)))
def p_where (σ : MS) (q : Nat) (p w : Int32) : Int32 × MS :=
  if inN p q = false then (nI 0, th σ 1) else if w < 0 then (nI 0, th σ 2) else if ¬ w ≤ nI 2 then (nI 0, th σ 2)
  else (let σ := s0 σ; let a0 := 1720 + 15 * tN p; if w = 0 then row σ (a0 + 1) else if w = nI 1 then row σ (a0 + 2) else if row σ (a0 + 2) = 0 then -1 else row σ (a0 + 3), s0 σ)
def p_bill (σ : MS) (b : Nat) (v : Int32) : Int32 × MS :=
  if v < nI 1 then (nI 0, th σ 1) else if ¬ v ≤ nI 10000 then (nI 0, th σ 1) else if b = 20 then (-1, s0 σ)
  else (let a0 := 1640 + 4 * b; let σ1 := sR (s0 σ) (a0 + 0) v; let σ2 := sR σ1 (a0 + 3) (row σ1 2116 + nI 34); let σ3 := sR σ2 2118 (row σ2 2118 + v); let σ4 := sR σ3 2126 (row σ3 2126 + nI 1); (row σ4 2126 - nI 1, σ4))
def p_pass (σ : MS) (b : Nat) (v : Int32) : Int32 × MS :=
  if inN v b = false then (nI 0, th σ 1)
  else (let σ := s0 σ; let a0 := 1640 + 4 * tN v; if row σ (a0 + 1) = nI 5 then (-1, σ) else if ¬ row σ (a0 + 2) ≤ 0 then (-2, σ) else (let σ1 := sR σ (a0 + 1) (row σ (a0 + 1) + nI 1); (row σ1 (a0 + 1), σ1)))
def acreV (σ : MS) (dr : Nat) (p : Int32) : Bool := anyN (fun k => decide (row σ (2080 + k) = p)) dr
def askedV (σ : MS) (as : Nat) (p : Int32) : Bool := anyN (fun k => decide (row σ (2092 + k) = p)) as
def p_vote (σ : MS) (nl n dr : Nat) (l p : Int32) (y : Bool) : Int32 × MS :=
  if inN l nl = false then (nI 0, th σ 1) else if inN p n = false then (nI 0, th σ 1)
  else (let σ := s0 σ; if ¬ lawv σ (tN l) 0 = 0 then (-1, σ) else if decide (nI 2 ≤ per σ (tN p) 2) = false then (-2, σ)
    else if ¬ 0 < farmsOfC σ p 96 ∧ acreV σ dr p = false then (-2, σ) else if ¬ σ.2.1 12 (100 * tN l + tN p) = 0 then (-3, σ)
    else (let σ1 := wA σ 12 (100 * tN l + tN p) (nI 1); let k := 1568 + 6 * tN l + (if y = true then 1 else 2); let σ2 := sR σ1 k (row σ1 k + nI 1); (row σ2 k, σ2)))
def p_assent (σ : MS) (nl : Nat) (l : Int32) (y : Bool) : Int32 × MS :=
  if inN l nl = false then (nI 0, th σ 1)
  else (let σ := s0 σ; let l := tN l; if ¬ lawv σ l 0 = nI 2 then (-1, σ) else if ¬ lawv σ l 3 + nI 34 ≤ row σ 2116 then (-2, σ) else if ¬ lawv σ l 4 ≤ 0 then (-3, σ)
    else (let σ1 := sR σ (1568 + 6 * l + 4) (if y = true then nI 1 else nI 2); let σ2 := sR σ1 (1568 + 6 * l + 5) (row σ1 2116 + nI 34); (row σ2 2116 + nI 34, σ2)))
def p_ask (σ : MS) (n as dr : Nat) (p : Int32) : Int32 × MS :=
  if inN p n = false then (nI 0, th σ 1)
  else (let σ := s0 σ; if decide (nI 2 ≤ per σ (tN p) 2) = false then (-1, σ) else if askedV σ as p = true then (-2, σ) else if acreV σ dr p = true then (-2, σ) else if as + dr = 12 then (-3, σ)
    else (let σ1 := sR σ (2092 + as) p; let σ2 := sR σ1 2130 (row σ1 2130 + nI 1); (row σ2 2130, σ2)))
set_option maxHeartbeats 4000000 in
theorem w_X9_party {g : GP} {ad : Nat → Nat} {μ : Mem} {σ : MS} {d : Nat} {v : Int32} {q : Nat} (hd : 2 ≤ d) (hA : Inj ad 18) (hq : row σ 2127 = nI q) (hQ : q ≤ 4) : PM g yX9_party (ws_ yX9_party cX9_party 2 (some .int)) d 0 0 [.ref (ad 0), .int v] (mm g ad μ σ) (rQ (some (.int ((p_party σ q v).1))) (mm g ad μ ((p_party σ q v).2))) := by
  refine PM.of (by decide +kernel) (Nat.le_of_ble_eq_true rfl) ?_
  show PJ g _ _ _ _ d 0 0 0 [(0, .ref (ad 0)), (1, .int v)] [] _ _
  refine pl_aload_n (pc := 0) dX9_party_0 rfl rfl ?_
  refine pl_iconst (pc := 1) (v := 0) dX9_party_1 (by rfl) ?_
  refine pm_putI (pc := 2) 0 hA q2516 dX9_party_2 (by decide) rfl (by rfl) (by rfl) rfl ?_
  refine pl_aload_n (pc := 5) dX9_party_5 rfl rfl ?_
  refine pl_iload_n (pc := 6) dX9_party_6 rfl rfl ?_
  refine pl_iconst (pc := 7) (v := 1) dX9_party_7 (by rfl) ?_
  refine pj_icmp_lt (pc := 8) (tgt := 17) dX9_party_8 (by decide) (fun c8 => ?_) (fun c8 => ?_)
  · refine pl_iconst (pc := 17) (v := 1) dX9_party_17 (by rfl) ?_
    refine pj_goto (pc := 18) (tgt := 22) dX9_party_18 (by decide) ?_
    refine pl_iconst (pc := 22) (v := 1) dX9_party_22 (by rfl) ?_
    refine pl_callVd (pc := 23) (As := [_, _]) (C2 := 0) (N2 := 0) ckX9 mdX9_bad rfl q2631 q2633 qs50 q154 dX9_party_23 rfl rfl (Nat.le_of_ble_eq_true rfl) (mm_o hA) (w_bad_1 (d := d - 1) (by omega) hA) (by omega) (by decide) (by decide) ?_
    refine pj_if_eq (pc := 26) (tgt := 31) dX9_party_26 (by decide) (fun h => absurd h (by decide)) (fun _ => ?_)
    refine pl_iconst (pc := 29) (v := 0) dX9_party_29 (by rfl) ?_
    refine pj_iret (pc := 30) dX9_party_30 rfl ?_
    exact ⟨vIe (by simp [p_party, c8]) rfl, congrArg (mm g ad μ) (by simp [p_party, c8])⟩
  · refine pl_iload_n (pc := 11) dX9_party_11 rfl rfl ?_
    refine pl_bipush (pc := 12) (v := 9) dX9_party_12 (by rfl) ?_
    refine pj_icmp_le (pc := 14) (tgt := 21) dX9_party_14 (by decide) (fun c14 => ?_) (fun c14 => ?_)
    · refine pl_iconst (pc := 21) (v := 0) dX9_party_21 (by rfl) ?_
      refine pl_iconst (pc := 22) (v := 1) dX9_party_22 (by rfl) ?_
      refine pl_callVd (pc := 23) (As := [_, _]) (C2 := 0) (N2 := 0) ckX9 mdX9_bad rfl q2631 q2633 qs50 q154 dX9_party_23 rfl rfl (Nat.le_of_ble_eq_true rfl) (mm_o hA) (w_bad_0 (d := d - 1) (by omega) hA) (by omega) (by decide) (by decide) ?_
      refine pj_if_eq (pc := 26) (tgt := 31) dX9_party_26 (by decide) (fun _ => ?_) (fun h => absurd h (by decide))
      refine pl_aload_n (pc := 31) dX9_party_31 rfl rfl ?_
      refine pj_getf (pc := 32) ckX9 1 q2517 dX9_party_32 (by decide) (mm_o hA) rfl ?_
      refine pl_sipush (pc := 35) (v := 2127) dX9_party_35 (by rfl) ?_
      refine pl_iald (pc := 38) (n := 2132) dX9_party_38 (mm_a hA 1 (by decide) (by decide)) (by omega) (by decide) ?_
      refine PJ.top (y := nI _) (hq) ?_
      refine pl_iconst (pc := 39) (v := 4) dX9_party_39 (by rfl) ?_
      refine pl_icmp_ne (pc := 40) (tgt := 45) dX9_party_40 (by decide) (by omega) (by omega) (fun c40 => ?_) (fun c40 => ?_)
      · refine pl_aload_n (pc := 45) dX9_party_45 rfl rfl ?_
        refine pj_getf (pc := 46) ckX9 1 q2517 dX9_party_46 (by decide) (mm_o hA) rfl ?_
        refine pl_sipush (pc := 49) (v := 1720) dX9_party_49 (by rfl) ?_
        refine pl_bipush (pc := 52) (v := 15) dX9_party_52 (by rfl) ?_
        refine pl_aload_n (pc := 54) dX9_party_54 rfl rfl ?_
        refine pj_getf (pc := 55) ckX9 1 q2517 dX9_party_55 (by decide) (mm_o hA) rfl ?_
        refine pl_sipush (pc := 58) (v := 2127) dX9_party_58 (by rfl) ?_
        refine pl_iald (pc := 61) (n := 2132) dX9_party_61 (mm_a hA 1 (by decide) (by decide)) (by omega) (by decide) ?_
        refine PJ.top (y := nI _) (hq) ?_
        refine pl_imul (pc := 62) dX9_party_62 ?_
        refine pl_iadd (pc := 63) dX9_party_63 ?_
        refine pl_iconst (pc := 64) (v := 0) dX9_party_64 (by rfl) ?_
        refine pl_iadd (pc := 65) dX9_party_65 ?_
        refine pl_iload_n (pc := 66) dX9_party_66 rfl rfl ?_
        refine pm_iast (pc := 67) 1 hA (by decide) (by decide) rfl dX9_party_67 (show _ < 2132 by omega) (by decide) ?_
        refine pl_aload_n (pc := 68) dX9_party_68 rfl rfl ?_
        refine pj_getf (pc := 69) ckX9 1 q2517 dX9_party_69 (by decide) (mm_o hA) rfl ?_
        refine pl_sipush (pc := 72) (v := 2127) dX9_party_72 (by rfl) ?_
        refine pj_dup2_11 (pc := 75) dX9_party_75 rfl rfl ?_
        refine pl_iald (pc := 76) (n := 2132) dX9_party_76 (mm_a hA 1 (by decide) (by decide)) (by omega) (by decide) ?_
        refine pl_iconst (pc := 77) (v := 1) dX9_party_77 (by rfl) ?_
        refine pj_iadd (pc := 78) dX9_party_78 ?_
        refine pm_iast (pc := 79) 1 hA (by decide) (by decide) rfl dX9_party_79 (show _ < 2132 by omega) (by decide) ?_
        refine pl_aload_n (pc := 80) dX9_party_80 rfl rfl ?_
        refine pj_getf (pc := 81) ckX9 1 q2517 dX9_party_81 (by decide) (mm_o hA) rfl ?_
        refine pl_sipush (pc := 84) (v := 2127) dX9_party_84 (by rfl) ?_
        refine pl_iald (pc := 87) (n := 2132) dX9_party_87 (mm_a hA 1 (by decide) (by decide)) (by omega) (by decide) ?_
        refine pl_iconst (pc := 88) (v := 1) dX9_party_88 (by rfl) ?_
        refine pj_isub (pc := 89) dX9_party_89 ?_
        refine pj_iret (pc := 90) dX9_party_90 rfl ?_
        exact ⟨vIe (by simp [p_party, c8, c14, c40]) rfl, congrArg (mm g ad μ) (by simp [p_party, c8, c14, c40])⟩
      · refine pj_iconst (pc := 43) (v := (-1)) dX9_party_43 (by rfl) ?_
        refine pj_iret (pc := 44) dX9_party_44 rfl ?_
        exact ⟨vIe (by simp [p_party, c8, c14, eq_true c40]) rfl, congrArg (mm g ad μ) (by simp [p_party, c8, c14, eq_true c40])⟩
    · refine pl_iconst (pc := 17) (v := 1) dX9_party_17 (by rfl) ?_
      refine pj_goto (pc := 18) (tgt := 22) dX9_party_18 (by decide) ?_
      refine pl_iconst (pc := 22) (v := 1) dX9_party_22 (by rfl) ?_
      refine pl_callVd (pc := 23) (As := [_, _]) (C2 := 0) (N2 := 0) ckX9 mdX9_bad rfl q2631 q2633 qs50 q154 dX9_party_23 rfl rfl (Nat.le_of_ble_eq_true rfl) (mm_o hA) (w_bad_1 (d := d - 1) (by omega) hA) (by omega) (by decide) (by decide) ?_
      refine pj_if_eq (pc := 26) (tgt := 31) dX9_party_26 (by decide) (fun h => absurd h (by decide)) (fun _ => ?_)
      refine pl_iconst (pc := 29) (v := 0) dX9_party_29 (by rfl) ?_
      refine pj_iret (pc := 30) dX9_party_30 rfl ?_
      exact ⟨vIe (by simp [p_party, c8, c14]) rfl, congrArg (mm g ad μ) (by simp [p_party, c8, c14])⟩
set_option maxHeartbeats 4000000 in
theorem w_X9_queue {g : GP} {ad : Nat → Nat} {μ : Mem} {σ : MS} {d : Nat} {p : Int32} {c : Int32} {q : Nat} (hd : 2 ≤ d) (hA : Inj ad 18) (hq : row σ 2127 = nI q) (hQ : q ≤ 4) (hK : ∀ p, p < q → ∃ k, k ≤ 12 ∧ row σ (1720 + 15 * p + 2) = nI k) : PM g yX9_queue (ws_ yX9_queue cX9_queue 4 (some .int)) d 0 0 [.ref (ad 0), .int p, .int c] (mm g ad μ σ) (rQ (some (.int ((p_queue σ q p c).1))) (mm g ad μ ((p_queue σ q p c).2))) := by
  refine PM.of (by decide +kernel) (Nat.le_of_ble_eq_true rfl) ?_
  show PJ g _ _ _ _ d 0 0 0 [(0, .ref (ad 0)), (1, .int p), (2, .int c)] [] _ _
  refine pl_aload_n (pc := 0) dX9_queue_0 rfl rfl ?_
  refine pl_iconst (pc := 1) (v := 0) dX9_queue_1 (by rfl) ?_
  refine pm_putI (pc := 2) 0 hA q2516 dX9_queue_2 (by decide) rfl (by rfl) (by rfl) rfl ?_
  refine pl_aload_n (pc := 5) dX9_queue_5 rfl rfl ?_
  refine pl_aload_n (pc := 6) dX9_queue_6 rfl rfl ?_
  refine pl_iload_n (pc := 7) dX9_queue_7 rfl rfl ?_
  refine pl_callVd (pc := 8) (As := [_]) (C2 := 0) (N2 := 0) ckX9 mdX9_isParty rfl q2733 q2735 qs62 q154 dX9_queue_8 rfl rfl (Nat.le_of_ble_eq_true rfl) (mm_o hA) (w_X9_isParty (d := d - 1) (by omega) hA (by first | omega | assumption | exact hn | exact hl | exact hb | exact hq | exact hdr | exact has)) (by omega) (by decide) (by decide) ?_
  refine pl_if_eqB (pc := 11) (tgt := 22) dX9_queue_11 (by decide) (fun c11 => ?_) (fun c11 => ?_)
  · refine pl_iconst (pc := 22) (v := 1) dX9_queue_22 (by rfl) ?_
    refine pj_goto (pc := 23) (tgt := 27) dX9_queue_23 (by decide) ?_
    refine pl_iconst (pc := 27) (v := 1) dX9_queue_27 (by rfl) ?_
    refine pl_callVd (pc := 28) (As := [_, _]) (C2 := 0) (N2 := 0) ckX9 mdX9_bad rfl q2631 q2633 qs50 q154 dX9_queue_28 rfl rfl (Nat.le_of_ble_eq_true rfl) (mm_o hA) (w_bad_1 (d := d - 1) (by omega) hA) (by omega) (by decide) (by decide) ?_
    refine pj_if_eq (pc := 31) (tgt := 36) dX9_queue_31 (by decide) (fun h => absurd h (by decide)) (fun _ => ?_)
    refine pl_iconst (pc := 34) (v := 0) dX9_queue_34 (by rfl) ?_
    refine pj_iret (pc := 35) dX9_queue_35 rfl ?_
    exact ⟨vIe (by simp [p_queue, c11]) rfl, congrArg (mm g ad μ) (by simp [p_queue, c11])⟩
  · obtain ⟨j_p, hj_p, rfl⟩ := inN_of (by omega) c11
    have f_p := inN_nI hj_p (by omega)
    have g_p := nI_clamp (n := j_p) (by omega)
    refine pl_aload_n (pc := 14) dX9_queue_14 rfl rfl ?_
    refine pl_iload_n (pc := 15) dX9_queue_15 rfl rfl ?_
    refine pl_callVd (pc := 16) (As := [_]) (C2 := 0) (N2 := 0) ckX9 mdX9_isSection rfl q2627 q2629 qs49 q154 dX9_queue_16 rfl rfl (Nat.le_of_ble_eq_true rfl) (mm_o hA) (w_X9_isSection (d := d - 1) (by omega) hA) (by omega) (by decide) (by decide) ?_
    refine pl_if_neB (pc := 19) (tgt := 26) dX9_queue_19 (by decide) (fun c19 => ?_) (fun c19 => ?_)
    · obtain ⟨j_c, hj_c, rfl⟩ := inN_of (by decide) c19
      have f_c := inN_nI hj_c (by omega)
      have g_c := nI_clamp (n := j_c) (by omega)
      refine pl_iconst (pc := 26) (v := 0) dX9_queue_26 (by rfl) ?_
      refine pl_iconst (pc := 27) (v := 1) dX9_queue_27 (by rfl) ?_
      refine pl_callVd (pc := 28) (As := [_, _]) (C2 := 0) (N2 := 0) ckX9 mdX9_bad rfl q2631 q2633 qs50 q154 dX9_queue_28 rfl rfl (Nat.le_of_ble_eq_true rfl) (mm_o hA) (w_bad_0 (d := d - 1) (by omega) hA) (by omega) (by decide) (by decide) ?_
      refine pj_if_eq (pc := 31) (tgt := 36) dX9_queue_31 (by decide) (fun _ => ?_) (fun h => absurd h (by decide))
      refine pl_sipush (pc := 36) (v := 1720) dX9_queue_36 (by rfl) ?_
      refine pl_bipush (pc := 39) (v := 15) dX9_queue_39 (by rfl) ?_
      refine pl_iload_n (pc := 41) dX9_queue_41 rfl rfl ?_
      refine pl_imul (pc := 42) dX9_queue_42 ?_
      refine pl_iadd (pc := 43) dX9_queue_43 ?_
      obtain ⟨k, hk, ek⟩ := hK j_p hj_p
      have ek1 : (sF σ 0 (nI 0)).2.1 1 (1720 + 15 * j_p + 2) = nI k := ek
      have g_k := nI_clamp (n := k) (by omega)
      refine pj_istore_n (pc := 44) (lv' := [(3, _), (0, _), (1, _), (2, _)]) dX9_queue_44 rfl (by decide) rfl ?_
      refine pl_aload_n (pc := 45) dX9_queue_45 rfl rfl ?_
      refine pj_getf (pc := 46) ckX9 1 q2517 dX9_queue_46 (by decide) (mm_o hA) rfl ?_
      refine pl_iload_n (pc := 49) dX9_queue_49 rfl rfl ?_
      refine pl_iconst (pc := 50) (v := 2) dX9_queue_50 (by rfl) ?_
      refine pl_iadd (pc := 51) dX9_queue_51 ?_
      refine pl_iald (pc := 52) (n := 2132) dX9_queue_52 (mm_a hA 1 (by decide) (by decide)) (by omega) (by decide) ?_
      refine pl_bipush (pc := 53) (v := 12) dX9_queue_53 (by rfl) ?_
      refine pj_icmp_ne (pc := 55) (tgt := 60) dX9_queue_55 (by decide) (fun c55 => ?_) (fun c55 => ?_)
      · rw [ek1] at c55
        have hk1 : ¬ k = 12 := fun h => c55 (by rw [h])
        refine pl_aload_n (pc := 60) dX9_queue_60 rfl rfl ?_
        refine pl_iload_n (pc := 61) dX9_queue_61 rfl rfl ?_
        refine pl_iconst (pc := 62) (v := 0) dX9_queue_62 (by rfl) ?_
        refine pl_callVd (pc := 63) (As := [_, _]) (C2 := 0) (N2 := 0) ckX9 mdX9_sec rfl q2635 q2637 qs51 q154 dX9_queue_63 rfl rfl (Nat.le_of_ble_eq_true rfl) (mm_o hA) (w_X9_sec (d := d - 1) (by omega) hA (by first | omega | assumption | exact hn | exact hl | exact hb | exact hq | exact hdr | exact has) (by first | omega | assumption | exact hn | exact hl | exact hb | exact hq | exact hdr | exact has)) (by omega) (by decide) (by decide) ?_
        refine pj_if_eq (pc := 66) (tgt := 72) dX9_queue_66 (by decide) (fun c66 => ?_) (fun c66 => ?_)
        · refine pl_aload_n (pc := 72) dX9_queue_72 rfl rfl ?_
          refine pj_getf (pc := 73) ckX9 1 q2517 dX9_queue_73 (by decide) (mm_o hA) rfl ?_
          refine pl_iload_n (pc := 76) dX9_queue_76 rfl rfl ?_
          refine pl_iconst (pc := 77) (v := 3) dX9_queue_77 (by rfl) ?_
          refine pl_iadd (pc := 78) dX9_queue_78 ?_
          refine pl_aload_n (pc := 79) dX9_queue_79 rfl rfl ?_
          refine pj_getf (pc := 80) ckX9 1 q2517 dX9_queue_80 (by decide) (mm_o hA) rfl ?_
          refine pl_iload_n (pc := 83) dX9_queue_83 rfl rfl ?_
          refine pl_iconst (pc := 84) (v := 2) dX9_queue_84 (by rfl) ?_
          refine pl_iadd (pc := 85) dX9_queue_85 ?_
          refine pl_iald (pc := 86) (n := 2132) dX9_queue_86 (mm_a hA 1 (by decide) (by decide)) (by omega) (by decide) ?_
          refine PJ.top (y := nI _) (ek1) ?_
          refine pl_iadd (pc := 87) dX9_queue_87 ?_
          refine pl_iload_n (pc := 88) dX9_queue_88 rfl rfl ?_
          refine pm_iast (pc := 89) 1 hA (by decide) (by decide) rfl dX9_queue_89 (show _ < 2132 by omega) (by decide) ?_
          refine pl_aload_n (pc := 90) dX9_queue_90 rfl rfl ?_
          refine pj_getf (pc := 91) ckX9 1 q2517 dX9_queue_91 (by decide) (mm_o hA) rfl ?_
          refine pl_iload_n (pc := 94) dX9_queue_94 rfl rfl ?_
          refine pl_iconst (pc := 95) (v := 2) dX9_queue_95 (by rfl) ?_
          refine pl_iadd (pc := 96) dX9_queue_96 ?_
          refine pj_dup2_11 (pc := 97) dX9_queue_97 rfl rfl ?_
          refine pl_iald (pc := 98) (n := 2132) dX9_queue_98 (mm_a hA 1 (by decide) (by decide)) (by omega) (by decide) ?_
          refine pl_iconst (pc := 99) (v := 1) dX9_queue_99 (by rfl) ?_
          refine pj_iadd (pc := 100) dX9_queue_100 ?_
          refine pm_iast (pc := 101) 1 hA (by decide) (by decide) rfl dX9_queue_101 (show _ < 2132 by omega) (by decide) ?_
          refine pl_aload_n (pc := 102) dX9_queue_102 rfl rfl ?_
          refine pj_getf (pc := 103) ckX9 1 q2517 dX9_queue_103 (by decide) (mm_o hA) rfl ?_
          refine pl_iload_n (pc := 106) dX9_queue_106 rfl rfl ?_
          refine pl_iconst (pc := 107) (v := 2) dX9_queue_107 (by rfl) ?_
          refine pl_iadd (pc := 108) dX9_queue_108 ?_
          refine pl_iald (pc := 109) (n := 2132) dX9_queue_109 (mm_a hA 1 (by decide) (by decide)) (by omega) (by decide) ?_
          refine pj_iret (pc := 110) dX9_queue_110 rfl ?_
          exact ⟨vIe (by simp [p_queue, c11, f_p, g_p, c19, f_c, g_c, g_k, c55, ek1, eq_true c66]) rfl, congrArg (mm g ad μ) (by simp [p_queue, c11, f_p, g_p, c19, f_c, g_c, g_k, c55, ek1, eq_true c66])⟩
        · refine pj_bipush (pc := 69) (v := (-2)) dX9_queue_69 (by rfl) ?_
          refine pj_iret (pc := 71) dX9_queue_71 rfl ?_
          exact ⟨vIe (by simp [p_queue, c11, f_p, g_p, c19, f_c, g_c, g_k, c55, ek1, c66]) rfl, congrArg (mm g ad μ) (by simp [p_queue, c11, f_p, g_p, c19, f_c, g_c, g_k, c55, ek1, c66])⟩
      · refine pj_iconst (pc := 58) (v := (-1)) dX9_queue_58 (by rfl) ?_
        refine pj_iret (pc := 59) dX9_queue_59 rfl ?_
        exact ⟨vIe (by simp [p_queue, c11, f_p, g_p, c19, f_c, g_c, g_k, eq_true c55]) rfl, congrArg (mm g ad μ) (by simp [p_queue, c11, f_p, g_p, c19, f_c, g_c, g_k, eq_true c55])⟩
    · refine pl_iconst (pc := 22) (v := 1) dX9_queue_22 (by rfl) ?_
      refine pj_goto (pc := 23) (tgt := 27) dX9_queue_23 (by decide) ?_
      refine pl_iconst (pc := 27) (v := 1) dX9_queue_27 (by rfl) ?_
      refine pl_callVd (pc := 28) (As := [_, _]) (C2 := 0) (N2 := 0) ckX9 mdX9_bad rfl q2631 q2633 qs50 q154 dX9_queue_28 rfl rfl (Nat.le_of_ble_eq_true rfl) (mm_o hA) (w_bad_1 (d := d - 1) (by omega) hA) (by omega) (by decide) (by decide) ?_
      refine pj_if_eq (pc := 31) (tgt := 36) dX9_queue_31 (by decide) (fun h => absurd h (by decide)) (fun _ => ?_)
      refine pl_iconst (pc := 34) (v := 0) dX9_queue_34 (by rfl) ?_
      refine pj_iret (pc := 35) dX9_queue_35 rfl ?_
      exact ⟨vIe (by simp [p_queue, c11, f_p, g_p, c19]) rfl, congrArg (mm g ad μ) (by simp [p_queue, c11, f_p, g_p, c19])⟩
set_option maxHeartbeats 4000000 in
theorem w_X9_where {g : GP} {ad : Nat → Nat} {μ : Mem} {σ : MS} {d : Nat} {p : Int32} {w : Int32} {q : Nat} (hd : 2 ≤ d) (hA : Inj ad 18) (hq : row σ 2127 = nI q) (hQ : q ≤ 4) : PM g yX9_where (ws_ yX9_where cX9_where 4 (some .int)) d 0 0 [.ref (ad 0), .int p, .int w] (mm g ad μ σ) (rQ (some (.int ((p_where σ q p w).1))) (mm g ad μ ((p_where σ q p w).2))) := by
  refine PM.of (by decide +kernel) (Nat.le_of_ble_eq_true rfl) ?_
  show PJ g _ _ _ _ d 0 0 0 [(0, .ref (ad 0)), (1, .int p), (2, .int w)] [] _ _
  refine pl_aload_n (pc := 0) dX9_where_0 rfl rfl ?_
  refine pl_iconst (pc := 1) (v := 0) dX9_where_1 (by rfl) ?_
  refine pm_putI (pc := 2) 0 hA q2516 dX9_where_2 (by decide) rfl (by rfl) (by rfl) rfl ?_
  refine pl_aload_n (pc := 5) dX9_where_5 rfl rfl ?_
  refine pl_aload_n (pc := 6) dX9_where_6 rfl rfl ?_
  refine pl_iload_n (pc := 7) dX9_where_7 rfl rfl ?_
  refine pl_callVd (pc := 8) (As := [_]) (C2 := 0) (N2 := 0) ckX9 mdX9_isParty rfl q2733 q2735 qs62 q154 dX9_where_8 rfl rfl (Nat.le_of_ble_eq_true rfl) (mm_o hA) (w_X9_isParty (d := d - 1) (by omega) hA (by first | omega | assumption | exact hn | exact hl | exact hb | exact hq | exact hdr | exact has)) (by omega) (by decide) (by decide) ?_
  refine pl_if_neB (pc := 11) (tgt := 18) dX9_where_11 (by decide) (fun c11 => ?_) (fun c11 => ?_)
  · obtain ⟨j_p, hj_p, rfl⟩ := inN_of (by omega) c11
    have f_p := inN_nI hj_p (by omega)
    have g_p := nI_clamp (n := j_p) (by omega)
    refine pl_iconst (pc := 18) (v := 0) dX9_where_18 (by rfl) ?_
    refine pl_iconst (pc := 19) (v := 1) dX9_where_19 (by rfl) ?_
    refine pl_callVd (pc := 20) (As := [_, _]) (C2 := 0) (N2 := 0) ckX9 mdX9_bad rfl q2631 q2633 qs50 q154 dX9_where_20 rfl rfl (Nat.le_of_ble_eq_true rfl) (mm_o hA) (w_bad_0 (d := d - 1) (by omega) hA) (by omega) (by decide) (by decide) ?_
    refine pj_if_ne (pc := 23) (tgt := 48) dX9_where_23 (by decide) (fun h => absurd h (by decide)) (fun _ => ?_)
    refine pl_aload_n (pc := 26) dX9_where_26 rfl rfl ?_
    refine pl_iload_n (pc := 27) dX9_where_27 rfl rfl ?_
    refine pj_if_lt (pc := 28) (tgt := 36) dX9_where_28 (by decide) (fun c28 => ?_) (fun c28 => ?_)
    · refine pl_iconst (pc := 36) (v := 1) dX9_where_36 (by rfl) ?_
      refine pj_goto (pc := 37) (tgt := 41) dX9_where_37 (by decide) ?_
      refine pl_iconst (pc := 41) (v := 2) dX9_where_41 (by rfl) ?_
      refine pl_callVd (pc := 42) (As := [_, _]) (C2 := 0) (N2 := 0) ckX9 mdX9_bad rfl q2631 q2633 qs50 q154 dX9_where_42 rfl rfl (Nat.le_of_ble_eq_true rfl) (mm_o hA) (w_bad_1 (d := d - 1) (by omega) hA) (by omega) (by decide) (by decide) ?_
      refine pj_if_eq (pc := 45) (tgt := 50) dX9_where_45 (by decide) (fun h => absurd h (by decide)) (fun _ => ?_)
      refine pl_iconst (pc := 48) (v := 0) dX9_where_48 (by rfl) ?_
      refine pj_iret (pc := 49) dX9_where_49 rfl ?_
      exact ⟨vIe (by simp [p_where, c11, f_p, g_p, c28]) rfl, congrArg (mm g ad μ) (by simp [p_where, c11, f_p, g_p, c28])⟩
    · refine pl_iload_n (pc := 31) dX9_where_31 rfl rfl ?_
      refine pl_iconst (pc := 32) (v := 2) dX9_where_32 (by rfl) ?_
      refine pj_icmp_le (pc := 33) (tgt := 40) dX9_where_33 (by decide) (fun c33 => ?_) (fun c33 => ?_)
      · refine pl_iconst (pc := 40) (v := 0) dX9_where_40 (by rfl) ?_
        refine pl_iconst (pc := 41) (v := 2) dX9_where_41 (by rfl) ?_
        refine pl_callVd (pc := 42) (As := [_, _]) (C2 := 0) (N2 := 0) ckX9 mdX9_bad rfl q2631 q2633 qs50 q154 dX9_where_42 rfl rfl (Nat.le_of_ble_eq_true rfl) (mm_o hA) (w_bad_0 (d := d - 1) (by omega) hA) (by omega) (by decide) (by decide) ?_
        refine pj_if_eq (pc := 45) (tgt := 50) dX9_where_45 (by decide) (fun _ => ?_) (fun h => absurd h (by decide))
        refine pl_sipush (pc := 50) (v := 1720) dX9_where_50 (by rfl) ?_
        refine pl_bipush (pc := 53) (v := 15) dX9_where_53 (by rfl) ?_
        refine pl_iload_n (pc := 55) dX9_where_55 rfl rfl ?_
        refine pl_imul (pc := 56) dX9_where_56 ?_
        refine pl_iadd (pc := 57) dX9_where_57 ?_
        refine pj_istore_n (pc := 58) (lv' := [(3, _), (0, _), (1, _), (2, _)]) dX9_where_58 rfl (by decide) rfl ?_
        refine pl_iload_n (pc := 59) dX9_where_59 rfl rfl ?_
        refine pj_if_ne (pc := 60) (tgt := 74) dX9_where_60 (by decide) (fun c60 => ?_) (fun c60 => ?_)
        · refine pl_iload_n (pc := 74) dX9_where_74 rfl rfl ?_
          refine pl_iconst (pc := 75) (v := 1) dX9_where_75 (by rfl) ?_
          refine pj_icmp_ne (pc := 76) (tgt := 90) dX9_where_76 (by decide) (fun c76 => ?_) (fun c76 => ?_)
          · refine pl_aload_n (pc := 90) dX9_where_90 rfl rfl ?_
            refine pj_getf (pc := 91) ckX9 1 q2517 dX9_where_91 (by decide) (mm_o hA) rfl ?_
            refine pl_iload_n (pc := 94) dX9_where_94 rfl rfl ?_
            refine pl_iconst (pc := 95) (v := 2) dX9_where_95 (by rfl) ?_
            refine pl_iadd (pc := 96) dX9_where_96 ?_
            refine pl_iald (pc := 97) (n := 2132) dX9_where_97 (mm_a hA 1 (by decide) (by decide)) (by omega) (by decide) ?_
            refine pj_if_ne (pc := 98) (tgt := 105) dX9_where_98 (by decide) (fun c98 => ?_) (fun c98 => ?_)
            · refine pl_aload_n (pc := 105) dX9_where_105 rfl rfl ?_
              refine pj_getf (pc := 106) ckX9 1 q2517 dX9_where_106 (by decide) (mm_o hA) rfl ?_
              refine pl_iload_n (pc := 109) dX9_where_109 rfl rfl ?_
              refine pl_iconst (pc := 110) (v := 3) dX9_where_110 (by rfl) ?_
              refine pl_iadd (pc := 111) dX9_where_111 ?_
              refine pl_iald (pc := 112) (n := 2132) dX9_where_112 (mm_a hA 1 (by decide) (by decide)) (by omega) (by decide) ?_
              refine pj_iret (pc := 113) dX9_where_113 rfl ?_
              exact ⟨vIe (by simp [p_where, c11, f_p, g_p, c28, c33, c60, c76, c98]) rfl, congrArg (mm g ad μ) (by simp [p_where, c11, f_p, g_p, c28, c33, c60, c76, c98])⟩
            · refine pj_iconst (pc := 101) (v := (-1)) dX9_where_101 (by rfl) ?_
              refine pj_goto (pc := 102) (tgt := 113) dX9_where_102 (by decide) ?_
              refine pj_iret (pc := 113) dX9_where_113 rfl ?_
              exact ⟨vIe (by simp [p_where, c11, f_p, g_p, c28, c33, c60, c76, eq_true c98]) rfl, congrArg (mm g ad μ) (by simp [p_where, c11, f_p, g_p, c28, c33, c60, c76, eq_true c98])⟩
          · refine pl_aload_n (pc := 79) dX9_where_79 rfl rfl ?_
            refine pj_getf (pc := 80) ckX9 1 q2517 dX9_where_80 (by decide) (mm_o hA) rfl ?_
            refine pl_iload_n (pc := 83) dX9_where_83 rfl rfl ?_
            refine pl_iconst (pc := 84) (v := 2) dX9_where_84 (by rfl) ?_
            refine pl_iadd (pc := 85) dX9_where_85 ?_
            refine pl_iald (pc := 86) (n := 2132) dX9_where_86 (mm_a hA 1 (by decide) (by decide)) (by omega) (by decide) ?_
            refine pj_goto (pc := 87) (tgt := 113) dX9_where_87 (by decide) ?_
            refine pj_iret (pc := 113) dX9_where_113 rfl ?_
            exact ⟨vIe (by simp [p_where, c11, f_p, g_p, c28, c33, c60, eq_true c76]) rfl, congrArg (mm g ad μ) (by simp [p_where, c11, f_p, g_p, c28, c33, c60, eq_true c76])⟩
        · refine pl_aload_n (pc := 63) dX9_where_63 rfl rfl ?_
          refine pj_getf (pc := 64) ckX9 1 q2517 dX9_where_64 (by decide) (mm_o hA) rfl ?_
          refine pl_iload_n (pc := 67) dX9_where_67 rfl rfl ?_
          refine pl_iconst (pc := 68) (v := 1) dX9_where_68 (by rfl) ?_
          refine pl_iadd (pc := 69) dX9_where_69 ?_
          refine pl_iald (pc := 70) (n := 2132) dX9_where_70 (mm_a hA 1 (by decide) (by decide)) (by omega) (by decide) ?_
          refine pj_goto (pc := 71) (tgt := 113) dX9_where_71 (by decide) ?_
          refine pj_iret (pc := 113) dX9_where_113 rfl ?_
          exact ⟨vIe (by simp [p_where, c11, f_p, g_p, c28, c33, eq_true c60]) rfl, congrArg (mm g ad μ) (by simp [p_where, c11, f_p, g_p, c28, c33, eq_true c60])⟩
      · refine pl_iconst (pc := 36) (v := 1) dX9_where_36 (by rfl) ?_
        refine pj_goto (pc := 37) (tgt := 41) dX9_where_37 (by decide) ?_
        refine pl_iconst (pc := 41) (v := 2) dX9_where_41 (by rfl) ?_
        refine pl_callVd (pc := 42) (As := [_, _]) (C2 := 0) (N2 := 0) ckX9 mdX9_bad rfl q2631 q2633 qs50 q154 dX9_where_42 rfl rfl (Nat.le_of_ble_eq_true rfl) (mm_o hA) (w_bad_1 (d := d - 1) (by omega) hA) (by omega) (by decide) (by decide) ?_
        refine pj_if_eq (pc := 45) (tgt := 50) dX9_where_45 (by decide) (fun h => absurd h (by decide)) (fun _ => ?_)
        refine pl_iconst (pc := 48) (v := 0) dX9_where_48 (by rfl) ?_
        refine pj_iret (pc := 49) dX9_where_49 rfl ?_
        exact ⟨vIe (by simp [p_where, c11, f_p, g_p, c28, c33]) rfl, congrArg (mm g ad μ) (by simp [p_where, c11, f_p, g_p, c28, c33])⟩
  · refine pl_iconst (pc := 14) (v := 1) dX9_where_14 (by rfl) ?_
    refine pj_goto (pc := 15) (tgt := 19) dX9_where_15 (by decide) ?_
    refine pl_iconst (pc := 19) (v := 1) dX9_where_19 (by rfl) ?_
    refine pl_callVd (pc := 20) (As := [_, _]) (C2 := 0) (N2 := 0) ckX9 mdX9_bad rfl q2631 q2633 qs50 q154 dX9_where_20 rfl rfl (Nat.le_of_ble_eq_true rfl) (mm_o hA) (w_bad_1 (d := d - 1) (by omega) hA) (by omega) (by decide) (by decide) ?_
    refine pj_if_ne (pc := 23) (tgt := 48) dX9_where_23 (by decide) (fun _ => ?_) (fun h => absurd h (by decide))
    refine pl_iconst (pc := 48) (v := 0) dX9_where_48 (by rfl) ?_
    refine pj_iret (pc := 49) dX9_where_49 rfl ?_
    exact ⟨vIe (by simp [p_where, c11]) rfl, congrArg (mm g ad μ) (by simp [p_where, c11])⟩
set_option maxHeartbeats 4000000 in
theorem w_X9_bill {g : GP} {ad : Nat → Nat} {μ : Mem} {σ : MS} {d : Nat} {v : Int32} {nb : Nat} (hd : 2 ≤ d) (hA : Inj ad 18) (hb : row σ 2126 = nI nb) (hB : nb ≤ 20) : PM g yX9_bill (ws_ yX9_bill cX9_bill 3 (some .int)) d 0 0 [.ref (ad 0), .int v] (mm g ad μ σ) (rQ (some (.int ((p_bill σ nb v).1))) (mm g ad μ ((p_bill σ nb v).2))) := by
  refine PM.of (by decide +kernel) (Nat.le_of_ble_eq_true rfl) ?_
  show PJ g _ _ _ _ d 0 0 0 [(0, .ref (ad 0)), (1, .int v)] [] _ _
  refine pl_aload_n (pc := 0) dX9_bill_0 rfl rfl ?_
  refine pl_iconst (pc := 1) (v := 0) dX9_bill_1 (by rfl) ?_
  refine pm_putI (pc := 2) 0 hA q2516 dX9_bill_2 (by decide) rfl (by rfl) (by rfl) rfl ?_
  refine pl_aload_n (pc := 5) dX9_bill_5 rfl rfl ?_
  refine pl_iload_n (pc := 6) dX9_bill_6 rfl rfl ?_
  refine pl_iconst (pc := 7) (v := 1) dX9_bill_7 (by rfl) ?_
  refine pj_icmp_lt (pc := 8) (tgt := 18) dX9_bill_8 (by decide) (fun c8 => ?_) (fun c8 => ?_)
  · refine pl_iconst (pc := 18) (v := 1) dX9_bill_18 (by rfl) ?_
    refine pj_goto (pc := 19) (tgt := 23) dX9_bill_19 (by decide) ?_
    refine pl_iconst (pc := 23) (v := 1) dX9_bill_23 (by rfl) ?_
    refine pl_callVd (pc := 24) (As := [_, _]) (C2 := 0) (N2 := 0) ckX9 mdX9_bad rfl q2631 q2633 qs50 q154 dX9_bill_24 rfl rfl (Nat.le_of_ble_eq_true rfl) (mm_o hA) (w_bad_1 (d := d - 1) (by omega) hA) (by omega) (by decide) (by decide) ?_
    refine pj_if_eq (pc := 27) (tgt := 32) dX9_bill_27 (by decide) (fun h => absurd h (by decide)) (fun _ => ?_)
    refine pl_iconst (pc := 30) (v := 0) dX9_bill_30 (by rfl) ?_
    refine pj_iret (pc := 31) dX9_bill_31 rfl ?_
    exact ⟨vIe (by simp [p_bill, c8]) rfl, congrArg (mm g ad μ) (by simp [p_bill, c8])⟩
  · refine pl_iload_n (pc := 11) dX9_bill_11 rfl rfl ?_
    refine pl_sipush (pc := 12) (v := 10000) dX9_bill_12 (by rfl) ?_
    refine pj_icmp_le (pc := 15) (tgt := 22) dX9_bill_15 (by decide) (fun c15 => ?_) (fun c15 => ?_)
    · refine pl_iconst (pc := 22) (v := 0) dX9_bill_22 (by rfl) ?_
      refine pl_iconst (pc := 23) (v := 1) dX9_bill_23 (by rfl) ?_
      refine pl_callVd (pc := 24) (As := [_, _]) (C2 := 0) (N2 := 0) ckX9 mdX9_bad rfl q2631 q2633 qs50 q154 dX9_bill_24 rfl rfl (Nat.le_of_ble_eq_true rfl) (mm_o hA) (w_bad_0 (d := d - 1) (by omega) hA) (by omega) (by decide) (by decide) ?_
      refine pj_if_eq (pc := 27) (tgt := 32) dX9_bill_27 (by decide) (fun _ => ?_) (fun h => absurd h (by decide))
      refine pl_aload_n (pc := 32) dX9_bill_32 rfl rfl ?_
      refine pj_getf (pc := 33) ckX9 1 q2517 dX9_bill_33 (by decide) (mm_o hA) rfl ?_
      refine pl_sipush (pc := 36) (v := 2126) dX9_bill_36 (by rfl) ?_
      refine pl_iald (pc := 39) (n := 2132) dX9_bill_39 (mm_a hA 1 (by decide) (by decide)) (by omega) (by decide) ?_
      refine PJ.top (y := nI _) (hb) ?_
      refine pl_bipush (pc := 40) (v := 20) dX9_bill_40 (by rfl) ?_
      refine pl_icmp_ne (pc := 42) (tgt := 47) dX9_bill_42 (by decide) (by omega) (by omega) (fun c42 => ?_) (fun c42 => ?_)
      · refine pl_sipush (pc := 47) (v := 1640) dX9_bill_47 (by rfl) ?_
        refine pl_iconst (pc := 50) (v := 4) dX9_bill_50 (by rfl) ?_
        refine pl_aload_n (pc := 51) dX9_bill_51 rfl rfl ?_
        refine pj_getf (pc := 52) ckX9 1 q2517 dX9_bill_52 (by decide) (mm_o hA) rfl ?_
        refine pl_sipush (pc := 55) (v := 2126) dX9_bill_55 (by rfl) ?_
        refine pl_iald (pc := 58) (n := 2132) dX9_bill_58 (mm_a hA 1 (by decide) (by decide)) (by omega) (by decide) ?_
        refine PJ.top (y := nI _) (hb) ?_
        refine pl_imul (pc := 59) dX9_bill_59 ?_
        refine pl_iadd (pc := 60) dX9_bill_60 ?_
        refine pj_istore_n (pc := 61) (lv' := [(2, _), (0, _), (1, _)]) dX9_bill_61 rfl (by decide) rfl ?_
        refine pl_aload_n (pc := 62) dX9_bill_62 rfl rfl ?_
        refine pj_getf (pc := 63) ckX9 1 q2517 dX9_bill_63 (by decide) (mm_o hA) rfl ?_
        refine pl_iload_n (pc := 66) dX9_bill_66 rfl rfl ?_
        refine pl_iconst (pc := 67) (v := 0) dX9_bill_67 (by rfl) ?_
        refine pl_iadd (pc := 68) dX9_bill_68 ?_
        refine pl_iload_n (pc := 69) dX9_bill_69 rfl rfl ?_
        refine pm_iast (pc := 70) 1 hA (by decide) (by decide) rfl dX9_bill_70 (show _ < 2132 by omega) (by decide) ?_
        refine pl_aload_n (pc := 71) dX9_bill_71 rfl rfl ?_
        refine pj_getf (pc := 72) ckX9 1 q2517 dX9_bill_72 (by decide) (mm_o hA) rfl ?_
        refine pl_iload_n (pc := 75) dX9_bill_75 rfl rfl ?_
        refine pl_iconst (pc := 76) (v := 3) dX9_bill_76 (by rfl) ?_
        refine pl_iadd (pc := 77) dX9_bill_77 ?_
        refine pl_aload_n (pc := 78) dX9_bill_78 rfl rfl ?_
        refine pj_getf (pc := 79) ckX9 1 q2517 dX9_bill_79 (by decide) (mm_o hA) rfl ?_
        refine pl_sipush (pc := 82) (v := 2116) dX9_bill_82 (by rfl) ?_
        refine pl_iald (pc := 85) (n := 2132) dX9_bill_85 (mm_a hA 1 (by decide) (by decide)) (by omega) (by decide) ?_
        refine pl_bipush (pc := 86) (v := 34) dX9_bill_86 (by rfl) ?_
        refine pj_iadd (pc := 88) dX9_bill_88 ?_
        refine pm_iast (pc := 89) 1 hA (by decide) (by decide) rfl dX9_bill_89 (show _ < 2132 by omega) (by decide) ?_
        refine pl_aload_n (pc := 90) dX9_bill_90 rfl rfl ?_
        refine pj_getf (pc := 91) ckX9 1 q2517 dX9_bill_91 (by decide) (mm_o hA) rfl ?_
        refine pl_sipush (pc := 94) (v := 2118) dX9_bill_94 (by rfl) ?_
        refine pj_dup2_11 (pc := 97) dX9_bill_97 rfl rfl ?_
        refine pl_iald (pc := 98) (n := 2132) dX9_bill_98 (mm_a hA 1 (by decide) (by decide)) (by omega) (by decide) ?_
        refine pl_iload_n (pc := 99) dX9_bill_99 rfl rfl ?_
        refine pj_iadd (pc := 100) dX9_bill_100 ?_
        refine pm_iast (pc := 101) 1 hA (by decide) (by decide) rfl dX9_bill_101 (show _ < 2132 by omega) (by decide) ?_
        refine pl_aload_n (pc := 102) dX9_bill_102 rfl rfl ?_
        refine pj_getf (pc := 103) ckX9 1 q2517 dX9_bill_103 (by decide) (mm_o hA) rfl ?_
        refine pl_sipush (pc := 106) (v := 2126) dX9_bill_106 (by rfl) ?_
        refine pj_dup2_11 (pc := 109) dX9_bill_109 rfl rfl ?_
        refine pl_iald (pc := 110) (n := 2132) dX9_bill_110 (mm_a hA 1 (by decide) (by decide)) (by omega) (by decide) ?_
        refine pl_iconst (pc := 111) (v := 1) dX9_bill_111 (by rfl) ?_
        refine pj_iadd (pc := 112) dX9_bill_112 ?_
        refine pm_iast (pc := 113) 1 hA (by decide) (by decide) rfl dX9_bill_113 (show _ < 2132 by omega) (by decide) ?_
        refine pl_aload_n (pc := 114) dX9_bill_114 rfl rfl ?_
        refine pj_getf (pc := 115) ckX9 1 q2517 dX9_bill_115 (by decide) (mm_o hA) rfl ?_
        refine pl_sipush (pc := 118) (v := 2126) dX9_bill_118 (by rfl) ?_
        refine pl_iald (pc := 121) (n := 2132) dX9_bill_121 (mm_a hA 1 (by decide) (by decide)) (by omega) (by decide) ?_
        refine pl_iconst (pc := 122) (v := 1) dX9_bill_122 (by rfl) ?_
        refine pj_isub (pc := 123) dX9_bill_123 ?_
        refine pj_iret (pc := 124) dX9_bill_124 rfl ?_
        exact ⟨vIe (by simp [p_bill, c8, c15, c42]) rfl, congrArg (mm g ad μ) (by simp [p_bill, c8, c15, c42])⟩
      · refine pj_iconst (pc := 45) (v := (-1)) dX9_bill_45 (by rfl) ?_
        refine pj_iret (pc := 46) dX9_bill_46 rfl ?_
        exact ⟨vIe (by simp [p_bill, c8, c15, eq_true c42]) rfl, congrArg (mm g ad μ) (by simp [p_bill, c8, c15, eq_true c42])⟩
    · refine pl_iconst (pc := 18) (v := 1) dX9_bill_18 (by rfl) ?_
      refine pj_goto (pc := 19) (tgt := 23) dX9_bill_19 (by decide) ?_
      refine pl_iconst (pc := 23) (v := 1) dX9_bill_23 (by rfl) ?_
      refine pl_callVd (pc := 24) (As := [_, _]) (C2 := 0) (N2 := 0) ckX9 mdX9_bad rfl q2631 q2633 qs50 q154 dX9_bill_24 rfl rfl (Nat.le_of_ble_eq_true rfl) (mm_o hA) (w_bad_1 (d := d - 1) (by omega) hA) (by omega) (by decide) (by decide) ?_
      refine pj_if_eq (pc := 27) (tgt := 32) dX9_bill_27 (by decide) (fun h => absurd h (by decide)) (fun _ => ?_)
      refine pl_iconst (pc := 30) (v := 0) dX9_bill_30 (by rfl) ?_
      refine pj_iret (pc := 31) dX9_bill_31 rfl ?_
      exact ⟨vIe (by simp [p_bill, c8, c15]) rfl, congrArg (mm g ad μ) (by simp [p_bill, c8, c15])⟩
set_option maxHeartbeats 4000000 in
theorem w_X9_pass {g : GP} {ad : Nat → Nat} {μ : Mem} {σ : MS} {d : Nat} {v : Int32} {nb : Nat} (hd : 2 ≤ d) (hA : Inj ad 18) (hb : row σ 2126 = nI nb) (hB : nb ≤ 20) : PM g yX9_pass (ws_ yX9_pass cX9_pass 3 (some .int)) d 0 0 [.ref (ad 0), .int v] (mm g ad μ σ) (rQ (some (.int ((p_pass σ nb v).1))) (mm g ad μ ((p_pass σ nb v).2))) := by
  refine PM.of (by decide +kernel) (Nat.le_of_ble_eq_true rfl) ?_
  show PJ g _ _ _ _ d 0 0 0 [(0, .ref (ad 0)), (1, .int v)] [] _ _
  refine pl_aload_n (pc := 0) dX9_pass_0 rfl rfl ?_
  refine pl_iconst (pc := 1) (v := 0) dX9_pass_1 (by rfl) ?_
  refine pm_putI (pc := 2) 0 hA q2516 dX9_pass_2 (by decide) rfl (by rfl) (by rfl) rfl ?_
  refine pl_aload_n (pc := 5) dX9_pass_5 rfl rfl ?_
  refine pl_aload_n (pc := 6) dX9_pass_6 rfl rfl ?_
  refine pl_iload_n (pc := 7) dX9_pass_7 rfl rfl ?_
  refine pl_callVd (pc := 8) (As := [_]) (C2 := 0) (N2 := 0) ckX9 mdX9_isBill rfl q3083 q3085 qs110 q154 dX9_pass_8 rfl rfl (Nat.le_of_ble_eq_true rfl) (mm_o hA) (w_X9_isBill (d := d - 1) (by omega) hA (by first | omega | assumption | exact hn | exact hl | exact hb | exact hq | exact hdr | exact has)) (by omega) (by decide) (by decide) ?_
  refine pl_if_neB (pc := 11) (tgt := 18) dX9_pass_11 (by decide) (fun c11 => ?_) (fun c11 => ?_)
  · obtain ⟨j_v, hj_v, rfl⟩ := inN_of (by omega) c11
    have f_v := inN_nI hj_v (by omega)
    have g_v := nI_clamp (n := j_v) (by omega)
    refine pl_iconst (pc := 18) (v := 0) dX9_pass_18 (by rfl) ?_
    refine pl_iconst (pc := 19) (v := 1) dX9_pass_19 (by rfl) ?_
    refine pl_callVd (pc := 20) (As := [_, _]) (C2 := 0) (N2 := 0) ckX9 mdX9_bad rfl q2631 q2633 qs50 q154 dX9_pass_20 rfl rfl (Nat.le_of_ble_eq_true rfl) (mm_o hA) (w_bad_0 (d := d - 1) (by omega) hA) (by omega) (by decide) (by decide) ?_
    refine pj_if_eq (pc := 23) (tgt := 28) dX9_pass_23 (by decide) (fun _ => ?_) (fun h => absurd h (by decide))
    refine pl_sipush (pc := 28) (v := 1640) dX9_pass_28 (by rfl) ?_
    refine pl_iconst (pc := 31) (v := 4) dX9_pass_31 (by rfl) ?_
    refine pl_iload_n (pc := 32) dX9_pass_32 rfl rfl ?_
    refine pl_imul (pc := 33) dX9_pass_33 ?_
    refine pl_iadd (pc := 34) dX9_pass_34 ?_
    refine pj_istore_n (pc := 35) (lv' := [(2, _), (0, _), (1, _)]) dX9_pass_35 rfl (by decide) rfl ?_
    refine pl_aload_n (pc := 36) dX9_pass_36 rfl rfl ?_
    refine pj_getf (pc := 37) ckX9 1 q2517 dX9_pass_37 (by decide) (mm_o hA) rfl ?_
    refine pl_iload_n (pc := 40) dX9_pass_40 rfl rfl ?_
    refine pl_iconst (pc := 41) (v := 1) dX9_pass_41 (by rfl) ?_
    refine pl_iadd (pc := 42) dX9_pass_42 ?_
    refine pl_iald (pc := 43) (n := 2132) dX9_pass_43 (mm_a hA 1 (by decide) (by decide)) (by omega) (by decide) ?_
    refine pl_iconst (pc := 44) (v := 5) dX9_pass_44 (by rfl) ?_
    refine pj_icmp_ne (pc := 45) (tgt := 50) dX9_pass_45 (by decide) (fun c45 => ?_) (fun c45 => ?_)
    · refine pl_aload_n (pc := 50) dX9_pass_50 rfl rfl ?_
      refine pj_getf (pc := 51) ckX9 1 q2517 dX9_pass_51 (by decide) (mm_o hA) rfl ?_
      refine pl_iload_n (pc := 54) dX9_pass_54 rfl rfl ?_
      refine pl_iconst (pc := 55) (v := 2) dX9_pass_55 (by rfl) ?_
      refine pl_iadd (pc := 56) dX9_pass_56 ?_
      refine pl_iald (pc := 57) (n := 2132) dX9_pass_57 (mm_a hA 1 (by decide) (by decide)) (by omega) (by decide) ?_
      refine pj_if_le (pc := 58) (tgt := 64) dX9_pass_58 (by decide) (fun c58 => ?_) (fun c58 => ?_)
      · refine pl_aload_n (pc := 64) dX9_pass_64 rfl rfl ?_
        refine pj_getf (pc := 65) ckX9 1 q2517 dX9_pass_65 (by decide) (mm_o hA) rfl ?_
        refine pl_iload_n (pc := 68) dX9_pass_68 rfl rfl ?_
        refine pl_iconst (pc := 69) (v := 1) dX9_pass_69 (by rfl) ?_
        refine pl_iadd (pc := 70) dX9_pass_70 ?_
        refine pj_dup2_11 (pc := 71) dX9_pass_71 rfl rfl ?_
        refine pl_iald (pc := 72) (n := 2132) dX9_pass_72 (mm_a hA 1 (by decide) (by decide)) (by omega) (by decide) ?_
        refine pl_iconst (pc := 73) (v := 1) dX9_pass_73 (by rfl) ?_
        refine pj_iadd (pc := 74) dX9_pass_74 ?_
        refine pm_iast (pc := 75) 1 hA (by decide) (by decide) rfl dX9_pass_75 (show _ < 2132 by omega) (by decide) ?_
        refine pl_aload_n (pc := 76) dX9_pass_76 rfl rfl ?_
        refine pj_getf (pc := 77) ckX9 1 q2517 dX9_pass_77 (by decide) (mm_o hA) rfl ?_
        refine pl_iload_n (pc := 80) dX9_pass_80 rfl rfl ?_
        refine pl_iconst (pc := 81) (v := 1) dX9_pass_81 (by rfl) ?_
        refine pl_iadd (pc := 82) dX9_pass_82 ?_
        refine pl_iald (pc := 83) (n := 2132) dX9_pass_83 (mm_a hA 1 (by decide) (by decide)) (by omega) (by decide) ?_
        refine pj_iret (pc := 84) dX9_pass_84 rfl ?_
        exact ⟨vIe (by simp [p_pass, c11, f_v, g_v, c45, c58]) rfl, congrArg (mm g ad μ) (by simp [p_pass, c11, f_v, g_v, c45, c58])⟩
      · refine pj_bipush (pc := 61) (v := (-2)) dX9_pass_61 (by rfl) ?_
        refine pj_iret (pc := 63) dX9_pass_63 rfl ?_
        exact ⟨vIe (by simp [p_pass, c11, f_v, g_v, c45, c58]) rfl, congrArg (mm g ad μ) (by simp [p_pass, c11, f_v, g_v, c45, c58])⟩
    · refine pj_iconst (pc := 48) (v := (-1)) dX9_pass_48 (by rfl) ?_
      refine pj_iret (pc := 49) dX9_pass_49 rfl ?_
      exact ⟨vIe (by simp [p_pass, c11, f_v, g_v, eq_true c45]) rfl, congrArg (mm g ad μ) (by simp [p_pass, c11, f_v, g_v, eq_true c45])⟩
  · refine pl_iconst (pc := 14) (v := 1) dX9_pass_14 (by rfl) ?_
    refine pj_goto (pc := 15) (tgt := 19) dX9_pass_15 (by decide) ?_
    refine pl_iconst (pc := 19) (v := 1) dX9_pass_19 (by rfl) ?_
    refine pl_callVd (pc := 20) (As := [_, _]) (C2 := 0) (N2 := 0) ckX9 mdX9_bad rfl q2631 q2633 qs50 q154 dX9_pass_20 rfl rfl (Nat.le_of_ble_eq_true rfl) (mm_o hA) (w_bad_1 (d := d - 1) (by omega) hA) (by omega) (by decide) (by decide) ?_
    refine pj_if_eq (pc := 23) (tgt := 28) dX9_pass_23 (by decide) (fun h => absurd h (by decide)) (fun _ => ?_)
    refine pl_iconst (pc := 26) (v := 0) dX9_pass_26 (by rfl) ?_
    refine pj_iret (pc := 27) dX9_pass_27 rfl ?_
    exact ⟨vIe (by simp [p_pass, c11]) rfl, congrArg (mm g ad μ) (by simp [p_pass, c11])⟩
set_option maxHeartbeats 4000000 in
theorem w_X9_hasAcre {g : GP} {ad : Nat → Nat} {μ : Mem} {σ : MS} {d : Nat} {p : Int32} {dr : Nat} (hd : 1 ≤ d) (hA : Inj ad 18) (hdr : row σ 2131 = nI dr) (hDR : dr ≤ 12) : PM g yX9_hasAcre (ws_ yX9_hasAcre cX9_hasAcre 3 (some .boolean)) d 0 0 [.ref (ad 0), .int p] (mm g ad μ σ) (rQ (some (.int (bI (acreV σ dr p)))) (mm g ad μ (σ))) := by
  refine PM.of (by decide +kernel) (Nat.le_of_ble_eq_true rfl) ?_
  show PJ g _ _ _ _ d 0 0 0 [(0, .ref (ad 0)), (1, .int p)] [] _ _
  refine pl_iconst (pc := 0) (v := 0) dX9_hasAcre_0 (by rfl) ?_
  refine pj_istore_n (pc := 1) (lv' := [(2, _), (0, _), (1, _)]) dX9_hasAcre_1 rfl (by decide) rfl ?_
  refine PJ.sub [0, 2, 1] rfl ?_
  refine ind_dn (n := dr) (P := fun i => anyN (fun k => decide (row σ (2080 + k) = p)) i = false → PJ g _ _ _ _ d 0 0 2 [(2, .int (nI i)), (1, .int p), (0, .ref (ad 0))] [] (mm g ad μ σ) _) (fun i hi ih hv => ?_) 0 (Nat.zero_le _) (rfl)
  refine pl_iload_n (pc := 2) dX9_hasAcre_2 rfl rfl ?_
  refine pl_aload_n (pc := 3) dX9_hasAcre_3 rfl rfl ?_
  refine pj_getf (pc := 4) ckX9 1 q2517 dX9_hasAcre_4 (by decide) (mm_o hA) rfl ?_
  refine pl_sipush (pc := 7) (v := 2131) dX9_hasAcre_7 (by rfl) ?_
  refine pl_iald (pc := 10) (n := 2132) dX9_hasAcre_10 (mm_a hA 1 (by decide) (by decide)) (by omega) (by decide) ?_
  refine PJ.top (y := nI _) (hdr) ?_
  refine pl_icmp_ge (pc := 11) (tgt := 36) dX9_hasAcre_11 (by decide) (by omega) (by omega) (fun c11 => ?_) (fun c11 => ?_)
  · refine pl_iconst (pc := 36) (v := 0) dX9_hasAcre_36 (by rfl) ?_
    refine pj_zret (pc := 37) .boolean dX9_hasAcre_37 rfl (by rfl) ?_
    have e9 : i = dr := by omega
    subst e9
    exact ⟨vB0 hv, rfl⟩
  · refine pl_aload_n (pc := 14) dX9_hasAcre_14 rfl rfl ?_
    refine pj_getf (pc := 15) ckX9 1 q2517 dX9_hasAcre_15 (by decide) (mm_o hA) rfl ?_
    refine pl_sipush (pc := 18) (v := 2080) dX9_hasAcre_18 (by rfl) ?_
    refine pl_iload_n (pc := 21) dX9_hasAcre_21 rfl rfl ?_
    refine pl_iadd (pc := 22) dX9_hasAcre_22 ?_
    refine pl_iald (pc := 23) (n := 2132) dX9_hasAcre_23 (mm_a hA 1 (by decide) (by decide)) (by omega) (by decide) ?_
    refine pl_iload_n (pc := 24) dX9_hasAcre_24 rfl rfl ?_
    refine pj_icmp_ne (pc := 25) (tgt := 30) dX9_hasAcre_25 (by decide) (fun c25 => ?_) (fun c25 => ?_)
    · refine pl_iinc1 (pc := 30) (lv' := [(2, _), (1, _), (0, _)]) dX9_hasAcre_30 rfl rfl (by decide) rfl ?_
      refine pj_goto (pc := 33) (tgt := 2) dX9_hasAcre_33 (by decide) ?_
      exact ih (by omega) (anyN_up hv (decide_eq_false c25))
    · refine pl_iconst (pc := 28) (v := 1) dX9_hasAcre_28 (by rfl) ?_
      refine pj_zret (pc := 29) .boolean dX9_hasAcre_29 rfl (by rfl) ?_
      exact ⟨vB1 (anyN_hit (p := fun k => decide (row σ (2080 + k) = p)) c11 (decide_eq_true c25)), rfl⟩
abbrev queuedV (σ : MS) (q : Nat) : Bool := anyN (fun p => decide (¬ row σ (1720 + 15 * p + 2) ≤ 0)) q
set_option maxHeartbeats 4000000 in
theorem w_X9_isQueued {g : GP} {ad : Nat → Nat} {μ : Mem} {σ : MS} {d : Nat}  {q : Nat} (hd : 1 ≤ d) (hA : Inj ad 18) (hq : row σ 2127 = nI q) (hQ : q ≤ 4) : PM g yX9_isQueued (ws_ yX9_isQueued cX9_isQueued 2 (some .boolean)) d 0 0 [.ref (ad 0)] (mm g ad μ σ) (rQ (some (.int (bI (queuedV σ q)))) (mm g ad μ (σ))) := by
  refine PM.of (by decide +kernel) (Nat.le_of_ble_eq_true rfl) ?_
  show PJ g _ _ _ _ d 0 0 0 [(0, .ref (ad 0))] [] _ _
  refine pl_iconst (pc := 0) (v := 0) dX9_isQueued_0 (by rfl) ?_
  refine pj_istore_n (pc := 1) (lv' := [(1, _), (0, _)]) dX9_isQueued_1 rfl (by decide) rfl ?_
  refine ind_dn (n := q) (P := fun i => anyN (fun p => decide (¬ row σ (1720 + 15 * p + 2) ≤ 0)) i = false → PJ g _ _ _ _ d 0 0 2 [(1, .int (nI i)), (0, .ref (ad 0))] [] (mm g ad μ σ) _) (fun i hi ih hv => ?_) 0 (Nat.zero_le _) (rfl)
  refine pl_iload_n (pc := 2) dX9_isQueued_2 rfl rfl ?_
  refine pl_aload_n (pc := 3) dX9_isQueued_3 rfl rfl ?_
  refine pj_getf (pc := 4) ckX9 1 q2517 dX9_isQueued_4 (by decide) (mm_o hA) rfl ?_
  refine pl_sipush (pc := 7) (v := 2127) dX9_isQueued_7 (by rfl) ?_
  refine pl_iald (pc := 10) (n := 2132) dX9_isQueued_10 (mm_a hA 1 (by decide) (by decide)) (by omega) (by decide) ?_
  refine PJ.top (y := nI _) (hq) ?_
  refine pl_icmp_ge (pc := 11) (tgt := 40) dX9_isQueued_11 (by decide) (by omega) (by omega) (fun c11 => ?_) (fun c11 => ?_)
  · refine pl_iconst (pc := 40) (v := 0) dX9_isQueued_40 (by rfl) ?_
    refine pj_zret (pc := 41) .boolean dX9_isQueued_41 rfl (by rfl) ?_
    have e9 : i = q := by omega
    subst e9
    exact ⟨vB0 hv, rfl⟩
  · refine pl_aload_n (pc := 14) dX9_isQueued_14 rfl rfl ?_
    refine pj_getf (pc := 15) ckX9 1 q2517 dX9_isQueued_15 (by decide) (mm_o hA) rfl ?_
    refine pl_sipush (pc := 18) (v := 1720) dX9_isQueued_18 (by rfl) ?_
    refine pl_bipush (pc := 21) (v := 15) dX9_isQueued_21 (by rfl) ?_
    refine pl_iload_n (pc := 23) dX9_isQueued_23 rfl rfl ?_
    refine pl_imul (pc := 24) dX9_isQueued_24 ?_
    refine pl_iadd (pc := 25) dX9_isQueued_25 ?_
    refine pl_iconst (pc := 26) (v := 2) dX9_isQueued_26 (by rfl) ?_
    refine pl_iadd (pc := 27) dX9_isQueued_27 ?_
    refine pl_iald (pc := 28) (n := 2132) dX9_isQueued_28 (mm_a hA 1 (by decide) (by decide)) (by omega) (by decide) ?_
    refine pj_if_le (pc := 29) (tgt := 34) dX9_isQueued_29 (by decide) (fun c29 => ?_) (fun c29 => ?_)
    · refine pl_iinc1 (pc := 34) (lv' := [(1, _), (0, _)]) dX9_isQueued_34 rfl rfl (by decide) rfl ?_
      refine pj_goto (pc := 37) (tgt := 2) dX9_isQueued_37 (by decide) ?_
      exact ih (by omega) (anyN_up hv (by simp [c29]))
    · refine pl_iconst (pc := 32) (v := 1) dX9_isQueued_32 (by rfl) ?_
      refine pj_zret (pc := 33) .boolean dX9_isQueued_33 rfl (by rfl) ?_
      exact ⟨vB1 (anyN_hit (p := fun p => decide (¬ row σ (1720 + 15 * p + 2) ≤ 0)) c11 (by simp [c29])), rfl⟩
set_option maxHeartbeats 4000000 in
theorem w_X9_vote {g : GP} {ad : Nat → Nat} {μ : Mem} {σ : MS} {d : Nat} {l : Int32} {p : Int32} {y : Bool} {n nl dr : Nat} (hd : 3 ≤ d) (hA : Inj ad 18) (hn : row σ 2124 = nI n) (hP : n ≤ 100) (hl : row σ 2125 = nI nl) (hL : nl ≤ 12) (hdr : row σ 2131 = nI dr) (hDR : dr ≤ 12) : PM g yX9_vote (ws_ yX9_vote cX9_vote 5 (some .int)) d 0 0 [.ref (ad 0), .int l, .int p, .int (bI y)] (mm g ad μ σ) (rQ (some (.int ((p_vote σ nl n dr l p y).1))) (mm g ad μ ((p_vote σ nl n dr l p y).2))) := by
  refine PM.of (by decide +kernel) (Nat.le_of_ble_eq_true rfl) ?_
  show PJ g _ _ _ _ d 0 0 0 [(0, .ref (ad 0)), (1, .int l), (2, .int p), (3, .int (bI y))] [] _ _
  refine pl_aload_n (pc := 0) dX9_vote_0 rfl rfl ?_
  refine pl_iconst (pc := 1) (v := 0) dX9_vote_1 (by rfl) ?_
  refine pm_putI (pc := 2) 0 hA q2516 dX9_vote_2 (by decide) rfl (by rfl) (by rfl) rfl ?_
  refine pl_aload_n (pc := 5) dX9_vote_5 rfl rfl ?_
  refine pl_aload_n (pc := 6) dX9_vote_6 rfl rfl ?_
  refine pl_iload_n (pc := 7) dX9_vote_7 rfl rfl ?_
  refine pl_callVd (pc := 8) (As := [_]) (C2 := 0) (N2 := 0) ckX9 mdX9_isLaw rfl q2974 q2976 qs99 q154 dX9_vote_8 rfl rfl (Nat.le_of_ble_eq_true rfl) (mm_o hA) (w_X9_isLaw (d := d - 1) (by omega) hA (by first | omega | assumption | exact hn | exact hl | exact hb | exact hq | exact hdr | exact has)) (by omega) (by decide) (by decide) ?_
  refine pl_if_eqB (pc := 11) (tgt := 22) dX9_vote_11 (by decide) (fun c11 => ?_) (fun c11 => ?_)
  · refine pl_iconst (pc := 22) (v := 1) dX9_vote_22 (by rfl) ?_
    refine pj_goto (pc := 23) (tgt := 27) dX9_vote_23 (by decide) ?_
    refine pl_iconst (pc := 27) (v := 1) dX9_vote_27 (by rfl) ?_
    refine pl_callVd (pc := 28) (As := [_, _]) (C2 := 0) (N2 := 0) ckX9 mdX9_bad rfl q2631 q2633 qs50 q154 dX9_vote_28 rfl rfl (Nat.le_of_ble_eq_true rfl) (mm_o hA) (w_bad_1 (d := d - 1) (by omega) hA) (by omega) (by decide) (by decide) ?_
    refine pj_if_eq (pc := 31) (tgt := 36) dX9_vote_31 (by decide) (fun h => absurd h (by decide)) (fun _ => ?_)
    refine pl_iconst (pc := 34) (v := 0) dX9_vote_34 (by rfl) ?_
    refine pj_iret (pc := 35) dX9_vote_35 rfl ?_
    exact ⟨vIe (by simp [nar1, p_vote, c11]) rfl, congrArg (mm g ad μ) (by simp [nar1, p_vote, c11])⟩
  · obtain ⟨j_l, hj_l, rfl⟩ := inN_of (by omega) c11
    have f_l := inN_nI hj_l (by omega)
    have g_l := nI_clamp (n := j_l) (by omega)
    refine pl_aload_n (pc := 14) dX9_vote_14 rfl rfl ?_
    refine pl_iload_n (pc := 15) dX9_vote_15 rfl rfl ?_
    refine pl_callVd (pc := 16) (As := [_]) (C2 := 0) (N2 := 0) ckX9 mdX9_isPerson rfl q2709 q2711 qs58 q154 dX9_vote_16 rfl rfl (Nat.le_of_ble_eq_true rfl) (mm_o hA) (w_X9_isPerson (d := d - 1) (by omega) hA (by first | omega | assumption | exact hn | exact hl | exact hb | exact hq | exact hdr | exact has)) (by omega) (by decide) (by decide) ?_
    refine pl_if_neB (pc := 19) (tgt := 26) dX9_vote_19 (by decide) (fun c19 => ?_) (fun c19 => ?_)
    · obtain ⟨j_p, hj_p, rfl⟩ := inN_of (by omega) c19
      have f_p := inN_nI hj_p (by omega)
      have g_p := nI_clamp (n := j_p) (by omega)
      refine pl_iconst (pc := 26) (v := 0) dX9_vote_26 (by rfl) ?_
      refine pl_iconst (pc := 27) (v := 1) dX9_vote_27 (by rfl) ?_
      refine pl_callVd (pc := 28) (As := [_, _]) (C2 := 0) (N2 := 0) ckX9 mdX9_bad rfl q2631 q2633 qs50 q154 dX9_vote_28 rfl rfl (Nat.le_of_ble_eq_true rfl) (mm_o hA) (w_bad_0 (d := d - 1) (by omega) hA) (by omega) (by decide) (by decide) ?_
      refine pj_if_eq (pc := 31) (tgt := 36) dX9_vote_31 (by decide) (fun _ => ?_) (fun h => absurd h (by decide))
      refine pl_aload_n (pc := 36) dX9_vote_36 rfl rfl ?_
      refine pl_iload_n (pc := 37) dX9_vote_37 rfl rfl ?_
      refine pl_iconst (pc := 38) (v := 0) dX9_vote_38 (by rfl) ?_
      refine pl_callVd (pc := 39) (As := [_, _]) (C2 := 0) (N2 := 0) ckX9 mdX9_ofLaw rfl q2934 q2936 qs94 q154 dX9_vote_39 rfl rfl (Nat.le_of_ble_eq_true rfl) (mm_o hA) (w_X9_ofLaw (d := d - 1) (by omega) hA (by first | omega | assumption | exact hn | exact hl | exact hb | exact hq | exact hdr | exact has) (by first | omega | assumption | exact hn | exact hl | exact hb | exact hq | exact hdr | exact has)) (by omega) (by decide) (by decide) ?_
      refine pj_if_eq (pc := 42) (tgt := 47) dX9_vote_42 (by decide) (fun c42 => ?_) (fun c42 => ?_)
      · refine pl_aload_n (pc := 47) dX9_vote_47 rfl rfl ?_
        refine pl_iload_n (pc := 48) dX9_vote_48 rfl rfl ?_
        refine pl_callVd (pc := 49) (As := [_]) (C2 := 0) (N2 := 0) ckX9 mdX9_isHere rfl q2784 q2786 qs71 q154 dX9_vote_49 rfl rfl (Nat.le_of_ble_eq_true rfl) (mm_o hA) (w_X9_isHere (d := d - 1) (by omega) hA (by first | omega | assumption | exact hn | exact hl | exact hb | exact hq | exact hdr | exact has)) (by omega) (by decide) (by decide) ?_
        refine pl_if_eqB (pc := 52) (tgt := 71) dX9_vote_52 (by decide) (fun c52 => ?_) (fun c52 => ?_)
        · refine pj_bipush (pc := 71) (v := (-2)) dX9_vote_71 (by rfl) ?_
          refine pj_iret (pc := 73) dX9_vote_73 rfl ?_
          exact ⟨vIe (by simp [nar1, p_vote, c11, f_l, g_l, c19, f_p, g_p, eq_true c42, c52]) rfl, congrArg (mm g ad μ) (by simp [nar1, p_vote, c11, f_l, g_l, c19, f_p, g_p, eq_true c42, c52])⟩
        · refine pl_aload_n (pc := 55) dX9_vote_55 rfl rfl ?_
          refine pl_iload_n (pc := 56) dX9_vote_56 rfl rfl ?_
          refine pl_callVd (pc := 57) (As := [_]) (C2 := 0) (N2 := 0) ckX9 mdX9_farmsOf rfl q2721 q2723 qs61 q154 dX9_vote_57 rfl rfl (Nat.le_of_ble_eq_true rfl) (mm_o hA) (w_X9_farmsOf (d := d - 1) (by omega) hA) (by omega) (by decide) (by decide) ?_
          refine pl_if_neN (pc := 60) (tgt := 74) dX9_vote_60 (by decide) (Nat.lt_of_le_of_lt (cnt_le _ _) (by decide)) (fun c60 => ?_) (fun c60 => ?_)
          · refine pl_aload_n (pc := 74) dX9_vote_74 rfl rfl ?_
            refine pj_getf (pc := 75) ckX9 21 q2537 dX9_vote_75 (by decide) (mm_o hA) rfl ?_
            refine pl_bipush (pc := 78) (v := 100) dX9_vote_78 (by rfl) ?_
            refine pl_iload_n (pc := 80) dX9_vote_80 rfl rfl ?_
            refine pl_imul (pc := 81) dX9_vote_81 ?_
            refine pl_iload_n (pc := 82) dX9_vote_82 rfl rfl ?_
            refine pl_iadd (pc := 83) dX9_vote_83 ?_
            refine pl_zald (pc := 84) (n := 1200) dX9_vote_84 (mm_a hA 12 (by decide) (by decide)) (by omega) (by decide) ?_
            refine pj_if_eq (pc := 85) (tgt := 91) dX9_vote_85 (by decide) (fun c85 => ?_) (fun c85 => ?_)
            · refine pl_aload_n (pc := 91) dX9_vote_91 rfl rfl ?_
              refine pj_getf (pc := 92) ckX9 21 q2537 dX9_vote_92 (by decide) (mm_o hA) rfl ?_
              refine pl_bipush (pc := 95) (v := 100) dX9_vote_95 (by rfl) ?_
              refine pl_iload_n (pc := 97) dX9_vote_97 rfl rfl ?_
              refine pl_imul (pc := 98) dX9_vote_98 ?_
              refine pl_iload_n (pc := 99) dX9_vote_99 rfl rfl ?_
              refine pl_iadd (pc := 100) dX9_vote_100 ?_
              refine pl_iconst (pc := 101) (v := 1) dX9_vote_101 (by rfl) ?_
              refine pm_zast (pc := 102) 12 hA (by decide) (by decide) rfl dX9_vote_102 (show _ < 1200 by omega) (by decide) ?_
              refine pl_sipush (pc := 103) (v := 1568) dX9_vote_103 (by rfl) ?_
              refine pl_bipush (pc := 106) (v := 6) dX9_vote_106 (by rfl) ?_
              refine pl_iload_n (pc := 108) dX9_vote_108 rfl rfl ?_
              refine pl_imul (pc := 109) dX9_vote_109 ?_
              refine pl_iadd (pc := 110) dX9_vote_110 ?_
              refine pl_iload_n (pc := 111) dX9_vote_111 rfl rfl ?_
              refine pl_if_eqB (pc := 112) (tgt := 119) dX9_vote_112 (by decide) (fun c112 => ?_) (fun c112 => ?_)
              · refine pl_iconst (pc := 119) (v := 2) dX9_vote_119 (by rfl) ?_
                refine pl_iadd (pc := 120) dX9_vote_120 ?_
                refine pj_istore (pc := 121) (lv' := [(4, _), (0, _), (1, _), (2, _), (3, _)]) dX9_vote_121 (by decide) rfl ?_
                refine pl_aload_n (pc := 123) dX9_vote_123 rfl rfl ?_
                refine pj_getf (pc := 124) ckX9 1 q2517 dX9_vote_124 (by decide) (mm_o hA) rfl ?_
                refine pl_iload (pc := 127) dX9_vote_127 rfl ?_
                refine pj_dup2_11 (pc := 129) dX9_vote_129 rfl rfl ?_
                refine pl_iald (pc := 130) (n := 2132) dX9_vote_130 (mm_a hA 1 (by decide) (by decide)) (by omega) (by decide) ?_
                refine pl_iconst (pc := 131) (v := 1) dX9_vote_131 (by rfl) ?_
                refine pj_iadd (pc := 132) dX9_vote_132 ?_
                refine pm_iast (pc := 133) 1 hA (by decide) (by decide) rfl dX9_vote_133 (show _ < 2132 by omega) (by decide) ?_
                refine pl_aload_n (pc := 134) dX9_vote_134 rfl rfl ?_
                refine pj_getf (pc := 135) ckX9 1 q2517 dX9_vote_135 (by decide) (mm_o hA) rfl ?_
                refine pl_iload (pc := 138) dX9_vote_138 rfl ?_
                refine pl_iald (pc := 140) (n := 2132) dX9_vote_140 (mm_a hA 1 (by decide) (by decide)) (by omega) (by decide) ?_
                refine pj_iret (pc := 141) dX9_vote_141 rfl ?_
                exact ⟨vIe (by simp [nar1, p_vote, c11, f_l, g_l, c19, f_p, g_p, eq_true c42, c52, c60, eq_true c85, c112]) rfl, congrArg (mm g ad μ) (by simp [nar1, p_vote, c11, f_l, g_l, c19, f_p, g_p, eq_true c42, c52, c60, eq_true c85, c112])⟩
              · refine pl_iconst (pc := 115) (v := 1) dX9_vote_115 (by rfl) ?_
                refine pj_goto (pc := 116) (tgt := 120) dX9_vote_116 (by decide) ?_
                refine pl_iadd (pc := 120) dX9_vote_120 ?_
                refine pj_istore (pc := 121) (lv' := [(4, _), (0, _), (1, _), (2, _), (3, _)]) dX9_vote_121 (by decide) rfl ?_
                refine pl_aload_n (pc := 123) dX9_vote_123 rfl rfl ?_
                refine pj_getf (pc := 124) ckX9 1 q2517 dX9_vote_124 (by decide) (mm_o hA) rfl ?_
                refine pl_iload (pc := 127) dX9_vote_127 rfl ?_
                refine pj_dup2_11 (pc := 129) dX9_vote_129 rfl rfl ?_
                refine pl_iald (pc := 130) (n := 2132) dX9_vote_130 (mm_a hA 1 (by decide) (by decide)) (by omega) (by decide) ?_
                refine pl_iconst (pc := 131) (v := 1) dX9_vote_131 (by rfl) ?_
                refine pj_iadd (pc := 132) dX9_vote_132 ?_
                refine pm_iast (pc := 133) 1 hA (by decide) (by decide) rfl dX9_vote_133 (show _ < 2132 by omega) (by decide) ?_
                refine pl_aload_n (pc := 134) dX9_vote_134 rfl rfl ?_
                refine pj_getf (pc := 135) ckX9 1 q2517 dX9_vote_135 (by decide) (mm_o hA) rfl ?_
                refine pl_iload (pc := 138) dX9_vote_138 rfl ?_
                refine pl_iald (pc := 140) (n := 2132) dX9_vote_140 (mm_a hA 1 (by decide) (by decide)) (by omega) (by decide) ?_
                refine pj_iret (pc := 141) dX9_vote_141 rfl ?_
                exact ⟨vIe (by simp [nar1, p_vote, c11, f_l, g_l, c19, f_p, g_p, eq_true c42, c52, c60, eq_true c85, c112]) rfl, congrArg (mm g ad μ) (by simp [nar1, p_vote, c11, f_l, g_l, c19, f_p, g_p, eq_true c42, c52, c60, eq_true c85, c112])⟩
            · refine pj_bipush (pc := 88) (v := (-3)) dX9_vote_88 (by rfl) ?_
              refine pj_iret (pc := 90) dX9_vote_90 rfl ?_
              exact ⟨vIe (by simp [nar1, p_vote, c11, f_l, g_l, c19, f_p, g_p, eq_true c42, c52, c60, c85]) rfl, congrArg (mm g ad μ) (by simp [nar1, p_vote, c11, f_l, g_l, c19, f_p, g_p, eq_true c42, c52, c60, c85])⟩
          · refine pl_aload_n (pc := 63) dX9_vote_63 rfl rfl ?_
            refine pl_iload_n (pc := 64) dX9_vote_64 rfl rfl ?_
            refine pl_callVd (pc := 65) (As := [_]) (C2 := 0) (N2 := 0) ckX9 mdX9_hasAcre rfl q2978 q2980 qs100 q154 dX9_vote_65 rfl rfl (Nat.le_of_ble_eq_true rfl) (mm_o hA) (w_X9_hasAcre (d := d - 1) (by omega) hA (by first | omega | assumption | exact hn | exact hl | exact hb | exact hq | exact hdr | exact has) (by first | omega | assumption | exact hn | exact hl | exact hb | exact hq | exact hdr | exact has)) (by omega) (by decide) (by decide) ?_
            refine pl_if_neB (pc := 68) (tgt := 74) dX9_vote_68 (by decide) (fun c68 => ?_) (fun c68 => ?_)
            · refine pl_aload_n (pc := 74) dX9_vote_74 rfl rfl ?_
              refine pj_getf (pc := 75) ckX9 21 q2537 dX9_vote_75 (by decide) (mm_o hA) rfl ?_
              refine pl_bipush (pc := 78) (v := 100) dX9_vote_78 (by rfl) ?_
              refine pl_iload_n (pc := 80) dX9_vote_80 rfl rfl ?_
              refine pl_imul (pc := 81) dX9_vote_81 ?_
              refine pl_iload_n (pc := 82) dX9_vote_82 rfl rfl ?_
              refine pl_iadd (pc := 83) dX9_vote_83 ?_
              refine pl_zald (pc := 84) (n := 1200) dX9_vote_84 (mm_a hA 12 (by decide) (by decide)) (by omega) (by decide) ?_
              refine pj_if_eq (pc := 85) (tgt := 91) dX9_vote_85 (by decide) (fun c85 => ?_) (fun c85 => ?_)
              · refine pl_aload_n (pc := 91) dX9_vote_91 rfl rfl ?_
                refine pj_getf (pc := 92) ckX9 21 q2537 dX9_vote_92 (by decide) (mm_o hA) rfl ?_
                refine pl_bipush (pc := 95) (v := 100) dX9_vote_95 (by rfl) ?_
                refine pl_iload_n (pc := 97) dX9_vote_97 rfl rfl ?_
                refine pl_imul (pc := 98) dX9_vote_98 ?_
                refine pl_iload_n (pc := 99) dX9_vote_99 rfl rfl ?_
                refine pl_iadd (pc := 100) dX9_vote_100 ?_
                refine pl_iconst (pc := 101) (v := 1) dX9_vote_101 (by rfl) ?_
                refine pm_zast (pc := 102) 12 hA (by decide) (by decide) rfl dX9_vote_102 (show _ < 1200 by omega) (by decide) ?_
                refine pl_sipush (pc := 103) (v := 1568) dX9_vote_103 (by rfl) ?_
                refine pl_bipush (pc := 106) (v := 6) dX9_vote_106 (by rfl) ?_
                refine pl_iload_n (pc := 108) dX9_vote_108 rfl rfl ?_
                refine pl_imul (pc := 109) dX9_vote_109 ?_
                refine pl_iadd (pc := 110) dX9_vote_110 ?_
                refine pl_iload_n (pc := 111) dX9_vote_111 rfl rfl ?_
                refine pl_if_eqB (pc := 112) (tgt := 119) dX9_vote_112 (by decide) (fun c112 => ?_) (fun c112 => ?_)
                · refine pl_iconst (pc := 119) (v := 2) dX9_vote_119 (by rfl) ?_
                  refine pl_iadd (pc := 120) dX9_vote_120 ?_
                  refine pj_istore (pc := 121) (lv' := [(4, _), (0, _), (1, _), (2, _), (3, _)]) dX9_vote_121 (by decide) rfl ?_
                  refine pl_aload_n (pc := 123) dX9_vote_123 rfl rfl ?_
                  refine pj_getf (pc := 124) ckX9 1 q2517 dX9_vote_124 (by decide) (mm_o hA) rfl ?_
                  refine pl_iload (pc := 127) dX9_vote_127 rfl ?_
                  refine pj_dup2_11 (pc := 129) dX9_vote_129 rfl rfl ?_
                  refine pl_iald (pc := 130) (n := 2132) dX9_vote_130 (mm_a hA 1 (by decide) (by decide)) (by omega) (by decide) ?_
                  refine pl_iconst (pc := 131) (v := 1) dX9_vote_131 (by rfl) ?_
                  refine pj_iadd (pc := 132) dX9_vote_132 ?_
                  refine pm_iast (pc := 133) 1 hA (by decide) (by decide) rfl dX9_vote_133 (show _ < 2132 by omega) (by decide) ?_
                  refine pl_aload_n (pc := 134) dX9_vote_134 rfl rfl ?_
                  refine pj_getf (pc := 135) ckX9 1 q2517 dX9_vote_135 (by decide) (mm_o hA) rfl ?_
                  refine pl_iload (pc := 138) dX9_vote_138 rfl ?_
                  refine pl_iald (pc := 140) (n := 2132) dX9_vote_140 (mm_a hA 1 (by decide) (by decide)) (by omega) (by decide) ?_
                  refine pj_iret (pc := 141) dX9_vote_141 rfl ?_
                  exact ⟨vIe (by simp [nar1, p_vote, c11, f_l, g_l, c19, f_p, g_p, eq_true c42, c52, eq_true c60, c68, eq_true c85, c112]) rfl, congrArg (mm g ad μ) (by simp [nar1, p_vote, c11, f_l, g_l, c19, f_p, g_p, eq_true c42, c52, eq_true c60, c68, eq_true c85, c112])⟩
                · refine pl_iconst (pc := 115) (v := 1) dX9_vote_115 (by rfl) ?_
                  refine pj_goto (pc := 116) (tgt := 120) dX9_vote_116 (by decide) ?_
                  refine pl_iadd (pc := 120) dX9_vote_120 ?_
                  refine pj_istore (pc := 121) (lv' := [(4, _), (0, _), (1, _), (2, _), (3, _)]) dX9_vote_121 (by decide) rfl ?_
                  refine pl_aload_n (pc := 123) dX9_vote_123 rfl rfl ?_
                  refine pj_getf (pc := 124) ckX9 1 q2517 dX9_vote_124 (by decide) (mm_o hA) rfl ?_
                  refine pl_iload (pc := 127) dX9_vote_127 rfl ?_
                  refine pj_dup2_11 (pc := 129) dX9_vote_129 rfl rfl ?_
                  refine pl_iald (pc := 130) (n := 2132) dX9_vote_130 (mm_a hA 1 (by decide) (by decide)) (by omega) (by decide) ?_
                  refine pl_iconst (pc := 131) (v := 1) dX9_vote_131 (by rfl) ?_
                  refine pj_iadd (pc := 132) dX9_vote_132 ?_
                  refine pm_iast (pc := 133) 1 hA (by decide) (by decide) rfl dX9_vote_133 (show _ < 2132 by omega) (by decide) ?_
                  refine pl_aload_n (pc := 134) dX9_vote_134 rfl rfl ?_
                  refine pj_getf (pc := 135) ckX9 1 q2517 dX9_vote_135 (by decide) (mm_o hA) rfl ?_
                  refine pl_iload (pc := 138) dX9_vote_138 rfl ?_
                  refine pl_iald (pc := 140) (n := 2132) dX9_vote_140 (mm_a hA 1 (by decide) (by decide)) (by omega) (by decide) ?_
                  refine pj_iret (pc := 141) dX9_vote_141 rfl ?_
                  exact ⟨vIe (by simp [nar1, p_vote, c11, f_l, g_l, c19, f_p, g_p, eq_true c42, c52, eq_true c60, c68, eq_true c85, c112]) rfl, congrArg (mm g ad μ) (by simp [nar1, p_vote, c11, f_l, g_l, c19, f_p, g_p, eq_true c42, c52, eq_true c60, c68, eq_true c85, c112])⟩
              · refine pj_bipush (pc := 88) (v := (-3)) dX9_vote_88 (by rfl) ?_
                refine pj_iret (pc := 90) dX9_vote_90 rfl ?_
                exact ⟨vIe (by simp [nar1, p_vote, c11, f_l, g_l, c19, f_p, g_p, eq_true c42, c52, eq_true c60, c68, c85]) rfl, congrArg (mm g ad μ) (by simp [nar1, p_vote, c11, f_l, g_l, c19, f_p, g_p, eq_true c42, c52, eq_true c60, c68, c85])⟩
            · refine pj_bipush (pc := 71) (v := (-2)) dX9_vote_71 (by rfl) ?_
              refine pj_iret (pc := 73) dX9_vote_73 rfl ?_
              exact ⟨vIe (by simp [nar1, p_vote, c11, f_l, g_l, c19, f_p, g_p, eq_true c42, c52, eq_true c60, c68]) rfl, congrArg (mm g ad μ) (by simp [nar1, p_vote, c11, f_l, g_l, c19, f_p, g_p, eq_true c42, c52, eq_true c60, c68])⟩
      · refine pj_iconst (pc := 45) (v := (-1)) dX9_vote_45 (by rfl) ?_
        refine pj_iret (pc := 46) dX9_vote_46 rfl ?_
        exact ⟨vIe (by simp [nar1, p_vote, c11, f_l, g_l, c19, f_p, g_p, c42]) rfl, congrArg (mm g ad μ) (by simp [nar1, p_vote, c11, f_l, g_l, c19, f_p, g_p, c42])⟩
    · refine pl_iconst (pc := 22) (v := 1) dX9_vote_22 (by rfl) ?_
      refine pj_goto (pc := 23) (tgt := 27) dX9_vote_23 (by decide) ?_
      refine pl_iconst (pc := 27) (v := 1) dX9_vote_27 (by rfl) ?_
      refine pl_callVd (pc := 28) (As := [_, _]) (C2 := 0) (N2 := 0) ckX9 mdX9_bad rfl q2631 q2633 qs50 q154 dX9_vote_28 rfl rfl (Nat.le_of_ble_eq_true rfl) (mm_o hA) (w_bad_1 (d := d - 1) (by omega) hA) (by omega) (by decide) (by decide) ?_
      refine pj_if_eq (pc := 31) (tgt := 36) dX9_vote_31 (by decide) (fun h => absurd h (by decide)) (fun _ => ?_)
      refine pl_iconst (pc := 34) (v := 0) dX9_vote_34 (by rfl) ?_
      refine pj_iret (pc := 35) dX9_vote_35 rfl ?_
      exact ⟨vIe (by simp [nar1, p_vote, c11, f_l, g_l, c19]) rfl, congrArg (mm g ad μ) (by simp [nar1, p_vote, c11, f_l, g_l, c19])⟩
set_option maxHeartbeats 4000000 in
theorem w_X9_assent {g : GP} {ad : Nat → Nat} {μ : Mem} {σ : MS} {d : Nat} {l : Int32} {y : Bool} {nl : Nat} (hd : 2 ≤ d) (hA : Inj ad 18) (hl : row σ 2125 = nI nl) (hL : nl ≤ 12) : PM g yX9_assent (ws_ yX9_assent cX9_assent 3 (some .int)) d 0 0 [.ref (ad 0), .int l, .int (bI y)] (mm g ad μ σ) (rQ (some (.int ((p_assent σ nl l y).1))) (mm g ad μ ((p_assent σ nl l y).2))) := by
  refine PM.of (by decide +kernel) (Nat.le_of_ble_eq_true rfl) ?_
  show PJ g _ _ _ _ d 0 0 0 [(0, .ref (ad 0)), (1, .int l), (2, .int (bI y))] [] _ _
  refine pl_aload_n (pc := 0) dX9_assent_0 rfl rfl ?_
  refine pl_iconst (pc := 1) (v := 0) dX9_assent_1 (by rfl) ?_
  refine pm_putI (pc := 2) 0 hA q2516 dX9_assent_2 (by decide) rfl (by rfl) (by rfl) rfl ?_
  refine pl_aload_n (pc := 5) dX9_assent_5 rfl rfl ?_
  refine pl_aload_n (pc := 6) dX9_assent_6 rfl rfl ?_
  refine pl_iload_n (pc := 7) dX9_assent_7 rfl rfl ?_
  refine pl_callVd (pc := 8) (As := [_]) (C2 := 0) (N2 := 0) ckX9 mdX9_isLaw rfl q2974 q2976 qs99 q154 dX9_assent_8 rfl rfl (Nat.le_of_ble_eq_true rfl) (mm_o hA) (w_X9_isLaw (d := d - 1) (by omega) hA (by first | omega | assumption | exact hn | exact hl | exact hb | exact hq | exact hdr | exact has)) (by omega) (by decide) (by decide) ?_
  refine pl_if_neB (pc := 11) (tgt := 18) dX9_assent_11 (by decide) (fun c11 => ?_) (fun c11 => ?_)
  · obtain ⟨j_l, hj_l, rfl⟩ := inN_of (by omega) c11
    have f_l := inN_nI hj_l (by omega)
    have g_l := nI_clamp (n := j_l) (by omega)
    refine pl_iconst (pc := 18) (v := 0) dX9_assent_18 (by rfl) ?_
    refine pl_iconst (pc := 19) (v := 1) dX9_assent_19 (by rfl) ?_
    refine pl_callVd (pc := 20) (As := [_, _]) (C2 := 0) (N2 := 0) ckX9 mdX9_bad rfl q2631 q2633 qs50 q154 dX9_assent_20 rfl rfl (Nat.le_of_ble_eq_true rfl) (mm_o hA) (w_bad_0 (d := d - 1) (by omega) hA) (by omega) (by decide) (by decide) ?_
    refine pj_if_eq (pc := 23) (tgt := 28) dX9_assent_23 (by decide) (fun _ => ?_) (fun h => absurd h (by decide))
    refine pl_aload_n (pc := 28) dX9_assent_28 rfl rfl ?_
    refine pl_iload_n (pc := 29) dX9_assent_29 rfl rfl ?_
    refine pl_iconst (pc := 30) (v := 0) dX9_assent_30 (by rfl) ?_
    refine pl_callVd (pc := 31) (As := [_, _]) (C2 := 0) (N2 := 0) ckX9 mdX9_ofLaw rfl q2934 q2936 qs94 q154 dX9_assent_31 rfl rfl (Nat.le_of_ble_eq_true rfl) (mm_o hA) (w_X9_ofLaw (d := d - 1) (by omega) hA (by first | omega | assumption | exact hn | exact hl | exact hb | exact hq | exact hdr | exact has) (by first | omega | assumption | exact hn | exact hl | exact hb | exact hq | exact hdr | exact has)) (by omega) (by decide) (by decide) ?_
    refine pl_iconst (pc := 34) (v := 2) dX9_assent_34 (by rfl) ?_
    refine pj_icmp_eq (pc := 35) (tgt := 40) dX9_assent_35 (by decide) (fun c35 => ?_) (fun c35 => ?_)
    · refine pl_aload_n (pc := 40) dX9_assent_40 rfl rfl ?_
      refine pj_getf (pc := 41) ckX9 1 q2517 dX9_assent_41 (by decide) (mm_o hA) rfl ?_
      refine pl_sipush (pc := 44) (v := 2116) dX9_assent_44 (by rfl) ?_
      refine pl_iald (pc := 47) (n := 2132) dX9_assent_47 (mm_a hA 1 (by decide) (by decide)) (by omega) (by decide) ?_
      refine pl_aload_n (pc := 48) dX9_assent_48 rfl rfl ?_
      refine pl_iload_n (pc := 49) dX9_assent_49 rfl rfl ?_
      refine pl_iconst (pc := 50) (v := 3) dX9_assent_50 (by rfl) ?_
      refine pl_callVd (pc := 51) (As := [_, _]) (C2 := 0) (N2 := 0) ckX9 mdX9_ofLaw rfl q2934 q2936 qs94 q154 dX9_assent_51 rfl rfl (Nat.le_of_ble_eq_true rfl) (mm_o hA) (w_X9_ofLaw (d := d - 1) (by omega) hA (by first | omega | assumption | exact hn | exact hl | exact hb | exact hq | exact hdr | exact has) (by first | omega | assumption | exact hn | exact hl | exact hb | exact hq | exact hdr | exact has)) (by omega) (by decide) (by decide) ?_
      refine pl_bipush (pc := 54) (v := 34) dX9_assent_54 (by rfl) ?_
      refine pj_iadd (pc := 56) dX9_assent_56 ?_
      refine pj_icmp_ge (pc := 57) (tgt := 63) dX9_assent_57 (by decide) (fun c57 => ?_) (fun c57 => ?_)
      · refine pl_aload_n (pc := 63) dX9_assent_63 rfl rfl ?_
        refine pl_iload_n (pc := 64) dX9_assent_64 rfl rfl ?_
        refine pl_iconst (pc := 65) (v := 4) dX9_assent_65 (by rfl) ?_
        refine pl_callVd (pc := 66) (As := [_, _]) (C2 := 0) (N2 := 0) ckX9 mdX9_ofLaw rfl q2934 q2936 qs94 q154 dX9_assent_66 rfl rfl (Nat.le_of_ble_eq_true rfl) (mm_o hA) (w_X9_ofLaw (d := d - 1) (by omega) hA (by first | omega | assumption | exact hn | exact hl | exact hb | exact hq | exact hdr | exact has) (by first | omega | assumption | exact hn | exact hl | exact hb | exact hq | exact hdr | exact has)) (by omega) (by decide) (by decide) ?_
        refine pj_if_le (pc := 69) (tgt := 75) dX9_assent_69 (by decide) (fun c69 => ?_) (fun c69 => ?_)
        · refine pl_aload_n (pc := 75) dX9_assent_75 rfl rfl ?_
          refine pj_getf (pc := 76) ckX9 1 q2517 dX9_assent_76 (by decide) (mm_o hA) rfl ?_
          refine pl_sipush (pc := 79) (v := 1568) dX9_assent_79 (by rfl) ?_
          refine pl_bipush (pc := 82) (v := 6) dX9_assent_82 (by rfl) ?_
          refine pl_iload_n (pc := 84) dX9_assent_84 rfl rfl ?_
          refine pl_imul (pc := 85) dX9_assent_85 ?_
          refine pl_iadd (pc := 86) dX9_assent_86 ?_
          refine pl_iconst (pc := 87) (v := 4) dX9_assent_87 (by rfl) ?_
          refine pl_iadd (pc := 88) dX9_assent_88 ?_
          refine pl_iload_n (pc := 89) dX9_assent_89 rfl rfl ?_
          refine pl_if_eqB (pc := 90) (tgt := 97) dX9_assent_90 (by decide) (fun c90 => ?_) (fun c90 => ?_)
          · refine pl_iconst (pc := 97) (v := 2) dX9_assent_97 (by rfl) ?_
            refine pm_iast (pc := 98) 1 hA (by decide) (by decide) rfl dX9_assent_98 (show _ < 2132 by omega) (by decide) ?_
            refine pl_aload_n (pc := 99) dX9_assent_99 rfl rfl ?_
            refine pj_getf (pc := 100) ckX9 1 q2517 dX9_assent_100 (by decide) (mm_o hA) rfl ?_
            refine pl_sipush (pc := 103) (v := 1568) dX9_assent_103 (by rfl) ?_
            refine pl_bipush (pc := 106) (v := 6) dX9_assent_106 (by rfl) ?_
            refine pl_iload_n (pc := 108) dX9_assent_108 rfl rfl ?_
            refine pl_imul (pc := 109) dX9_assent_109 ?_
            refine pl_iadd (pc := 110) dX9_assent_110 ?_
            refine pl_iconst (pc := 111) (v := 5) dX9_assent_111 (by rfl) ?_
            refine pl_iadd (pc := 112) dX9_assent_112 ?_
            refine pl_aload_n (pc := 113) dX9_assent_113 rfl rfl ?_
            refine pj_getf (pc := 114) ckX9 1 q2517 dX9_assent_114 (by decide) (mm_o hA) rfl ?_
            refine pl_sipush (pc := 117) (v := 2116) dX9_assent_117 (by rfl) ?_
            refine pl_iald (pc := 120) (n := 2132) dX9_assent_120 (mm_a hA 1 (by decide) (by decide)) (by omega) (by decide) ?_
            refine pl_bipush (pc := 121) (v := 34) dX9_assent_121 (by rfl) ?_
            refine pj_iadd (pc := 123) dX9_assent_123 ?_
            refine pm_iast (pc := 124) 1 hA (by decide) (by decide) rfl dX9_assent_124 (show _ < 2132 by omega) (by decide) ?_
            refine pl_aload_n (pc := 125) dX9_assent_125 rfl rfl ?_
            refine pj_getf (pc := 126) ckX9 1 q2517 dX9_assent_126 (by decide) (mm_o hA) rfl ?_
            refine pl_sipush (pc := 129) (v := 2116) dX9_assent_129 (by rfl) ?_
            refine pl_iald (pc := 132) (n := 2132) dX9_assent_132 (mm_a hA 1 (by decide) (by decide)) (by omega) (by decide) ?_
            refine pl_bipush (pc := 133) (v := 34) dX9_assent_133 (by rfl) ?_
            refine pj_iadd (pc := 135) dX9_assent_135 ?_
            refine pj_iret (pc := 136) dX9_assent_136 rfl ?_
            exact ⟨vIe (by simp [p_assent, c11, f_l, g_l, eq_true c35, c57, c69, c90]) rfl, congrArg (mm g ad μ) (by simp [p_assent, c11, f_l, g_l, eq_true c35, c57, c69, c90])⟩
          · refine pl_iconst (pc := 93) (v := 1) dX9_assent_93 (by rfl) ?_
            refine pj_goto (pc := 94) (tgt := 98) dX9_assent_94 (by decide) ?_
            refine pm_iast (pc := 98) 1 hA (by decide) (by decide) rfl dX9_assent_98 (show _ < 2132 by omega) (by decide) ?_
            refine pl_aload_n (pc := 99) dX9_assent_99 rfl rfl ?_
            refine pj_getf (pc := 100) ckX9 1 q2517 dX9_assent_100 (by decide) (mm_o hA) rfl ?_
            refine pl_sipush (pc := 103) (v := 1568) dX9_assent_103 (by rfl) ?_
            refine pl_bipush (pc := 106) (v := 6) dX9_assent_106 (by rfl) ?_
            refine pl_iload_n (pc := 108) dX9_assent_108 rfl rfl ?_
            refine pl_imul (pc := 109) dX9_assent_109 ?_
            refine pl_iadd (pc := 110) dX9_assent_110 ?_
            refine pl_iconst (pc := 111) (v := 5) dX9_assent_111 (by rfl) ?_
            refine pl_iadd (pc := 112) dX9_assent_112 ?_
            refine pl_aload_n (pc := 113) dX9_assent_113 rfl rfl ?_
            refine pj_getf (pc := 114) ckX9 1 q2517 dX9_assent_114 (by decide) (mm_o hA) rfl ?_
            refine pl_sipush (pc := 117) (v := 2116) dX9_assent_117 (by rfl) ?_
            refine pl_iald (pc := 120) (n := 2132) dX9_assent_120 (mm_a hA 1 (by decide) (by decide)) (by omega) (by decide) ?_
            refine pl_bipush (pc := 121) (v := 34) dX9_assent_121 (by rfl) ?_
            refine pj_iadd (pc := 123) dX9_assent_123 ?_
            refine pm_iast (pc := 124) 1 hA (by decide) (by decide) rfl dX9_assent_124 (show _ < 2132 by omega) (by decide) ?_
            refine pl_aload_n (pc := 125) dX9_assent_125 rfl rfl ?_
            refine pj_getf (pc := 126) ckX9 1 q2517 dX9_assent_126 (by decide) (mm_o hA) rfl ?_
            refine pl_sipush (pc := 129) (v := 2116) dX9_assent_129 (by rfl) ?_
            refine pl_iald (pc := 132) (n := 2132) dX9_assent_132 (mm_a hA 1 (by decide) (by decide)) (by omega) (by decide) ?_
            refine pl_bipush (pc := 133) (v := 34) dX9_assent_133 (by rfl) ?_
            refine pj_iadd (pc := 135) dX9_assent_135 ?_
            refine pj_iret (pc := 136) dX9_assent_136 rfl ?_
            exact ⟨vIe (by simp [p_assent, c11, f_l, g_l, eq_true c35, c57, c69, c90]) rfl, congrArg (mm g ad μ) (by simp [p_assent, c11, f_l, g_l, eq_true c35, c57, c69, c90])⟩
        · refine pj_bipush (pc := 72) (v := (-3)) dX9_assent_72 (by rfl) ?_
          refine pj_iret (pc := 74) dX9_assent_74 rfl ?_
          exact ⟨vIe (by simp [p_assent, c11, f_l, g_l, eq_true c35, c57, c69]) rfl, congrArg (mm g ad μ) (by simp [p_assent, c11, f_l, g_l, eq_true c35, c57, c69])⟩
      · refine pj_bipush (pc := 60) (v := (-2)) dX9_assent_60 (by rfl) ?_
        refine pj_iret (pc := 62) dX9_assent_62 rfl ?_
        exact ⟨vIe (by simp [p_assent, c11, f_l, g_l, eq_true c35, c57]) rfl, congrArg (mm g ad μ) (by simp [p_assent, c11, f_l, g_l, eq_true c35, c57])⟩
    · refine pj_iconst (pc := 38) (v := (-1)) dX9_assent_38 (by rfl) ?_
      refine pj_iret (pc := 39) dX9_assent_39 rfl ?_
      exact ⟨vIe (by simp [p_assent, c11, f_l, g_l, c35]) rfl, congrArg (mm g ad μ) (by simp [p_assent, c11, f_l, g_l, c35])⟩
  · refine pl_iconst (pc := 14) (v := 1) dX9_assent_14 (by rfl) ?_
    refine pj_goto (pc := 15) (tgt := 19) dX9_assent_15 (by decide) ?_
    refine pl_iconst (pc := 19) (v := 1) dX9_assent_19 (by rfl) ?_
    refine pl_callVd (pc := 20) (As := [_, _]) (C2 := 0) (N2 := 0) ckX9 mdX9_bad rfl q2631 q2633 qs50 q154 dX9_assent_20 rfl rfl (Nat.le_of_ble_eq_true rfl) (mm_o hA) (w_bad_1 (d := d - 1) (by omega) hA) (by omega) (by decide) (by decide) ?_
    refine pj_if_eq (pc := 23) (tgt := 28) dX9_assent_23 (by decide) (fun h => absurd h (by decide)) (fun _ => ?_)
    refine pl_iconst (pc := 26) (v := 0) dX9_assent_26 (by rfl) ?_
    refine pj_iret (pc := 27) dX9_assent_27 rfl ?_
    exact ⟨vIe (by simp [p_assent, c11]) rfl, congrArg (mm g ad μ) (by simp [p_assent, c11])⟩
