set_option maxRecDepth 100000
theorem vrun_cg {σ τ : MS} (h8 : σ.2.1 8 = τ.2.1 8) (h9 : σ.2.1 9 = τ.2.1 9) {wk so pe gr : Int32} : ∀ n k top pile, vrun σ wk so pe gr n k top pile = vrun τ wk so pe gr n k top pile
  | 0, _, _, _ => rfl
  | n + 1, k, top, pile => by
    have e : vstep σ wk so pe gr k top pile = vstep τ wk so pe gr k top pile := by simp only [vstep, cd, nm, h8, h9]
    unfold vrun
    rw [e]
    simp only [cd, h8, vrun_cg h8 h9 n]
theorem Wc_cg {σ τ : MS} {nl : Nat} (h8 : σ.2.1 8 = τ.2.1 8) (h9 : σ.2.1 9 = τ.2.1 9) (h10 : σ.2.1 10 = τ.2.1 10) (h : Wc σ nl) : Wc τ nl := by
  intro l hl name hname h0
  rw [← h10] at h0 ⊢
  obtain ⟨ca, h1, h2, h3⟩ := h l hl name hname h0
  refine ⟨ca, h1, h2, fun wk so pe gr pile => ?_⟩
  obtain ⟨r, hr⟩ := h3 wk so pe gr pile
  exact ⟨r, (vrun_cg h8 h9 _ _ _ _).symm.trans hr⟩
abbrev sM (σ : MS) (n nl name : Nat) (gr : Int32) : MS := sA σ 13 (meanV σ n nl name gr).2
def p_means (σ : MS) (n nl : Nat) (name c : Int32) : Int32 × MS :=
  if ¬ c = -1 ∧ inN c 96 = false then (nI 0, th σ 1) else if name < 0 then (nI 0, th σ 2) else if ¬ name < nI 8 then (nI 0, th σ 2)
  else (let gr := if ¬ 0 ≤ c then nI 0 else (s0 σ).2.1 3 (tN c); ((meanV (s0 σ) n nl (tN name) gr).1, sM (s0 σ) n nl (tN name) gr))
def p_why (σ : MS) (nl : Nat) (name : Int32) : Int32 × MS := if name < 0 then (nI 0, th σ 1) else if ¬ name < nI 8 then (nI 0, th σ 1) else (lawI (s0 σ) nl (tN name), s0 σ)
def closeS (σ : MS) (l : Nat) (v : Int32) : MS := let σ1 := sR σ (1568 + 6 * l + 0) v; sR σ1 (1568 + 6 * l + 3) (row σ1 2116)
def p_close (σ : MS) (n nl : Nat) (l : Int32) : Int32 × MS :=
  if inN l nl = false then (nI 0, th σ 1)
  else (let σ := s0 σ; let l := tN l; if ¬ lawv σ l 0 = 0 then (-1, σ) else if lawv σ l 1 ≤ lawv σ l 2 then (nI 1, closeS σ l (nI 1)) else if lawv σ l 1 < (meanV σ n nl 5 (nI 0)).1 then (nI 1, closeS (sM σ n nl 5 (nI 0)) l (nI 1)) else (nI 2, closeS (sM σ n nl 5 (nI 0)) l (nI 2)))
def homeV (σ : MS) (nw : Nat) : Int32 × (Nat → Int32) := if nw < 34 then (nI 20, σ.2.1 13) else (let l := tellerV σ (σ.2.1 14 (7 * (nw - 34) + 6)) 0; if l = -1 then (nI 20, σ.2.1 13) else (let r := valV σ (tN l) 0 (nI (nw - 34)) (σ.2.1 14 (7 * (nw - 34) + 1)) (σ.2.1 14 (7 * (nw - 34) + 0)) (nI 0); (boundedV 0 r.1, r.2)))
abbrev sH (σ : MS) (nw : Nat) : MS := sA σ 13 (homeV σ nw).2
def p_quoted (σ : MS) (nw : Nat) : Int32 × MS := ((homeV (s0 σ) nw).1, sH (s0 σ) nw)
def sellS (σ : MS) (n nl p c : Nat) (v law : Int32) : MS := let part := v * (meanV σ n nl 1 (nI 0)).1 / nI 100; let σ := sM σ n nl 1 (nI 0); let σ := s_pays σ p (-v); let σ := sR σ 2119 (row σ 2119 + part); let σ := sR σ 2118 (row σ 2118 + (v - part)); let σ := s_holds σ c (nI 3) (nI p); let σ := sR σ (8 * c + 5) v; let σ := sR σ (8 * c + 6) law; s_owns σ p
def p_sells (σ : MS) (n nl p c : Nat) : Int32 × MS := let m := meanV σ n nl 0 (σ.2.1 3 c); let σ := sA σ 13 m.2; if ¬ m.1 ≤ per σ p 1 then (-3, σ) else (m.1, sellS σ n nl p c m.1 (if ¬ σ.1 23 ≤ 0 then -1 else lawI σ nl 0))
def p_buy (σ : MS) (n nl : Nat) (p c : Int32) : Int32 × MS :=
  if inN p n = false then (nI 0, th σ 1) else if inN c 96 = false then (nI 0, th σ 1)
  else (let σ := s0 σ; if decide (nI 2 ≤ per σ (tN p) 2) = false then (-1, σ) else if ¬ sec σ (tN c) 0 = nI 1 then (-2, σ) else p_sells σ n nl (tN p) (tN c))
set_option maxHeartbeats 4000000 in
theorem w_X9_means {g : GP} {ad : Nat → Nat} {μ : Mem} {σ : MS} {d : Nat} {name : Int32} {c : Int32} {n nl : Nat} (hd : 5 ≤ d) (hA : Inj ad 18) (hn : row σ 2124 = nI n) (hP : n ≤ 100) (hl : row σ 2125 = nI nl) (hL : nl ≤ 12) (hw : Wc σ nl) : PM g yX9_means (ws_ yX9_means cX9_means 3 (some .int)) d 0 0 [.ref (ad 0), .int name, .int c] (mm g ad μ σ) (rQ (some (.int ((p_means σ n nl name c).1))) (mm g ad μ ((p_means σ n nl name c).2))) := by
  refine PM.of (by decide +kernel) (Nat.le_of_ble_eq_true rfl) ?_
  show PJ g _ _ _ _ d 0 0 0 [(0, .ref (ad 0)), (1, .int name), (2, .int c)] [] _ _
  refine pl_aload_n (pc := 0) dX9_means_0 rfl rfl ?_
  refine pl_iconst (pc := 1) (v := 0) dX9_means_1 (by rfl) ?_
  refine pm_putI (pc := 2) 0 hA q2516 dX9_means_2 (by decide) rfl (by rfl) (by rfl) rfl ?_
  refine pl_aload_n (pc := 5) dX9_means_5 rfl rfl ?_
  refine pl_iload_n (pc := 6) dX9_means_6 rfl rfl ?_
  refine pj_iconst (pc := 7) (v := (-1)) dX9_means_7 (by rfl) ?_
  refine pj_icmp_eq (pc := 8) (tgt := 23) dX9_means_8 (by decide) (fun c8 => ?_) (fun c8 => ?_)
  · refine pl_iconst (pc := 23) (v := 0) dX9_means_23 (by rfl) ?_
    refine pl_iconst (pc := 24) (v := 1) dX9_means_24 (by rfl) ?_
    refine pl_callVd (pc := 25) (As := [_, _]) (C2 := 0) (N2 := 0) ckX9 mdX9_bad rfl q2631 q2633 qs50 q154 dX9_means_25 rfl rfl (Nat.le_of_ble_eq_true rfl) (mm_o hA) (w_bad_0 (d := d - 1) (by omega) hA) (by omega) (by decide) (by decide) ?_
    refine pj_if_ne (pc := 28) (tgt := 54) dX9_means_28 (by decide) (fun h => absurd h (by decide)) (fun _ => ?_)
    refine pl_aload_n (pc := 31) dX9_means_31 rfl rfl ?_
    refine pl_iload_n (pc := 32) dX9_means_32 rfl rfl ?_
    refine pj_if_lt (pc := 33) (tgt := 42) dX9_means_33 (by decide) (fun c33 => ?_) (fun c33 => ?_)
    · refine pl_iconst (pc := 42) (v := 1) dX9_means_42 (by rfl) ?_
      refine pj_goto (pc := 43) (tgt := 47) dX9_means_43 (by decide) ?_
      refine pl_iconst (pc := 47) (v := 2) dX9_means_47 (by rfl) ?_
      refine pl_callVd (pc := 48) (As := [_, _]) (C2 := 0) (N2 := 0) ckX9 mdX9_bad rfl q2631 q2633 qs50 q154 dX9_means_48 rfl rfl (Nat.le_of_ble_eq_true rfl) (mm_o hA) (w_bad_1 (d := d - 1) (by omega) hA) (by omega) (by decide) (by decide) ?_
      refine pj_if_eq (pc := 51) (tgt := 56) dX9_means_51 (by decide) (fun h => absurd h (by decide)) (fun _ => ?_)
      refine pl_iconst (pc := 54) (v := 0) dX9_means_54 (by rfl) ?_
      refine pj_iret (pc := 55) dX9_means_55 rfl ?_
      exact ⟨vIe (by simp [p_means, eq_true c8, c33]) rfl, congrArg (mm g ad μ) (by simp [p_means, eq_true c8, c33])⟩
    · refine pl_iload_n (pc := 36) dX9_means_36 rfl rfl ?_
      refine pl_bipush (pc := 37) (v := 8) dX9_means_37 (by rfl) ?_
      refine pj_icmp_lt (pc := 39) (tgt := 46) dX9_means_39 (by decide) (fun c39 => ?_) (fun c39 => ?_)
      · refine pl_iconst (pc := 46) (v := 0) dX9_means_46 (by rfl) ?_
        refine pl_iconst (pc := 47) (v := 2) dX9_means_47 (by rfl) ?_
        refine pl_callVd (pc := 48) (As := [_, _]) (C2 := 0) (N2 := 0) ckX9 mdX9_bad rfl q2631 q2633 qs50 q154 dX9_means_48 rfl rfl (Nat.le_of_ble_eq_true rfl) (mm_o hA) (w_bad_0 (d := d - 1) (by omega) hA) (by omega) (by decide) (by decide) ?_
        refine pj_if_eq (pc := 51) (tgt := 56) dX9_means_51 (by decide) (fun _ => ?_) (fun h => absurd h (by decide))
        refine pl_aload_n (pc := 56) dX9_means_56 rfl rfl ?_
        obtain ⟨j_name, hj_name, rfl⟩ := inN_of (n := 8) (by omega) (inN_ok c33 (Int32.not_le.mpr c39))
        have f_name := inN_nI hj_name (by omega)
        have g_name := nI_clamp (n := j_name) (by omega)
        refine pl_iload_n (pc := 57) dX9_means_57 rfl rfl ?_
        refine pl_iload_n (pc := 58) dX9_means_58 rfl rfl ?_
        refine pj_if_ge (pc := 59) (tgt := 66) dX9_means_59 (by decide) (fun c59 => ?_) (fun c59 => ?_)
        · rw [c8] at c59
          exact absurd c59 (by decide)
        · refine pl_iconst (pc := 62) (v := 0) dX9_means_62 (by rfl) ?_
          refine pj_goto (pc := 63) (tgt := 72) dX9_means_63 (by decide) ?_
          refine pl_callVd (pc := 72) (As := [_, _]) (C2 := 0) (N2 := 0) ckX9 mdX9_meaning rfl q2926 q2928 qs92 q154 dX9_means_72 rfl rfl (Nat.le_of_ble_eq_true rfl) (mm_o hA) (w_X9_meaning (d := d - 1) (by omega) hA hn hP hl hL (Wc_cg (σ := σ) rfl rfl rfl hw) (by omega)) (by omega) (by decide) (by decide) ?_
          refine pj_iret (pc := 75) dX9_means_75 rfl ?_
          exact ⟨vIe (by simp [p_means, eq_true c8, c33, c39, f_name, g_name, c59]) rfl, congrArg (mm g ad μ) (by simp [p_means, eq_true c8, c33, c39, f_name, g_name, c59])⟩
      · refine pl_iconst (pc := 42) (v := 1) dX9_means_42 (by rfl) ?_
        refine pj_goto (pc := 43) (tgt := 47) dX9_means_43 (by decide) ?_
        refine pl_iconst (pc := 47) (v := 2) dX9_means_47 (by rfl) ?_
        refine pl_callVd (pc := 48) (As := [_, _]) (C2 := 0) (N2 := 0) ckX9 mdX9_bad rfl q2631 q2633 qs50 q154 dX9_means_48 rfl rfl (Nat.le_of_ble_eq_true rfl) (mm_o hA) (w_bad_1 (d := d - 1) (by omega) hA) (by omega) (by decide) (by decide) ?_
        refine pj_if_eq (pc := 51) (tgt := 56) dX9_means_51 (by decide) (fun h => absurd h (by decide)) (fun _ => ?_)
        refine pl_iconst (pc := 54) (v := 0) dX9_means_54 (by rfl) ?_
        refine pj_iret (pc := 55) dX9_means_55 rfl ?_
        exact ⟨vIe (by simp [p_means, eq_true c8, c33, c39]) rfl, congrArg (mm g ad μ) (by simp [p_means, eq_true c8, c33, c39])⟩
  · refine pl_aload_n (pc := 11) dX9_means_11 rfl rfl ?_
    refine pl_iload_n (pc := 12) dX9_means_12 rfl rfl ?_
    refine pl_callVd (pc := 13) (As := [_]) (C2 := 0) (N2 := 0) ckX9 mdX9_isSection rfl q2627 q2629 qs49 q154 dX9_means_13 rfl rfl (Nat.le_of_ble_eq_true rfl) (mm_o hA) (w_X9_isSection (d := d - 1) (by omega) hA) (by omega) (by decide) (by decide) ?_
    refine pl_if_neB (pc := 16) (tgt := 23) dX9_means_16 (by decide) (fun c16 => ?_) (fun c16 => ?_)
    · obtain ⟨j_c, hj_c, rfl⟩ := inN_of (by decide) c16
      have f_c := inN_nI hj_c (by omega)
      have g_c := nI_clamp (n := j_c) (by omega)
      refine pl_iconst (pc := 23) (v := 0) dX9_means_23 (by rfl) ?_
      refine pl_iconst (pc := 24) (v := 1) dX9_means_24 (by rfl) ?_
      refine pl_callVd (pc := 25) (As := [_, _]) (C2 := 0) (N2 := 0) ckX9 mdX9_bad rfl q2631 q2633 qs50 q154 dX9_means_25 rfl rfl (Nat.le_of_ble_eq_true rfl) (mm_o hA) (w_bad_0 (d := d - 1) (by omega) hA) (by omega) (by decide) (by decide) ?_
      refine pj_if_ne (pc := 28) (tgt := 54) dX9_means_28 (by decide) (fun h => absurd h (by decide)) (fun _ => ?_)
      refine pl_aload_n (pc := 31) dX9_means_31 rfl rfl ?_
      refine pl_iload_n (pc := 32) dX9_means_32 rfl rfl ?_
      refine pj_if_lt (pc := 33) (tgt := 42) dX9_means_33 (by decide) (fun c33 => ?_) (fun c33 => ?_)
      · refine pl_iconst (pc := 42) (v := 1) dX9_means_42 (by rfl) ?_
        refine pj_goto (pc := 43) (tgt := 47) dX9_means_43 (by decide) ?_
        refine pl_iconst (pc := 47) (v := 2) dX9_means_47 (by rfl) ?_
        refine pl_callVd (pc := 48) (As := [_, _]) (C2 := 0) (N2 := 0) ckX9 mdX9_bad rfl q2631 q2633 qs50 q154 dX9_means_48 rfl rfl (Nat.le_of_ble_eq_true rfl) (mm_o hA) (w_bad_1 (d := d - 1) (by omega) hA) (by omega) (by decide) (by decide) ?_
        refine pj_if_eq (pc := 51) (tgt := 56) dX9_means_51 (by decide) (fun h => absurd h (by decide)) (fun _ => ?_)
        refine pl_iconst (pc := 54) (v := 0) dX9_means_54 (by rfl) ?_
        refine pj_iret (pc := 55) dX9_means_55 rfl ?_
        exact ⟨vIe (by simp [p_means, c8, c16, f_c, g_c, c33]) rfl, congrArg (mm g ad μ) (by simp [p_means, c8, c16, f_c, g_c, c33])⟩
      · refine pl_iload_n (pc := 36) dX9_means_36 rfl rfl ?_
        refine pl_bipush (pc := 37) (v := 8) dX9_means_37 (by rfl) ?_
        refine pj_icmp_lt (pc := 39) (tgt := 46) dX9_means_39 (by decide) (fun c39 => ?_) (fun c39 => ?_)
        · refine pl_iconst (pc := 46) (v := 0) dX9_means_46 (by rfl) ?_
          refine pl_iconst (pc := 47) (v := 2) dX9_means_47 (by rfl) ?_
          refine pl_callVd (pc := 48) (As := [_, _]) (C2 := 0) (N2 := 0) ckX9 mdX9_bad rfl q2631 q2633 qs50 q154 dX9_means_48 rfl rfl (Nat.le_of_ble_eq_true rfl) (mm_o hA) (w_bad_0 (d := d - 1) (by omega) hA) (by omega) (by decide) (by decide) ?_
          refine pj_if_eq (pc := 51) (tgt := 56) dX9_means_51 (by decide) (fun _ => ?_) (fun h => absurd h (by decide))
          refine pl_aload_n (pc := 56) dX9_means_56 rfl rfl ?_
          obtain ⟨j_name, hj_name, rfl⟩ := inN_of (n := 8) (by omega) (inN_ok c33 (Int32.not_le.mpr c39))
          have f_name := inN_nI hj_name (by omega)
          have g_name := nI_clamp (n := j_name) (by omega)
          refine pl_iload_n (pc := 57) dX9_means_57 rfl rfl ?_
          refine pl_iload_n (pc := 58) dX9_means_58 rfl rfl ?_
          refine pj_if_ge (pc := 59) (tgt := 66) dX9_means_59 (by decide) (fun _ => ?_) (fun h => absurd (nI_pos' (by omega)) h)
          have p_c : (0 : Int32) ≤ nI j_c := nI_pos' (by omega)
          refine pl_aload_n (pc := 66) dX9_means_66 rfl rfl ?_
          refine pj_getf (pc := 67) ckX9 3 q2519 dX9_means_67 (by decide) (mm_o hA) rfl ?_
          refine pl_iload_n (pc := 70) dX9_means_70 rfl rfl ?_
          refine pl_iald (pc := 71) (n := 96) dX9_means_71 (mm_a hA 3 (by decide) (by decide)) (by omega) (by decide) ?_
          refine pl_callVd (pc := 72) (As := [_, _]) (C2 := 0) (N2 := 0) ckX9 mdX9_meaning rfl q2926 q2928 qs92 q154 dX9_means_72 rfl rfl (Nat.le_of_ble_eq_true rfl) (mm_o hA) (w_X9_meaning (d := d - 1) (by omega) hA hn hP hl hL (Wc_cg (σ := σ) rfl rfl rfl hw) (by omega)) (by omega) (by decide) (by decide) ?_
          refine pj_iret (pc := 75) dX9_means_75 rfl ?_
          exact ⟨vIe (by simp [p_means, c8, c16, f_c, g_c, c33, c39, f_name, g_name, p_c]) rfl, congrArg (mm g ad μ) (by simp [p_means, c8, c16, f_c, g_c, c33, c39, f_name, g_name, p_c])⟩
        · refine pl_iconst (pc := 42) (v := 1) dX9_means_42 (by rfl) ?_
          refine pj_goto (pc := 43) (tgt := 47) dX9_means_43 (by decide) ?_
          refine pl_iconst (pc := 47) (v := 2) dX9_means_47 (by rfl) ?_
          refine pl_callVd (pc := 48) (As := [_, _]) (C2 := 0) (N2 := 0) ckX9 mdX9_bad rfl q2631 q2633 qs50 q154 dX9_means_48 rfl rfl (Nat.le_of_ble_eq_true rfl) (mm_o hA) (w_bad_1 (d := d - 1) (by omega) hA) (by omega) (by decide) (by decide) ?_
          refine pj_if_eq (pc := 51) (tgt := 56) dX9_means_51 (by decide) (fun h => absurd h (by decide)) (fun _ => ?_)
          refine pl_iconst (pc := 54) (v := 0) dX9_means_54 (by rfl) ?_
          refine pj_iret (pc := 55) dX9_means_55 rfl ?_
          exact ⟨vIe (by simp [p_means, c8, c16, f_c, g_c, c33, c39]) rfl, congrArg (mm g ad μ) (by simp [p_means, c8, c16, f_c, g_c, c33, c39])⟩
    · refine pl_iconst (pc := 19) (v := 1) dX9_means_19 (by rfl) ?_
      refine pj_goto (pc := 20) (tgt := 24) dX9_means_20 (by decide) ?_
      refine pl_iconst (pc := 24) (v := 1) dX9_means_24 (by rfl) ?_
      refine pl_callVd (pc := 25) (As := [_, _]) (C2 := 0) (N2 := 0) ckX9 mdX9_bad rfl q2631 q2633 qs50 q154 dX9_means_25 rfl rfl (Nat.le_of_ble_eq_true rfl) (mm_o hA) (w_bad_1 (d := d - 1) (by omega) hA) (by omega) (by decide) (by decide) ?_
      refine pj_if_ne (pc := 28) (tgt := 54) dX9_means_28 (by decide) (fun _ => ?_) (fun h => absurd h (by decide))
      refine pl_iconst (pc := 54) (v := 0) dX9_means_54 (by rfl) ?_
      refine pj_iret (pc := 55) dX9_means_55 rfl ?_
      exact ⟨vIe (by simp [p_means, c8, c16]) rfl, congrArg (mm g ad μ) (by simp [p_means, c8, c16])⟩
set_option maxHeartbeats 4000000 in
theorem w_X9_why {g : GP} {ad : Nat → Nat} {μ : Mem} {σ : MS} {d : Nat} {name : Int32} {nl : Nat} (hd : 3 ≤ d) (hA : Inj ad 18) (hl : row σ 2125 = nI nl) (hL : nl ≤ 12) : PM g yX9_why (ws_ yX9_why cX9_why 2 (some .int)) d 0 0 [.ref (ad 0), .int name] (mm g ad μ σ) (rQ (some (.int ((p_why σ nl name).1))) (mm g ad μ ((p_why σ nl name).2))) := by
  refine PM.of (by decide +kernel) (Nat.le_of_ble_eq_true rfl) ?_
  show PJ g _ _ _ _ d 0 0 0 [(0, .ref (ad 0)), (1, .int name)] [] _ _
  refine pl_aload_n (pc := 0) dX9_why_0 rfl rfl ?_
  refine pl_iconst (pc := 1) (v := 0) dX9_why_1 (by rfl) ?_
  refine pm_putI (pc := 2) 0 hA q2516 dX9_why_2 (by decide) rfl (by rfl) (by rfl) rfl ?_
  refine pl_aload_n (pc := 5) dX9_why_5 rfl rfl ?_
  refine pl_iload_n (pc := 6) dX9_why_6 rfl rfl ?_
  refine pj_if_lt (pc := 7) (tgt := 16) dX9_why_7 (by decide) (fun c7 => ?_) (fun c7 => ?_)
  · refine pl_iconst (pc := 16) (v := 1) dX9_why_16 (by rfl) ?_
    refine pj_goto (pc := 17) (tgt := 21) dX9_why_17 (by decide) ?_
    refine pl_iconst (pc := 21) (v := 1) dX9_why_21 (by rfl) ?_
    refine pl_callVd (pc := 22) (As := [_, _]) (C2 := 0) (N2 := 0) ckX9 mdX9_bad rfl q2631 q2633 qs50 q154 dX9_why_22 rfl rfl (Nat.le_of_ble_eq_true rfl) (mm_o hA) (w_bad_1 (d := d - 1) (by omega) hA) (by omega) (by decide) (by decide) ?_
    refine pj_if_eq (pc := 25) (tgt := 32) dX9_why_25 (by decide) (fun h => absurd h (by decide)) (fun _ => ?_)
    refine pl_iconst (pc := 28) (v := 0) dX9_why_28 (by rfl) ?_
    refine pj_goto (pc := 29) (tgt := 41) dX9_why_29 (by decide) ?_
    refine pj_iret (pc := 41) dX9_why_41 rfl ?_
    exact ⟨vIe (by simp [lawI, p_why, c7]) rfl, congrArg (mm g ad μ) (by simp [lawI, p_why, c7])⟩
  · refine pl_iload_n (pc := 10) dX9_why_10 rfl rfl ?_
    refine pl_bipush (pc := 11) (v := 8) dX9_why_11 (by rfl) ?_
    refine pj_icmp_lt (pc := 13) (tgt := 20) dX9_why_13 (by decide) (fun c13 => ?_) (fun c13 => ?_)
    · refine pl_iconst (pc := 20) (v := 0) dX9_why_20 (by rfl) ?_
      refine pl_iconst (pc := 21) (v := 1) dX9_why_21 (by rfl) ?_
      refine pl_callVd (pc := 22) (As := [_, _]) (C2 := 0) (N2 := 0) ckX9 mdX9_bad rfl q2631 q2633 qs50 q154 dX9_why_22 rfl rfl (Nat.le_of_ble_eq_true rfl) (mm_o hA) (w_bad_0 (d := d - 1) (by omega) hA) (by omega) (by decide) (by decide) ?_
      refine pj_if_eq (pc := 25) (tgt := 32) dX9_why_25 (by decide) (fun _ => ?_) (fun h => absurd h (by decide))
      obtain ⟨j_name, hj_name, rfl⟩ := inN_of (n := 8) (by omega) (inN_ok c7 (Int32.not_le.mpr c13))
      have f_name := inN_nI hj_name (by omega)
      have g_name := nI_clamp (n := j_name) (by omega)
      refine pl_aload_n (pc := 32) dX9_why_32 rfl rfl ?_
      refine pl_aload_n (pc := 33) dX9_why_33 rfl rfl ?_
      refine pl_callVd (pc := 34) (As := []) (C2 := 0) (N2 := 0) ckX9 mdX9_forces rfl q2930 q2932 qs93 q154 dX9_why_34 rfl rfl (Nat.le_of_ble_eq_true rfl) (mm_o hA) (w_X9_forces (d := d - 1) (by omega) hA (by first | omega | assumption | exact hn | exact hl | exact hb | exact hq | exact hdr | exact has) (by first | omega | assumption | exact hn | exact hl | exact hb | exact hq | exact hdr | exact has)) (by omega) (by decide) (by decide) ?_
      refine pl_iload_n (pc := 37) dX9_why_37 rfl rfl ?_
      refine pl_callVd (pc := 38) (As := [_, _]) (C2 := 0) (N2 := 0) ckX9 mdX9_teller rfl q2941 q2943 qs95 q154 dX9_why_38 rfl rfl (Nat.le_of_ble_eq_true rfl) (mm_o hA) (w_X9_teller (d := d - 1) (by omega) hA (by first | omega | assumption | exact hn | exact hl | exact hb | exact hq | exact hdr | exact has)) (by omega) (by decide) (by decide) ?_
      refine pj_iret (pc := 41) dX9_why_41 rfl ?_
      exact ⟨vIe (by simp [lawI, p_why, c7, c13, f_name, g_name]) rfl, congrArg (mm g ad μ) (by simp [lawI, p_why, c7, c13, f_name, g_name])⟩
    · refine pl_iconst (pc := 16) (v := 1) dX9_why_16 (by rfl) ?_
      refine pj_goto (pc := 17) (tgt := 21) dX9_why_17 (by decide) ?_
      refine pl_iconst (pc := 21) (v := 1) dX9_why_21 (by rfl) ?_
      refine pl_callVd (pc := 22) (As := [_, _]) (C2 := 0) (N2 := 0) ckX9 mdX9_bad rfl q2631 q2633 qs50 q154 dX9_why_22 rfl rfl (Nat.le_of_ble_eq_true rfl) (mm_o hA) (w_bad_1 (d := d - 1) (by omega) hA) (by omega) (by decide) (by decide) ?_
      refine pj_if_eq (pc := 25) (tgt := 32) dX9_why_25 (by decide) (fun h => absurd h (by decide)) (fun _ => ?_)
      refine pl_iconst (pc := 28) (v := 0) dX9_why_28 (by rfl) ?_
      refine pj_goto (pc := 29) (tgt := 41) dX9_why_29 (by decide) ?_
      refine pj_iret (pc := 41) dX9_why_41 rfl ?_
      exact ⟨vIe (by simp [lawI, p_why, c7, c13]) rfl, congrArg (mm g ad μ) (by simp [lawI, p_why, c7, c13])⟩
set_option maxHeartbeats 4000000 in
theorem w_X9_close {g : GP} {ad : Nat → Nat} {μ : Mem} {σ : MS} {d : Nat} {l : Int32} {n nl : Nat} (hd : 5 ≤ d) (hA : Inj ad 18) (hn : row σ 2124 = nI n) (hP : n ≤ 100) (hl : row σ 2125 = nI nl) (hL : nl ≤ 12) (hw : Wc σ nl) : PM g yX9_close (ws_ yX9_close cX9_close 4 (some .int)) d 0 0 [.ref (ad 0), .int l] (mm g ad μ σ) (rQ (some (.int ((p_close σ n nl l).1))) (mm g ad μ ((p_close σ n nl l).2))) := by
  refine PM.of (by decide +kernel) (Nat.le_of_ble_eq_true rfl) ?_
  show PJ g _ _ _ _ d 0 0 0 [(0, .ref (ad 0)), (1, .int l)] [] _ _
  refine pl_aload_n (pc := 0) dX9_close_0 rfl rfl ?_
  refine pl_iconst (pc := 1) (v := 0) dX9_close_1 (by rfl) ?_
  refine pm_putI (pc := 2) 0 hA q2516 dX9_close_2 (by decide) rfl (by rfl) (by rfl) rfl ?_
  refine pl_aload_n (pc := 5) dX9_close_5 rfl rfl ?_
  refine pl_aload_n (pc := 6) dX9_close_6 rfl rfl ?_
  refine pl_iload_n (pc := 7) dX9_close_7 rfl rfl ?_
  refine pl_callVd (pc := 8) (As := [_]) (C2 := 0) (N2 := 0) ckX9 mdX9_isLaw rfl q2974 q2976 qs99 q154 dX9_close_8 rfl rfl (Nat.le_of_ble_eq_true rfl) (mm_o hA) (w_X9_isLaw (d := d - 1) (by omega) hA (by first | omega | assumption | exact hn | exact hl | exact hb | exact hq | exact hdr | exact has)) (by omega) (by decide) (by decide) ?_
  refine pl_if_neB (pc := 11) (tgt := 18) dX9_close_11 (by decide) (fun c11 => ?_) (fun c11 => ?_)
  · obtain ⟨j_l, hj_l, rfl⟩ := inN_of (by omega) c11
    have f_l := inN_nI hj_l (by omega)
    have g_l := nI_clamp (n := j_l) (by omega)
    refine pl_iconst (pc := 18) (v := 0) dX9_close_18 (by rfl) ?_
    refine pl_iconst (pc := 19) (v := 1) dX9_close_19 (by rfl) ?_
    refine pl_callVd (pc := 20) (As := [_, _]) (C2 := 0) (N2 := 0) ckX9 mdX9_bad rfl q2631 q2633 qs50 q154 dX9_close_20 rfl rfl (Nat.le_of_ble_eq_true rfl) (mm_o hA) (w_bad_0 (d := d - 1) (by omega) hA) (by omega) (by decide) (by decide) ?_
    refine pj_if_eq (pc := 23) (tgt := 28) dX9_close_23 (by decide) (fun _ => ?_) (fun h => absurd h (by decide))
    refine pl_aload_n (pc := 28) dX9_close_28 rfl rfl ?_
    refine pl_iload_n (pc := 29) dX9_close_29 rfl rfl ?_
    refine pl_iconst (pc := 30) (v := 0) dX9_close_30 (by rfl) ?_
    refine pl_callVd (pc := 31) (As := [_, _]) (C2 := 0) (N2 := 0) ckX9 mdX9_ofLaw rfl q2934 q2936 qs94 q154 dX9_close_31 rfl rfl (Nat.le_of_ble_eq_true rfl) (mm_o hA) (w_X9_ofLaw (d := d - 1) (by omega) hA (by omega) (by decide)) (by omega) (by decide) (by decide) ?_
    refine pj_if_eq (pc := 34) (tgt := 39) dX9_close_34 (by decide) (fun c34 => ?_) (fun c34 => ?_)
    · refine pl_aload_n (pc := 39) dX9_close_39 rfl rfl ?_
      refine pl_iload_n (pc := 40) dX9_close_40 rfl rfl ?_
      refine pl_iconst (pc := 41) (v := 1) dX9_close_41 (by rfl) ?_
      refine pl_callVd (pc := 42) (As := [_, _]) (C2 := 0) (N2 := 0) ckX9 mdX9_ofLaw rfl q2934 q2936 qs94 q154 dX9_close_42 rfl rfl (Nat.le_of_ble_eq_true rfl) (mm_o hA) (w_X9_ofLaw (d := d - 1) (by omega) hA (by omega) (by decide)) (by omega) (by decide) (by decide) ?_
      refine pj_istore_n (pc := 45) (lv' := [(2, _), (0, _), (1, _)]) dX9_close_45 rfl (by decide) rfl ?_
      refine pl_iload_n (pc := 46) dX9_close_46 rfl rfl ?_
      refine pl_aload_n (pc := 47) dX9_close_47 rfl rfl ?_
      refine pl_iload_n (pc := 48) dX9_close_48 rfl rfl ?_
      refine pl_iconst (pc := 49) (v := 2) dX9_close_49 (by rfl) ?_
      refine pl_callVd (pc := 50) (As := [_, _]) (C2 := 0) (N2 := 0) ckX9 mdX9_ofLaw rfl q2934 q2936 qs94 q154 dX9_close_50 rfl rfl (Nat.le_of_ble_eq_true rfl) (mm_o hA) (w_X9_ofLaw (d := d - 1) (by omega) hA (by omega) (by decide)) (by omega) (by decide) (by decide) ?_
      refine pj_icmp_le (pc := 53) (tgt := 70) dX9_close_53 (by decide) (fun c53 => ?_) (fun c53 => ?_)
      · refine pl_iconst (pc := 70) (v := 0) dX9_close_70 (by rfl) ?_
        refine pj_istore_n (pc := 71) (lv' := [(3, _), (2, _), (0, _), (1, _)]) dX9_close_71 rfl (by decide) rfl ?_
        refine pl_aload_n (pc := 72) dX9_close_72 rfl rfl ?_
        refine pj_getf (pc := 73) ckX9 1 q2517 dX9_close_73 (by decide) (mm_o hA) rfl ?_
        refine pl_sipush (pc := 76) (v := 1568) dX9_close_76 (by rfl) ?_
        refine pl_bipush (pc := 79) (v := 6) dX9_close_79 (by rfl) ?_
        refine pl_iload_n (pc := 81) dX9_close_81 rfl rfl ?_
        refine pl_imul (pc := 82) dX9_close_82 ?_
        refine pl_iadd (pc := 83) dX9_close_83 ?_
        refine pl_iconst (pc := 84) (v := 0) dX9_close_84 (by rfl) ?_
        refine pl_iadd (pc := 85) dX9_close_85 ?_
        refine pl_iload_n (pc := 86) dX9_close_86 rfl rfl ?_
        refine pj_if_eq (pc := 87) (tgt := 94) dX9_close_87 (by decide) (fun _ => ?_) (fun h => absurd h (by decide))
        refine pl_iconst (pc := 94) (v := 1) dX9_close_94 (by rfl) ?_
        refine pm_iast (pc := 95) 1 hA (by decide) (by decide) rfl dX9_close_95 (show _ < 2132 by omega) (by decide) ?_
        refine pl_aload_n (pc := 96) dX9_close_96 rfl rfl ?_
        refine pj_getf (pc := 97) ckX9 1 q2517 dX9_close_97 (by decide) (mm_o hA) rfl ?_
        refine pl_sipush (pc := 100) (v := 1568) dX9_close_100 (by rfl) ?_
        refine pl_bipush (pc := 103) (v := 6) dX9_close_103 (by rfl) ?_
        refine pl_iload_n (pc := 105) dX9_close_105 rfl rfl ?_
        refine pl_imul (pc := 106) dX9_close_106 ?_
        refine pl_iadd (pc := 107) dX9_close_107 ?_
        refine pl_iconst (pc := 108) (v := 3) dX9_close_108 (by rfl) ?_
        refine pl_iadd (pc := 109) dX9_close_109 ?_
        refine pl_aload_n (pc := 110) dX9_close_110 rfl rfl ?_
        refine pj_getf (pc := 111) ckX9 1 q2517 dX9_close_111 (by decide) (mm_o hA) rfl ?_
        refine pl_sipush (pc := 114) (v := 2116) dX9_close_114 (by rfl) ?_
        refine pl_iald (pc := 117) (n := 2132) dX9_close_117 (mm_a hA 1 (by decide) (by decide)) (by omega) (by decide) ?_
        refine pm_iast (pc := 118) 1 hA (by decide) (by decide) rfl dX9_close_118 (show _ < 2132 by omega) (by decide) ?_
        refine pl_iload_n (pc := 119) dX9_close_119 rfl rfl ?_
        refine pj_if_eq (pc := 120) (tgt := 127) dX9_close_120 (by decide) (fun _ => ?_) (fun h => absurd h (by decide))
        refine pl_iconst (pc := 127) (v := 1) dX9_close_127 (by rfl) ?_
        refine pj_iret (pc := 128) dX9_close_128 rfl ?_
        exact ⟨vIe (by simp [closeS, p_close, c11, f_l, g_l, eq_true c34, c53]) rfl, congrArg (mm g ad μ) (by simp [closeS, p_close, c11, f_l, g_l, eq_true c34, c53])⟩
      · refine pl_iload_n (pc := 56) dX9_close_56 rfl rfl ?_
        refine pl_aload_n (pc := 57) dX9_close_57 rfl rfl ?_
        refine pl_iconst (pc := 58) (v := 5) dX9_close_58 (by rfl) ?_
        refine pl_iconst (pc := 59) (v := 0) dX9_close_59 (by rfl) ?_
        refine pl_callVd (pc := 60) (As := [_, _]) (C2 := 0) (N2 := 0) ckX9 mdX9_meaning rfl q2926 q2928 qs92 q154 dX9_close_60 rfl rfl (Nat.le_of_ble_eq_true rfl) (mm_o hA) (w_X9_meaning (d := d - 1) (by omega) hA hn hP hl hL (Wc_cg (σ := σ) rfl rfl rfl hw) (by omega)) (by omega) (by decide) (by decide) ?_
        refine pj_icmp_lt (pc := 63) (tgt := 70) dX9_close_63 (by decide) (fun c63 => ?_) (fun c63 => ?_)
        · refine pl_iconst (pc := 70) (v := 0) dX9_close_70 (by rfl) ?_
          refine pj_istore_n (pc := 71) (lv' := [(3, _), (2, _), (0, _), (1, _)]) dX9_close_71 rfl (by decide) rfl ?_
          refine pl_aload_n (pc := 72) dX9_close_72 rfl rfl ?_
          refine pj_getf (pc := 73) ckX9 1 q2517 dX9_close_73 (by decide) (mm_o hA) rfl ?_
          refine pl_sipush (pc := 76) (v := 1568) dX9_close_76 (by rfl) ?_
          refine pl_bipush (pc := 79) (v := 6) dX9_close_79 (by rfl) ?_
          refine pl_iload_n (pc := 81) dX9_close_81 rfl rfl ?_
          refine pl_imul (pc := 82) dX9_close_82 ?_
          refine pl_iadd (pc := 83) dX9_close_83 ?_
          refine pl_iconst (pc := 84) (v := 0) dX9_close_84 (by rfl) ?_
          refine pl_iadd (pc := 85) dX9_close_85 ?_
          refine pl_iload_n (pc := 86) dX9_close_86 rfl rfl ?_
          refine pj_if_eq (pc := 87) (tgt := 94) dX9_close_87 (by decide) (fun _ => ?_) (fun h => absurd h (by decide))
          refine pl_iconst (pc := 94) (v := 1) dX9_close_94 (by rfl) ?_
          refine pm_iast (pc := 95) 1 hA (by decide) (by decide) rfl dX9_close_95 (show _ < 2132 by omega) (by decide) ?_
          refine pl_aload_n (pc := 96) dX9_close_96 rfl rfl ?_
          refine pj_getf (pc := 97) ckX9 1 q2517 dX9_close_97 (by decide) (mm_o hA) rfl ?_
          refine pl_sipush (pc := 100) (v := 1568) dX9_close_100 (by rfl) ?_
          refine pl_bipush (pc := 103) (v := 6) dX9_close_103 (by rfl) ?_
          refine pl_iload_n (pc := 105) dX9_close_105 rfl rfl ?_
          refine pl_imul (pc := 106) dX9_close_106 ?_
          refine pl_iadd (pc := 107) dX9_close_107 ?_
          refine pl_iconst (pc := 108) (v := 3) dX9_close_108 (by rfl) ?_
          refine pl_iadd (pc := 109) dX9_close_109 ?_
          refine pl_aload_n (pc := 110) dX9_close_110 rfl rfl ?_
          refine pj_getf (pc := 111) ckX9 1 q2517 dX9_close_111 (by decide) (mm_o hA) rfl ?_
          refine pl_sipush (pc := 114) (v := 2116) dX9_close_114 (by rfl) ?_
          refine pl_iald (pc := 117) (n := 2132) dX9_close_117 (mm_a hA 1 (by decide) (by decide)) (by omega) (by decide) ?_
          refine pm_iast (pc := 118) 1 hA (by decide) (by decide) rfl dX9_close_118 (show _ < 2132 by omega) (by decide) ?_
          refine pl_iload_n (pc := 119) dX9_close_119 rfl rfl ?_
          refine pj_if_eq (pc := 120) (tgt := 127) dX9_close_120 (by decide) (fun _ => ?_) (fun h => absurd h (by decide))
          refine pl_iconst (pc := 127) (v := 1) dX9_close_127 (by rfl) ?_
          refine pj_iret (pc := 128) dX9_close_128 rfl ?_
          exact ⟨vIe (by simp [closeS, p_close, c11, f_l, g_l, eq_true c34, c53, c63]) rfl, congrArg (mm g ad μ) (by simp [closeS, p_close, c11, f_l, g_l, eq_true c34, c53, c63])⟩
        · refine pl_iconst (pc := 66) (v := 1) dX9_close_66 (by rfl) ?_
          refine pj_goto (pc := 67) (tgt := 71) dX9_close_67 (by decide) ?_
          refine pj_istore_n (pc := 71) (lv' := [(3, _), (2, _), (0, _), (1, _)]) dX9_close_71 rfl (by decide) rfl ?_
          refine pl_aload_n (pc := 72) dX9_close_72 rfl rfl ?_
          refine pj_getf (pc := 73) ckX9 1 q2517 dX9_close_73 (by decide) (mm_o hA) rfl ?_
          refine pl_sipush (pc := 76) (v := 1568) dX9_close_76 (by rfl) ?_
          refine pl_bipush (pc := 79) (v := 6) dX9_close_79 (by rfl) ?_
          refine pl_iload_n (pc := 81) dX9_close_81 rfl rfl ?_
          refine pl_imul (pc := 82) dX9_close_82 ?_
          refine pl_iadd (pc := 83) dX9_close_83 ?_
          refine pl_iconst (pc := 84) (v := 0) dX9_close_84 (by rfl) ?_
          refine pl_iadd (pc := 85) dX9_close_85 ?_
          refine pl_iload_n (pc := 86) dX9_close_86 rfl rfl ?_
          refine pj_if_eq (pc := 87) (tgt := 94) dX9_close_87 (by decide) (fun h => absurd h (by decide)) (fun _ => ?_)
          refine pl_iconst (pc := 90) (v := 2) dX9_close_90 (by rfl) ?_
          refine pj_goto (pc := 91) (tgt := 95) dX9_close_91 (by decide) ?_
          refine pm_iast (pc := 95) 1 hA (by decide) (by decide) rfl dX9_close_95 (show _ < 2132 by omega) (by decide) ?_
          refine pl_aload_n (pc := 96) dX9_close_96 rfl rfl ?_
          refine pj_getf (pc := 97) ckX9 1 q2517 dX9_close_97 (by decide) (mm_o hA) rfl ?_
          refine pl_sipush (pc := 100) (v := 1568) dX9_close_100 (by rfl) ?_
          refine pl_bipush (pc := 103) (v := 6) dX9_close_103 (by rfl) ?_
          refine pl_iload_n (pc := 105) dX9_close_105 rfl rfl ?_
          refine pl_imul (pc := 106) dX9_close_106 ?_
          refine pl_iadd (pc := 107) dX9_close_107 ?_
          refine pl_iconst (pc := 108) (v := 3) dX9_close_108 (by rfl) ?_
          refine pl_iadd (pc := 109) dX9_close_109 ?_
          refine pl_aload_n (pc := 110) dX9_close_110 rfl rfl ?_
          refine pj_getf (pc := 111) ckX9 1 q2517 dX9_close_111 (by decide) (mm_o hA) rfl ?_
          refine pl_sipush (pc := 114) (v := 2116) dX9_close_114 (by rfl) ?_
          refine pl_iald (pc := 117) (n := 2132) dX9_close_117 (mm_a hA 1 (by decide) (by decide)) (by omega) (by decide) ?_
          refine pm_iast (pc := 118) 1 hA (by decide) (by decide) rfl dX9_close_118 (show _ < 2132 by omega) (by decide) ?_
          refine pl_iload_n (pc := 119) dX9_close_119 rfl rfl ?_
          refine pj_if_eq (pc := 120) (tgt := 127) dX9_close_120 (by decide) (fun h => absurd h (by decide)) (fun _ => ?_)
          refine pl_iconst (pc := 123) (v := 2) dX9_close_123 (by rfl) ?_
          refine pj_goto (pc := 124) (tgt := 128) dX9_close_124 (by decide) ?_
          refine pj_iret (pc := 128) dX9_close_128 rfl ?_
          exact ⟨vIe (by simp [closeS, p_close, c11, f_l, g_l, eq_true c34, c53, c63]) rfl, congrArg (mm g ad μ) (by simp [closeS, p_close, c11, f_l, g_l, eq_true c34, c53, c63])⟩
    · refine pj_iconst (pc := 37) (v := (-1)) dX9_close_37 (by rfl) ?_
      refine pj_iret (pc := 38) dX9_close_38 rfl ?_
      exact ⟨vIe (by simp [closeS, p_close, c11, f_l, g_l, c34]) rfl, congrArg (mm g ad μ) (by simp [closeS, p_close, c11, f_l, g_l, c34])⟩
  · refine pl_iconst (pc := 14) (v := 1) dX9_close_14 (by rfl) ?_
    refine pj_goto (pc := 15) (tgt := 19) dX9_close_15 (by decide) ?_
    refine pl_iconst (pc := 19) (v := 1) dX9_close_19 (by rfl) ?_
    refine pl_callVd (pc := 20) (As := [_, _]) (C2 := 0) (N2 := 0) ckX9 mdX9_bad rfl q2631 q2633 qs50 q154 dX9_close_20 rfl rfl (Nat.le_of_ble_eq_true rfl) (mm_o hA) (w_bad_1 (d := d - 1) (by omega) hA) (by omega) (by decide) (by decide) ?_
    refine pj_if_eq (pc := 23) (tgt := 28) dX9_close_23 (by decide) (fun h => absurd h (by decide)) (fun _ => ?_)
    refine pl_iconst (pc := 26) (v := 0) dX9_close_26 (by rfl) ?_
    refine pj_iret (pc := 27) dX9_close_27 rfl ?_
    exact ⟨vIe (by simp [closeS, p_close, c11]) rfl, congrArg (mm g ad μ) (by simp [closeS, p_close, c11])⟩
set_option maxHeartbeats 4000000 in
theorem w_X9_homePrice {g : GP} {ad : Nat → Nat} {μ : Mem} {σ : MS} {d : Nat}  {nw nl : Nat} (hd : 3 ≤ d) (hA : Inj ad 18) (hnw : row σ 2116 = nI nw) (hNW : nw ≤ 1000) (hL : nl ≤ 12) (hw : Wc σ nl) (hF : ∀ w, w < nw → Lb (σ.2.1 14 (7 * w + 6)) nl) : PM g yX9_homePrice (ws_ yX9_homePrice cX9_homePrice 3 (some .int)) d 0 0 [.ref (ad 0)] (mm g ad μ σ) (rQ (some (.int ((homeV σ nw).1))) (mm g ad μ (sH σ nw))) := by
  refine PM.of (by decide +kernel) (Nat.le_of_ble_eq_true rfl) ?_
  show PJ g _ _ _ _ d 0 0 0 [(0, .ref (ad 0))] [] _ _
  refine pl_aload_n (pc := 0) dX9_homePrice_0 rfl rfl ?_
  refine pj_getf (pc := 1) ckX9 1 q2517 dX9_homePrice_1 (by decide) (mm_o hA) rfl ?_
  refine pl_sipush (pc := 4) (v := 2116) dX9_homePrice_4 (by rfl) ?_
  refine pl_iald (pc := 7) (n := 2132) dX9_homePrice_7 (mm_a hA 1 (by decide) (by decide)) (by omega) (by decide) ?_
  refine PJ.top (y := nI _) (hnw) ?_
  refine pl_bipush (pc := 8) (v := 34) dX9_homePrice_8 (by rfl) ?_
  refine pj_isub (pc := 10) dX9_homePrice_10 ?_
  rcases Nat.lt_or_ge nw 34 with hs11 | hs11
  · have hs9 := pk_sneg (a := nw) (b := 34) (by decide) hs11
    refine pj_istore_n (pc := 11) (lv' := [(1, _), (0, _)]) dX9_homePrice_11 rfl (by decide) rfl ?_
    refine pl_iload_n (pc := 12) dX9_homePrice_12 rfl rfl ?_
    refine pj_if_ge (pc := 13) (tgt := 19) dX9_homePrice_13 (by decide) (fun c13 => ?_) (fun c13 => ?_)
    · exact absurd hs9 (Int32.not_lt.mpr c13)
    · refine pl_bipush (pc := 16) (v := 20) dX9_homePrice_16 (by rfl) ?_
      refine pj_iret (pc := 18) dX9_homePrice_18 rfl ?_
      exact ⟨vIe (by simp [homeV, sH, hs11]) rfl, congrArg (mm g ad μ) (by simp [homeV, sH, hs11, sA_id])⟩
  · refine PJ.top (y := nI (nw - 34)) (pk_sub hs11) ?_
    refine pj_istore_n (pc := 11) (lv' := [(1, _), (0, _)]) dX9_homePrice_11 rfl (by decide) rfl ?_
    refine pl_iload_n (pc := 12) dX9_homePrice_12 rfl rfl ?_
    refine pj_if_ge (pc := 13) (tgt := 19) dX9_homePrice_13 (by decide) (fun _ => ?_) (fun h => absurd (nI_pos' (by omega)) h)
    refine pl_aload_n (pc := 19) dX9_homePrice_19 rfl rfl ?_
    refine pl_aload_n (pc := 20) dX9_homePrice_20 rfl rfl ?_
    refine pl_iload_n (pc := 21) dX9_homePrice_21 rfl rfl ?_
    refine pl_bipush (pc := 22) (v := 6) dX9_homePrice_22 (by rfl) ?_
    refine pl_callVd (pc := 24) (As := [_, _]) (C2 := 0) (N2 := 0) ckX9 mdX9_row rfl q3022 q3024 qs106 q154 dX9_homePrice_24 rfl rfl (Nat.le_of_ble_eq_true rfl) (mm_o hA) (w_X9_row (d := d - 1) (by omega) hA (by omega) (by decide)) (by omega) (by decide) (by decide) ?_
    refine pl_iconst (pc := 27) (v := 0) dX9_homePrice_27 (by rfl) ?_
    refine pl_callVd (pc := 28) (As := [_, _]) (C2 := 0) (N2 := 0) ckX9 mdX9_teller rfl q2941 q2943 qs95 q154 dX9_homePrice_28 rfl rfl (Nat.le_of_ble_eq_true rfl) (mm_o hA) (w_X9_teller (d := d - 1) (by omega) hA (by decide)) (by omega) (by decide) (by decide) ?_
    rcases lastI_c (tells σ (σ.2.1 14 (7 * (nw - 34) + 6)) 0) 12 with hs31 | hs31
    · refine PJ.top (y := -1) hs31 ?_
      refine pj_istore_n (pc := 31) (lv' := [(2, _), (1, _), (0, _)]) dX9_homePrice_31 rfl (by decide) rfl ?_
      refine pl_iload_n (pc := 32) dX9_homePrice_32 rfl rfl ?_
      refine pj_if_ge (pc := 33) (tgt := 41) dX9_homePrice_33 (by decide) (fun h => absurd h (by decide)) (fun _ => ?_)
      refine pl_bipush (pc := 36) (v := 20) dX9_homePrice_36 (by rfl) ?_
      refine pj_goto (pc := 38) (tgt := 65) dX9_homePrice_38 (by decide) ?_
      refine pj_iret (pc := 65) dX9_homePrice_65 rfl ?_
      exact ⟨vIe (by simp [homeV, sH, show ¬ nw < 34 by omega, hs31]) rfl, congrArg (mm g ad μ) (by simp [homeV, sH, show ¬ nw < 34 by omega, hs31, sA_id])⟩
    · obtain ⟨l, hl12, el, ht⟩ := hs31
      refine PJ.top (y := nI l) el ?_
      obtain ⟨hlt, h0⟩ := Lb_tells (hF (nw - 34) (by omega)) hl12 ht
      have g_l := tN_nI (n := l) (by omega)
      have el2 : ¬ nI l = -1 := fun z => by have h9 := nI_pos' (n := l) (by omega); rw [z] at h9; exact absurd h9 (by decide)
      refine pj_istore_n (pc := 31) (lv' := [(2, _), (1, _), (0, _)]) dX9_homePrice_31 rfl (by decide) rfl ?_
      refine pl_iload_n (pc := 32) dX9_homePrice_32 rfl rfl ?_
      refine pj_if_ge (pc := 33) (tgt := 41) dX9_homePrice_33 (by decide) (fun _ => ?_) (fun h => absurd (nI_pos' (by omega)) h)
      refine pl_iconst (pc := 41) (v := 0) dX9_homePrice_41 (by rfl) ?_
      refine pl_aload_n (pc := 42) dX9_homePrice_42 rfl rfl ?_
      refine pl_iload_n (pc := 43) dX9_homePrice_43 rfl rfl ?_
      refine pl_iconst (pc := 44) (v := 0) dX9_homePrice_44 (by rfl) ?_
      refine pl_iload_n (pc := 45) dX9_homePrice_45 rfl rfl ?_
      refine pl_aload_n (pc := 46) dX9_homePrice_46 rfl rfl ?_
      refine pl_iload_n (pc := 47) dX9_homePrice_47 rfl rfl ?_
      refine pl_iconst (pc := 48) (v := 1) dX9_homePrice_48 (by rfl) ?_
      refine pl_callVd (pc := 49) (As := [_, _]) (C2 := 0) (N2 := 0) ckX9 mdX9_row rfl q3022 q3024 qs106 q154 dX9_homePrice_49 rfl rfl (Nat.le_of_ble_eq_true rfl) (mm_o hA) (w_X9_row (d := d - 1) (by omega) hA (by omega) (by decide)) (by omega) (by decide) (by decide) ?_
      refine pl_aload_n (pc := 52) dX9_homePrice_52 rfl rfl ?_
      refine pl_iload_n (pc := 53) dX9_homePrice_53 rfl rfl ?_
      refine pl_iconst (pc := 54) (v := 0) dX9_homePrice_54 (by rfl) ?_
      refine pl_callVd (pc := 55) (As := [_, _]) (C2 := 0) (N2 := 0) ckX9 mdX9_row rfl q3022 q3024 qs106 q154 dX9_homePrice_55 rfl rfl (Nat.le_of_ble_eq_true rfl) (mm_o hA) (w_X9_row (d := d - 1) (by omega) hA (by omega) (by decide)) (by omega) (by decide) (by decide) ?_
      refine pl_iconst (pc := 58) (v := 0) dX9_homePrice_58 (by rfl) ?_
      refine pl_callVd (pc := 59) (As := [_, _, _, _, _, _]) (C2 := 0) (N2 := 0) ckX9 mdX9_value rfl q2956 q2958 qs98 q154 dX9_homePrice_59 rfl rfl (Nat.le_of_ble_eq_true rfl) (mm_o hA) (w_value (d := d - 1) (by omega) hA hL hw hlt (name := 0) (by decide) h0) (by omega) (by decide) (by decide) ?_
      refine pl_callSd (pc := 62) (As := [_, _]) (C2 := 0) (N2 := 0) mdX9_bounded q2963 q2964 q154 dX9_homePrice_62 rfl rfl (Nat.le_of_ble_eq_true rfl) (w_X9_bounded (d := d - 1) (by omega) (by decide)) (by omega) (by decide) (by decide) ?_
      refine pj_iret (pc := 65) dX9_homePrice_65 rfl ?_
      exact ⟨vIe (by simp [homeV, sH, show ¬ nw < 34 by omega, el, el2, g_l]) rfl, congrArg (mm g ad μ) (by simp [homeV, sH, show ¬ nw < 34 by omega, el, el2, g_l, sA_id])⟩
set_option maxHeartbeats 4000000 in
theorem w_X9_quoted {g : GP} {ad : Nat → Nat} {μ : Mem} {σ : MS} {d : Nat}  {nw nl : Nat} (hd : 4 ≤ d) (hA : Inj ad 18) (hnw : row σ 2116 = nI nw) (hNW : nw ≤ 1000) (hL : nl ≤ 12) (hw : Wc σ nl) (hF : ∀ w, w < nw → Lb (σ.2.1 14 (7 * w + 6)) nl) : PM g yX9_quoted (ws_ yX9_quoted cX9_quoted 1 (some .int)) d 0 0 [.ref (ad 0)] (mm g ad μ σ) (rQ (some (.int ((homeV (s0 σ) nw).1))) (mm g ad μ (sH (s0 σ) nw))) := by
  refine PM.of (by decide +kernel) (Nat.le_of_ble_eq_true rfl) ?_
  show PJ g _ _ _ _ d 0 0 0 [(0, .ref (ad 0))] [] _ _
  refine pl_aload_n (pc := 0) dX9_quoted_0 rfl rfl ?_
  refine pl_iconst (pc := 1) (v := 0) dX9_quoted_1 (by rfl) ?_
  refine pm_putI (pc := 2) 0 hA q2516 dX9_quoted_2 (by decide) rfl (by rfl) (by rfl) rfl ?_
  refine pl_aload_n (pc := 5) dX9_quoted_5 rfl rfl ?_
  refine pl_callVd (pc := 6) (As := []) (C2 := 0) (N2 := 0) ckX9 mdX9_homePrice rfl q3018 q3020 qs105 q154 dX9_quoted_6 rfl rfl (Nat.le_of_ble_eq_true rfl) (mm_o hA) (w_X9_homePrice (d := d - 1) (by omega) hA hnw hNW hL (Wc_cg (σ := σ) rfl rfl rfl hw) hF) (by omega) (by decide) (by decide) ?_
  refine pj_iret (pc := 9) dX9_quoted_9 rfl ?_
  exact ⟨rfl, rfl⟩
set_option maxHeartbeats 4000000 in
theorem w_X9_sells {g : GP} {ad : Nat → Nat} {μ : Mem} {σ : MS} {d : Nat} {p : Nat} {c : Nat} {n nl : Nat} (hd : 5 ≤ d) (hA : Inj ad 18) (hn : row σ 2124 = nI n) (hP : n ≤ 100) (hl : row σ 2125 = nI nl) (hL : nl ≤ 12) (hw : Wc σ nl) (hp : p < 100) (hc : c < 96) : PM g yX9_sells (ws_ yX9_sells cX9_sells 6 (some .int)) d 0 0 [.ref (ad 0), .int (nI p), .int (nI c)] (mm g ad μ σ) (rQ (some (.int ((p_sells σ n nl p c).1))) (mm g ad μ ((p_sells σ n nl p c).2))) := by
  refine PM.of (by decide +kernel) (Nat.le_of_ble_eq_true rfl) ?_
  show PJ g _ _ _ _ d 0 0 0 [(0, .ref (ad 0)), (1, .int (nI p)), (2, .int (nI c))] [] _ _
  refine pl_aload_n (pc := 0) dX9_sells_0 rfl rfl ?_
  refine pl_iconst (pc := 1) (v := 0) dX9_sells_1 (by rfl) ?_
  refine pl_aload_n (pc := 2) dX9_sells_2 rfl rfl ?_
  refine pj_getf (pc := 3) ckX9 3 q2519 dX9_sells_3 (by decide) (mm_o hA) rfl ?_
  refine pl_iload_n (pc := 6) dX9_sells_6 rfl rfl ?_
  refine pl_iald (pc := 7) (n := 96) dX9_sells_7 (mm_a hA 3 (by decide) (by decide)) (by omega) (by decide) ?_
  refine pl_callVd (pc := 8) (As := [_, _]) (C2 := 0) (N2 := 0) ckX9 mdX9_meaning rfl q2926 q2928 qs92 q154 dX9_sells_8 rfl rfl (Nat.le_of_ble_eq_true rfl) (mm_o hA) (w_X9_meaning (d := d - 1) (by omega) hA hn hP hl hL (Wc_cg (σ := σ) rfl rfl rfl hw) (by omega)) (by omega) (by decide) (by decide) ?_
  refine pj_istore_n (pc := 11) (lv' := [(3, _), (0, _), (1, _), (2, _)]) dX9_sells_11 rfl (by decide) rfl ?_
  refine pl_aload_n (pc := 12) dX9_sells_12 rfl rfl ?_
  refine pl_iload_n (pc := 13) dX9_sells_13 rfl rfl ?_
  refine pl_iconst (pc := 14) (v := 1) dX9_sells_14 (by rfl) ?_
  refine pl_callVd (pc := 15) (As := [_, _]) (C2 := 0) (N2 := 0) ckX9 mdX9_per rfl q2713 q2715 qs59 q154 dX9_sells_15 rfl rfl (Nat.le_of_ble_eq_true rfl) (mm_o hA) (w_X9_per (d := d - 1) (by omega) hA (by omega) (by decide)) (by omega) (by decide) (by decide) ?_
  refine pl_iload_n (pc := 18) dX9_sells_18 rfl rfl ?_
  refine pj_icmp_ge (pc := 19) (tgt := 25) dX9_sells_19 (by decide) (fun c19 => ?_) (fun c19 => ?_)
  · refine pl_aload_n (pc := 25) dX9_sells_25 rfl rfl ?_
    refine pj_getf (pc := 26) ckX9 23 q2539 dX9_sells_26 (by decide) (mm_o hA) rfl ?_
    refine pj_if_le (pc := 29) (tgt := 36) dX9_sells_29 (by decide) (fun c29 => ?_) (fun c29 => ?_)
    · refine pl_aload_n (pc := 36) dX9_sells_36 rfl rfl ?_
      refine pl_aload_n (pc := 37) dX9_sells_37 rfl rfl ?_
      refine pl_callVd (pc := 38) (As := []) (C2 := 0) (N2 := 0) ckX9 mdX9_forces rfl q2930 q2932 qs93 q154 dX9_sells_38 rfl rfl (Nat.le_of_ble_eq_true rfl) (mm_o hA) (w_X9_forces (d := d - 1) (by omega) hA hl hL) (by omega) (by decide) (by decide) ?_
      refine pl_iconst (pc := 41) (v := 0) dX9_sells_41 (by rfl) ?_
      refine pl_callVd (pc := 42) (As := [_, _]) (C2 := 0) (N2 := 0) ckX9 mdX9_teller rfl q2941 q2943 qs95 q154 dX9_sells_42 rfl rfl (Nat.le_of_ble_eq_true rfl) (mm_o hA) (w_X9_teller (d := d - 1) (by omega) hA (by decide)) (by omega) (by decide) (by decide) ?_
      refine pj_istore (pc := 45) (lv' := [(4, _), (3, _), (0, _), (1, _), (2, _)]) dX9_sells_45 (by decide) rfl ?_
      refine pl_iload_n (pc := 47) dX9_sells_47 rfl rfl ?_
      refine pl_aload_n (pc := 48) dX9_sells_48 rfl rfl ?_
      refine pl_iconst (pc := 49) (v := 1) dX9_sells_49 (by rfl) ?_
      refine pl_iconst (pc := 50) (v := 0) dX9_sells_50 (by rfl) ?_
      refine pl_callVd (pc := 51) (As := [_, _]) (C2 := 0) (N2 := 0) ckX9 mdX9_meaning rfl q2926 q2928 qs92 q154 dX9_sells_51 rfl rfl (Nat.le_of_ble_eq_true rfl) (mm_o hA) (w_X9_meaning (d := d - 1) (by omega) hA hn hP hl hL (Wc_cg (σ := σ) rfl rfl rfl hw) (by omega)) (by omega) (by decide) (by decide) ?_
      refine pj_imul (pc := 54) dX9_sells_54 ?_
      refine pl_bipush (pc := 55) (v := 100) dX9_sells_55 (by rfl) ?_
      refine pj_idiv (pc := 57) dX9_sells_57 (by decide) ?_
      refine pj_istore (pc := 58) (lv' := [(5, _), (4, _), (3, _), (0, _), (1, _), (2, _)]) dX9_sells_58 (by decide) rfl ?_
      refine pl_aload_n (pc := 60) dX9_sells_60 rfl rfl ?_
      refine pl_iload_n (pc := 61) dX9_sells_61 rfl rfl ?_
      refine pl_iload_n (pc := 62) dX9_sells_62 rfl rfl ?_
      refine pj_ineg (pc := 63) dX9_sells_63 ?_
      refine pl_callVv (pc := 64) (As := [_, _]) (C2 := 0) (N2 := 0) ckX9 mdX9_pays rfl q3006 q3008 qs103 q154 dX9_sells_64 rfl rfl (Nat.le_of_ble_eq_true rfl) (mm_o hA) (w_X9_pays (d := d - 1) (by omega) hA (by omega)) (by omega) (by decide) (by decide) ?_
      refine pl_aload_n (pc := 67) dX9_sells_67 rfl rfl ?_
      refine pj_getf (pc := 68) ckX9 1 q2517 dX9_sells_68 (by decide) (mm_o hA) rfl ?_
      refine pl_sipush (pc := 71) (v := 2119) dX9_sells_71 (by rfl) ?_
      refine pj_dup2_11 (pc := 74) dX9_sells_74 rfl rfl ?_
      refine pl_iald (pc := 75) (n := 2132) dX9_sells_75 (mm_a hA 1 (by decide) (by decide)) (by omega) (by decide) ?_
      refine pl_iload (pc := 76) dX9_sells_76 rfl ?_
      refine pj_iadd (pc := 78) dX9_sells_78 ?_
      refine pm_iast (pc := 79) 1 hA (by decide) (by decide) rfl dX9_sells_79 (show _ < 2132 by omega) (by decide) ?_
      refine pl_aload_n (pc := 80) dX9_sells_80 rfl rfl ?_
      refine pj_getf (pc := 81) ckX9 1 q2517 dX9_sells_81 (by decide) (mm_o hA) rfl ?_
      refine pl_sipush (pc := 84) (v := 2118) dX9_sells_84 (by rfl) ?_
      refine pj_dup2_11 (pc := 87) dX9_sells_87 rfl rfl ?_
      refine pl_iald (pc := 88) (n := 2132) dX9_sells_88 (mm_a hA 1 (by decide) (by decide)) (by omega) (by decide) ?_
      refine pl_iload_n (pc := 89) dX9_sells_89 rfl rfl ?_
      refine pl_iload (pc := 90) dX9_sells_90 rfl ?_
      refine pj_isub (pc := 92) dX9_sells_92 ?_
      refine pj_iadd (pc := 93) dX9_sells_93 ?_
      refine pm_iast (pc := 94) 1 hA (by decide) (by decide) rfl dX9_sells_94 (show _ < 2132 by omega) (by decide) ?_
      refine pl_aload_n (pc := 95) dX9_sells_95 rfl rfl ?_
      refine pl_iload_n (pc := 96) dX9_sells_96 rfl rfl ?_
      refine pl_iconst (pc := 97) (v := 3) dX9_sells_97 (by rfl) ?_
      refine pl_iload_n (pc := 98) dX9_sells_98 rfl rfl ?_
      refine pl_callVv (pc := 99) (As := [_, _, _]) (C2 := 0) (N2 := 0) ckX9 mdX9_holds rfl q2772 q2774 qs69 q154 dX9_sells_99 rfl rfl (Nat.le_of_ble_eq_true rfl) (mm_o hA) (w_X9_holds (d := d - 1) (by omega) hA (by omega)) (by omega) (by decide) (by decide) ?_
      refine pl_aload_n (pc := 102) dX9_sells_102 rfl rfl ?_
      refine pj_getf (pc := 103) ckX9 1 q2517 dX9_sells_103 (by decide) (mm_o hA) rfl ?_
      refine pl_bipush (pc := 106) (v := 8) dX9_sells_106 (by rfl) ?_
      refine pl_iload_n (pc := 108) dX9_sells_108 rfl rfl ?_
      refine pl_imul (pc := 109) dX9_sells_109 ?_
      refine pl_iconst (pc := 110) (v := 5) dX9_sells_110 (by rfl) ?_
      refine pl_iadd (pc := 111) dX9_sells_111 ?_
      refine pl_iload_n (pc := 112) dX9_sells_112 rfl rfl ?_
      refine pm_iast (pc := 113) 1 hA (by decide) (by decide) rfl dX9_sells_113 (show _ < 2132 by omega) (by decide) ?_
      refine pl_aload_n (pc := 114) dX9_sells_114 rfl rfl ?_
      refine pj_getf (pc := 115) ckX9 1 q2517 dX9_sells_115 (by decide) (mm_o hA) rfl ?_
      refine pl_bipush (pc := 118) (v := 8) dX9_sells_118 (by rfl) ?_
      refine pl_iload_n (pc := 120) dX9_sells_120 rfl rfl ?_
      refine pl_imul (pc := 121) dX9_sells_121 ?_
      refine pl_bipush (pc := 122) (v := 6) dX9_sells_122 (by rfl) ?_
      refine pl_iadd (pc := 124) dX9_sells_124 ?_
      refine pl_iload (pc := 125) dX9_sells_125 rfl ?_
      refine pm_iast (pc := 127) 1 hA (by decide) (by decide) rfl dX9_sells_127 (show _ < 2132 by omega) (by decide) ?_
      refine pl_aload_n (pc := 128) dX9_sells_128 rfl rfl ?_
      refine pl_iload_n (pc := 129) dX9_sells_129 rfl rfl ?_
      refine pl_callVv (pc := 130) (As := [_]) (C2 := 0) (N2 := 0) ckX9 mdX9_owns rfl q3010 q3012 qs104 q154 dX9_sells_130 rfl rfl (Nat.le_of_ble_eq_true rfl) (mm_o hA) (w_X9_owns (d := d - 1) (by omega) hA (by omega)) (by omega) (by decide) (by decide) ?_
      refine pl_iload_n (pc := 133) dX9_sells_133 rfl rfl ?_
      refine pj_iret (pc := 134) dX9_sells_134 rfl ?_
      exact ⟨vIe (by simp [p_sells, c19, c29]) rfl, congrArg (mm g ad μ) (by simp only [p_sells]; simp [c19, c29]; rfl)⟩
    · refine pj_iconst (pc := 32) (v := (-1)) dX9_sells_32 (by rfl) ?_
      refine pj_goto (pc := 33) (tgt := 45) dX9_sells_33 (by decide) ?_
      refine pj_istore (pc := 45) (lv' := [(4, _), (3, _), (0, _), (1, _), (2, _)]) dX9_sells_45 (by decide) rfl ?_
      refine pl_iload_n (pc := 47) dX9_sells_47 rfl rfl ?_
      refine pl_aload_n (pc := 48) dX9_sells_48 rfl rfl ?_
      refine pl_iconst (pc := 49) (v := 1) dX9_sells_49 (by rfl) ?_
      refine pl_iconst (pc := 50) (v := 0) dX9_sells_50 (by rfl) ?_
      refine pl_callVd (pc := 51) (As := [_, _]) (C2 := 0) (N2 := 0) ckX9 mdX9_meaning rfl q2926 q2928 qs92 q154 dX9_sells_51 rfl rfl (Nat.le_of_ble_eq_true rfl) (mm_o hA) (w_X9_meaning (d := d - 1) (by omega) hA hn hP hl hL (Wc_cg (σ := σ) rfl rfl rfl hw) (by omega)) (by omega) (by decide) (by decide) ?_
      refine pj_imul (pc := 54) dX9_sells_54 ?_
      refine pl_bipush (pc := 55) (v := 100) dX9_sells_55 (by rfl) ?_
      refine pj_idiv (pc := 57) dX9_sells_57 (by decide) ?_
      refine pj_istore (pc := 58) (lv' := [(5, _), (4, _), (3, _), (0, _), (1, _), (2, _)]) dX9_sells_58 (by decide) rfl ?_
      refine pl_aload_n (pc := 60) dX9_sells_60 rfl rfl ?_
      refine pl_iload_n (pc := 61) dX9_sells_61 rfl rfl ?_
      refine pl_iload_n (pc := 62) dX9_sells_62 rfl rfl ?_
      refine pj_ineg (pc := 63) dX9_sells_63 ?_
      refine pl_callVv (pc := 64) (As := [_, _]) (C2 := 0) (N2 := 0) ckX9 mdX9_pays rfl q3006 q3008 qs103 q154 dX9_sells_64 rfl rfl (Nat.le_of_ble_eq_true rfl) (mm_o hA) (w_X9_pays (d := d - 1) (by omega) hA (by omega)) (by omega) (by decide) (by decide) ?_
      refine pl_aload_n (pc := 67) dX9_sells_67 rfl rfl ?_
      refine pj_getf (pc := 68) ckX9 1 q2517 dX9_sells_68 (by decide) (mm_o hA) rfl ?_
      refine pl_sipush (pc := 71) (v := 2119) dX9_sells_71 (by rfl) ?_
      refine pj_dup2_11 (pc := 74) dX9_sells_74 rfl rfl ?_
      refine pl_iald (pc := 75) (n := 2132) dX9_sells_75 (mm_a hA 1 (by decide) (by decide)) (by omega) (by decide) ?_
      refine pl_iload (pc := 76) dX9_sells_76 rfl ?_
      refine pj_iadd (pc := 78) dX9_sells_78 ?_
      refine pm_iast (pc := 79) 1 hA (by decide) (by decide) rfl dX9_sells_79 (show _ < 2132 by omega) (by decide) ?_
      refine pl_aload_n (pc := 80) dX9_sells_80 rfl rfl ?_
      refine pj_getf (pc := 81) ckX9 1 q2517 dX9_sells_81 (by decide) (mm_o hA) rfl ?_
      refine pl_sipush (pc := 84) (v := 2118) dX9_sells_84 (by rfl) ?_
      refine pj_dup2_11 (pc := 87) dX9_sells_87 rfl rfl ?_
      refine pl_iald (pc := 88) (n := 2132) dX9_sells_88 (mm_a hA 1 (by decide) (by decide)) (by omega) (by decide) ?_
      refine pl_iload_n (pc := 89) dX9_sells_89 rfl rfl ?_
      refine pl_iload (pc := 90) dX9_sells_90 rfl ?_
      refine pj_isub (pc := 92) dX9_sells_92 ?_
      refine pj_iadd (pc := 93) dX9_sells_93 ?_
      refine pm_iast (pc := 94) 1 hA (by decide) (by decide) rfl dX9_sells_94 (show _ < 2132 by omega) (by decide) ?_
      refine pl_aload_n (pc := 95) dX9_sells_95 rfl rfl ?_
      refine pl_iload_n (pc := 96) dX9_sells_96 rfl rfl ?_
      refine pl_iconst (pc := 97) (v := 3) dX9_sells_97 (by rfl) ?_
      refine pl_iload_n (pc := 98) dX9_sells_98 rfl rfl ?_
      refine pl_callVv (pc := 99) (As := [_, _, _]) (C2 := 0) (N2 := 0) ckX9 mdX9_holds rfl q2772 q2774 qs69 q154 dX9_sells_99 rfl rfl (Nat.le_of_ble_eq_true rfl) (mm_o hA) (w_X9_holds (d := d - 1) (by omega) hA (by omega)) (by omega) (by decide) (by decide) ?_
      refine pl_aload_n (pc := 102) dX9_sells_102 rfl rfl ?_
      refine pj_getf (pc := 103) ckX9 1 q2517 dX9_sells_103 (by decide) (mm_o hA) rfl ?_
      refine pl_bipush (pc := 106) (v := 8) dX9_sells_106 (by rfl) ?_
      refine pl_iload_n (pc := 108) dX9_sells_108 rfl rfl ?_
      refine pl_imul (pc := 109) dX9_sells_109 ?_
      refine pl_iconst (pc := 110) (v := 5) dX9_sells_110 (by rfl) ?_
      refine pl_iadd (pc := 111) dX9_sells_111 ?_
      refine pl_iload_n (pc := 112) dX9_sells_112 rfl rfl ?_
      refine pm_iast (pc := 113) 1 hA (by decide) (by decide) rfl dX9_sells_113 (show _ < 2132 by omega) (by decide) ?_
      refine pl_aload_n (pc := 114) dX9_sells_114 rfl rfl ?_
      refine pj_getf (pc := 115) ckX9 1 q2517 dX9_sells_115 (by decide) (mm_o hA) rfl ?_
      refine pl_bipush (pc := 118) (v := 8) dX9_sells_118 (by rfl) ?_
      refine pl_iload_n (pc := 120) dX9_sells_120 rfl rfl ?_
      refine pl_imul (pc := 121) dX9_sells_121 ?_
      refine pl_bipush (pc := 122) (v := 6) dX9_sells_122 (by rfl) ?_
      refine pl_iadd (pc := 124) dX9_sells_124 ?_
      refine pl_iload (pc := 125) dX9_sells_125 rfl ?_
      refine pm_iast (pc := 127) 1 hA (by decide) (by decide) rfl dX9_sells_127 (show _ < 2132 by omega) (by decide) ?_
      refine pl_aload_n (pc := 128) dX9_sells_128 rfl rfl ?_
      refine pl_iload_n (pc := 129) dX9_sells_129 rfl rfl ?_
      refine pl_callVv (pc := 130) (As := [_]) (C2 := 0) (N2 := 0) ckX9 mdX9_owns rfl q3010 q3012 qs104 q154 dX9_sells_130 rfl rfl (Nat.le_of_ble_eq_true rfl) (mm_o hA) (w_X9_owns (d := d - 1) (by omega) hA (by omega)) (by omega) (by decide) (by decide) ?_
      refine pl_iload_n (pc := 133) dX9_sells_133 rfl rfl ?_
      refine pj_iret (pc := 134) dX9_sells_134 rfl ?_
      exact ⟨vIe (by simp [p_sells, c19, c29]) rfl, congrArg (mm g ad μ) (by simp only [p_sells]; simp [c19, c29]; rfl)⟩
  · refine pj_bipush (pc := 22) (v := (-3)) dX9_sells_22 (by rfl) ?_
    refine pj_iret (pc := 24) dX9_sells_24 rfl ?_
    exact ⟨vIe (by simp [p_sells, c19]) rfl, congrArg (mm g ad μ) (by simp only [p_sells]; rw [if_pos c19])⟩
set_option maxHeartbeats 4000000 in
theorem w_X9_buy {g : GP} {ad : Nat → Nat} {μ : Mem} {σ : MS} {d : Nat} {p : Int32} {c : Int32} {n nl : Nat} (hd : 6 ≤ d) (hA : Inj ad 18) (hn : row σ 2124 = nI n) (hP : n ≤ 100) (hl : row σ 2125 = nI nl) (hL : nl ≤ 12) (hw : Wc σ nl) : PM g yX9_buy (ws_ yX9_buy cX9_buy 3 (some .int)) d 0 0 [.ref (ad 0), .int p, .int c] (mm g ad μ σ) (rQ (some (.int ((p_buy σ n nl p c).1))) (mm g ad μ ((p_buy σ n nl p c).2))) := by
  refine PM.of (by decide +kernel) (Nat.le_of_ble_eq_true rfl) ?_
  show PJ g _ _ _ _ d 0 0 0 [(0, .ref (ad 0)), (1, .int p), (2, .int c)] [] _ _
  cases hap : inN p n with
  | false =>
    refine pl_aload_n (pc := 0) dX9_buy_0 rfl rfl ?_
    refine pl_iload_n (pc := 1) dX9_buy_1 rfl rfl ?_
    refine pl_iload_n (pc := 2) dX9_buy_2 rfl rfl ?_
    refine pl_callVd (pc := 3) (As := [_, _]) (C2 := 0) (N2 := 0) ckX9 mdX9_isAsked rfl q2998 q3000 qs101 q154 dX9_buy_3 rfl rfl (Nat.le_of_ble_eq_true rfl) (mm_o hA) (w_isAsked_0 (d := d - 1) (by omega) hA hn hP (isAsked_0a hap)) (by omega) (by decide) (by decide) ?_
    refine pj_if_ne (pc := 6) (tgt := 11) dX9_buy_6 (by decide) (fun h => absurd h (by decide)) (fun _ => ?_)
    refine pl_iconst (pc := 9) (v := 0) dX9_buy_9 (by rfl) ?_
    refine pj_iret (pc := 10) dX9_buy_10 rfl ?_
    exact ⟨vIe (by simp [p_buy, hap]) rfl, congrArg (mm g ad μ) (by simp [p_buy, hap])⟩
  | true =>
    obtain ⟨j_p, hj_p, rfl⟩ := inN_of (by omega) hap
    have g_p := nI_clamp (n := j_p) (by omega)
    cases hac : inN c 96 with
    | false =>
      refine pl_aload_n (pc := 0) dX9_buy_0 rfl rfl ?_
      refine pl_iload_n (pc := 1) dX9_buy_1 rfl rfl ?_
      refine pl_iload_n (pc := 2) dX9_buy_2 rfl rfl ?_
      refine pl_callVd (pc := 3) (As := [_, _]) (C2 := 0) (N2 := 0) ckX9 mdX9_isAsked rfl q2998 q3000 qs101 q154 dX9_buy_3 rfl rfl (Nat.le_of_ble_eq_true rfl) (mm_o hA) (w_isAsked_0 (d := d - 1) (by omega) hA hn hP (isAsked_0b hap hac)) (by omega) (by decide) (by decide) ?_
      refine pj_if_ne (pc := 6) (tgt := 11) dX9_buy_6 (by decide) (fun h => absurd h (by decide)) (fun _ => ?_)
      refine pl_iconst (pc := 9) (v := 0) dX9_buy_9 (by rfl) ?_
      refine pj_iret (pc := 10) dX9_buy_10 rfl ?_
      exact ⟨vIe (by simp [p_buy, hap, g_p, hac]) rfl, congrArg (mm g ad μ) (by simp [p_buy, hap, g_p, hac])⟩
    | true =>
      obtain ⟨j_c, hj_c, rfl⟩ := inN_of (by decide) hac
      have g_c := nI_clamp (n := j_c) (by omega)
      refine pl_aload_n (pc := 0) dX9_buy_0 rfl rfl ?_
      refine pl_iload_n (pc := 1) dX9_buy_1 rfl rfl ?_
      refine pl_iload_n (pc := 2) dX9_buy_2 rfl rfl ?_
      refine pl_callVd (pc := 3) (As := [_, _]) (C2 := 0) (N2 := 0) ckX9 mdX9_isAsked rfl q2998 q3000 qs101 q154 dX9_buy_3 rfl rfl (Nat.le_of_ble_eq_true rfl) (mm_o hA) (w_isAsked_1 (d := d - 1) (by omega) hA hn hP (isAsked_1 hap hac)) (by omega) (by decide) (by decide) ?_
      refine pj_if_ne (pc := 6) (tgt := 11) dX9_buy_6 (by decide) (fun _ => ?_) (fun h => absurd h (by decide))
      refine pl_aload_n (pc := 11) dX9_buy_11 rfl rfl ?_
      refine pl_iload_n (pc := 12) dX9_buy_12 rfl rfl ?_
      refine pl_callVd (pc := 13) (As := [_]) (C2 := 0) (N2 := 0) ckX9 mdX9_isHere rfl q2784 q2786 qs71 q154 dX9_buy_13 rfl rfl (Nat.le_of_ble_eq_true rfl) (mm_o hA) (w_X9_isHere (d := d - 1) (by omega) hA (by omega)) (by omega) (by decide) (by decide) ?_
      refine pl_if_neB (pc := 16) (tgt := 21) dX9_buy_16 (by decide) (fun c16 => ?_) (fun c16 => ?_)
      · refine pl_aload_n (pc := 21) dX9_buy_21 rfl rfl ?_
        refine pl_iload_n (pc := 22) dX9_buy_22 rfl rfl ?_
        refine pl_iconst (pc := 23) (v := 0) dX9_buy_23 (by rfl) ?_
        refine pl_callVd (pc := 24) (As := [_, _]) (C2 := 0) (N2 := 0) ckX9 mdX9_sec rfl q2635 q2637 qs51 q154 dX9_buy_24 rfl rfl (Nat.le_of_ble_eq_true rfl) (mm_o hA) (w_X9_sec (d := d - 1) (by omega) hA (by omega) (by decide)) (by omega) (by decide) (by decide) ?_
        refine pl_iconst (pc := 27) (v := 1) dX9_buy_27 (by rfl) ?_
        refine pj_icmp_eq (pc := 28) (tgt := 36) dX9_buy_28 (by decide) (fun c28 => ?_) (fun c28 => ?_)
        · refine pl_aload_n (pc := 36) dX9_buy_36 rfl rfl ?_
          refine pl_iload_n (pc := 37) dX9_buy_37 rfl rfl ?_
          refine pl_iload_n (pc := 38) dX9_buy_38 rfl rfl ?_
          refine pl_callVd (pc := 39) (As := [_, _]) (C2 := 0) (N2 := 0) ckX9 mdX9_sells rfl q3002 q3004 qs102 q154 dX9_buy_39 rfl rfl (Nat.le_of_ble_eq_true rfl) (mm_o hA) (w_X9_sells (d := d - 1) (by omega) hA hn hP hl hL (Wc_cg (σ := σ) rfl rfl rfl hw) (by omega) (by omega)) (by omega) (by decide) (by decide) ?_
          refine pj_iret (pc := 42) dX9_buy_42 rfl ?_
          exact ⟨vIe (by simp [p_buy, hap, g_p, hac, g_c, c16, eq_true c28]) rfl, congrArg (mm g ad μ) (by simp [p_buy, hap, g_p, hac, g_c, c16, eq_true c28])⟩
        · refine pj_bipush (pc := 31) (v := (-2)) dX9_buy_31 (by rfl) ?_
          refine pj_goto (pc := 33) (tgt := 42) dX9_buy_33 (by decide) ?_
          refine pj_iret (pc := 42) dX9_buy_42 rfl ?_
          exact ⟨vIe (by simp [p_buy, hap, g_p, hac, g_c, c16, c28]) rfl, congrArg (mm g ad μ) (by simp [p_buy, hap, g_p, hac, g_c, c16, c28])⟩
      · refine pj_iconst (pc := 19) (v := (-1)) dX9_buy_19 (by rfl) ?_
        refine pj_iret (pc := 20) dX9_buy_20 rfl ?_
        exact ⟨vIe (by simp [p_buy, hap, g_p, hac, g_c, c16]) rfl, congrArg (mm g ad μ) (by simp [p_buy, hap, g_p, hac, g_c, c16])⟩
