set_option maxRecDepth 100000
theorem sA_id {σ : MS} {k : Nat} : sA σ k (σ.2.1 k) = σ := by
  have : (fun q => if q = k then σ.2.1 k else σ.2.1 q) = σ.2.1 := by
    funext q
    by_cases h : q = k
    · subst h; simp
    · simp [h]
  unfold sA
  rw [this]
theorem sA_sA {σ : MS} {k : Nat} {f f' : Nat → Int32} : sA (sA σ k f) k f' = sA σ k f' := by
  unfold sA
  congr 2
  funext q
  by_cases h : q = k <;> simp [h]
abbrev cpyF (f f' : Nat → Int32) (n : Nat) : Nat → Int32 := fun j => if j < n then f j else f' j
theorem cpyF_up {f f' : Nat → Int32} {i : Nat} : upd (cpyF f f' i) i (f i) = cpyF f f' (i + 1) := by
  funext j
  simp only [upd, cpyF]
  by_cases h : j = i
  · subst h; simp
  · rw [if_neg h]
    by_cases h2 : j < i
    · rw [if_pos h2, if_pos (by omega)]
    · rw [if_neg h2, if_neg (by omega)]
theorem cpyF_0 {f f' : Nat → Int32} : cpyF f f' 0 = f' := by funext j; simp [cpyF]
def s_saves (σ : MS) : MS := sA σ 2 (cpyF (σ.2.1 1) (σ.2.1 2) 2132)
def s_back (σ : MS) : MS := sA σ 1 (cpyF (σ.2.1 2) (σ.2.1 1) 2132)
set_option maxHeartbeats 4000000 in
theorem w_X9_saves {g : GP} {ad : Nat → Nat} {μ : Mem} {σ : MS} {d : Nat}   (hd : 1 ≤ d) (hA : Inj ad 18) : PM g yX9_saves (ws_ yX9_saves cX9_saves 2 none) d 0 0 [.ref (ad 0)] (mm g ad μ σ) (rQ none (mm g ad μ (s_saves σ))) := by
  refine PM.of (by decide +kernel) (Nat.le_of_ble_eq_true rfl) ?_
  show PJ g _ _ _ _ d 0 0 0 [(0, .ref (ad 0))] [] _ _
  refine pl_iconst (pc := 0) (v := 0) dX9_saves_0 (by rfl) ?_
  refine pj_istore_n (pc := 1) (lv' := [(1, _), (0, _)]) dX9_saves_1 rfl (by decide) rfl ?_
  refine PJ.conv rfl rfl (show _ = (mm g ad μ (sA σ 2 (cpyF (σ.2.1 1) (σ.2.1 2) 0))) from by rw [cpyF_0, sA_id]) ?_
  refine ind_dn (n := 2132) (P := fun i => PJ g _ _ _ _ d 0 0 2 [(1, .int (nI i)), (0, .ref (ad 0))] [] (mm g ad μ (sA σ 2 (cpyF (σ.2.1 1) (σ.2.1 2) i))) _) (fun i hi ih => ?_) 0 (Nat.zero_le _)
  refine pl_iload_n (pc := 2) dX9_saves_2 rfl rfl ?_
  refine pl_sipush (pc := 3) (v := 2132) dX9_saves_3 (by rfl) ?_
  refine pl_icmp_ge (pc := 6) (tgt := 27) dX9_saves_6 (by decide) (by omega) (by omega) (fun c6 => ?_) (fun c6 => ?_)
  · refine pj_vret (pc := 27) dX9_saves_27 rfl ?_
    have e9 : i = 2132 := by omega
    subst e9
    exact ⟨rfl, rfl⟩
  · refine pl_aload_n (pc := 9) dX9_saves_9 rfl rfl ?_
    refine pj_getf (pc := 10) ckX9 2 q2518 dX9_saves_10 (by decide) (mm_o hA) rfl ?_
    refine pl_iload_n (pc := 13) dX9_saves_13 rfl rfl ?_
    refine pl_aload_n (pc := 14) dX9_saves_14 rfl rfl ?_
    refine pj_getf (pc := 15) ckX9 1 q2517 dX9_saves_15 (by decide) (mm_o hA) rfl ?_
    refine pl_iload_n (pc := 18) dX9_saves_18 rfl rfl ?_
    refine pl_iald (pc := 19) (n := 2132) dX9_saves_19 (mm_a hA 1 (by decide) (by decide)) (by omega) (by decide) ?_
    refine pm_iast (pc := 20) 2 hA (by decide) (by decide) rfl dX9_saves_20 (show _ < 2132 by omega) (by decide) ?_
    refine pl_iinc1 (pc := 21) (lv' := [(1, _), (0, _)]) dX9_saves_21 rfl rfl (by decide) rfl ?_
    refine pj_goto (pc := 24) (tgt := 2) dX9_saves_24 (by decide) ?_
    exact PJ.conv rfl rfl (congrArg (mm g ad μ) (sA_sA.trans (congrArg (sA σ 2) cpyF_up))) (ih (by omega))
set_option maxHeartbeats 4000000 in
theorem w_X9_back {g : GP} {ad : Nat → Nat} {μ : Mem} {σ : MS} {d : Nat}   (hd : 1 ≤ d) (hA : Inj ad 18) : PM g yX9_back (ws_ yX9_back cX9_back 2 none) d 0 0 [.ref (ad 0)] (mm g ad μ σ) (rQ none (mm g ad μ (s_back σ))) := by
  refine PM.of (by decide +kernel) (Nat.le_of_ble_eq_true rfl) ?_
  show PJ g _ _ _ _ d 0 0 0 [(0, .ref (ad 0))] [] _ _
  refine pl_iconst (pc := 0) (v := 0) dX9_back_0 (by rfl) ?_
  refine pj_istore_n (pc := 1) (lv' := [(1, _), (0, _)]) dX9_back_1 rfl (by decide) rfl ?_
  refine PJ.conv rfl rfl (show _ = (mm g ad μ (sA σ 1 (cpyF (σ.2.1 2) (σ.2.1 1) 0))) from by rw [cpyF_0, sA_id]) ?_
  refine ind_dn (n := 2132) (P := fun i => PJ g _ _ _ _ d 0 0 2 [(1, .int (nI i)), (0, .ref (ad 0))] [] (mm g ad μ (sA σ 1 (cpyF (σ.2.1 2) (σ.2.1 1) i))) _) (fun i hi ih => ?_) 0 (Nat.zero_le _)
  refine pl_iload_n (pc := 2) dX9_back_2 rfl rfl ?_
  refine pl_sipush (pc := 3) (v := 2132) dX9_back_3 (by rfl) ?_
  refine pl_icmp_ge (pc := 6) (tgt := 27) dX9_back_6 (by decide) (by omega) (by omega) (fun c6 => ?_) (fun c6 => ?_)
  · refine pj_vret (pc := 27) dX9_back_27 rfl ?_
    have e9 : i = 2132 := by omega
    subst e9
    exact ⟨rfl, rfl⟩
  · refine pl_aload_n (pc := 9) dX9_back_9 rfl rfl ?_
    refine pj_getf (pc := 10) ckX9 1 q2517 dX9_back_10 (by decide) (mm_o hA) rfl ?_
    refine pl_iload_n (pc := 13) dX9_back_13 rfl rfl ?_
    refine pl_aload_n (pc := 14) dX9_back_14 rfl rfl ?_
    refine pj_getf (pc := 15) ckX9 2 q2518 dX9_back_15 (by decide) (mm_o hA) rfl ?_
    refine pl_iload_n (pc := 18) dX9_back_18 rfl rfl ?_
    refine pl_iald (pc := 19) (n := 2132) dX9_back_19 (mm_a hA 2 (by decide) (by decide)) (by omega) (by decide) ?_
    refine pm_iast (pc := 20) 1 hA (by decide) (by decide) rfl dX9_back_20 (show _ < 2132 by omega) (by decide) ?_
    refine pl_iinc1 (pc := 21) (lv' := [(1, _), (0, _)]) dX9_back_21 rfl rfl (by decide) rfl ?_
    refine pj_goto (pc := 24) (tgt := 2) dX9_back_24 (by decide) ?_
    exact PJ.conv rfl rfl (congrArg (mm g ad μ) (sA_sA.trans (congrArg (sA σ 1) cpyF_up))) (ih (by omega))
theorem tN_nI {n : Nat} (h : n < 2147483648) : tN (nI n) = n := nI_clamp h
theorem rowS_eq {σ : MS} {j : Nat} {v : Int32} : row (sR σ j v) j = v := row_eq
theorem rowS_ne {σ : MS} {j k : Nat} {v : Int32} (h : k ≠ j) : row (sR σ j v) k = row σ k := row_ne h
def deqV (a : Nat) (σ : MS) : MS := let σ1 := sR σ (a + 2) (row σ (a + 2) - nI 1); upto (fun k σ => sR σ (a + 3 + k) (row σ (a + 3 + k + 1))) (tN (row σ1 (a + 2))) σ1
theorem shift_row (a : Nat) (σ : MS) (j : Nat) : ∀ n, row (upto (fun k σ => sR σ (a + 3 + k) (row σ (a + 3 + k + 1))) n σ) j = if a + 3 ≤ j ∧ j < a + 3 + n then row σ (j + 1) else row σ j
  | 0 => by rw [if_neg (by omega)]; rfl
  | n + 1 => by
    have h0 := shift_row a σ j n
    have h1 := shift_row a σ (a + 3 + n + 1) n
    simp only [upto]
    by_cases hj : j = a + 3 + n
    · subst hj
      rw [rowS_eq, h1, if_neg (by omega), if_pos (by omega)]
    · rw [rowS_ne hj, h0]
      by_cases h2 : a + 3 ≤ j ∧ j < a + 3 + n
      · rw [if_pos h2, if_pos (by omega)]
      · rw [if_neg h2, if_neg (by omega)]
theorem deq_row {a q j : Nat} {σ : MS} (hq : row σ (a + 2) = nI (q + 1)) (hq1 : q < 2147483648) : row (deqV a σ) j = if j = a + 2 then nI q else if a + 3 ≤ j ∧ j < a + 3 + q then row σ (j + 1) else row σ j := by
  have e1 : row (sR σ (a + 2) (row σ (a + 2) - nI 1)) (a + 2) = nI q := by rw [rowS_eq, hq, pk_sub (by omega)]; rfl
  unfold deqV
  simp only []
  rw [e1, shift_row, tN_nI hq1]
  by_cases hj : j = a + 2
  · subst hj
    rw [if_neg (by omega), if_pos rfl]
    exact e1
  · rw [if_neg hj]
    by_cases h2 : a + 3 ≤ j ∧ j < a + 3 + q
    · rw [if_pos h2, if_pos h2, rowS_ne (by omega)]
    · rw [if_neg h2, if_neg h2, rowS_ne hj]
theorem upto_arr (a : Nat) (σ : MS) (n : Nat) : (upto (fun k σ => sR σ (a + 3 + k) (row σ (a + 3 + k + 1))) n σ).1 = σ.1 ∧ (∀ k, k ≠ 1 → (upto (fun k σ => sR σ (a + 3 + k) (row σ (a + 3 + k + 1))) n σ).2.1 k = σ.2.1 k) ∧ (upto (fun k σ => sR σ (a + 3 + k) (row σ (a + 3 + k + 1))) n σ).2.2 = σ.2.2 := by
  induction n with
  | zero => exact ⟨rfl, fun _ _ => rfl, rfl⟩
  | succ n ih => exact ⟨ih.1, fun k hk => by simp only [upto]; simp only [sA, if_neg hk]; exact ih.2.1 k hk, ih.2.2⟩
abbrev shf (a : Nat) : Nat → MS → MS := fun k σ => sR σ (a + 3 + k) (row σ (a + 3 + k + 1))
theorem deq_e1 {a q : Nat} {σ : MS} (hq : row σ (a + 2) = nI (q + 1)) : row (sR σ (a + 2) (row σ (a + 2) - nI 1)) (a + 2) = nI q := by rw [rowS_eq, hq, pk_sub (by omega)]; rfl
theorem deq_cnt {a q i : Nat} {σ : MS} (hq : row σ (a + 2) = nI (q + 1)) : row (upto (shf a) i (sR σ (a + 2) (row σ (a + 2) - nI 1))) (a + 2) = nI q := by rw [shift_row, if_neg (by omega), deq_e1 hq]
theorem deq_def {a q : Nat} {σ : MS} (hq : row σ (a + 2) = nI (q + 1)) (hq1 : q < 2147483648) : deqV a σ = upto (shf a) q (sR σ (a + 2) (row σ (a + 2) - nI 1)) := by unfold deqV; simp only []; rw [deq_e1 hq, tN_nI hq1]

set_option maxHeartbeats 4000000 in
theorem w_X9_dequeues {g : GP} {ad : Nat → Nat} {μ : Mem} {σ : MS} {d : Nat} {a : Nat} {q : Nat} (hd : 1 ≤ d) (hA : Inj ad 18) (ha : 1720 ≤ a) (ha2 : a + 15 ≤ 1780) (hq : row σ (a + 2) = nI (q + 1)) (hq12 : q + 1 ≤ 12) : PM g yX9_dequeues (ws_ yX9_dequeues cX9_dequeues 3 none) d 0 0 [.ref (ad 0), .int (nI a)] (mm g ad μ σ) (rQ none (mm g ad μ (deqV a σ))) := by
  refine PM.of (by decide +kernel) (Nat.le_of_ble_eq_true rfl) ?_
  show PJ g _ _ _ _ d 0 0 0 [(0, .ref (ad 0)), (1, .int (nI a))] [] _ _
  refine pl_aload_n (pc := 0) dX9_dequeues_0 rfl rfl ?_
  refine pj_getf (pc := 1) ckX9 1 q2517 dX9_dequeues_1 (by decide) (mm_o hA) rfl ?_
  refine pl_iload_n (pc := 4) dX9_dequeues_4 rfl rfl ?_
  refine pl_iconst (pc := 5) (v := 2) dX9_dequeues_5 (by rfl) ?_
  refine pl_iadd (pc := 6) dX9_dequeues_6 ?_
  refine pj_dup2_11 (pc := 7) dX9_dequeues_7 rfl rfl ?_
  refine pl_iald (pc := 8) (n := 2132) dX9_dequeues_8 (mm_a hA 1 (by decide) (by decide)) (by omega) (by decide) ?_
  refine pl_iconst (pc := 9) (v := 1) dX9_dequeues_9 (by rfl) ?_
  refine pj_isub (pc := 10) dX9_dequeues_10 ?_
  refine pm_iast (pc := 11) 1 hA (by decide) (by decide) rfl dX9_dequeues_11 (show _ < 2132 by omega) (by decide) ?_
  refine pl_iconst (pc := 12) (v := 0) dX9_dequeues_12 (by rfl) ?_
  refine pj_istore_n (pc := 13) (lv' := [(2, _), (0, _), (1, _)]) dX9_dequeues_13 rfl (by decide) rfl ?_
  refine PJ.sub [0, 2, 1] rfl ?_
  refine ind_dn (n := q) (P := fun i => PJ g _ _ _ _ d 0 0 14 [(2, .int (nI i)), (1, .int (nI a)), (0, .ref (ad 0))] [] (mm g ad μ (upto (shf a) i (sR σ (a + 2) (row σ (a + 2) - nI 1)))) _) (fun i hi ih => ?_) 0 (Nat.zero_le _)
  refine pl_iload_n (pc := 14) dX9_dequeues_14 rfl rfl ?_
  refine pl_aload_n (pc := 15) dX9_dequeues_15 rfl rfl ?_
  refine pj_getf (pc := 16) ckX9 1 q2517 dX9_dequeues_16 (by decide) (mm_o hA) rfl ?_
  refine pl_iload_n (pc := 19) dX9_dequeues_19 rfl rfl ?_
  refine pl_iconst (pc := 20) (v := 2) dX9_dequeues_20 (by rfl) ?_
  refine pl_iadd (pc := 21) dX9_dequeues_21 ?_
  refine pl_iald (pc := 22) (n := 2132) dX9_dequeues_22 (mm_a hA 1 (by decide) (by decide)) (by omega) (by decide) ?_
  refine PJ.top (y := nI _) (deq_cnt hq) ?_
  refine pl_icmp_ge (pc := 23) (tgt := 54) dX9_dequeues_23 (by decide) (by omega) (by omega) (fun c23 => ?_) (fun c23 => ?_)
  · refine pj_vret (pc := 54) dX9_dequeues_54 rfl ?_
    have e9 : i = q := by omega
    subst e9
    exact ⟨rfl, congrArg (mm g ad μ) (deq_def hq (by omega)).symm⟩
  · refine pl_aload_n (pc := 26) dX9_dequeues_26 rfl rfl ?_
    refine pj_getf (pc := 27) ckX9 1 q2517 dX9_dequeues_27 (by decide) (mm_o hA) rfl ?_
    refine pl_iload_n (pc := 30) dX9_dequeues_30 rfl rfl ?_
    refine pl_iconst (pc := 31) (v := 3) dX9_dequeues_31 (by rfl) ?_
    refine pl_iadd (pc := 32) dX9_dequeues_32 ?_
    refine pl_iload_n (pc := 33) dX9_dequeues_33 rfl rfl ?_
    refine pl_iadd (pc := 34) dX9_dequeues_34 ?_
    refine pl_aload_n (pc := 35) dX9_dequeues_35 rfl rfl ?_
    refine pj_getf (pc := 36) ckX9 1 q2517 dX9_dequeues_36 (by decide) (mm_o hA) rfl ?_
    refine pl_iload_n (pc := 39) dX9_dequeues_39 rfl rfl ?_
    refine pl_iconst (pc := 40) (v := 3) dX9_dequeues_40 (by rfl) ?_
    refine pl_iadd (pc := 41) dX9_dequeues_41 ?_
    refine pl_iload_n (pc := 42) dX9_dequeues_42 rfl rfl ?_
    refine pl_iadd (pc := 43) dX9_dequeues_43 ?_
    refine pl_iconst (pc := 44) (v := 1) dX9_dequeues_44 (by rfl) ?_
    refine pl_iadd (pc := 45) dX9_dequeues_45 ?_
    refine pl_iald (pc := 46) (n := 2132) dX9_dequeues_46 (mm_a hA 1 (by decide) (by decide)) (by omega) (by decide) ?_
    refine pm_iast (pc := 47) 1 hA (by decide) (by decide) rfl dX9_dequeues_47 (show _ < 2132 by omega) (by decide) ?_
    refine pl_iinc1 (pc := 48) (lv' := [(2, _), (1, _), (0, _)]) dX9_dequeues_48 rfl rfl (by decide) rfl ?_
    refine pj_goto (pc := 51) (tgt := 14) dX9_dequeues_51 (by decide) ?_
    exact ih (by omega)
def nearN (f t : Nat) : Nat := if f % 12 < t % 12 then f + 1 else if t % 12 < f % 12 then f - 1 else if f < t then f + 12 else f - 12
set_option maxHeartbeats 4000000 in
theorem w_X9_nearer {g : GP} {μ : Mem} {d : Nat} {f : Nat} {t : Nat}  (hd : 1 ≤ d) (hf : f < 96) (ht : t < 96) (hft : f ≠ t) : PM g yX9_nearer (ws_ yX9_nearer cX9_nearer 4 (some .int)) d 0 0 [.int (nI f), .int (nI t)] μ (rQ (some (.int (nI (nearN f t)))) μ) := by
  refine PM.of (by decide +kernel) (Nat.le_of_ble_eq_true rfl) ?_
  show PJ g _ _ _ _ d 0 0 0 [(0, .int (nI f)), (1, .int (nI t))] [] _ _
  refine pl_iload_n (pc := 0) dX9_nearer_0 rfl rfl ?_
  refine pl_bipush (pc := 1) (v := 12) dX9_nearer_1 (by rfl) ?_
  refine pl_irem (pc := 3) dX9_nearer_3 (by omega) (by decide) (by decide) ?_
  refine pj_istore_n (pc := 4) (lv' := [(2, _), (0, _), (1, _)]) dX9_nearer_4 rfl (by decide) rfl ?_
  refine pl_iload_n (pc := 5) dX9_nearer_5 rfl rfl ?_
  refine pl_bipush (pc := 6) (v := 12) dX9_nearer_6 (by rfl) ?_
  refine pl_irem (pc := 8) dX9_nearer_8 (by omega) (by decide) (by decide) ?_
  refine pj_istore_n (pc := 9) (lv' := [(3, _), (2, _), (0, _), (1, _)]) dX9_nearer_9 rfl (by decide) rfl ?_
  refine pl_iload_n (pc := 10) dX9_nearer_10 rfl rfl ?_
  refine pl_iload_n (pc := 11) dX9_nearer_11 rfl rfl ?_
  refine pl_icmp_ge (pc := 12) (tgt := 21) dX9_nearer_12 (by decide) (by omega) (by omega) (fun c12 => ?_) (fun c12 => ?_)
  · refine pl_iload_n (pc := 21) dX9_nearer_21 rfl rfl ?_
    refine pl_iload_n (pc := 22) dX9_nearer_22 rfl rfl ?_
    refine pl_icmp_le (pc := 23) (tgt := 32) dX9_nearer_23 (by decide) (by omega) (by omega) (fun c23 => ?_) (fun c23 => ?_)
    · refine pl_iload_n (pc := 32) dX9_nearer_32 rfl rfl ?_
      refine pl_iload_n (pc := 33) dX9_nearer_33 rfl rfl ?_
      refine pl_icmp_ge (pc := 34) (tgt := 44) dX9_nearer_34 (by decide) (by omega) (by omega) (fun c34 => ?_) (fun c34 => ?_)
      · refine pl_iload_n (pc := 44) dX9_nearer_44 rfl rfl ?_
        refine pl_bipush (pc := 45) (v := 12) dX9_nearer_45 (by rfl) ?_
        refine pl_isub (pc := 47) dX9_nearer_47 (by omega) ?_
        refine pj_iret (pc := 48) dX9_nearer_48 rfl ?_
        exact ⟨vIe (congrArg nI (by unfold nearN; repeat (first | rw [if_pos (by omega)] | rw [if_neg (by omega)]))) rfl, rfl⟩
      · refine pl_iload_n (pc := 37) dX9_nearer_37 rfl rfl ?_
        refine pl_bipush (pc := 38) (v := 12) dX9_nearer_38 (by rfl) ?_
        refine pl_iadd (pc := 40) dX9_nearer_40 ?_
        refine pj_goto (pc := 41) (tgt := 48) dX9_nearer_41 (by decide) ?_
        refine pj_iret (pc := 48) dX9_nearer_48 rfl ?_
        exact ⟨vIe (congrArg nI (by unfold nearN; repeat (first | rw [if_pos (by omega)] | rw [if_neg (by omega)]))) rfl, rfl⟩
    · refine pl_iload_n (pc := 26) dX9_nearer_26 rfl rfl ?_
      refine pl_iconst (pc := 27) (v := 1) dX9_nearer_27 (by rfl) ?_
      refine pl_isub (pc := 28) dX9_nearer_28 (by omega) ?_
      refine pj_goto (pc := 29) (tgt := 48) dX9_nearer_29 (by decide) ?_
      refine pj_iret (pc := 48) dX9_nearer_48 rfl ?_
      exact ⟨vIe (congrArg nI (by unfold nearN; repeat (first | rw [if_pos (by omega)] | rw [if_neg (by omega)]))) rfl, rfl⟩
  · refine pl_iload_n (pc := 15) dX9_nearer_15 rfl rfl ?_
    refine pl_iconst (pc := 16) (v := 1) dX9_nearer_16 (by rfl) ?_
    refine pl_iadd (pc := 17) dX9_nearer_17 ?_
    refine pj_goto (pc := 18) (tgt := 48) dX9_nearer_18 (by decide) ?_
    refine pj_iret (pc := 48) dX9_nearer_48 rfl ?_
    exact ⟨vIe (congrArg nI (by unfold nearN; repeat (first | rw [if_pos (by omega)] | rw [if_neg (by omega)]))) rfl, rfl⟩
