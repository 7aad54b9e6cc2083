set_option maxRecDepth 100000
def letter1 (n l : Nat) (σ : MS) : MS := if ¬ lawv σ l 0 = nI 2 then σ else if lawv σ l 4 = 0 then σ else if ¬ lawv σ l 5 = row σ 2116 then σ else if lawv σ l 4 = nI 1 then sR σ (1568 + 6 * l) (nI 3) else s_undoes n σ l
abbrev read1 (b : Nat) (σ : MS) : MS := s_reads σ b
def s_letters (n nl nb : Nat) (σ : MS) : MS := upto read1 nb (upto (letter1 n) nl σ)
theorem letter1_iv {σ : MS} {n nl nb q nor nw l : Nat} (v : IvG σ n nl nb q nor nw) (hl : l < nl) : IvG (letter1 n l σ) n nl nb q nor nw := by
  have hL := v.hL
  unfold letter1
  split
  · exact v
  · split
    · exact v
    · split
      · exact v
      · split
        · exact v.sR1 (by unfold fr1 fr2; omega)
        · exact undoes_iv v (by omega)
theorem letters_iv {σ : MS} {n nl nb q nor nw : Nat} (v : IvG σ n nl nb q nor nw) : IvG (s_letters n nl nb σ) n nl nb q nor nw := by
  have a : ∀ k, k ≤ nl → IvG (upto (letter1 n) k σ) n nl nb q nor nw := by
    intro k
    induction k with
    | zero => intro _; exact v
    | succ k ih => intro hk; exact letter1_iv (ih (by omega)) (by omega)
  have hB := v.hB
  have b : ∀ k, k ≤ nb → IvG (upto read1 k (upto (letter1 n) nl σ)) n nl nb q nor nw := by
    intro k
    induction k with
    | zero => intro _; exact a nl (Nat.le_refl _)
    | succ k ih => intro hk; exact reads_iv (ih (by omega)) (by omega)
  exact b nb (Nat.le_refl _)
def bestB (σ : MS) : Nat → Int32
  | 0 => -1
  | i + 1 => if ¬ sec σ i 0 = nI 1 then bestB σ i else if bestB σ i < 0 then nI i else if promiseV σ i ≤ promiseV σ (tN (bestB σ i)) then bestB σ i else nI i
theorem bestB_c (σ : MS) : ∀ i, bestB σ i = -1 ∨ ∃ b, b < i ∧ bestB σ i = nI b
  | 0 => Or.inl rfl
  | i + 1 => by
    have ih := bestB_c σ i
    have up : bestB σ i = -1 ∨ ∃ b, b < i + 1 ∧ bestB σ i = nI b := by
      rcases ih with h | ⟨b, hb, e⟩
      · exact Or.inl h
      · exact Or.inr ⟨b, by omega, e⟩
    simp only [bestB]
    split
    · exact up
    · split
      · exact Or.inr ⟨i, by omega, rfl⟩
      · split
        · exact up
        · exact Or.inr ⟨i, by omega, rfl⟩
def seekB (σ : MS) (n : Nat) (w : Int32) : Nat → Int32 × Nat
  | 0 => (-1, 4)
  | i + 1 => if ¬ per σ i 2 = nI 4 then seekB σ n w i else if ¬ w ≤ per σ i 1 then seekB σ n w i else if ¬ hiredC σ n (nI i) < (seekB σ n w i).2 then seekB σ n w i else (nI i, hiredC σ n (nI i))
theorem seekB_c (σ : MS) (n : Nat) (w : Int32) : ∀ i, (seekB σ n w i).2 ≤ 4 ∧ ((seekB σ n w i).1 = -1 ∨ ∃ b, b < i ∧ (seekB σ n w i).1 = nI b)
  | 0 => ⟨Nat.le_refl _, Or.inl rfl⟩
  | i + 1 => by
    obtain ⟨h1, h2⟩ := seekB_c σ n w i
    have up : (seekB σ n w i).1 = -1 ∨ ∃ b, b < i + 1 ∧ (seekB σ n w i).1 = nI b := by
      rcases h2 with h | ⟨b, hb, e⟩
      · exact Or.inl h
      · exact Or.inr ⟨b, by omega, e⟩
    simp only [seekB]
    split
    · exact ⟨h1, up⟩
    · split
      · exact ⟨h1, up⟩
      · split
        · exact ⟨h1, up⟩
        · exact ⟨by rename_i h; exact Nat.le_of_lt (Nat.lt_of_lt_of_le (Classical.not_not.mp h) h1), Or.inr ⟨i, by omega, rfl⟩⟩
def s_seeks (σ : MS) (n p : Nat) (w : Int32) : MS := if ¬ 0 ≤ (seekB σ n w n).1 then σ else sR (sR σ (768 + 8 * p + 2) (nI 3)) (768 + 8 * p + 3) (seekB σ n w n).1
theorem seeks_iv {σ : MS} {n nl nb q nor nw p : Nat} {w : Int32} (v : IvG σ n nl nb q nor nw) (hp : p < n) : IvG (s_seeks σ n p w) n nl nb q nor nw := by
  unfold s_seeks
  split
  · exact v
  · rename_i h
    rcases (seekB_c σ n w n).2 with e | ⟨b, hb, e⟩
    · rw [e] at h
      exact absurd (show ¬ (0 : Int32) ≤ -1 by decide) h
    · exact v.per2 hp (fun _ => ⟨b, hb, e⟩)
set_option maxHeartbeats 4000000 in
theorem w_X9_letters {g : GP} {ad : Nat → Nat} {μ : Mem} {σ : MS} {d : Nat}  {n nl nb q nor nw : Nat} (hd : 5 ≤ d) (hA : Inj ad 18) (iv : IvG σ n nl nb q nor nw) : PM g yX9_letters (ws_ yX9_letters cX9_letters 2 none) d 0 0 [.ref (ad 0)] (mm g ad μ σ) (rQ none (mm g ad μ (s_letters n nl nb σ))) := by
  refine PM.of (by decide +kernel) (Nat.le_of_ble_eq_true rfl) ?_
  show PJ g _ _ _ _ d 0 0 0 [(0, .ref (ad 0))] [] _ _
  have hP := iv.hP
  have hL := iv.hL
  have hB := iv.hB
  refine pl_iconst (pc := 0) (v := 0) dX9_letters_0 (by rfl) ?_
  refine pj_istore_n (pc := 1) (lv' := [(1, _), (0, _)]) dX9_letters_1 rfl (by decide) rfl ?_
  refine ind_dn (n := nl) (P := fun i => IvG (upto (letter1 n) i σ) n nl nb q nor nw → PJ g _ _ _ _ d 0 0 2 [(1, .int (nI i)), (0, .ref (ad 0))] [] (mm g ad μ (upto (letter1 n) i σ)) _) (fun i hi ih hv => ?_) 0 (Nat.zero_le _) (iv)
  refine pl_iload_n (pc := 2) dX9_letters_2 rfl rfl ?_
  refine pl_aload_n (pc := 3) dX9_letters_3 rfl rfl ?_
  refine pj_getf (pc := 4) ckX9 1 q2517 dX9_letters_4 (by decide) (mm_o hA) rfl ?_
  refine pl_sipush (pc := 7) (v := 2125) dX9_letters_7 (by rfl) ?_
  refine pl_iald (pc := 10) (n := 2132) dX9_letters_10 (mm_a hA 1 (by decide) (by decide)) (by omega) (by decide) ?_
  refine PJ.top (y := nI _) (hv.hl) ?_
  refine pl_icmp_ge (pc := 11) (tgt := 93) dX9_letters_11 (by decide) (by omega) (by omega) (fun c11 => ?_) (fun c11 => ?_)
  · have e9 : i = nl := by omega
    rw [e9] at hv ⊢
    refine pl_iconst (pc := 93) (v := 0) dX9_letters_93 (by rfl) ?_
    refine pj_istore_n (pc := 94) (lv' := [(1, _), (0, _)]) dX9_letters_94 rfl (by decide) rfl ?_
    refine ind_dn (n := nb) (P := fun i => IvG (upto read1 i (upto (letter1 n) nl σ)) n nl nb q nor nw → PJ g _ _ _ _ d 0 0 95 [(1, .int (nI i)), (0, .ref (ad 0))] [] (mm g ad μ (upto read1 i (upto (letter1 n) nl σ))) _) (fun i hi ih hv => ?_) 0 (Nat.zero_le _) (hv)
    refine pl_iload_n (pc := 95) dX9_letters_95 rfl rfl ?_
    refine pl_aload_n (pc := 96) dX9_letters_96 rfl rfl ?_
    refine pj_getf (pc := 97) ckX9 1 q2517 dX9_letters_97 (by decide) (mm_o hA) rfl ?_
    refine pl_sipush (pc := 100) (v := 2126) dX9_letters_100 (by rfl) ?_
    refine pl_iald (pc := 103) (n := 2132) dX9_letters_103 (mm_a hA 1 (by decide) (by decide)) (by omega) (by decide) ?_
    refine PJ.top (y := nI _) (hv.hb) ?_
    refine pl_icmp_ge (pc := 104) (tgt := 118) dX9_letters_104 (by decide) (by omega) (by omega) (fun c104 => ?_) (fun c104 => ?_)
    · refine pj_vret (pc := 118) dX9_letters_118 rfl ?_
      have e9 : i = nb := by omega
      rw [e9]
      exact ⟨rfl, rfl⟩
    · refine pl_aload_n (pc := 107) dX9_letters_107 rfl rfl ?_
      refine pl_iload_n (pc := 108) dX9_letters_108 rfl rfl ?_
      refine pl_callVv (pc := 109) (As := [_]) (C2 := 0) (N2 := 0) ckX9 mdX9_reads rfl q3115 q3117 qs116 q154 dX9_letters_109 rfl rfl (Nat.le_of_ble_eq_true rfl) (mm_o hA) (w_X9_reads (d := d - 1) (by omega) hA (by omega)) (by omega) (by decide) (by decide) ?_
      refine pl_iinc1 (pc := 112) (lv' := [(1, _), (0, _)]) dX9_letters_112 rfl rfl (by decide) rfl ?_
      refine pj_goto (pc := 115) (tgt := 95) dX9_letters_115 (by decide) ?_
      exact ih (by omega) (reads_iv hv (by omega))
  · refine pl_aload_n (pc := 14) dX9_letters_14 rfl rfl ?_
    refine pl_iload_n (pc := 15) dX9_letters_15 rfl rfl ?_
    refine pl_iconst (pc := 16) (v := 0) dX9_letters_16 (by rfl) ?_
    refine pl_callVd (pc := 17) (As := [_, _]) (C2 := 0) (N2 := 0) ckX9 mdX9_ofLaw rfl q2934 q2936 qs94 q154 dX9_letters_17 rfl rfl (Nat.le_of_ble_eq_true rfl) (mm_o hA) (w_X9_ofLaw (d := d - 1) (by omega) hA (by omega) (by decide)) (by omega) (by decide) (by decide) ?_
    refine pl_iconst (pc := 20) (v := 2) dX9_letters_20 (by rfl) ?_
    refine pj_icmp_ne (pc := 21) (tgt := 87) dX9_letters_21 (by decide) (fun c21 => ?_) (fun c21 => ?_)
    · refine pl_iinc1 (pc := 87) (lv' := [(1, _), (0, _)]) dX9_letters_87 rfl rfl (by decide) rfl ?_
      refine pj_goto (pc := 90) (tgt := 2) dX9_letters_90 (by decide) ?_
      exact PJ.conv rfl rfl (congrArg (mm g ad μ) (show _ = letter1 n i (upto (letter1 n) i σ) by first | (simp [letter1, c11, c21]; done) | (simp [letter1, c11, c21]; rfl))) (ih (by omega) (letter1_iv hv (by omega)))
    · refine pl_aload_n (pc := 24) dX9_letters_24 rfl rfl ?_
      refine pl_iload_n (pc := 25) dX9_letters_25 rfl rfl ?_
      refine pl_iconst (pc := 26) (v := 4) dX9_letters_26 (by rfl) ?_
      refine pl_callVd (pc := 27) (As := [_, _]) (C2 := 0) (N2 := 0) ckX9 mdX9_ofLaw rfl q2934 q2936 qs94 q154 dX9_letters_27 rfl rfl (Nat.le_of_ble_eq_true rfl) (mm_o hA) (w_X9_ofLaw (d := d - 1) (by omega) hA (by omega) (by decide)) (by omega) (by decide) (by decide) ?_
      refine pj_if_eq (pc := 30) (tgt := 87) dX9_letters_30 (by decide) (fun c30 => ?_) (fun c30 => ?_)
      · refine pl_iinc1 (pc := 87) (lv' := [(1, _), (0, _)]) dX9_letters_87 rfl rfl (by decide) rfl ?_
        refine pj_goto (pc := 90) (tgt := 2) dX9_letters_90 (by decide) ?_
        exact PJ.conv rfl rfl (congrArg (mm g ad μ) (show _ = letter1 n i (upto (letter1 n) i σ) by first | (simp [letter1, c11, eq_true c21, eq_true c30]; done) | (simp [letter1, c11, eq_true c21, eq_true c30]; rfl))) (ih (by omega) (letter1_iv hv (by omega)))
      · refine pl_aload_n (pc := 33) dX9_letters_33 rfl rfl ?_
        refine pl_iload_n (pc := 34) dX9_letters_34 rfl rfl ?_
        refine pl_iconst (pc := 35) (v := 5) dX9_letters_35 (by rfl) ?_
        refine pl_callVd (pc := 36) (As := [_, _]) (C2 := 0) (N2 := 0) ckX9 mdX9_ofLaw rfl q2934 q2936 qs94 q154 dX9_letters_36 rfl rfl (Nat.le_of_ble_eq_true rfl) (mm_o hA) (w_X9_ofLaw (d := d - 1) (by omega) hA (by omega) (by decide)) (by omega) (by decide) (by decide) ?_
        refine pl_aload_n (pc := 39) dX9_letters_39 rfl rfl ?_
        refine pj_getf (pc := 40) ckX9 1 q2517 dX9_letters_40 (by decide) (mm_o hA) rfl ?_
        refine pl_sipush (pc := 43) (v := 2116) dX9_letters_43 (by rfl) ?_
        refine pl_iald (pc := 46) (n := 2132) dX9_letters_46 (mm_a hA 1 (by decide) (by decide)) (by omega) (by decide) ?_
        refine pj_icmp_eq (pc := 47) (tgt := 53) dX9_letters_47 (by decide) (fun c47 => ?_) (fun c47 => ?_)
        · refine pl_aload_n (pc := 53) dX9_letters_53 rfl rfl ?_
          refine pl_iload_n (pc := 54) dX9_letters_54 rfl rfl ?_
          refine pl_iconst (pc := 55) (v := 4) dX9_letters_55 (by rfl) ?_
          refine pl_callVd (pc := 56) (As := [_, _]) (C2 := 0) (N2 := 0) ckX9 mdX9_ofLaw rfl q2934 q2936 qs94 q154 dX9_letters_56 rfl rfl (Nat.le_of_ble_eq_true rfl) (mm_o hA) (w_X9_ofLaw (d := d - 1) (by omega) hA (by omega) (by decide)) (by omega) (by decide) (by decide) ?_
          refine pl_iconst (pc := 59) (v := 1) dX9_letters_59 (by rfl) ?_
          refine pj_icmp_ne (pc := 60) (tgt := 82) dX9_letters_60 (by decide) (fun c60 => ?_) (fun c60 => ?_)
          · refine pl_aload_n (pc := 82) dX9_letters_82 rfl rfl ?_
            refine pl_iload_n (pc := 83) dX9_letters_83 rfl rfl ?_
            refine pl_callVv (pc := 84) (As := [_]) (C2 := 0) (N2 := 0) ckX9 mdX9_undoes rfl q3107 q3109 qs114 q154 dX9_letters_84 rfl rfl (Nat.le_of_ble_eq_true rfl) (mm_o hA) (w_X9_undoes (d := d - 1) (by omega) hA hv (by omega)) (by omega) (by decide) (by decide) ?_
            refine pl_iinc1 (pc := 87) (lv' := [(1, _), (0, _)]) dX9_letters_87 rfl rfl (by decide) rfl ?_
            refine pj_goto (pc := 90) (tgt := 2) dX9_letters_90 (by decide) ?_
            exact PJ.conv rfl rfl (congrArg (mm g ad μ) (show _ = letter1 n i (upto (letter1 n) i σ) by first | (simp [letter1, c11, eq_true c21, c30, eq_true c47, c60]; done) | (simp [letter1, c11, eq_true c21, c30, eq_true c47, c60]; rfl))) (ih (by omega) (letter1_iv hv (by omega)))
          · refine pl_aload_n (pc := 63) dX9_letters_63 rfl rfl ?_
            refine pj_getf (pc := 64) ckX9 1 q2517 dX9_letters_64 (by decide) (mm_o hA) rfl ?_
            refine pl_sipush (pc := 67) (v := 1568) dX9_letters_67 (by rfl) ?_
            refine pl_bipush (pc := 70) (v := 6) dX9_letters_70 (by rfl) ?_
            refine pl_iload_n (pc := 72) dX9_letters_72 rfl rfl ?_
            refine pl_imul (pc := 73) dX9_letters_73 ?_
            refine pl_iadd (pc := 74) dX9_letters_74 ?_
            refine pl_iconst (pc := 75) (v := 0) dX9_letters_75 (by rfl) ?_
            refine pl_iadd (pc := 76) dX9_letters_76 ?_
            refine pl_iconst (pc := 77) (v := 3) dX9_letters_77 (by rfl) ?_
            refine pm_iast (pc := 78) 1 hA (by decide) (by decide) rfl dX9_letters_78 (show _ < 2132 by omega) (by decide) ?_
            refine pj_goto (pc := 79) (tgt := 87) dX9_letters_79 (by decide) ?_
            refine pl_iinc1 (pc := 87) (lv' := [(1, _), (0, _)]) dX9_letters_87 rfl rfl (by decide) rfl ?_
            refine pj_goto (pc := 90) (tgt := 2) dX9_letters_90 (by decide) ?_
            exact PJ.conv rfl rfl (congrArg (mm g ad μ) (show _ = letter1 n i (upto (letter1 n) i σ) by first | (simp [letter1, c11, eq_true c21, c30, eq_true c47, eq_true c60]; done) | (simp [letter1, c11, eq_true c21, c30, eq_true c47, eq_true c60]; rfl))) (ih (by omega) (letter1_iv hv (by omega)))
        · refine pj_goto (pc := 50) (tgt := 87) dX9_letters_50 (by decide) ?_
          refine pl_iinc1 (pc := 87) (lv' := [(1, _), (0, _)]) dX9_letters_87 rfl rfl (by decide) rfl ?_
          refine pj_goto (pc := 90) (tgt := 2) dX9_letters_90 (by decide) ?_
          exact PJ.conv rfl rfl (congrArg (mm g ad μ) (show _ = letter1 n i (upto (letter1 n) i σ) by first | (simp [letter1, c11, eq_true c21, c30, c47]; done) | (simp [letter1, c11, eq_true c21, c30, c47]; rfl))) (ih (by omega) (letter1_iv hv (by omega)))
set_option maxHeartbeats 4000000 in
theorem w_X9_bestLot {g : GP} {ad : Nat → Nat} {μ : Mem} {σ : MS} {d : Nat}   (hd : 3 ≤ d) (hA : Inj ad 18) : PM g yX9_bestLot (ws_ yX9_bestLot cX9_bestLot 3 (some .int)) d 0 0 [.ref (ad 0)] (mm g ad μ σ) (rQ (some (.int (bestB σ 96))) (mm g ad μ (σ))) := by
  refine PM.of (by decide +kernel) (Nat.le_of_ble_eq_true rfl) ?_
  show PJ g _ _ _ _ d 0 0 0 [(0, .ref (ad 0))] [] _ _
  refine pj_iconst (pc := 0) (v := (-1)) dX9_bestLot_0 (by rfl) ?_
  refine pj_istore_n (pc := 1) (lv' := [(1, _), (0, _)]) dX9_bestLot_1 rfl (by decide) rfl ?_
  refine pl_iconst (pc := 2) (v := 0) dX9_bestLot_2 (by rfl) ?_
  refine pj_istore_n (pc := 3) (lv' := [(2, _), (1, _), (0, _)]) dX9_bestLot_3 rfl (by decide) rfl ?_
  refine ind_dn (n := 96) (P := fun i => PJ g _ _ _ _ d 0 0 4 [(2, .int (nI i)), (1, .int (bestB σ i)), (0, .ref (ad 0))] [] (mm g ad μ σ) _) (fun i hi ih => ?_) 0 (Nat.zero_le _)
  refine pl_iload_n (pc := 4) dX9_bestLot_4 rfl rfl ?_
  refine pl_bipush (pc := 5) (v := 96) dX9_bestLot_5 (by rfl) ?_
  refine pl_icmp_ge (pc := 7) (tgt := 45) dX9_bestLot_7 (by decide) (by omega) (by omega) (fun c7 => ?_) (fun c7 => ?_)
  · refine pl_iload_n (pc := 45) dX9_bestLot_45 rfl rfl ?_
    refine pj_iret (pc := 46) dX9_bestLot_46 rfl ?_
    have e : i = 96 := by omega
    subst e
    exact ⟨rfl, rfl⟩
  · refine pl_aload_n (pc := 10) dX9_bestLot_10 rfl rfl ?_
    refine pl_iload_n (pc := 11) dX9_bestLot_11 rfl rfl ?_
    refine pl_iconst (pc := 12) (v := 0) dX9_bestLot_12 (by rfl) ?_
    refine pl_callVd (pc := 13) (As := [_, _]) (C2 := 0) (N2 := 0) ckX9 mdX9_sec rfl q2635 q2637 qs51 q154 dX9_bestLot_13 rfl rfl (Nat.le_of_ble_eq_true rfl) (mm_o hA) (w_X9_sec (d := d - 1) (by omega) hA (by omega) (by decide)) (by omega) (by decide) (by decide) ?_
    refine pl_iconst (pc := 16) (v := 1) dX9_bestLot_16 (by rfl) ?_
    refine pj_icmp_ne (pc := 17) (tgt := 39) dX9_bestLot_17 (by decide) (fun c17 => ?_) (fun c17 => ?_)
    · refine pl_iinc1 (pc := 39) (lv' := [(2, _), (1, _), (0, _)]) dX9_bestLot_39 rfl rfl (by decide) rfl ?_
      refine pj_goto (pc := 42) (tgt := 4) dX9_bestLot_42 (by decide) ?_
      exact PJ.conv (by simp [bestB, c7, c17]) rfl rfl (ih (by omega))
    · rcases bestB_c σ i with hs20 | hs20
      · rw [hs20]
        refine pl_iload_n (pc := 20) dX9_bestLot_20 rfl rfl ?_
        refine pj_if_lt (pc := 21) (tgt := 37) dX9_bestLot_21 (by decide) (fun _ => ?_) (fun h => absurd h (by decide))
        refine pl_iload_n (pc := 37) dX9_bestLot_37 rfl rfl ?_
        refine pj_istore_n (pc := 38) (lv' := [(1, _), (2, _), (0, _)]) dX9_bestLot_38 rfl (by decide) rfl ?_
        refine pl_iinc1 (pc := 39) (lv' := [(2, _), (1, _), (0, _)]) dX9_bestLot_39 rfl rfl (by decide) rfl ?_
        refine pj_goto (pc := 42) (tgt := 4) dX9_bestLot_42 (by decide) ?_
        exact PJ.conv (by simp [bestB, c7, eq_true c17, hs20]) rfl rfl (ih (by omega))
      · obtain ⟨b, hb, eb⟩ := hs20
        have g_b := tN_nI (n := b) (by omega)
        have p_b : ¬ nI b < 0 := Int32.not_lt.mpr (nI_pos' (by omega))
        rw [eb]
        refine pl_iload_n (pc := 20) dX9_bestLot_20 rfl rfl ?_
        refine pl_if_ltN (pc := 21) dX9_bestLot_21 ⟨37, by decide⟩ (by omega) ?_
        refine pl_aload_n (pc := 24) dX9_bestLot_24 rfl rfl ?_
        refine pl_iload_n (pc := 25) dX9_bestLot_25 rfl rfl ?_
        refine pl_callVd (pc := 26) (As := [_]) (C2 := 0) (N2 := 0) ckX9 mdX9_promiseOf rfl q2667 q2669 qs54 q154 dX9_bestLot_26 rfl rfl (Nat.le_of_ble_eq_true rfl) (mm_o hA) (w_X9_promiseOf (d := d - 1) (by omega) hA (by omega)) (by omega) (by decide) (by decide) ?_
        refine pl_aload_n (pc := 29) dX9_bestLot_29 rfl rfl ?_
        refine pl_iload_n (pc := 30) dX9_bestLot_30 rfl rfl ?_
        refine pl_callVd (pc := 31) (As := [_]) (C2 := 0) (N2 := 0) ckX9 mdX9_promiseOf rfl q2667 q2669 qs54 q154 dX9_bestLot_31 rfl rfl (Nat.le_of_ble_eq_true rfl) (mm_o hA) (w_X9_promiseOf (d := d - 1) (by omega) hA (by omega)) (by omega) (by decide) (by decide) ?_
        refine pj_icmp_le (pc := 34) (tgt := 39) dX9_bestLot_34 (by decide) (fun c34 => ?_) (fun c34 => ?_)
        · refine pl_iinc1 (pc := 39) (lv' := [(2, _), (1, _), (0, _)]) dX9_bestLot_39 rfl rfl (by decide) rfl ?_
          refine pj_goto (pc := 42) (tgt := 4) dX9_bestLot_42 (by decide) ?_
          exact PJ.conv (by simp [bestB, c7, eq_true c17, eb, g_b, p_b, c34]) rfl rfl (ih (by omega))
        · refine pl_iload_n (pc := 37) dX9_bestLot_37 rfl rfl ?_
          refine pj_istore_n (pc := 38) (lv' := [(1, _), (2, _), (0, _)]) dX9_bestLot_38 rfl (by decide) rfl ?_
          refine pl_iinc1 (pc := 39) (lv' := [(2, _), (1, _), (0, _)]) dX9_bestLot_39 rfl rfl (by decide) rfl ?_
          refine pj_goto (pc := 42) (tgt := 4) dX9_bestLot_42 (by decide) ?_
          exact PJ.conv (by simp [bestB, c7, eq_true c17, eb, g_b, p_b, c34]) rfl rfl (ih (by omega))
set_option maxHeartbeats 4000000 in
theorem w_X9_seeks {g : GP} {ad : Nat → Nat} {μ : Mem} {σ : MS} {d : Nat} {p : Nat} {w : Int32} {n nl nb q nor nw : Nat} (hd : 3 ≤ d) (hA : Inj ad 18) (iv : IvG σ n nl nb q nor nw) (hp : p < n) : PM g yX9_seeks (ws_ yX9_seeks cX9_seeks 7 none) d 0 0 [.ref (ad 0), .int (nI p), .int w] (mm g ad μ σ) (rQ none (mm g ad μ (s_seeks σ n p w))) := by
  refine PM.of (by decide +kernel) (Nat.le_of_ble_eq_true rfl) ?_
  show PJ g _ _ _ _ d 0 0 0 [(0, .ref (ad 0)), (1, .int (nI p)), (2, .int w)] [] _ _
  have hP := iv.hP
  refine pj_iconst (pc := 0) (v := (-1)) dX9_seeks_0 (by rfl) ?_
  refine pj_istore_n (pc := 1) (lv' := [(3, _), (0, _), (1, _), (2, _)]) dX9_seeks_1 rfl (by decide) rfl ?_
  refine pl_iconst (pc := 2) (v := 4) dX9_seeks_2 (by rfl) ?_
  refine pj_istore (pc := 3) (lv' := [(4, _), (3, _), (0, _), (1, _), (2, _)]) dX9_seeks_3 (by decide) rfl ?_
  refine pl_iconst (pc := 5) (v := 0) dX9_seeks_5 (by rfl) ?_
  refine pj_istore (pc := 6) (lv' := [(5, _), (4, _), (3, _), (0, _), (1, _), (2, _)]) dX9_seeks_6 (by decide) rfl ?_
  refine PJ.sub [0, 1, 2, 5, 4, 3] rfl ?_
  refine ind_dn (n := n) (P := fun i => PJ g _ _ _ _ d 0 0 8 [(5, .int (nI i)), (4, .int (nI (seekB σ n w i).2)), (3, .int (seekB σ n w i).1), (2, .int w), (1, .int (nI p)), (0, .ref (ad 0))] [] (mm g ad μ σ) _) (fun i hi ih => ?_) 0 (Nat.zero_le _)
  refine pl_iload (pc := 8) dX9_seeks_8 rfl ?_
  refine pl_aload_n (pc := 10) dX9_seeks_10 rfl rfl ?_
  refine pj_getf (pc := 11) ckX9 1 q2517 dX9_seeks_11 (by decide) (mm_o hA) rfl ?_
  refine pl_sipush (pc := 14) (v := 2124) dX9_seeks_14 (by rfl) ?_
  refine pl_iald (pc := 17) (n := 2132) dX9_seeks_17 (mm_a hA 1 (by decide) (by decide)) (by omega) (by decide) ?_
  refine PJ.top (y := nI _) (iv.hn) ?_
  refine pl_icmp_ge (pc := 18) (tgt := 77) dX9_seeks_18 (by decide) (by omega) (by omega) (fun c18 => ?_) (fun c18 => ?_)
  · refine pl_iload_n (pc := 77) dX9_seeks_77 rfl rfl ?_
    refine pj_if_ge (pc := 78) (tgt := 82) dX9_seeks_78 (by decide) (fun c78 => ?_) (fun c78 => ?_)
    · refine pl_aload_n (pc := 82) dX9_seeks_82 rfl rfl ?_
      refine pl_iload_n (pc := 83) dX9_seeks_83 rfl rfl ?_
      refine pl_iconst (pc := 84) (v := 2) dX9_seeks_84 (by rfl) ?_
      refine pl_iconst (pc := 85) (v := 3) dX9_seeks_85 (by rfl) ?_
      refine pl_callVv (pc := 86) (As := [_, _, _]) (C2 := 0) (N2 := 0) ckX9 mdX9_setPer rfl q2701 q2703 qs57 q154 dX9_seeks_86 rfl rfl (Nat.le_of_ble_eq_true rfl) (mm_o hA) (w_X9_setPer (d := d - 1) (by omega) hA (by omega) (by decide)) (by omega) (by decide) (by decide) ?_
      refine pl_aload_n (pc := 89) dX9_seeks_89 rfl rfl ?_
      refine pl_iload_n (pc := 90) dX9_seeks_90 rfl rfl ?_
      refine pl_iconst (pc := 91) (v := 3) dX9_seeks_91 (by rfl) ?_
      refine pl_iload_n (pc := 92) dX9_seeks_92 rfl rfl ?_
      refine pl_callVv (pc := 93) (As := [_, _, _]) (C2 := 0) (N2 := 0) ckX9 mdX9_setPer rfl q2701 q2703 qs57 q154 dX9_seeks_93 rfl rfl (Nat.le_of_ble_eq_true rfl) (mm_o hA) (w_X9_setPer (d := d - 1) (by omega) hA (by omega) (by decide)) (by omega) (by decide) (by decide) ?_
      refine pj_vret (pc := 96) dX9_seeks_96 rfl ?_
      have e9 : i = n := by omega
      subst e9
      exact ⟨rfl, congrArg (mm g ad μ) (by simp [s_seeks, c18, c78])⟩
    · refine pj_vret (pc := 81) dX9_seeks_81 rfl ?_
      have e9 : i = n := by omega
      subst e9
      exact ⟨rfl, congrArg (mm g ad μ) (by simp [s_seeks, c18, c78])⟩
  · refine pl_aload_n (pc := 21) dX9_seeks_21 rfl rfl ?_
    refine pl_iload (pc := 22) dX9_seeks_22 rfl ?_
    refine pl_iconst (pc := 24) (v := 2) dX9_seeks_24 (by rfl) ?_
    refine pl_callVd (pc := 25) (As := [_, _]) (C2 := 0) (N2 := 0) ckX9 mdX9_per rfl q2713 q2715 qs59 q154 dX9_seeks_25 rfl rfl (Nat.le_of_ble_eq_true rfl) (mm_o hA) (w_X9_per (d := d - 1) (by omega) hA (by omega) (by decide)) (by omega) (by decide) (by decide) ?_
    refine pl_iconst (pc := 28) (v := 4) dX9_seeks_28 (by rfl) ?_
    refine pj_icmp_ne (pc := 29) (tgt := 71) dX9_seeks_29 (by decide) (fun c29 => ?_) (fun c29 => ?_)
    · refine pl_iinc1 (pc := 71) (lv' := [(5, _), (4, _), (3, _), (2, _), (1, _), (0, _)]) dX9_seeks_71 rfl rfl (by decide) rfl ?_
      refine pj_goto (pc := 74) (tgt := 8) dX9_seeks_74 (by decide) ?_
      exact PJ.conv (by first | (simp [seekB, c18, c29]; done) | (simp [seekB, c18, c29]; rfl)) rfl rfl (ih (by omega))
    · refine pl_aload_n (pc := 32) dX9_seeks_32 rfl rfl ?_
      refine pl_iload (pc := 33) dX9_seeks_33 rfl ?_
      refine pl_iconst (pc := 35) (v := 1) dX9_seeks_35 (by rfl) ?_
      refine pl_callVd (pc := 36) (As := [_, _]) (C2 := 0) (N2 := 0) ckX9 mdX9_per rfl q2713 q2715 qs59 q154 dX9_seeks_36 rfl rfl (Nat.le_of_ble_eq_true rfl) (mm_o hA) (w_X9_per (d := d - 1) (by omega) hA (by omega) (by decide)) (by omega) (by decide) (by decide) ?_
      refine pl_iload_n (pc := 39) dX9_seeks_39 rfl rfl ?_
      refine pj_icmp_ge (pc := 40) (tgt := 46) dX9_seeks_40 (by decide) (fun c40 => ?_) (fun c40 => ?_)
      · refine pl_aload_n (pc := 46) dX9_seeks_46 rfl rfl ?_
        refine pl_iload (pc := 47) dX9_seeks_47 rfl ?_
        refine pl_callVd (pc := 49) (As := [_]) (C2 := 0) (N2 := 0) ckX9 mdX9_hiredBy rfl q2717 q2719 qs60 q154 dX9_seeks_49 rfl rfl (Nat.le_of_ble_eq_true rfl) (mm_o hA) (w_X9_hiredBy (d := d - 1) (by omega) hA iv.hn iv.hP) (by omega) (by decide) (by decide) ?_
        refine pj_istore (pc := 52) (lv' := [(6, _), (5, _), (4, _), (3, _), (2, _), (1, _), (0, _)]) dX9_seeks_52 (by decide) rfl ?_
        refine pl_iload (pc := 54) dX9_seeks_54 rfl ?_
        refine pl_iload (pc := 56) dX9_seeks_56 rfl ?_
        refine pl_icmp_lt (pc := 58) (tgt := 64) dX9_seeks_58 (by decide) (Nat.lt_of_le_of_lt (cnt_le _ _) (by omega)) (Nat.lt_of_le_of_lt (seekB_c σ n w _).1 (by decide)) (fun c58 => ?_) (fun c58 => ?_)
        · refine pl_iload (pc := 64) dX9_seeks_64 rfl ?_
          refine pj_istore_n (pc := 66) (lv' := [(3, _), (6, _), (5, _), (4, _), (2, _), (1, _), (0, _)]) dX9_seeks_66 rfl (by decide) rfl ?_
          refine pl_iload (pc := 67) dX9_seeks_67 rfl ?_
          refine pj_istore (pc := 69) (lv' := [(4, _), (3, _), (6, _), (5, _), (2, _), (1, _), (0, _)]) dX9_seeks_69 (by decide) rfl ?_
          refine pl_iinc1 (pc := 71) (lv' := [(5, _), (4, _), (3, _), (6, _), (2, _), (1, _), (0, _)]) dX9_seeks_71 rfl rfl (by decide) rfl ?_
          refine pj_goto (pc := 74) (tgt := 8) dX9_seeks_74 (by decide) ?_
          refine PJ.sub [0, 1, 2, 4, 5, 6] rfl ?_
          exact PJ.conv (by first | (simp [seekB, c18, eq_true c29, c40, c58]; done) | (simp [seekB, c18, eq_true c29, c40, c58]; rfl)) rfl rfl (ih (by omega))
        · refine pj_goto (pc := 61) (tgt := 71) dX9_seeks_61 (by decide) ?_
          refine pl_iinc1 (pc := 71) (lv' := [(5, _), (6, _), (4, _), (3, _), (2, _), (1, _), (0, _)]) dX9_seeks_71 rfl rfl (by decide) rfl ?_
          refine pj_goto (pc := 74) (tgt := 8) dX9_seeks_74 (by decide) ?_
          refine PJ.sub [0, 2, 3, 4, 5, 6] rfl ?_
          exact PJ.conv (by first | (simp [seekB, c18, eq_true c29, c40, c58]; done) | (simp [seekB, c18, eq_true c29, c40, c58]; rfl)) rfl rfl (ih (by omega))
      · refine pj_goto (pc := 43) (tgt := 71) dX9_seeks_43 (by decide) ?_
        refine pl_iinc1 (pc := 71) (lv' := [(5, _), (4, _), (3, _), (2, _), (1, _), (0, _)]) dX9_seeks_71 rfl rfl (by decide) rfl ?_
        refine pj_goto (pc := 74) (tgt := 8) dX9_seeks_74 (by decide) ?_
        exact PJ.conv (by first | (simp [seekB, c18, eq_true c29, c40]; done) | (simp [seekB, c18, eq_true c29, c40]; rfl)) rfl rfl (ih (by omega))
