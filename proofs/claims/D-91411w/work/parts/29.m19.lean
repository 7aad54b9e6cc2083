set_option maxRecDepth 100000
def undo1 (n l c : Nat) (σ : MS) : MS := if ¬ sec σ c 0 = nI 3 then σ else if ¬ sec σ c 6 = nI l then σ else s_loses n (s_holds (s_pays (sR σ 2118 (row σ 2118 - sec σ c 5)) (tN (sec σ c 1)) (sec σ c 5)) c (nI 1) (-1)) (tN (sec σ c 1))
def s_undoes (n : Nat) (σ : MS) (l : Nat) : MS := let σ1 := sR σ (1568 + 6 * l) (nI 4); if σ.2.1 11 l = 0 then σ1 else upto (undo1 n l) 96 σ1
theorem IvG.pays2 {σ : MS} {n nl nb q nor nw p : Nat} {x y : Int32} (v : IvG σ n nl nb q nor nw) (hp : p < n) : IvG (s_pays (sR σ 2118 y) p x) n nl nb q nor nw := IvG.pays (v.sR1 (by unfold fr1 fr2; omega)) hp
theorem undo1_iv {σ : MS} {n nl nb q nor nw l c : Nat} (v : IvG σ n nl nb q nor nw) (hc : c < 96) : IvG (undo1 n l c σ) n nl nb q nor nw := by
  unfold undo1
  split
  · exact v
  · split
    · exact v
    · rename_i h _
      have h3 : sec σ c 0 = nI 3 := Classical.not_not.mp h
      have := v.who c hc
      unfold Who at this
      rw [h3] at this
      rcases this with h | h | ⟨-, p, hp, e⟩
      · exact absurd h (by decide)
      · exact absurd h (by decide)
      · have hP := v.hP
        rw [e, tN_nI (by omega)]
        exact ((v.pays2 hp).holdsN hc (Or.inr (Or.inl rfl))).loses hp
theorem frees1_11 {p o k : Nat} {σ : MS} (h : k ≠ 1) : (frees1 p o σ).2.1 k = σ.2.1 k := by
  unfold frees1
  split
  · rfl
  · split
    · rfl
    · simp [sA, h]
theorem upto_k {f : Nat → MS → MS} {k : Nat} (h : ∀ i σ, (f i σ).2.1 k = σ.2.1 k) (σ : MS) : ∀ n, (upto f n σ).2.1 k = σ.2.1 k
  | 0 => rfl
  | n + 1 => (h n _).trans (upto_k h σ n)
theorem loses_k {n p k : Nat} {σ : MS} (h : k ≠ 1) : (s_loses n σ p).2.1 k = σ.2.1 k := by
  unfold s_loses
  split
  · rfl
  · split
    · rfl
    · exact (upto_k (fun i σ => frees1_11 h) _ n).trans (by simp [sA, h])
theorem undo1_k {n l c k : Nat} {σ : MS} (h : k ≠ 1) : (undo1 n l c σ).2.1 k = σ.2.1 k := by
  unfold undo1
  split
  · rfl
  · split
    · rfl
    · exact (loses_k h).trans (by simp [s_holds, s_pays, sA, h])
theorem undoes_iv {σ : MS} {n nl nb q nor nw l : Nat} (v : IvG σ n nl nb q nor nw) (hl : l < 12) : IvG (s_undoes n σ l) n nl nb q nor nw := by
  have v1 : IvG (sR σ (1568 + 6 * l) (nI 4)) n nl nb q nor nw := v.sR1 (by unfold fr1 fr2; omega)
  have up : ∀ k, k ≤ 96 → IvG (upto (undo1 n l) k (sR σ (1568 + 6 * l) (nI 4))) n nl nb q nor nw := by
    intro k
    induction k with
    | zero => intro _; exact v1
    | succ k ih => intro hk; exact undo1_iv (ih (by omega)) (by omega)
  unfold s_undoes
  by_cases h : σ.2.1 11 l = 0
  · exact (if_pos h).symm ▸ v1
  · exact (if_neg h).symm ▸ up 96 (Nat.le_refl _)
def s_reads (σ : MS) (b : Nat) : MS := let a := 1640 + 4 * b; let v := row σ a;
  if ¬ row σ (a + 3) = row σ 2116 then σ else if row σ (a + 2) = nI 1 then σ else if row σ (a + 2) = nI 3 then σ
  else if row σ (a + 2) = nI 2 then (let σ := sR σ 2118 (row σ 2118 - (v + v * nI 20 / nI 100 + row σ (a + 1))); sR σ (a + 2) (nI 3))
  else if ¬ row σ 2123 < v then (let σ := sR σ 2123 (row σ 2123 - v); sR σ (a + 2) (nI 1))
  else (let σ := sR σ (a + 2) (nI 2); sR σ (a + 3) (row σ 2116 + nI 34))
theorem reads_iv {σ : MS} {n nl nb q nor nw b : Nat} (v : IvG σ n nl nb q nor nw) (hb : b < 20) : IvG (s_reads σ b) n nl nb q nor nw := by
  unfold s_reads
  simp only []
  split
  · exact v
  · split
    · exact v
    · split
      · exact v
      · split
        · exact (v.sR1 (by unfold fr1 fr2; omega)).sR1 (by unfold fr1 fr2; omega)
        · split
          · exact (v.sR1 (by unfold fr1 fr2; omega)).sR1 (by unfold fr1 fr2; omega)
          · exact (v.sR1 (by unfold fr1 fr2; omega)).sR1 (by unfold fr1 fr2; omega)
set_option maxHeartbeats 4000000 in
theorem w_X9_loses {g : GP} {ad : Nat → Nat} {μ : Mem} {σ : MS} {d : Nat} {p : Nat} {n nl nb q nor nw : Nat} (hd : 3 ≤ d) (hA : Inj ad 18) (iv : IvG σ n nl nb q nor nw) (hp : p < n) : PM g yX9_loses (ws_ yX9_loses cX9_loses 3 none) d 0 0 [.ref (ad 0), .int (nI p)] (mm g ad μ σ) (rQ none (mm g ad μ (s_loses n σ p))) := by
  refine PM.of (by decide +kernel) (Nat.le_of_ble_eq_true rfl) ?_
  show PJ g _ _ _ _ d 0 0 0 [(0, .ref (ad 0)), (1, .int (nI p))] [] _ _
  have hP := iv.hP
  refine pl_aload_n (pc := 0) dX9_loses_0 rfl rfl ?_
  refine pl_iload_n (pc := 1) dX9_loses_1 rfl rfl ?_
  refine pl_iconst (pc := 2) (v := 2) dX9_loses_2 (by rfl) ?_
  refine pl_callVd (pc := 3) (As := [_, _]) (C2 := 0) (N2 := 0) ckX9 mdX9_per rfl q2713 q2715 qs59 q154 dX9_loses_3 rfl rfl (Nat.le_of_ble_eq_true rfl) (mm_o hA) (w_X9_per (d := d - 1) (by omega) hA (by omega) (by decide)) (by omega) (by decide) (by decide) ?_
  refine pl_iconst (pc := 6) (v := 4) dX9_loses_6 (by rfl) ?_
  refine pj_icmp_ne (pc := 7) (tgt := 18) dX9_loses_7 (by decide) (fun c7 => ?_) (fun c7 => ?_)
  · refine pj_vret (pc := 18) dX9_loses_18 rfl ?_
    exact ⟨rfl, congrArg (mm g ad μ) (by simp [s_loses, c7])⟩
  · refine pl_aload_n (pc := 10) dX9_loses_10 rfl rfl ?_
    refine pl_iload_n (pc := 11) dX9_loses_11 rfl rfl ?_
    refine pl_callVd (pc := 12) (As := [_]) (C2 := 0) (N2 := 0) ckX9 mdX9_farmsOf rfl q2721 q2723 qs61 q154 dX9_loses_12 rfl rfl (Nat.le_of_ble_eq_true rfl) (mm_o hA) (w_X9_farmsOf (d := d - 1) (by omega) hA) (by omega) (by decide) (by decide) ?_
    refine pl_if_leN (pc := 15) (tgt := 19) dX9_loses_15 (by decide) (Nat.lt_of_le_of_lt (cnt_le _ _) (by decide)) (fun c15 => ?_) (fun c15 => ?_)
    · refine pl_aload_n (pc := 19) dX9_loses_19 rfl rfl ?_
      refine pl_iload_n (pc := 20) dX9_loses_20 rfl rfl ?_
      refine pl_iconst (pc := 21) (v := 2) dX9_loses_21 (by rfl) ?_
      refine pl_iconst (pc := 22) (v := 2) dX9_loses_22 (by rfl) ?_
      refine pl_callVv (pc := 23) (As := [_, _, _]) (C2 := 0) (N2 := 0) ckX9 mdX9_setPer rfl q2701 q2703 qs57 q154 dX9_loses_23 rfl rfl (Nat.le_of_ble_eq_true rfl) (mm_o hA) (w_X9_setPer (d := d - 1) (by omega) hA (by omega) (by decide)) (by omega) (by decide) (by decide) ?_
      refine pl_iconst (pc := 26) (v := 0) dX9_loses_26 (by rfl) ?_
      refine pj_istore_n (pc := 27) (lv' := [(2, _), (0, _), (1, _)]) dX9_loses_27 rfl (by decide) rfl ?_
      refine PJ.sub [0, 2, 1] rfl ?_
      refine ind_dn (n := n) (P := fun i => IvG (upto (frees1 p) i (sR σ (768 + 8 * p + 2) (nI 2))) n nl nb q nor nw → PJ g _ _ _ _ d 0 0 28 [(2, .int (nI i)), (1, .int (nI p)), (0, .ref (ad 0))] [] (mm g ad μ (upto (frees1 p) i (sR σ (768 + 8 * p + 2) (nI 2)))) _) (fun i hi ih hv => ?_) 0 (Nat.zero_le _) (iv.perF hp (by decide))
      refine pl_iload_n (pc := 28) dX9_loses_28 rfl rfl ?_
      refine pl_aload_n (pc := 29) dX9_loses_29 rfl rfl ?_
      refine pj_getf (pc := 30) ckX9 1 q2517 dX9_loses_30 (by decide) (mm_o hA) rfl ?_
      refine pl_sipush (pc := 33) (v := 2124) dX9_loses_33 (by rfl) ?_
      refine pl_iald (pc := 36) (n := 2132) dX9_loses_36 (mm_a hA 1 (by decide) (by decide)) (by omega) (by decide) ?_
      refine PJ.top (y := nI _) (hv.hn) ?_
      refine pl_icmp_ge (pc := 37) (tgt := 83) dX9_loses_37 (by decide) (by omega) (by omega) (fun c37 => ?_) (fun c37 => ?_)
      · refine pj_vret (pc := 83) dX9_loses_83 rfl ?_
        have e9 : i = n := by omega
        subst e9
        exact ⟨rfl, congrArg (mm g ad μ) (by simp [s_loses, eq_true c7, c15])⟩
      · refine pl_aload_n (pc := 40) dX9_loses_40 rfl rfl ?_
        refine pl_iload_n (pc := 41) dX9_loses_41 rfl rfl ?_
        refine pl_iconst (pc := 42) (v := 2) dX9_loses_42 (by rfl) ?_
        refine pl_callVd (pc := 43) (As := [_, _]) (C2 := 0) (N2 := 0) ckX9 mdX9_per rfl q2713 q2715 qs59 q154 dX9_loses_43 rfl rfl (Nat.le_of_ble_eq_true rfl) (mm_o hA) (w_X9_per (d := d - 1) (by omega) hA (by omega) (by decide)) (by omega) (by decide) (by decide) ?_
        refine pl_iconst (pc := 46) (v := 3) dX9_loses_46 (by rfl) ?_
        refine pj_icmp_ne (pc := 47) (tgt := 77) dX9_loses_47 (by decide) (fun c47 => ?_) (fun c47 => ?_)
        · refine pl_iinc1 (pc := 77) (lv' := [(2, _), (1, _), (0, _)]) dX9_loses_77 rfl rfl (by decide) rfl ?_
          refine pj_goto (pc := 80) (tgt := 28) dX9_loses_80 (by decide) ?_
          exact PJ.conv rfl rfl (congrArg (mm g ad μ) (show _ = frees1 p i (upto (frees1 p) i (sR σ (768 + 8 * p + 2) (nI 2))) by simp [frees1, c37, c47])) (ih (by omega) (hv.frees (by omega)))
        · refine pl_aload_n (pc := 50) dX9_loses_50 rfl rfl ?_
          refine pl_iload_n (pc := 51) dX9_loses_51 rfl rfl ?_
          refine pl_iconst (pc := 52) (v := 3) dX9_loses_52 (by rfl) ?_
          refine pl_callVd (pc := 53) (As := [_, _]) (C2 := 0) (N2 := 0) ckX9 mdX9_per rfl q2713 q2715 qs59 q154 dX9_loses_53 rfl rfl (Nat.le_of_ble_eq_true rfl) (mm_o hA) (w_X9_per (d := d - 1) (by omega) hA (by omega) (by decide)) (by omega) (by decide) (by decide) ?_
          refine pl_iload_n (pc := 56) dX9_loses_56 rfl rfl ?_
          refine pj_icmp_eq (pc := 57) (tgt := 63) dX9_loses_57 (by decide) (fun c57 => ?_) (fun c57 => ?_)
          · refine pl_aload_n (pc := 63) dX9_loses_63 rfl rfl ?_
            refine pl_iload_n (pc := 64) dX9_loses_64 rfl rfl ?_
            refine pl_iconst (pc := 65) (v := 2) dX9_loses_65 (by rfl) ?_
            refine pl_iconst (pc := 66) (v := 2) dX9_loses_66 (by rfl) ?_
            refine pl_callVv (pc := 67) (As := [_, _, _]) (C2 := 0) (N2 := 0) ckX9 mdX9_setPer rfl q2701 q2703 qs57 q154 dX9_loses_67 rfl rfl (Nat.le_of_ble_eq_true rfl) (mm_o hA) (w_X9_setPer (d := d - 1) (by omega) hA (by omega) (by decide)) (by omega) (by decide) (by decide) ?_
            refine pl_aload_n (pc := 70) dX9_loses_70 rfl rfl ?_
            refine pl_iload_n (pc := 71) dX9_loses_71 rfl rfl ?_
            refine pl_iconst (pc := 72) (v := 3) dX9_loses_72 (by rfl) ?_
            refine pj_iconst (pc := 73) (v := (-1)) dX9_loses_73 (by rfl) ?_
            refine pl_callVv (pc := 74) (As := [_, _, _]) (C2 := 0) (N2 := 0) ckX9 mdX9_setPer rfl q2701 q2703 qs57 q154 dX9_loses_74 rfl rfl (Nat.le_of_ble_eq_true rfl) (mm_o hA) (w_X9_setPer (d := d - 1) (by omega) hA (by omega) (by decide)) (by omega) (by decide) (by decide) ?_
            refine pl_iinc1 (pc := 77) (lv' := [(2, _), (1, _), (0, _)]) dX9_loses_77 rfl rfl (by decide) rfl ?_
            refine pj_goto (pc := 80) (tgt := 28) dX9_loses_80 (by decide) ?_
            exact PJ.conv rfl rfl (congrArg (mm g ad μ) (show _ = frees1 p i (upto (frees1 p) i (sR σ (768 + 8 * p + 2) (nI 2))) by simp [frees1, c37, eq_true c47, eq_true c57])) (ih (by omega) (hv.frees (by omega)))
          · refine pj_goto (pc := 60) (tgt := 77) dX9_loses_60 (by decide) ?_
            refine pl_iinc1 (pc := 77) (lv' := [(2, _), (1, _), (0, _)]) dX9_loses_77 rfl rfl (by decide) rfl ?_
            refine pj_goto (pc := 80) (tgt := 28) dX9_loses_80 (by decide) ?_
            exact PJ.conv rfl rfl (congrArg (mm g ad μ) (show _ = frees1 p i (upto (frees1 p) i (sR σ (768 + 8 * p + 2) (nI 2))) by simp [frees1, c37, eq_true c47, c57])) (ih (by omega) (hv.frees (by omega)))
    · refine pj_vret (pc := 18) dX9_loses_18 rfl ?_
      exact ⟨rfl, congrArg (mm g ad μ) (by simp [s_loses, eq_true c7, c15])⟩
set_option maxHeartbeats 4000000 in
theorem w_X9_reads {g : GP} {ad : Nat → Nat} {μ : Mem} {σ : MS} {d : Nat} {b : Nat}  (hd : 1 ≤ d) (hA : Inj ad 18) (hb : b < 20) : PM g yX9_reads (ws_ yX9_reads cX9_reads 4 none) d 0 0 [.ref (ad 0), .int (nI b)] (mm g ad μ σ) (rQ none (mm g ad μ (s_reads σ b))) := by
  refine PM.of (by decide +kernel) (Nat.le_of_ble_eq_true rfl) ?_
  show PJ g _ _ _ _ d 0 0 0 [(0, .ref (ad 0)), (1, .int (nI b))] [] _ _
  refine pl_sipush (pc := 0) (v := 1640) dX9_reads_0 (by rfl) ?_
  refine pl_iconst (pc := 3) (v := 4) dX9_reads_3 (by rfl) ?_
  refine pl_iload_n (pc := 4) dX9_reads_4 rfl rfl ?_
  refine pl_imul (pc := 5) dX9_reads_5 ?_
  refine pl_iadd (pc := 6) dX9_reads_6 ?_
  refine pj_istore_n (pc := 7) (lv' := [(2, _), (0, _), (1, _)]) dX9_reads_7 rfl (by decide) rfl ?_
  refine pl_aload_n (pc := 8) dX9_reads_8 rfl rfl ?_
  refine pj_getf (pc := 9) ckX9 1 q2517 dX9_reads_9 (by decide) (mm_o hA) rfl ?_
  refine pl_iload_n (pc := 12) dX9_reads_12 rfl rfl ?_
  refine pl_iconst (pc := 13) (v := 0) dX9_reads_13 (by rfl) ?_
  refine pl_iadd (pc := 14) dX9_reads_14 ?_
  refine pl_iald (pc := 15) (n := 2132) dX9_reads_15 (mm_a hA 1 (by decide) (by decide)) (by omega) (by decide) ?_
  refine PJ.top (y := row σ (1640 + 4 * b)) rfl ?_
  refine pj_istore_n (pc := 16) (lv' := [(3, _), (2, _), (0, _), (1, _)]) dX9_reads_16 rfl (by decide) rfl ?_
  refine pl_aload_n (pc := 17) dX9_reads_17 rfl rfl ?_
  refine pj_getf (pc := 18) ckX9 1 q2517 dX9_reads_18 (by decide) (mm_o hA) rfl ?_
  refine pl_iload_n (pc := 21) dX9_reads_21 rfl rfl ?_
  refine pl_iconst (pc := 22) (v := 3) dX9_reads_22 (by rfl) ?_
  refine pl_iadd (pc := 23) dX9_reads_23 ?_
  refine pl_iald (pc := 24) (n := 2132) dX9_reads_24 (mm_a hA 1 (by decide) (by decide)) (by omega) (by decide) ?_
  refine pl_aload_n (pc := 25) dX9_reads_25 rfl rfl ?_
  refine pj_getf (pc := 26) ckX9 1 q2517 dX9_reads_26 (by decide) (mm_o hA) rfl ?_
  refine pl_sipush (pc := 29) (v := 2116) dX9_reads_29 (by rfl) ?_
  refine pl_iald (pc := 32) (n := 2132) dX9_reads_32 (mm_a hA 1 (by decide) (by decide)) (by omega) (by decide) ?_
  refine pj_icmp_ne (pc := 33) (tgt := 60) dX9_reads_33 (by decide) (fun c33 => ?_) (fun c33 => ?_)
  · refine pj_vret (pc := 60) dX9_reads_60 rfl ?_
    exact ⟨rfl, congrArg (mm g ad μ) (by simp [s_reads, c33])⟩
  · refine pl_aload_n (pc := 36) dX9_reads_36 rfl rfl ?_
    refine pj_getf (pc := 37) ckX9 1 q2517 dX9_reads_37 (by decide) (mm_o hA) rfl ?_
    refine pl_iload_n (pc := 40) dX9_reads_40 rfl rfl ?_
    refine pl_iconst (pc := 41) (v := 2) dX9_reads_41 (by rfl) ?_
    refine pl_iadd (pc := 42) dX9_reads_42 ?_
    refine pl_iald (pc := 43) (n := 2132) dX9_reads_43 (mm_a hA 1 (by decide) (by decide)) (by omega) (by decide) ?_
    refine pl_iconst (pc := 44) (v := 1) dX9_reads_44 (by rfl) ?_
    refine pj_icmp_eq (pc := 45) (tgt := 60) dX9_reads_45 (by decide) (fun c45 => ?_) (fun c45 => ?_)
    · refine pj_vret (pc := 60) dX9_reads_60 rfl ?_
      exact ⟨rfl, congrArg (mm g ad μ) (by simp [s_reads, eq_true c33, eq_true c45])⟩
    · refine pl_aload_n (pc := 48) dX9_reads_48 rfl rfl ?_
      refine pj_getf (pc := 49) ckX9 1 q2517 dX9_reads_49 (by decide) (mm_o hA) rfl ?_
      refine pl_iload_n (pc := 52) dX9_reads_52 rfl rfl ?_
      refine pl_iconst (pc := 53) (v := 2) dX9_reads_53 (by rfl) ?_
      refine pl_iadd (pc := 54) dX9_reads_54 ?_
      refine pl_iald (pc := 55) (n := 2132) dX9_reads_55 (mm_a hA 1 (by decide) (by decide)) (by omega) (by decide) ?_
      refine pl_iconst (pc := 56) (v := 3) dX9_reads_56 (by rfl) ?_
      refine pj_icmp_ne (pc := 57) (tgt := 61) dX9_reads_57 (by decide) (fun c57 => ?_) (fun c57 => ?_)
      · refine pl_aload_n (pc := 61) dX9_reads_61 rfl rfl ?_
        refine pj_getf (pc := 62) ckX9 1 q2517 dX9_reads_62 (by decide) (mm_o hA) rfl ?_
        refine pl_iload_n (pc := 65) dX9_reads_65 rfl rfl ?_
        refine pl_iconst (pc := 66) (v := 2) dX9_reads_66 (by rfl) ?_
        refine pl_iadd (pc := 67) dX9_reads_67 ?_
        refine pl_iald (pc := 68) (n := 2132) dX9_reads_68 (mm_a hA 1 (by decide) (by decide)) (by omega) (by decide) ?_
        refine pl_iconst (pc := 69) (v := 2) dX9_reads_69 (by rfl) ?_
        refine pj_icmp_ne (pc := 70) (tgt := 114) dX9_reads_70 (by decide) (fun c70 => ?_) (fun c70 => ?_)
        · refine pl_aload_n (pc := 114) dX9_reads_114 rfl rfl ?_
          refine pj_getf (pc := 115) ckX9 1 q2517 dX9_reads_115 (by decide) (mm_o hA) rfl ?_
          refine pl_sipush (pc := 118) (v := 2123) dX9_reads_118 (by rfl) ?_
          refine pl_iald (pc := 121) (n := 2132) dX9_reads_121 (mm_a hA 1 (by decide) (by decide)) (by omega) (by decide) ?_
          refine pl_iload_n (pc := 122) dX9_reads_122 rfl rfl ?_
          refine pj_icmp_lt (pc := 123) (tgt := 150) dX9_reads_123 (by decide) (fun c123 => ?_) (fun c123 => ?_)
          · refine pl_aload_n (pc := 150) dX9_reads_150 rfl rfl ?_
            refine pj_getf (pc := 151) ckX9 1 q2517 dX9_reads_151 (by decide) (mm_o hA) rfl ?_
            refine pl_iload_n (pc := 154) dX9_reads_154 rfl rfl ?_
            refine pl_iconst (pc := 155) (v := 2) dX9_reads_155 (by rfl) ?_
            refine pl_iadd (pc := 156) dX9_reads_156 ?_
            refine pl_iconst (pc := 157) (v := 2) dX9_reads_157 (by rfl) ?_
            refine pm_iast (pc := 158) 1 hA (by decide) (by decide) rfl dX9_reads_158 (show _ < 2132 by omega) (by decide) ?_
            refine pl_aload_n (pc := 159) dX9_reads_159 rfl rfl ?_
            refine pj_getf (pc := 160) ckX9 1 q2517 dX9_reads_160 (by decide) (mm_o hA) rfl ?_
            refine pl_iload_n (pc := 163) dX9_reads_163 rfl rfl ?_
            refine pl_iconst (pc := 164) (v := 3) dX9_reads_164 (by rfl) ?_
            refine pl_iadd (pc := 165) dX9_reads_165 ?_
            refine pl_aload_n (pc := 166) dX9_reads_166 rfl rfl ?_
            refine pj_getf (pc := 167) ckX9 1 q2517 dX9_reads_167 (by decide) (mm_o hA) rfl ?_
            refine pl_sipush (pc := 170) (v := 2116) dX9_reads_170 (by rfl) ?_
            refine pl_iald (pc := 173) (n := 2132) dX9_reads_173 (mm_a hA 1 (by decide) (by decide)) (by omega) (by decide) ?_
            refine pl_bipush (pc := 174) (v := 34) dX9_reads_174 (by rfl) ?_
            refine pj_iadd (pc := 176) dX9_reads_176 ?_
            refine pm_iast (pc := 177) 1 hA (by decide) (by decide) rfl dX9_reads_177 (show _ < 2132 by omega) (by decide) ?_
            refine pj_vret (pc := 178) dX9_reads_178 rfl ?_
            exact ⟨rfl, congrArg (mm g ad μ) (by simp [s_reads, eq_true c33, c45, c57, c70, c123])⟩
          · refine pl_aload_n (pc := 126) dX9_reads_126 rfl rfl ?_
            refine pj_getf (pc := 127) ckX9 1 q2517 dX9_reads_127 (by decide) (mm_o hA) rfl ?_
            refine pl_sipush (pc := 130) (v := 2123) dX9_reads_130 (by rfl) ?_
            refine pj_dup2_11 (pc := 133) dX9_reads_133 rfl rfl ?_
            refine pl_iald (pc := 134) (n := 2132) dX9_reads_134 (mm_a hA 1 (by decide) (by decide)) (by omega) (by decide) ?_
            refine pl_iload_n (pc := 135) dX9_reads_135 rfl rfl ?_
            refine pj_isub (pc := 136) dX9_reads_136 ?_
            refine pm_iast (pc := 137) 1 hA (by decide) (by decide) rfl dX9_reads_137 (show _ < 2132 by omega) (by decide) ?_
            refine pl_aload_n (pc := 138) dX9_reads_138 rfl rfl ?_
            refine pj_getf (pc := 139) ckX9 1 q2517 dX9_reads_139 (by decide) (mm_o hA) rfl ?_
            refine pl_iload_n (pc := 142) dX9_reads_142 rfl rfl ?_
            refine pl_iconst (pc := 143) (v := 2) dX9_reads_143 (by rfl) ?_
            refine pl_iadd (pc := 144) dX9_reads_144 ?_
            refine pl_iconst (pc := 145) (v := 1) dX9_reads_145 (by rfl) ?_
            refine pm_iast (pc := 146) 1 hA (by decide) (by decide) rfl dX9_reads_146 (show _ < 2132 by omega) (by decide) ?_
            refine pj_goto (pc := 147) (tgt := 178) dX9_reads_147 (by decide) ?_
            refine pj_vret (pc := 178) dX9_reads_178 rfl ?_
            exact ⟨rfl, congrArg (mm g ad μ) (by simp [s_reads, eq_true c33, c45, c57, c70, c123])⟩
        · refine pl_aload_n (pc := 73) dX9_reads_73 rfl rfl ?_
          refine pj_getf (pc := 74) ckX9 1 q2517 dX9_reads_74 (by decide) (mm_o hA) rfl ?_
          refine pl_sipush (pc := 77) (v := 2118) dX9_reads_77 (by rfl) ?_
          refine pj_dup2_11 (pc := 80) dX9_reads_80 rfl rfl ?_
          refine pl_iald (pc := 81) (n := 2132) dX9_reads_81 (mm_a hA 1 (by decide) (by decide)) (by omega) (by decide) ?_
          refine pl_iload_n (pc := 82) dX9_reads_82 rfl rfl ?_
          refine pl_iload_n (pc := 83) dX9_reads_83 rfl rfl ?_
          refine pl_bipush (pc := 84) (v := 20) dX9_reads_84 (by rfl) ?_
          refine pj_imul (pc := 86) dX9_reads_86 ?_
          refine pl_bipush (pc := 87) (v := 100) dX9_reads_87 (by rfl) ?_
          refine pj_idiv (pc := 89) dX9_reads_89 (by decide) ?_
          refine pj_iadd (pc := 90) dX9_reads_90 ?_
          refine pl_aload_n (pc := 91) dX9_reads_91 rfl rfl ?_
          refine pj_getf (pc := 92) ckX9 1 q2517 dX9_reads_92 (by decide) (mm_o hA) rfl ?_
          refine pl_iload_n (pc := 95) dX9_reads_95 rfl rfl ?_
          refine pl_iconst (pc := 96) (v := 1) dX9_reads_96 (by rfl) ?_
          refine pl_iadd (pc := 97) dX9_reads_97 ?_
          refine pl_iald (pc := 98) (n := 2132) dX9_reads_98 (mm_a hA 1 (by decide) (by decide)) (by omega) (by decide) ?_
          refine pj_iadd (pc := 99) dX9_reads_99 ?_
          refine pj_isub (pc := 100) dX9_reads_100 ?_
          refine pm_iast (pc := 101) 1 hA (by decide) (by decide) rfl dX9_reads_101 (show _ < 2132 by omega) (by decide) ?_
          refine pl_aload_n (pc := 102) dX9_reads_102 rfl rfl ?_
          refine pj_getf (pc := 103) ckX9 1 q2517 dX9_reads_103 (by decide) (mm_o hA) rfl ?_
          refine pl_iload_n (pc := 106) dX9_reads_106 rfl rfl ?_
          refine pl_iconst (pc := 107) (v := 2) dX9_reads_107 (by rfl) ?_
          refine pl_iadd (pc := 108) dX9_reads_108 ?_
          refine pl_iconst (pc := 109) (v := 3) dX9_reads_109 (by rfl) ?_
          refine pm_iast (pc := 110) 1 hA (by decide) (by decide) rfl dX9_reads_110 (show _ < 2132 by omega) (by decide) ?_
          refine pj_goto (pc := 111) (tgt := 178) dX9_reads_111 (by decide) ?_
          refine pj_vret (pc := 178) dX9_reads_178 rfl ?_
          exact ⟨rfl, congrArg (mm g ad μ) (by simp [s_reads, eq_true c33, c45, c57, eq_true c70])⟩
      · refine pj_vret (pc := 60) dX9_reads_60 rfl ?_
        exact ⟨rfl, congrArg (mm g ad μ) (by simp [s_reads, eq_true c33, c45, eq_true c57])⟩
set_option maxHeartbeats 4000000 in
theorem w_X9_undoes {g : GP} {ad : Nat → Nat} {μ : Mem} {σ : MS} {d : Nat} {l : Nat} {n nl nb q nor nw : Nat} (hd : 4 ≤ d) (hA : Inj ad 18) (iv : IvG σ n nl nb q nor nw) (hl : l < 12) : PM g yX9_undoes (ws_ yX9_undoes cX9_undoes 5 none) d 0 0 [.ref (ad 0), .int (nI l)] (mm g ad μ σ) (rQ none (mm g ad μ (s_undoes n σ l))) := by
  refine PM.of (by decide +kernel) (Nat.le_of_ble_eq_true rfl) ?_
  show PJ g _ _ _ _ d 0 0 0 [(0, .ref (ad 0)), (1, .int (nI l))] [] _ _
  refine pl_aload_n (pc := 0) dX9_undoes_0 rfl rfl ?_
  refine pj_getf (pc := 1) ckX9 1 q2517 dX9_undoes_1 (by decide) (mm_o hA) rfl ?_
  refine pl_sipush (pc := 4) (v := 1568) dX9_undoes_4 (by rfl) ?_
  refine pl_bipush (pc := 7) (v := 6) dX9_undoes_7 (by rfl) ?_
  refine pl_iload_n (pc := 9) dX9_undoes_9 rfl rfl ?_
  refine pl_imul (pc := 10) dX9_undoes_10 ?_
  refine pl_iadd (pc := 11) dX9_undoes_11 ?_
  refine pl_iconst (pc := 12) (v := 0) dX9_undoes_12 (by rfl) ?_
  refine pl_iadd (pc := 13) dX9_undoes_13 ?_
  refine pl_iconst (pc := 14) (v := 4) dX9_undoes_14 (by rfl) ?_
  refine pm_iast (pc := 15) 1 hA (by decide) (by decide) rfl dX9_undoes_15 (show _ < 2132 by omega) (by decide) ?_
  refine pl_iconst (pc := 16) (v := 0) dX9_undoes_16 (by rfl) ?_
  rcases Decidable.em (σ.2.1 11 l = 0) with hs17 | hs17
  · refine pj_istore_n (pc := 17) (lv' := [(2, _), (0, _), (1, _)]) dX9_undoes_17 rfl (by decide) rfl ?_
    refine pl_iload_n (pc := 18) dX9_undoes_18 rfl rfl ?_
    refine pl_bipush (pc := 19) (v := 96) dX9_undoes_19 (by rfl) ?_
    refine pj_icmp_ge (pc := 21) (tgt := 110) dX9_undoes_21 (by decide) (fun h => absurd h (by decide)) (fun _ => ?_)
    refine pl_aload_n (pc := 24) dX9_undoes_24 rfl rfl ?_
    refine pj_getf (pc := 25) ckX9 20 q2536 dX9_undoes_25 (by decide) (mm_o hA) rfl ?_
    refine pl_iload_n (pc := 28) dX9_undoes_28 rfl rfl ?_
    refine pl_zald (pc := 29) (n := 12) dX9_undoes_29 (mm_a hA 11 (by decide) (by decide)) (by omega) (by decide) ?_
    refine pj_if_eq (pc := 30) (tgt := 110) dX9_undoes_30 (by decide) (fun c30 => ?_) (fun c30 => ?_)
    · refine pj_vret (pc := 110) dX9_undoes_110 rfl ?_
      exact ⟨rfl, congrArg (mm g ad μ) (if_pos hs17).symm⟩
    · exact absurd hs17 c30
  · refine pj_istore_n (pc := 17) (lv' := [(2, _), (0, _), (1, _)]) dX9_undoes_17 rfl (by decide) rfl ?_
    refine PJ.sub [0, 2, 1] rfl ?_
    refine ind_dn (n := 96) (P := fun i => IvG (upto (undo1 n l) i (sR σ (1568 + 6 * l) (nI 4))) n nl nb q nor nw ∧ (upto (undo1 n l) i (sR σ (1568 + 6 * l) (nI 4))).2.1 11 = σ.2.1 11 → PJ g _ _ _ _ d 0 0 18 [(2, .int (nI i)), (1, .int (nI l)), (0, .ref (ad 0))] [] (mm g ad μ (upto (undo1 n l) i (sR σ (1568 + 6 * l) (nI 4)))) _) (fun i hi ih hv => ?_) 0 (Nat.zero_le _) (⟨iv.sR1 (by unfold fr1 fr2; omega), rfl⟩)
    refine pl_iload_n (pc := 18) dX9_undoes_18 rfl rfl ?_
    refine pl_bipush (pc := 19) (v := 96) dX9_undoes_19 (by rfl) ?_
    refine pl_icmp_ge (pc := 21) (tgt := 110) dX9_undoes_21 (by decide) (by omega) (by omega) (fun c21 => ?_) (fun c21 => ?_)
    · refine pj_vret (pc := 110) dX9_undoes_110 rfl ?_
      have e9 : i = 96 := by omega
      subst e9
      exact ⟨rfl, congrArg (mm g ad μ) (if_neg hs17).symm⟩
    · refine pl_aload_n (pc := 24) dX9_undoes_24 rfl rfl ?_
      refine pj_getf (pc := 25) ckX9 20 q2536 dX9_undoes_25 (by decide) (mm_o hA) rfl ?_
      refine pl_iload_n (pc := 28) dX9_undoes_28 rfl rfl ?_
      refine pl_zald (pc := 29) (n := 12) dX9_undoes_29 (mm_a hA 11 (by decide) (by decide)) (by omega) (by decide) ?_
      refine pj_if_eq (pc := 30) (tgt := 110) dX9_undoes_30 (by decide) (fun c30 => ?_) (fun c30 => ?_)
      · exact absurd ((congrFun hv.2 l).symm.trans c30) hs17
      · refine pl_aload_n (pc := 33) dX9_undoes_33 rfl rfl ?_
        refine pl_iload_n (pc := 34) dX9_undoes_34 rfl rfl ?_
        refine pl_iconst (pc := 35) (v := 0) dX9_undoes_35 (by rfl) ?_
        refine pl_callVd (pc := 36) (As := [_, _]) (C2 := 0) (N2 := 0) ckX9 mdX9_sec rfl q2635 q2637 qs51 q154 dX9_undoes_36 rfl rfl (Nat.le_of_ble_eq_true rfl) (mm_o hA) (w_X9_sec (d := d - 1) (by omega) hA (by omega) (by decide)) (by omega) (by decide) (by decide) ?_
        refine pl_iconst (pc := 39) (v := 3) dX9_undoes_39 (by rfl) ?_
        refine pj_icmp_ne (pc := 40) (tgt := 104) dX9_undoes_40 (by decide) (fun c40 => ?_) (fun c40 => ?_)
        · refine pl_iinc1 (pc := 104) (lv' := [(2, _), (1, _), (0, _)]) dX9_undoes_104 rfl rfl (by decide) rfl ?_
          refine pj_goto (pc := 107) (tgt := 18) dX9_undoes_107 (by decide) ?_
          have e1 : (upto (undo1 n l) (i + 1) (sR σ (1568 + 6 * l) (nI 4))).2.1 11 = σ.2.1 11 := (undo1_k (by decide)).trans hv.2
          exact PJ.conv rfl rfl (congrArg (mm g ad μ) (show _ = undo1 n l i (upto (undo1 n l) i (sR σ (1568 + 6 * l) (nI 4))) by first | (simp [undo1, c21, c30, c40]; done) | (simp [undo1, c21, c30, c40]; rfl))) (ih (by omega) ⟨undo1_iv hv.1 (by omega), e1⟩)
        · refine pl_aload_n (pc := 43) dX9_undoes_43 rfl rfl ?_
          refine pl_iload_n (pc := 44) dX9_undoes_44 rfl rfl ?_
          refine pl_bipush (pc := 45) (v := 6) dX9_undoes_45 (by rfl) ?_
          refine pl_callVd (pc := 47) (As := [_, _]) (C2 := 0) (N2 := 0) ckX9 mdX9_sec rfl q2635 q2637 qs51 q154 dX9_undoes_47 rfl rfl (Nat.le_of_ble_eq_true rfl) (mm_o hA) (w_X9_sec (d := d - 1) (by omega) hA (by omega) (by decide)) (by omega) (by decide) (by decide) ?_
          refine pl_iload_n (pc := 50) dX9_undoes_50 rfl rfl ?_
          refine pj_icmp_eq (pc := 51) (tgt := 57) dX9_undoes_51 (by decide) (fun c51 => ?_) (fun c51 => ?_)
          · refine pl_aload_n (pc := 57) dX9_undoes_57 rfl rfl ?_
            refine pl_iload_n (pc := 58) dX9_undoes_58 rfl rfl ?_
            refine pl_iconst (pc := 59) (v := 1) dX9_undoes_59 (by rfl) ?_
            refine pl_callVd (pc := 60) (As := [_, _]) (C2 := 0) (N2 := 0) ckX9 mdX9_sec rfl q2635 q2637 qs51 q154 dX9_undoes_60 rfl rfl (Nat.le_of_ble_eq_true rfl) (mm_o hA) (w_X9_sec (d := d - 1) (by omega) hA (by omega) (by decide)) (by omega) (by decide) (by decide) ?_
            obtain ⟨p, hp, e_p⟩ : ∃ p, p < n ∧ sec (upto (undo1 n l) i (sR σ (1568 + 6 * l) (nI 4))) i 1 = nI p := by
              have hwho := hv.1.who i (by omega)
              unfold Who at hwho
              rw [show sec (upto (undo1 n l) i (sR σ (1568 + 6 * l) (nI 4))) i 0 = nI 3 from c40] at hwho
              rcases hwho with h | h | h
              · exact absurd h (by decide)
              · exact absurd h (by decide)
              · exact h.2
            have hP := iv.hP
            have e_p1 : sec (upto (undo1 n l) i (sA σ 1 (upd (σ.2.1 1) (1568 + 6 * l) (nI 4)))) i 1 = nI p := e_p
            have g_p := tN_nI (n := p) (by omega)
            refine PJ.top (y := nI p) e_p ?_
            refine pj_istore_n (pc := 63) (lv' := [(3, _), (2, _), (1, _), (0, _)]) dX9_undoes_63 rfl (by decide) rfl ?_
            refine pl_aload_n (pc := 64) dX9_undoes_64 rfl rfl ?_
            refine pl_iload_n (pc := 65) dX9_undoes_65 rfl rfl ?_
            refine pl_iconst (pc := 66) (v := 5) dX9_undoes_66 (by rfl) ?_
            refine pl_callVd (pc := 67) (As := [_, _]) (C2 := 0) (N2 := 0) ckX9 mdX9_sec rfl q2635 q2637 qs51 q154 dX9_undoes_67 rfl rfl (Nat.le_of_ble_eq_true rfl) (mm_o hA) (w_X9_sec (d := d - 1) (by omega) hA (by omega) (by decide)) (by omega) (by decide) (by decide) ?_
            refine pj_istore (pc := 70) (lv' := [(4, _), (3, _), (2, _), (1, _), (0, _)]) dX9_undoes_70 (by decide) rfl ?_
            refine pl_aload_n (pc := 72) dX9_undoes_72 rfl rfl ?_
            refine pj_getf (pc := 73) ckX9 1 q2517 dX9_undoes_73 (by decide) (mm_o hA) rfl ?_
            refine pl_sipush (pc := 76) (v := 2118) dX9_undoes_76 (by rfl) ?_
            refine pj_dup2_11 (pc := 79) dX9_undoes_79 rfl rfl ?_
            refine pl_iald (pc := 80) (n := 2132) dX9_undoes_80 (mm_a hA 1 (by decide) (by decide)) (by omega) (by decide) ?_
            refine pl_iload (pc := 81) dX9_undoes_81 rfl ?_
            refine pj_isub (pc := 83) dX9_undoes_83 ?_
            refine pm_iast (pc := 84) 1 hA (by decide) (by decide) rfl dX9_undoes_84 (show _ < 2132 by omega) (by decide) ?_
            refine pl_aload_n (pc := 85) dX9_undoes_85 rfl rfl ?_
            refine pl_iload_n (pc := 86) dX9_undoes_86 rfl rfl ?_
            refine pl_iload (pc := 87) dX9_undoes_87 rfl ?_
            refine pl_callVv (pc := 89) (As := [_, _]) (C2 := 0) (N2 := 0) ckX9 mdX9_pays rfl q3006 q3008 qs103 q154 dX9_undoes_89 rfl rfl (Nat.le_of_ble_eq_true rfl) (mm_o hA) (w_X9_pays (d := d - 1) (by omega) hA (by omega)) (by omega) (by decide) (by decide) ?_
            refine pl_aload_n (pc := 92) dX9_undoes_92 rfl rfl ?_
            refine pl_iload_n (pc := 93) dX9_undoes_93 rfl rfl ?_
            refine pl_iconst (pc := 94) (v := 1) dX9_undoes_94 (by rfl) ?_
            refine pj_iconst (pc := 95) (v := (-1)) dX9_undoes_95 (by rfl) ?_
            refine pl_callVv (pc := 96) (As := [_, _, _]) (C2 := 0) (N2 := 0) ckX9 mdX9_holds rfl q2772 q2774 qs69 q154 dX9_undoes_96 rfl rfl (Nat.le_of_ble_eq_true rfl) (mm_o hA) (w_X9_holds (d := d - 1) (by omega) hA (by omega)) (by omega) (by decide) (by decide) ?_
            refine pl_aload_n (pc := 99) dX9_undoes_99 rfl rfl ?_
            refine pl_iload_n (pc := 100) dX9_undoes_100 rfl rfl ?_
            refine pl_callVv (pc := 101) (As := [_]) (C2 := 0) (N2 := 0) ckX9 mdX9_loses rfl q3111 q3113 qs115 q154 dX9_undoes_101 rfl rfl (Nat.le_of_ble_eq_true rfl) (mm_o hA) (w_X9_loses (d := d - 1) (by omega) hA ((IvG.pays2 hv.1 hp).holdsN (by omega) (Or.inr (Or.inl rfl))) hp) (by omega) (by decide) (by decide) ?_
            refine pl_iinc1 (pc := 104) (lv' := [(2, _), (4, _), (3, _), (1, _), (0, _)]) dX9_undoes_104 rfl rfl (by decide) rfl ?_
            refine pj_goto (pc := 107) (tgt := 18) dX9_undoes_107 (by decide) ?_
            refine PJ.sub [0, 3, 4] rfl ?_
            have e1 : (upto (undo1 n l) (i + 1) (sR σ (1568 + 6 * l) (nI 4))).2.1 11 = σ.2.1 11 := (undo1_k (by decide)).trans hv.2
            exact PJ.conv rfl rfl (congrArg (mm g ad μ) (show _ = undo1 n l i (upto (undo1 n l) i (sR σ (1568 + 6 * l) (nI 4))) by first | (simp [undo1, c21, c30, eq_true c40, eq_true c51, e_p1, g_p]; done) | (simp [undo1, c21, c30, eq_true c40, eq_true c51, e_p1, g_p]; rfl))) (ih (by omega) ⟨undo1_iv hv.1 (by omega), e1⟩)
          · refine pj_goto (pc := 54) (tgt := 104) dX9_undoes_54 (by decide) ?_
            refine pl_iinc1 (pc := 104) (lv' := [(2, _), (1, _), (0, _)]) dX9_undoes_104 rfl rfl (by decide) rfl ?_
            refine pj_goto (pc := 107) (tgt := 18) dX9_undoes_107 (by decide) ?_
            have e1 : (upto (undo1 n l) (i + 1) (sR σ (1568 + 6 * l) (nI 4))).2.1 11 = σ.2.1 11 := (undo1_k (by decide)).trans hv.2
            exact PJ.conv rfl rfl (congrArg (mm g ad μ) (show _ = undo1 n l i (upto (undo1 n l) i (sR σ (1568 + 6 * l) (nI 4))) by first | (simp [undo1, c21, c30, eq_true c40, c51]; done) | (simp [undo1, c21, c30, eq_true c40, c51]; rfl))) (ih (by omega) ⟨undo1_iv hv.1 (by omega), e1⟩)
