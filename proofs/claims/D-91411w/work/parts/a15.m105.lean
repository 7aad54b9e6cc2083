set_option maxRecDepth 100000
theorem nI_m1 {n : Nat} (h : n < 2000) : ¬ (-1 : Int32) = nI n := fun z => by
  have h9 := nI_pos' (n := n) (by omega)
  rw [← z] at h9
  exact absurd h9 (by decide)
set_option maxHeartbeats 600000 in
theorem x_X2_reads {g : GP} {μ : Mem} {d : Nat} {P : Nat → Prop} {F : Mem} {A : XA} {w : Nat} {S : Nat → Nat → Nat} {b : XS} {σ : MS} {nor nw : Nat} (hd : 17 ≤ d) (s : SB g P F A w S b σ nw μ) (iv : IvG σ (S 4 w) (S 8 w) (S 10 w) (S 6 w) nor nw)  : PM g yX2_reads (ws_ yX2_reads cX2_reads 2 none) d 0 0 [.ref (A 1 w 0)] μ (WQ none (SB g P F A w S b (s_letters (S 4 w) (S 8 w) (S 10 w) σ) nw)) := by
  refine PM.of (by decide +kernel) (Nat.le_of_ble_eq_true rfl) ?_
  refine PJ.ok (fun G => ?_)
  show PJ g _ _ _ _ d 0 0 0 [(0, .ref (A 1 w 0))] [] _ _
  obtain ⟨e, h, t⟩ := s
  have hS4 := h.hz.2.1
  have hS6 := h.hz.2.2.1
  have hS8 := h.hz.2.2.2.1
  have hS10 := h.hz.2.2.2.2.1
  refine pl_iconst (pc := 0) (v := 0) dX2_reads_0 (by rfl) ?_
  refine pj_istore_n (pc := 1) (lv' := [(1, _), (0, _)]) dX2_reads_1 rfl (by decide) rfl ?_
  refine ind_dn (n := (S 8 w)) (P := fun i => ∀ M9 τ, τ = upto (letter1 (S 4 w)) i σ → SB g P F A w S b τ nw M9 → IvG τ (S 4 w) (S 8 w) (S 10 w) (S 6 w) nor nw → PJ g _ _ _ _ d 0 0 2 [(1, .int (nI i)), (0, .ref (A 1 w 0))] [] M9 _) (fun i hi ih M9 τ hτ s9 iv9 => ?_) 0 (Nat.zero_le _) _ _ rfl ⟨e, h, t⟩ iv
  obtain ⟨e9, h9, t9⟩ := s9
  refine pl_iload_n (pc := 2) dX2_reads_2 rfl rfl ?_
  refine pl_aload_n (pc := 3) dX2_reads_3 rfl rfl ?_
  refine pj_getf (pc := 4) ckX2 28 q776 dX2_reads_4 (by decide) (h9.r1) rfl ?_
  obtain ⟨m_7, c_7, l_7⟩ := h9.L8
  refine pl_callVd (pc := 7) (As := []) (C1 := 0) (N1 := 0) (C2 := 0) (N2 := 0) ckJ2 mdJ2_size rfl q947 q948 q949 q129 dX2_reads_7 rfl rfl (Nat.le_of_ble_eq_true rfl) l_7.1 (k_J2_size (d := d - 1) (by omega) l_7) (by omega) (by omega) (by omega) ?_
  refine pl_icmp_ge (pc := 10) (tgt := 63) dX2_reads_10 (by decide) (by omega) (by omega) (fun c10 => ?_) (fun c10 => ?_)
  · have ei : i = S 8 w := by omega
    subst ei
    refine pl_iconst (pc := 63) (v := 0) dX2_reads_63 (by rfl) ?_
    refine pj_istore_n (pc := 64) (lv' := [(1, _), (0, _)]) dX2_reads_64 rfl (by decide) rfl ?_
    refine ind_dn (n := (S 10 w)) (P := fun j => ∀ M9 τ1, τ1 = upto read1 j τ → SB g P F A w S b τ1 nw M9 → IvG τ1 (S 4 w) (S 8 w) (S 10 w) (S 6 w) nor nw → PJ g _ _ _ _ d 0 0 65 [(1, .int (nI j)), (0, .ref (A 1 w 0))] [] M9 _) (fun j hj ih M8 τ1 hτ1 s8 iv8 => ?_) 0 (Nat.zero_le _) _ _ rfl ⟨_, h9, t9⟩ iv9
    obtain ⟨e8, h8, t8⟩ := s8
    refine pl_iload_n (pc := 65) dX2_reads_65 rfl rfl ?_
    refine pl_aload_n (pc := 66) dX2_reads_66 rfl rfl ?_
    refine pj_getf (pc := 67) ckX2 29 q778 dX2_reads_67 (by decide) (h8.r1) rfl ?_
    obtain ⟨m_70, c_70, l_70⟩ := h8.L10
    refine pl_callVd (pc := 70) (As := []) (C1 := 0) (N1 := 0) (C2 := 0) (N2 := 0) ckJ2 mdJ2_size rfl q947 q948 q949 q129 dX2_reads_70 rfl rfl (Nat.le_of_ble_eq_true rfl) l_70.1 (k_J2_size (d := d - 1) (by omega) l_70) (by omega) (by omega) (by omega) ?_
    refine pl_icmp_ge (pc := 73) (tgt := 97) dX2_reads_73 (by decide) (by omega) (by omega) (fun c73 => ?_) (fun c73 => ?_)
    · refine pj_vret (pc := 97) dX2_reads_97 rfl ?_
      have ej : j = S 10 w := by omega
      subst ej
      unfold s_letters
      rw [← hτ, ← hτ1]
      exact ⟨rfl, _, h8, t8⟩
    · refine pl_aload_n (pc := 76) dX2_reads_76 rfl rfl ?_
      refine pl_aload_n (pc := 77) dX2_reads_77 rfl rfl ?_
      refine pj_getf (pc := 78) ckX2 29 q778 dX2_reads_78 (by decide) (h8.r1) rfl ?_
      refine pl_iload_n (pc := 81) dX2_reads_81 rfl rfl ?_
      obtain ⟨m_82, c_82, l_82⟩ := h8.L10
      refine pl_callVd (pc := 82) (As := [_]) (C1 := 0) (N1 := 0) (C2 := 0) (N2 := 0) ckJ2 mdJ2_get rfl q707 q708 q709 q129 dX2_reads_82 rfl rfl (Nat.le_of_ble_eq_true rfl) l_82.1 (k_J2_get (d := d - 1) (by omega) l_82 (j := j) (by omega) (if_pos (by omega))) (by omega) (by omega) (by omega) ?_
      refine pj_castS (pc := 85) ckX13 q1537 dX2_reads_85 (h8.r40 (by omega)) ?_
      refine pl_callVWv (pc := 88) (As := [_]) (C1 := 0) (N1 := 0) (C2 := 0) (N2 := 0) ckX2 mdX2_reads_3 rfl q2390 q2392 qs38 q126 dX2_reads_88 rfl rfl (Nat.le_of_ble_eq_true rfl) (h8.r1) (x_X2_reads_3 (nor := nor) (d := d - 1) (by omega) ⟨_, h8, t8⟩ (k := j) (by omega)) (by omega) (by omega) (by omega) (fun My1 qy1 => ?_)
      refine pl_iinc1 (pc := 91) (lv' := [(1, _), (0, _)]) dX2_reads_91 rfl rfl (by decide) rfl ?_
      refine pj_goto (pc := 94) (tgt := 65) dX2_reads_94 (by decide) ?_
      exact ih (by omega) _ _ (by show _ = s_reads (upto _ j _) j; rw [← hτ1]) qy1 (reads_iv iv8 (by omega))
  · refine pl_aload_n (pc := 13) dX2_reads_13 rfl rfl ?_
    refine pj_getf (pc := 14) ckX2 28 q776 dX2_reads_14 (by decide) (h9.r1) rfl ?_
    refine pl_iload_n (pc := 17) dX2_reads_17 rfl rfl ?_
    obtain ⟨m_18, c_18, l_18⟩ := h9.L8
    refine pl_callVd (pc := 18) (As := [_]) (C1 := 0) (N1 := 0) (C2 := 0) (N2 := 0) ckJ2 mdJ2_get rfl q707 q708 q709 q129 dX2_reads_18 rfl rfl (Nat.le_of_ble_eq_true rfl) l_18.1 (k_J2_get (d := d - 1) (by omega) l_18 (j := i) (by omega) (if_pos (by omega))) (by omega) (by omega) (by omega) ?_
    refine pj_castS (pc := 21) ckX12 q951 dX2_reads_21 (h9.r38 (by omega)) ?_
    refine pj_getfN (pc := 24) ckX12 1 q1498 dX2_reads_24 (by decide) (h9.r38 (by omega)) rfl ?_
    refine pl_iconst (pc := 27) (v := 2) dX2_reads_27 (by rfl) ?_
    refine pj_icmp_ne (pc := 28) (tgt := 57) dX2_reads_28 (by decide) (fun c28 => ?_) (fun c28 => ?_)
    · refine pl_iinc1 (pc := 57) (lv' := [(1, _), (0, _)]) dX2_reads_57 rfl rfl (by decide) rfl ?_
      refine pj_goto (pc := 60) (tgt := 2) dX2_reads_60 (by decide) ?_
      exact ih (by omega) _ _ (by show _ = letter1 (S 4 w) i (upto _ i _); rw [← hτ, letter_no (Or.inl c28)]) ⟨_, h9, t9⟩ iv9
    · refine pl_aload_n (pc := 31) dX2_reads_31 rfl rfl ?_
      refine pj_getf (pc := 32) ckX2 28 q776 dX2_reads_32 (by decide) (h9.r1) rfl ?_
      refine pl_iload_n (pc := 35) dX2_reads_35 rfl rfl ?_
      obtain ⟨m_36, c_36, l_36⟩ := h9.L8
      refine pl_callVd (pc := 36) (As := [_]) (C1 := 0) (N1 := 0) (C2 := 0) (N2 := 0) ckJ2 mdJ2_get rfl q707 q708 q709 q129 dX2_reads_36 rfl rfl (Nat.le_of_ble_eq_true rfl) l_36.1 (k_J2_get (d := d - 1) (by omega) l_36 (j := i) (by omega) (if_pos (by omega))) (by omega) (by omega) (by omega) ?_
      refine pj_castS (pc := 39) ckX12 q951 dX2_reads_39 (h9.r38 (by omega)) ?_
      refine pj_getfN (pc := 42) ckX12 4 q1505 dX2_reads_42 (by decide) (h9.r38 (by omega)) rfl ?_
      by_cases cz : lawv τ i 4 = nI 0
      · refine PJ.top (y := (-1 : Int32)) ((t9.said (by omega)).1.trans (if_pos cz)) ?_
        refine pl_aload_n (pc := 45) dX2_reads_45 rfl rfl ?_
        refine pj_getf (pc := 46) ckX2 0 q725 dX2_reads_46 (by decide) (h9.r1) rfl ?_
        refine PJ.top (y := nI nw) iv9.hnw ?_
        refine pj_icmp_ne (pc := 49) (tgt := 57) dX2_reads_49 (by decide) (fun _ => ?_) (fun z => absurd z (nI_m1 (by have := iv.hNW; omega)))
        refine pl_iinc1 (pc := 57) (lv' := [(1, _), (0, _)]) dX2_reads_57 rfl rfl (by decide) rfl ?_
        refine pj_goto (pc := 60) (tgt := 2) dX2_reads_60 (by decide) ?_
        exact ih (by omega) _ _ (by show _ = letter1 (S 4 w) i (upto _ i _); rw [← hτ, letter_no (Or.inr (Or.inl cz))]) ⟨_, h9, t9⟩ iv9
      · refine PJ.top (y := lawv τ i 5) ((t9.said (by omega)).1.trans (if_neg cz)) ?_
        refine pl_aload_n (pc := 45) dX2_reads_45 rfl rfl ?_
        refine pj_getf (pc := 46) ckX2 0 q725 dX2_reads_46 (by decide) (h9.r1) rfl ?_
        refine pj_icmp_ne (pc := 49) (tgt := 57) dX2_reads_49 (by decide) (fun c49 => ?_) (fun c49 => ?_)
        · refine pl_iinc1 (pc := 57) (lv' := [(1, _), (0, _)]) dX2_reads_57 rfl rfl (by decide) rfl ?_
          refine pj_goto (pc := 60) (tgt := 2) dX2_reads_60 (by decide) ?_
          exact ih (by omega) _ _ (by show _ = letter1 (S 4 w) i (upto _ i _); rw [← hτ, letter_no (Or.inr (Or.inr c49))]) ⟨_, h9, t9⟩ iv9
        · refine pl_aload_n (pc := 52) dX2_reads_52 rfl rfl ?_
          refine pl_iload_n (pc := 53) dX2_reads_53 rfl rfl ?_
          refine pl_callVWv (pc := 54) (As := [_]) (C1 := 0) (N1 := 0) (C2 := 0) (N2 := 0) ckX2 mdX2_reads_2 rfl q2361 q2363 qs37 q126 dX2_reads_54 rfl rfl (Nat.le_of_ble_eq_true rfl) (h9.r1) (x_X2_reads_2 (d := d - 1) (by omega) ⟨_, h9, t9⟩ iv9 (k := i) (by omega) c28 cz c49) (by omega) (by omega) (by omega) (fun My2 qy2 => ?_)
          refine pl_iinc1 (pc := 57) (lv' := [(1, _), (0, _)]) dX2_reads_57 rfl rfl (by decide) rfl ?_
          refine pj_goto (pc := 60) (tgt := 2) dX2_reads_60 (by decide) ?_
          exact ih (by omega) _ _ (by show _ = letter1 (S 4 w) i (upto _ i _); rw [← hτ]) qy2 (letter1_iv iv9 (by omega))
