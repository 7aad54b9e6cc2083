set_option maxRecDepth 100000
theorem abs_nI {p q : Nat} (hp : p < 1073741824) (hq : q < 1073741824) : (if 0 ≤ nI p - nI q then nI p - nI q else 0 - (nI p - nI q)) = nI ((p - q) + (q - p)) := by
  by_cases h : p < q
  · rw [if_neg (Int32.not_le.mpr (pk_sneg (by omega) h)), Int32.zero_sub, Int32.neg_sub, pk_sub (by omega), show p - q + (q - p) = q - p by omega]
  · rw [pk_sub (by omega), if_pos (nI_pos' (by omega)), show p - q + (q - p) = p - q by omega]
theorem sub_back {y o n : Nat} (h : o ≤ n) (h2 : n - o ≤ y) : nI y + (nI o - nI n) = nI (y - (n - o)) := by
  rw [← Int32.neg_sub, pk_sub h, ← Int32.sub_eq_add_neg, pk_sub h2]
theorem IvG.deq {σ : MS} {n nl nb q nor nw b k : Nat} (v : IvG σ n nl nb q nor nw) (hb : b < 4) (h : PaQ σ (1720 + 15 * b) (k + 1)) : IvG (deqV (1720 + 15 * b) σ) n nl nb q nor nw := by
  obtain ⟨-, x, hx, ex⟩ := v.par b hb
  exact v.party hb (fun j hj => deq_other h (by omega)) deq_arr.2.1 ⟨⟨k, PaQ_deq h⟩, x, hx, (deq_other h (by omega)).trans ex⟩
theorem survG_def {σ : MS} {i k v : Nat} (hq : PaQ σ (1720 + 15 * i) k) (hv : row σ (1720 + 15 * i + 0) = nI v) (hv9 : v ≤ 9) : survG (1720 + 15 * i) k v σ = s_surveys σ i := by
  have hk := hq.2.1
  unfold s_surveys survG
  dsimp only
  rw [hq.1, tN_nI (by omega), show row (drops (1720 + 15 * i) k σ) (1720 + 15 * i + 0) = nI v from ((drops_ok k σ hq).2.1 _ (Or.inr (Or.inr (Or.inl rfl)))).trans hv, tN_nI (by omega)]
set_option maxHeartbeats 600000 in
theorem k_X2_distance {g : GP} {μ : Mem} {d : Nat} (hd : 2 ≤ d) {x c : Nat} (hx : x < 96) (hc : c < 96) : PM g yX2_distance (ws_ yX2_distance cX2_distance 2 (some .int)) d 0 0 [.int (nI x), .int (nI c)] μ (rQ (some (.int (nI (distN x c)))) μ) := by
  refine PM.of (by decide +kernel) (Nat.le_of_ble_eq_true rfl) ?_
  refine PJ.ok (fun G => ?_)
  show PJ g _ _ _ _ d 0 0 0 [(0, .int (nI x)), (1, .int (nI c))] [] _ _
  refine pl_iload_n (pc := 0) dX2_distance_0 rfl rfl ?_
  refine pl_bipush (pc := 1) (v := 12) dX2_distance_1 (by rfl) ?_
  refine pl_irem (pc := 3) dX2_distance_3 (by omega) (by decide) (by decide) ?_
  refine pl_iload_n (pc := 4) dX2_distance_4 rfl rfl ?_
  refine pl_bipush (pc := 5) (v := 12) dX2_distance_5 (by rfl) ?_
  refine pl_irem (pc := 7) dX2_distance_7 (by omega) (by decide) (by decide) ?_
  refine pj_isub (pc := 8) dX2_distance_8 ?_
  refine pj_mabs (pc := 9) (y := 0) q1578 dX2_distance_9 (by omega) (Nat.le_of_ble_eq_true rfl) ?_
  refine PJ.top (y := nI (dxN x c)) (abs_nI (by omega) (by omega)) ?_
  refine pl_iload_n (pc := 12) dX2_distance_12 rfl rfl ?_
  refine pl_bipush (pc := 13) (v := 12) dX2_distance_13 (by rfl) ?_
  refine pl_idiv (pc := 15) dX2_distance_15 (by omega) (by decide) (by decide) ?_
  refine pl_iload_n (pc := 16) dX2_distance_16 rfl rfl ?_
  refine pl_bipush (pc := 17) (v := 12) dX2_distance_17 (by rfl) ?_
  refine pl_idiv (pc := 19) dX2_distance_19 (by omega) (by decide) (by decide) ?_
  refine pj_isub (pc := 20) dX2_distance_20 ?_
  refine pj_mabs (pc := 21) (y := 0) q1578 dX2_distance_21 (by omega) (Nat.le_of_ble_eq_true rfl) ?_
  refine PJ.top (y := nI (dyN x c)) (abs_nI (by omega) (by omega)) ?_
  refine pl_iadd (pc := 24) dX2_distance_24 ?_
  refine pj_iret (pc := 25) dX2_distance_25 rfl ?_
  exact ⟨rfl, rfl⟩
set_option maxHeartbeats 600000 in
theorem k_X2_nearer {g : GP} {μ : Mem} {d : Nat} (hd : 2 ≤ d) {x c n : Nat} (hx : x < 96) (hc : c < 96) (hn : n ≤ distN x c) : PM g yX2_nearer (ws_ yX2_nearer cX2_nearer 6 (some .int)) d 0 0 [.int (nI x), .int (nI c), .int (nI n)] μ (rQ (some (.int (nI (nearK x c n)))) μ) := by
  refine PM.of (by decide +kernel) (Nat.le_of_ble_eq_true rfl) ?_
  refine PJ.ok (fun G => ?_)
  show PJ g _ _ _ _ d 0 0 0 [(0, .int (nI x)), (1, .int (nI c)), (2, .int (nI n))] [] _ _
  refine pl_iload_n (pc := 0) dX2_nearer_0 rfl rfl ?_
  refine pl_bipush (pc := 1) (v := 12) dX2_nearer_1 (by rfl) ?_
  refine pl_irem (pc := 3) dX2_nearer_3 (by omega) (by decide) (by decide) ?_
  refine PJ.top (y := nI (x % 12)) (rfl) ?_
  refine pj_istore_n (pc := 4) (lv' := [(3, _), (0, _), (1, _), (2, _)]) dX2_nearer_4 rfl (by decide) rfl ?_
  refine pl_iload_n (pc := 5) dX2_nearer_5 rfl rfl ?_
  refine pl_bipush (pc := 6) (v := 12) dX2_nearer_6 (by rfl) ?_
  refine pl_idiv (pc := 8) dX2_nearer_8 (by omega) (by decide) (by decide) ?_
  refine PJ.top (y := nI (x / 12)) (rfl) ?_
  refine pj_istore (pc := 9) (lv' := [(4, _), (3, _), (0, _), (1, _), (2, _)]) dX2_nearer_9 (by decide) rfl ?_
  refine pl_iload_n (pc := 11) dX2_nearer_11 rfl rfl ?_
  refine pl_iload_n (pc := 12) dX2_nearer_12 rfl rfl ?_
  refine pl_bipush (pc := 13) (v := 12) dX2_nearer_13 (by rfl) ?_
  refine pl_irem (pc := 15) dX2_nearer_15 (by omega) (by decide) (by decide) ?_
  refine pl_iload_n (pc := 16) dX2_nearer_16 rfl rfl ?_
  refine pj_isub (pc := 17) dX2_nearer_17 ?_
  refine pj_mabs (pc := 18) (y := 0) q1578 dX2_nearer_18 (by omega) (Nat.le_of_ble_eq_true rfl) ?_
  refine PJ.top (y := nI (dxN x c)) ((abs_nI (by omega) (by omega)).trans (congrArg nI (Nat.add_comm _ _))) ?_
  refine pj_mmin (pc := 21) q1033 dX2_nearer_21 (by omega) (Nat.le_of_ble_eq_true rfl) ?_
  have hn2 : n ≤ 100 := by unfold distN dxN dyN at hn; omega
  have hd2 : dxN x c ≤ 100 := by unfold dxN; omega
  refine PJ.top (y := nI (min n (dxN x c))) (min_nI (by omega) (by omega)) ?_
  refine pj_istore (pc := 24) (lv' := [(5, _), (4, _), (3, _), (0, _), (1, _), (2, _)]) dX2_nearer_24 (by decide) rfl ?_
  refine pl_iload_n (pc := 26) dX2_nearer_26 rfl rfl ?_
  refine pl_iload_n (pc := 27) dX2_nearer_27 rfl rfl ?_
  refine pl_bipush (pc := 28) (v := 12) dX2_nearer_28 (by rfl) ?_
  refine pl_irem (pc := 30) dX2_nearer_30 (by omega) (by decide) (by decide) ?_
  refine pl_iload_n (pc := 31) dX2_nearer_31 rfl rfl ?_
  refine pl_icmp_le (pc := 32) (tgt := 40) dX2_nearer_32 (by decide) (by omega) (by omega) (fun c32 => ?_) (fun c32 => ?_)
  · refine pl_iload (pc := 40) dX2_nearer_40 rfl ?_
    refine pj_ineg (pc := 42) dX2_nearer_42 ?_
    refine pj_iadd (pc := 43) dX2_nearer_43 ?_
    refine PJ.top (y := nI (nkX x c n)) (by unfold nkX; rw [if_neg (by omega)]; exact nI_dec (by unfold dxN; omega)) ?_
    refine pj_istore_n (pc := 44) (lv' := [(3, _), (5, _), (4, _), (0, _), (1, _), (2, _)]) dX2_nearer_44 rfl (by decide) rfl ?_
    refine pl_iload (pc := 45) dX2_nearer_45 rfl ?_
    refine pl_iload_n (pc := 47) dX2_nearer_47 rfl rfl ?_
    refine pl_bipush (pc := 48) (v := 12) dX2_nearer_48 (by rfl) ?_
    refine pl_idiv (pc := 50) dX2_nearer_50 (by omega) (by decide) (by decide) ?_
    refine pl_iload (pc := 51) dX2_nearer_51 rfl ?_
    refine pl_icmp_le (pc := 53) (tgt := 63) dX2_nearer_53 (by decide) (by omega) (by omega) (fun c53 => ?_) (fun c53 => ?_)
    · refine pl_iload (pc := 63) dX2_nearer_63 rfl ?_
      refine pl_iload_n (pc := 65) dX2_nearer_65 rfl rfl ?_
      refine pj_isub (pc := 66) dX2_nearer_66 ?_
      refine pj_iadd (pc := 67) dX2_nearer_67 ?_
      refine PJ.top (y := nI (nkY x c n)) (by unfold nkY; rw [if_neg (by omega)]; exact sub_back (Nat.min_le_left _ _) (by unfold distN dyN at hn; omega)) ?_
      refine pj_istore (pc := 68) (lv' := [(4, _), (3, _), (5, _), (0, _), (1, _), (2, _)]) dX2_nearer_68 (by decide) rfl ?_
      refine pl_bipush (pc := 70) (v := 12) dX2_nearer_70 (by rfl) ?_
      refine pl_iload (pc := 72) dX2_nearer_72 rfl ?_
      refine pl_imul (pc := 74) dX2_nearer_74 ?_
      refine pl_iload_n (pc := 75) dX2_nearer_75 rfl rfl ?_
      refine pl_iadd (pc := 76) dX2_nearer_76 ?_
      refine pj_iret (pc := 77) dX2_nearer_77 rfl ?_
      exact ⟨rfl, rfl⟩
    · refine pl_iload_n (pc := 56) dX2_nearer_56 rfl rfl ?_
      refine pl_iload (pc := 57) dX2_nearer_57 rfl ?_
      refine pl_isub (pc := 59) dX2_nearer_59 (Nat.min_le_left _ _) ?_
      refine pj_goto (pc := 60) (tgt := 67) dX2_nearer_60 (by decide) ?_
      refine pl_iadd (pc := 67) dX2_nearer_67 ?_
      refine PJ.top (y := nI (nkY x c n)) (by unfold nkY; rw [if_pos (by omega)]) ?_
      refine pj_istore (pc := 68) (lv' := [(4, _), (3, _), (5, _), (0, _), (1, _), (2, _)]) dX2_nearer_68 (by decide) rfl ?_
      refine pl_bipush (pc := 70) (v := 12) dX2_nearer_70 (by rfl) ?_
      refine pl_iload (pc := 72) dX2_nearer_72 rfl ?_
      refine pl_imul (pc := 74) dX2_nearer_74 ?_
      refine pl_iload_n (pc := 75) dX2_nearer_75 rfl rfl ?_
      refine pl_iadd (pc := 76) dX2_nearer_76 ?_
      refine pj_iret (pc := 77) dX2_nearer_77 rfl ?_
      exact ⟨rfl, rfl⟩
  · refine pl_iload (pc := 35) dX2_nearer_35 rfl ?_
    refine pj_goto (pc := 37) (tgt := 43) dX2_nearer_37 (by decide) ?_
    refine pl_iadd (pc := 43) dX2_nearer_43 ?_
    refine PJ.top (y := nI (nkX x c n)) (by unfold nkX; rw [if_pos (by omega)]) ?_
    refine pj_istore_n (pc := 44) (lv' := [(3, _), (5, _), (4, _), (0, _), (1, _), (2, _)]) dX2_nearer_44 rfl (by decide) rfl ?_
    refine pl_iload (pc := 45) dX2_nearer_45 rfl ?_
    refine pl_iload_n (pc := 47) dX2_nearer_47 rfl rfl ?_
    refine pl_bipush (pc := 48) (v := 12) dX2_nearer_48 (by rfl) ?_
    refine pl_idiv (pc := 50) dX2_nearer_50 (by omega) (by decide) (by decide) ?_
    refine pl_iload (pc := 51) dX2_nearer_51 rfl ?_
    refine pl_icmp_le (pc := 53) (tgt := 63) dX2_nearer_53 (by decide) (by omega) (by omega) (fun c53 => ?_) (fun c53 => ?_)
    · refine pl_iload (pc := 63) dX2_nearer_63 rfl ?_
      refine pl_iload_n (pc := 65) dX2_nearer_65 rfl rfl ?_
      refine pj_isub (pc := 66) dX2_nearer_66 ?_
      refine pj_iadd (pc := 67) dX2_nearer_67 ?_
      refine PJ.top (y := nI (nkY x c n)) (by unfold nkY; rw [if_neg (by omega)]; exact sub_back (Nat.min_le_left _ _) (by unfold distN dyN at hn; omega)) ?_
      refine pj_istore (pc := 68) (lv' := [(4, _), (3, _), (5, _), (0, _), (1, _), (2, _)]) dX2_nearer_68 (by decide) rfl ?_
      refine pl_bipush (pc := 70) (v := 12) dX2_nearer_70 (by rfl) ?_
      refine pl_iload (pc := 72) dX2_nearer_72 rfl ?_
      refine pl_imul (pc := 74) dX2_nearer_74 ?_
      refine pl_iload_n (pc := 75) dX2_nearer_75 rfl rfl ?_
      refine pl_iadd (pc := 76) dX2_nearer_76 ?_
      refine pj_iret (pc := 77) dX2_nearer_77 rfl ?_
      exact ⟨rfl, rfl⟩
    · refine pl_iload_n (pc := 56) dX2_nearer_56 rfl rfl ?_
      refine pl_iload (pc := 57) dX2_nearer_57 rfl ?_
      refine pl_isub (pc := 59) dX2_nearer_59 (Nat.min_le_left _ _) ?_
      refine pj_goto (pc := 60) (tgt := 67) dX2_nearer_60 (by decide) ?_
      refine pl_iadd (pc := 67) dX2_nearer_67 ?_
      refine PJ.top (y := nI (nkY x c n)) (by unfold nkY; rw [if_pos (by omega)]) ?_
      refine pj_istore (pc := 68) (lv' := [(4, _), (3, _), (5, _), (0, _), (1, _), (2, _)]) dX2_nearer_68 (by decide) rfl ?_
      refine pl_bipush (pc := 70) (v := 12) dX2_nearer_70 (by rfl) ?_
      refine pl_iload (pc := 72) dX2_nearer_72 rfl ?_
      refine pl_imul (pc := 74) dX2_nearer_74 ?_
      refine pl_iload_n (pc := 75) dX2_nearer_75 rfl rfl ?_
      refine pl_iadd (pc := 76) dX2_nearer_76 ?_
      refine pj_iret (pc := 77) dX2_nearer_77 rfl ?_
      exact ⟨rfl, rfl⟩
set_option maxHeartbeats 600000 in
theorem x_X2_surveys {g : GP} {μ : Mem} {d : Nat} {P : Nat → Prop} {F : Mem} {A : XA} {w : Nat} {S : Nat → Nat → Nat} {b : XS} {σ : MS} {nor nw : Nat} (hd : 8 ≤ d) (s : SB g P F A w S b σ nw μ) (iv : IvG σ (S 4 w) (S 8 w) (S 10 w) (S 6 w) nor nw) {i : Nat} (hi : i < S 6 w) : PM g yX2_surveys (ws_ yX2_surveys cX2_surveys 5 none) d 0 0 [.ref (A 1 w 0), .ref (A 36 w i)] μ (WQ none (SB g P F A w S b (s_surveys σ i) nw)) := by
  refine PM.of (by decide +kernel) (Nat.le_of_ble_eq_true rfl) ?_
  refine PJ.ok (fun G => ?_)
  show PJ g _ _ _ _ d 0 0 0 [(0, .ref (A 1 w 0)), (1, .ref (A 36 w i))] [] _ _
  obtain ⟨e, h, t⟩ := s
  have hS4 := h.hz.2.1
  have hS6 := h.hz.2.2.1
  have hS8 := h.hz.2.2.2.1
  have hS10 := h.hz.2.2.2.2.1
  have hi4 : i < 4 := by omega
  have key : ∀ (k l : Nat) (M9 : Mem) (τ : MS), l ≤ 9 → PaQ τ (1720 + 15 * i) k → SB g P F A w S b τ nw M9 → IvG τ (S 4 w) (S 8 w) (S 10 w) (S 6 w) nor nw → survG (1720 + 15 * i) k l τ = s_surveys σ i → PJ g yX2_surveys.cls cX2_surveys 5 (none, yX2_surveys.name, []) d 0 0 5 [(2, .int (nI l)), (1, .ref (A 36 w i)), (0, .ref (A 1 w 0))] [] M9 (WQ none (SB g P F A w S b (s_surveys σ i) nw)) := by
    intro k
    induction k with
    | zero =>
      intro l M9 τ hl hq s9 iv9 hT
      obtain ⟨e9, h9, t9⟩ := s9
      refine pl_aload_n (pc := 5) dX2_surveys_5 rfl rfl ?_
      refine pj_getfN (pc := 6) ckX11 2 q1435 dX2_surveys_6 (by decide) (h9.r36 hi) rfl ?_
      refine PJ.top (y := nI 0) hq.1 ?_
      refine pj_if_le (pc := 9) (tgt := 150) dX2_surveys_9 (by decide) (fun _ => ?_) (fun h => absurd h (by decide))
      refine pj_vret (pc := 150) dX2_surveys_150 rfl ?_
      rw [← hT, survG_0 hq.1]
      exact ⟨rfl, _, h9, t9⟩
    | succ k ih =>
      intro l M9 τ hl hq s9 iv9 hT
      obtain ⟨e9, h9, t9⟩ := s9
      have hk12 := hq.2.1
      obtain ⟨c, hc, ec⟩ := hq.2.2 0 (by omega)
      obtain ⟨-, x, hx, ex⟩ := iv9.par i hi4
      have k94 : ∀ (l1 : Nat) (M8 : Mem) (τ1 : MS), l1 ≤ 9 → PaQ τ1 (1720 + 15 * i) (k + 1) → SB g P F A w S b τ1 nw M8 → IvG τ1 (S 4 w) (S 8 w) (S 10 w) (S 6 w) nor nw → row τ1 ((1720 + 15 * i) + 1) = nI c → row τ1 ((1720 + 15 * i) + 3) = nI c → sec τ1 c 0 = nI 0 → survG (1720 + 15 * i) (k + 1) l1 τ1 = s_surveys σ i → PJ g yX2_surveys.cls cX2_surveys 5 (none, yX2_surveys.name, []) d 0 0 94 [(3, .int (nI c)), (2, .int (nI l1)), (1, .ref (A 36 w i)), (0, .ref (A 1 w 0))] [] M8 (WQ none (SB g P F A w S b (s_surveys σ i) nw)) := by
        intro l1 M8 τ1 hl1 q1 s1 iv1 ex1 ec1 hw1 hT1
        obtain ⟨e1, h1, t1⟩ := s1
        obtain ⟨m, em, hm, hd⟩ := t1.ivd.1 c hc
        obtain ⟨dn, ed, hdn⟩ := hd hw1
        have mi : e1 2 c = nI (m - dn) := by rw [t1.miles hc, if_pos hw1, em, ed, pk_sub (by omega)]
        refine pl_iload_n (pc := 94) dX2_surveys_94 rfl rfl ?_
        refine pl_aload_n (pc := 95) dX2_surveys_95 rfl rfl ?_
        refine pj_getf (pc := 96) ckX2 15 q753 dX2_surveys_96 (by decide) (h1.r1) rfl ?_
        refine pl_iload_n (pc := 99) dX2_surveys_99 rfl rfl ?_
        refine pl_iald (pc := 100) (n := 96) dX2_surveys_100 (h1.r18) hc (by decide) ?_
        refine PJ.top (h1.v18 hc) ?_
        refine PJ.top (y := nI (m - dn)) (mi) ?_
        refine pj_mmin (pc := 101) q1033 dX2_surveys_101 (by omega) (Nat.le_of_ble_eq_true rfl) ?_
        refine PJ.top (y := nI (min l1 (m - dn))) (min_nI (by omega) (by omega)) ?_
        have hD1 : (min l1 (m - dn)) ≤ l1 := Nat.min_le_left _ _
        have hD2 : (min l1 (m - dn)) ≤ m - dn := Nat.min_le_right _ _
        refine pj_istore (pc := 104) (lv' := [(4, _), (3, _), (2, _), (1, _), (0, _)]) dX2_surveys_104 (by decide) rfl ?_
        refine pl_aload_n (pc := 106) dX2_surveys_106 rfl rfl ?_
        refine pj_getf (pc := 107) ckX2 15 q753 dX2_surveys_107 (by decide) (h1.r1) rfl ?_
        refine pl_iload_n (pc := 110) dX2_surveys_110 rfl rfl ?_
        refine pj_dup2_11 (pc := 111) dX2_surveys_111 rfl rfl ?_
        refine pl_iald (pc := 112) (n := 96) dX2_surveys_112 (h1.r18) hc (by decide) ?_
        refine PJ.top (h1.v18 hc) ?_
        refine PJ.top (y := nI (m - dn)) (mi) ?_
        refine pl_iload (pc := 113) dX2_surveys_113 rfl ?_
        refine pl_isub (pc := 115) dX2_surveys_115 hD2 ?_
        refine pl_iast (pc := 116) (n := 96) dX2_surveys_116 (h1.r18) hc (by decide) ?_
        refine sxk (h1.p18 hc) (fun My1 y1 => ?_)
        refine pl_iload_n (pc := 117) dX2_surveys_117 rfl rfl ?_
        refine pl_iload (pc := 118) dX2_surveys_118 rfl ?_
        refine pl_isub (pc := 120) dX2_surveys_120 hD1 ?_
        refine pj_istore_n (pc := 121) (lv' := [(2, _), (4, _), (3, _), (1, _), (0, _)]) dX2_surveys_121 rfl (by decide) rfl ?_
        refine pl_aload_n (pc := 122) dX2_surveys_122 rfl rfl ?_
        refine pj_getf (pc := 123) ckX2 15 q753 dX2_surveys_123 (by decide) (y1.r1) rfl ?_
        refine pl_iload_n (pc := 126) dX2_surveys_126 rfl rfl ?_
        refine pl_iald (pc := 127) (n := 96) dX2_surveys_127 (y1.r18) hc (by decide) ?_
        refine PJ.top (y1.v18 hc) ?_
        refine PJ.top (y := nI (m - dn - (min l1 (m - dn)))) (uE_eq) ?_
        refine pl_if_leN (pc := 128) (tgt := 134) dX2_surveys_128 (by decide) (by omega) (fun c128 => ?_) (fun c128 => ?_)
        · refine pl_aload_n (pc := 134) dX2_surveys_134 rfl rfl ?_
          refine pl_iload_n (pc := 135) dX2_surveys_135 rfl rfl ?_
          refine pl_aload_n (pc := 136) dX2_surveys_136 rfl rfl ?_
          refine pj_getf (pc := 137) ckX2 20 q763 dX2_surveys_137 (by decide) (y1.r1) rfl ?_
          have hl_140 : HoC _ (A 49 w 0) (ho4 (nI 1) (-1) (-1) (-1)) := Or.inr (Or.inl ⟨rfl, rfl, rfl, y1.lot.1⟩)
          refine pl_callVWv (pc := 140) (As := [_, _]) (C1 := 0) (N1 := 0) (C2 := 0) (N2 := 0) ckX2 mdX2_puts rfl q703 q704 q705 q126 dX2_surveys_140 rfl rfl (Nat.le_of_ble_eq_true rfl) (y1.r1) (x_X2_puts (d := d - 1) (by omega) y1 hc hl_140 y1.lot.2 (by decide)) (by omega) (by omega) (by omega) (fun My2 y2 => ?_)
          have s2 : SB g P F A w S b (s_holds (sR τ1 (8 * c + 7) (nI m)) c (nI 1) (-1)) nw _ := lot_tie (x := nI m) y2 (fun a ha => by unfold uE; rw [if_neg ha]) (fun q hq => uE_ne (fun z => hq z.2)) t1 hc hw1
          have q2 : PaQ (s_holds (sR τ1 (8 * c + 7) (nI m)) c (nI 1) (-1)) (1720 + 15 * i) (k + 1) := PaQ_holds hc (by omega) (PaQ_sR (by omega) q1)
          obtain ⟨e2, h2, t2⟩ := s2
          refine pl_aload_n (pc := 143) dX2_surveys_143 rfl rfl ?_
          refine pl_callVWv (pc := 144) (As := []) (C1 := 0) (N1 := 0) (C2 := 0) (N2 := 0) ckX11 mdX11_passes rfl q1571 q1572 q1573 q159 dX2_surveys_144 rfl rfl (Nat.le_of_ble_eq_true rfl) (h2.r36 hi) (x_X11_passB (d := d - 1) (by omega) ⟨_, h2, t2⟩ hi q2) (by omega) (by omega) (by omega) (fun My3 qy3 => ?_)
          refine pj_goto (pc := 147) (tgt := 5) dX2_surveys_147 (by decide) ?_
          refine PJ.sub [0, 3, 4] rfl ?_
          have hD : (min l1 (m - dn)) = m - dn := by omega
          rw [hD]
          have e8 := surv_lot (l := l1 - (m - dn)) (by omega) q1 ex1 ec1 hc hw1 em hm ed hdn
          rw [show m - dn + (l1 - (m - dn)) = l1 by omega, ← survG_w (k := k) ec1 hc hw1, hT1] at e8
          exact ih _ _ _ (by omega) (PaQ_deq q2) qy3 (((iv1.sR1 (by unfold fr1 fr2; omega)).holdsN hc (Or.inr (Or.inl rfl))).deq hi4 q2) e8.symm
        · refine pj_goto (pc := 131) (tgt := 150) dX2_surveys_131 (by decide) ?_
          refine pj_vret (pc := 150) dX2_surveys_150 rfl ?_
          have hl2 : (min l1 (m - dn)) = l1 := by omega
          rw [← hT1, survG_w (k := k) ec1 hc hw1]
          have e8 := surv_dig (by omega) q1 ex1 ec1 hc hw1 em hm ed l1 0 (by omega)
          rw [Nat.add_zero] at e8
          rw [e8]
          have y8 : SX g P F A w S b τ1 (uE e1 2 c (nI (m - dn - (min l1 (m - dn))))) _ := y1
          rw [hl2, show m - dn - l1 = m - (dn + l1) by omega] at y8
          exact ⟨rfl, _, y8.onR (fun j hj => rowS_ne (fun z => by subst z; unfold mapR at hj; omega)) OnR.rf.R, tie_miles t1 y8.hz hc hw1 em hm (by omega)⟩
      refine pl_aload_n (pc := 5) dX2_surveys_5 rfl rfl ?_
      refine pj_getfN (pc := 6) ckX11 2 q1435 dX2_surveys_6 (by decide) (h9.r36 hi) rfl ?_
      refine PJ.top (y := nI (k + 1)) hq.1 ?_
      refine pj_if_le (pc := 9) (tgt := 150) dX2_surveys_9 (by decide) (fun z => absurd z (nI_nle (by omega) (by omega))) (fun _ => ?_)
      refine pl_aload_n (pc := 12) dX2_surveys_12 rfl rfl ?_
      refine pj_getfN (pc := 13) ckX11 3 q1438 dX2_surveys_13 (by decide) (h9.r36 hi) rfl ?_
      refine pl_iconst (pc := 16) (v := 0) dX2_surveys_16 (by rfl) ?_
      refine pl_iald (pc := 17) (n := 12) dX2_surveys_17 (h9.r37 hi) (by omega) (by decide) ?_
      refine PJ.top (h9.v37 hi (by omega)) ?_
      refine PJ.top (y := nI c) ((t9.queue hi (by omega) (by rw [hq.1, tN_nI (by omega)]; omega)).trans ec) ?_
      refine pj_istore_n (pc := 18) (lv' := [(3, _), (2, _), (1, _), (0, _)]) dX2_surveys_18 rfl (by decide) rfl ?_
      refine pl_aload_n (pc := 19) dX2_surveys_19 rfl rfl ?_
      refine pj_getf (pc := 20) ckX2 12 q747 dX2_surveys_20 (by decide) (h9.r1) rfl ?_
      refine pl_iload_n (pc := 23) dX2_surveys_23 rfl rfl ?_
      obtain ⟨m_24, c_24, l_24⟩ := h9.L2
      refine pl_callVd (pc := 24) (As := [_]) (C1 := 0) (N1 := 0) (C2 := 0) (N2 := 0) ckJ2 mdJ2_get rfl q707 q708 q709 q129 dX2_surveys_24 rfl rfl (Nat.le_of_ble_eq_true rfl) l_24.1 (k_J2_get (d := d - 1) (by omega) l_24 (j := c) (by rw [h9.hz.s2]; omega) (if_pos (by rw [h9.hz.s2]; omega))) (by omega) (by omega) (by omega) ?_
      obtain ⟨q_24, hm_24, hq_24, hdd_24⟩ := h9.held (s := c) (by omega)
      refine pj_castS (pc := 27) ckX8 q620 dX2_surveys_27 hm_24 ?_
      refine pl_callVd (pc := 30) (As := []) (C1 := 0) (N1 := 0) (C2 := 0) (N2 := 0) ckX8 mdX8_isWild rfl q1570 q1271 q1272 q152 dX2_surveys_30 rfl rfl (Nat.le_of_ble_eq_true rfl) hm_24 (k_X8_isWild (d := d - 1) (by omega) hm_24 hq_24) (by omega) (by omega) (by omega) ?_
      refine PJ.top (ho_isWild) ?_
      refine pl_if_neB (pc := 33) (tgt := 43) dX2_surveys_33 (by decide) (fun c33 => ?_) (fun c33 => ?_)
      · have hw : sec τ c 0 = nI 0 := of_decide_eq_true c33
        refine pl_aload_n (pc := 43) dX2_surveys_43 rfl rfl ?_
        refine pj_getfN (pc := 44) ckX11 1 q1432 dX2_surveys_44 (by decide) (h9.r36 hi) rfl ?_
        refine PJ.top (y := nI x) ex ?_
        refine pl_iload_n (pc := 47) dX2_surveys_47 rfl rfl ?_
        refine pl_icmp_eq (pc := 48) (tgt := 94) dX2_surveys_48 (by decide) (by omega) (by omega) (fun c48 => ?_) (fun c48 => ?_)
        · exact k94 _ _ _ hl hq ⟨_, h9, t9⟩ iv9 (ex.trans (by rw [c48])) ec hw hT
        · refine pl_iload_n (pc := 51) dX2_surveys_51 rfl rfl ?_
          refine pl_if_neN (pc := 52) (tgt := 58) dX2_surveys_52 (by decide) (by omega) (fun c52 => ?_) (fun c52 => ?_)
          · refine pl_iload_n (pc := 58) dX2_surveys_58 rfl rfl ?_
            refine pl_aload_n (pc := 59) dX2_surveys_59 rfl rfl ?_
            refine pj_getfN (pc := 60) ckX11 1 q1432 dX2_surveys_60 (by decide) (h9.r36 hi) rfl ?_
            refine PJ.top (y := nI x) (ex) ?_
            refine pl_iload_n (pc := 63) dX2_surveys_63 rfl rfl ?_
            refine pl_callSd (pc := 64) (As := [_, _]) (C1 := 0) (N1 := 0) (C2 := 0) (N2 := 0) mdX2_distance q1575 q1576 q126 dX2_surveys_64 rfl rfl (Nat.le_of_ble_eq_true rfl) (k_X2_distance (d := d - 1) (by omega) hx hc) (by omega) (by omega) (by omega) ?_
            refine pj_mmin (pc := 67) q1033 dX2_surveys_67 (by omega) (Nat.le_of_ble_eq_true rfl) ?_
            have hdi : distN x c ≤ 100 := by unfold distN dxN dyN; omega
            refine PJ.top (y := nI (min l (distN x c))) (min_nI (by omega) (by omega)) ?_
            refine pj_istore (pc := 70) (lv' := [(4, _), (3, _), (2, _), (1, _), (0, _)]) dX2_surveys_70 (by decide) rfl ?_
            refine pl_aload_n (pc := 72) dX2_surveys_72 rfl rfl ?_
            refine pl_aload_n (pc := 73) dX2_surveys_73 rfl rfl ?_
            refine pj_getfN (pc := 74) ckX11 1 q1432 dX2_surveys_74 (by decide) (h9.r36 hi) rfl ?_
            refine PJ.top (y := nI x) (ex) ?_
            refine pl_iload_n (pc := 77) dX2_surveys_77 rfl rfl ?_
            refine pl_iload (pc := 78) dX2_surveys_78 rfl ?_
            refine pl_callSd (pc := 80) (As := [_, _, _]) (C1 := 0) (N1 := 0) (C2 := 0) (N2 := 0) mdX2_nearer q1581 q1582 q126 dX2_surveys_80 rfl rfl (Nat.le_of_ble_eq_true rfl) (k_X2_nearer (d := d - 1) (by omega) hx hc (Nat.min_le_right _ _)) (by omega) (by omega) (by omega) ?_
            refine pj_putfN (pc := 83) ckX11 1 q1432 dX2_surveys_83 (by decide) rfl (h9.r36 hi) rfl rfl (Nat.le_of_ble_eq_true rfl) ?_
            refine sxk (h9.p36_1 hi) (fun My4 y4 => ?_)
            have g8 : SX g P F A w S b (sR τ ((1720 + 15 * i) + 1) (nI (nearK x c (min l (distN x c))))) e9 _ := y4
            have t8 : TieX w S (sR τ ((1720 + 15 * i) + 1) (nI (nearK x c (min l (distN x c))))) e9 nw := tie_party t9 g8.hz hi (fun j _ hj => rowS_ne (by omega)) (fun j hj2 hj => by
              rw [rowS_ne (by omega)] at hj
              rw [rowS_ne (by omega)]
              exact t9.queue hi hj2 hj) (fun _ _ => rfl) (by simp [sA]) (by simp [sA]) (by simp [sA]) rfl rfl
            have hxg : (nearK x c (min l (distN x c))) < 96 := nearK_lt hx hc (Nat.min_le_right _ _)
            have q8 : PaQ (sR τ ((1720 + 15 * i) + 1) (nI (nearK x c (min l (distN x c))))) (1720 + 15 * i) (k + 1) := PaQ_sR (by omega) hq
            have iv8 : IvG (sR τ ((1720 + 15 * i) + 1) (nI (nearK x c (min l (distN x c))))) (S 4 w) (S 8 w) (S 10 w) (S 6 w) nor nw := iv9.party hi4 (fun j hj => rowS_ne (by omega)) (fun k hk => by simp [sA, hk]) ⟨⟨_, q8⟩, _, nearK_lt hx hc (Nat.min_le_right _ _), rowS_eq⟩
            have w8 := surv_way (by omega) hq ex hx ec hc hw (min l (distN x c)) (l - (min l (distN x c))) (Nat.min_le_right _ _)
            have hT8 : survG (1720 + 15 * i) (k + 1) (l - (min l (distN x c))) (sR τ ((1720 + 15 * i) + 1) (nI (nearK x c (min l (distN x c))))) = s_surveys σ i := by
              rw [survG_w (c := c) ((rowS_ne (by omega)).trans ec) hc ((rowS_ne (by omega)).trans hw), ← w8, show (min l (distN x c)) + (l - (min l (distN x c))) = l by omega, ← survG_w (k := k) ec hc hw]
              exact hT
            refine pl_iload_n (pc := 86) dX2_surveys_86 rfl rfl ?_
            refine pl_iload (pc := 87) dX2_surveys_87 rfl ?_
            refine pl_isub (pc := 89) dX2_surveys_89 (Nat.min_le_left _ _) ?_
            refine pj_istore_n (pc := 90) (lv' := [(2, _), (4, _), (3, _), (1, _), (0, _)]) dX2_surveys_90 rfl (by decide) rfl ?_
            refine pj_goto (pc := 91) (tgt := 43) dX2_surveys_91 (by decide) ?_
            refine pl_aload_n (pc := 43) dX2_surveys_43 rfl rfl ?_
            refine pj_getfN (pc := 44) ckX11 1 q1432 dX2_surveys_44 (by decide) (g8.r36 hi) rfl ?_
            refine PJ.top (y := nI (nearK x c (min l (distN x c)))) rowS_eq ?_
            refine pl_iload_n (pc := 47) dX2_surveys_47 rfl rfl ?_
            refine pl_icmp_eq (pc := 48) (tgt := 94) dX2_surveys_48 (by decide) (by omega) (by omega) (fun c48 => ?_) (fun c48 => ?_)
            · refine PJ.sub [2, 0, 3, 4] rfl ?_
              exact k94 _ _ _ (by omega) q8 ⟨_, g8, t8⟩ iv8 (rowS_eq.trans (by rw [c48])) ((rowS_ne (by omega)).trans ec) ((rowS_ne (by omega)).trans hw) hT8
            · refine pl_iload_n (pc := 51) dX2_surveys_51 rfl rfl ?_
              refine pl_if_neN (pc := 52) (tgt := 58) dX2_surveys_52 (by decide) (by omega) (fun c52 => ?_) (fun c52 => ?_)
              · have hgd : ¬ (min l (distN x c)) = distN x c := fun z => c48 (by rw [z]; exact nearK_d hx hc)
                exact absurd c52 (by omega)
              · refine pj_goto (pc := 55) (tgt := 150) dX2_surveys_55 (by decide) ?_
                refine pj_vret (pc := 150) dX2_surveys_150 rfl ?_
                rw [← hT8, survG_w (k := k) (c := c) ((rowS_ne (by omega)).trans ec) hc ((rowS_ne (by omega)).trans hw), c52]
                exact ⟨rfl, _, g8, t8⟩
          · refine pj_goto (pc := 55) (tgt := 150) dX2_surveys_55 (by decide) ?_
            refine pj_vret (pc := 150) dX2_surveys_150 rfl ?_
            subst c52
            rw [← hT, survG_w (k := k) ec hc hw]
            exact ⟨rfl, _, h9, t9⟩
      · refine pl_aload_n (pc := 36) dX2_surveys_36 rfl rfl ?_
        refine pl_callVWv (pc := 37) (As := []) (C1 := 0) (N1 := 0) (C2 := 0) (N2 := 0) ckX11 mdX11_passes rfl q1571 q1572 q1573 q159 dX2_surveys_37 rfl rfl (Nat.le_of_ble_eq_true rfl) (h9.r36 hi) (x_X11_passB (d := d - 1) (by omega) ⟨_, h9, t9⟩ hi hq) (by omega) (by omega) (by omega) (fun My5 qy5 => ?_)
        refine pj_goto (pc := 40) (tgt := 5) dX2_surveys_40 (by decide) ?_
        refine PJ.sub [1, 2, 3] rfl ?_
        exact ih _ _ _ hl (PaQ_deq hq) qy5 (iv9.deq hi4 hq) (by rw [← survG_d ec hc (of_decide_eq_false c33)]; exact hT)
  refine pl_aload_n (pc := 0) dX2_surveys_0 rfl rfl ?_
  refine pj_getfN (pc := 1) ckX11 0 q1429 dX2_surveys_1 (by decide) (h.r36 hi) rfl ?_
  obtain ⟨v, hv9, ev⟩ := iv.pace i hi
  obtain ⟨⟨k, hq⟩, -⟩ := iv.par i hi4
  refine PJ.top (y := nI v) ev ?_
  refine pj_istore_n (pc := 4) (lv' := [(2, _), (0, _), (1, _)]) dX2_surveys_4 rfl (by decide) rfl ?_
  refine PJ.sub [0, 2, 1] rfl ?_
  exact key k v _ _ hv9 hq ⟨_, h, t⟩ iv (survG_def hq ev hv9)
