set_option maxRecDepth 100000
set_option maxHeartbeats 600000 in
theorem x_X1_sails {g : GP} {μ : Mem} {d : Nat} {P : Nat → Prop} {F : Mem} {A : XA} {S : Nat → Nat → Nat} {b : XS} {σ : MS} {e : XE}(hd : 2 ≤ d) (h : SX g P F A 0 S b σ e μ) {p : Nat} (hp : p < S 4 0) : PM g yX1_sails (ws_ yX1_sails cX1_sails 2 none) d 0 0 [.ref (A 0 0 0), .ref (A 35 0 p)] μ (WQ none (SX g P F A 0 S b (sR (sR σ (768 + 8 * p + 2) (nI 1)) (768 + 8 * p + 5) (row σ 2116 + nI 34)) e)) := by
  refine PM.of (by decide +kernel) (Nat.le_of_ble_eq_true rfl) ?_
  refine PJ.ok (fun G => ?_)
  show PJ g _ _ _ _ d 0 0 0 [(0, .ref (A 0 0 0)), (1, .ref (A 35 0 p))] [] _ _
  have hS4 := h.hz.2.1
  refine pl_aload_n (pc := 0) dX1_sails_0 rfl rfl ?_
  refine pl_iconst (pc := 1) (v := 1) dX1_sails_1 (by rfl) ?_
  refine pj_putfN (pc := 2) ckX10 3 q1075 dX1_sails_2 (by decide) rfl (h.r35 hp) rfl rfl (Nat.le_of_ble_eq_true rfl) ?_
  refine sxk (h.p35_3 hp (v := nI 1)) (fun My1 y1 => ?_)
  refine pl_aload_n (pc := 5) dX1_sails_5 rfl rfl ?_
  refine pl_aload_n (pc := 6) dX1_sails_6 rfl rfl ?_
  refine pj_getf (pc := 7) ckX1 0 q853 dX1_sails_7 (by decide) (y1.r0) rfl ?_
  refine pj_getfN (pc := 10) ckX2 0 q726 dX1_sails_10 (by decide) (y1.r1) rfl ?_
  refine pl_bipush (pc := 13) (v := 34) dX1_sails_13 (by rfl) ?_
  refine pj_iadd (pc := 15) dX1_sails_15 ?_
  refine pj_putfN (pc := 16) ckX10 9 q1091 dX1_sails_16 (by decide) rfl (y1.r35 hp) rfl rfl (Nat.le_of_ble_eq_true rfl) ?_
  refine sxk (y1.p35_9 hp) (fun My2 y2 => ?_)
  refine pj_vret (pc := 19) dX1_sails_19 rfl ?_
  exact ⟨rfl, SX.at9 y2 (by rw [show row (wA σ 1 (768 + 8 * p + 2) (nI 1)) 2116 = row σ 2116 from rowS_ne (by omega)]; first | done | rfl)⟩
theorem k_X1_rowOf_no {g : GP} {μ : Mem} {d : Nat} (hd : 8 ≤ d) {x : Int32} (hx : x < 0) : PM g yX1_rowOf (ws_ yX1_rowOf cX1_rowOf 1 (some (.array (.object "SettlerColony$Person")))) d 3 54 [.int x] μ (fun o M => (∃ q : Nat, o = .inr ("java/lang/NegativeArraySizeException", q)) ∧ M = μ) := by
  refine PM.of (by decide +kernel) (Nat.le_of_ble_eq_true rfl) ?_
  refine PJ.ok (fun G => ?_)
  show PJ g _ _ _ _ d 3 54 0 [(0, .int x)] [] _ _
  refine pl_iload_n (pc := 0) dX1_rowOf_0 rfl rfl ?_
  refine pj_bipush (pc := 1) (v := 101) dX1_rowOf_1 (by rfl) ?_
  refine pj_mmin (pc := 3) q1046 dX1_rowOf_3 (by omega) (Nat.le_of_ble_eq_true rfl) ?_
  refine PJ.top (y := x) (if_neg (Int32.not_lt.mpr (Int32.le_of_lt (Int32.lt_of_lt_of_le hx (by decide))))) ?_
  refine pj_newqZ (pc := 6) (C1 := 0) (N1 := 0) dX1_rowOf_6 q1047 q1048 hx (by omega) (by decide) (by omega) (by omega) (fun q => ?_)
  refine px_out0 rfl ?_
  exact ⟨⟨q, rfl⟩, rfl⟩
theorem k_X1_rowOf_ok {g : GP} {μ : Mem} {d : Nat} (hd : 2 ≤ d) {n : Nat} (hn : n < 2147483648) : PM g yX1_rowOf (ws_ yX1_rowOf cX1_rowOf 1 (some (.array (.object "SettlerColony$Person")))) d 1 101 [.int (nI n)] μ (fun o M => ∃ q : Nat, o = .inl (some (.ref q)) ∧ μ q = none ∧ M = mset μ q (.inl (gA g 6, min n 101, .inr (.inr (.inr (.inr (fun _ => none))))))) := by
  refine PM.of (by decide +kernel) (Nat.le_of_ble_eq_true rfl) ?_
  refine PJ.ok (fun G => ?_)
  show PJ g _ _ _ _ d 1 101 0 [(0, .int (nI n))] [] _ _
  refine pl_iload_n (pc := 0) dX1_rowOf_0 rfl rfl ?_
  refine pl_bipush (pc := 1) (v := 101) dX1_rowOf_1 (by rfl) ?_
  refine pj_mmin (pc := 3) q1046 dX1_rowOf_3 (by omega) (Nat.le_of_ble_eq_true rfl) ?_
  refine PJ.top (y := nI (min n 101)) (by
    by_cases c : 101 < n
    · rw [if_pos ((nI_ltI (by decide) hn).mpr c), Nat.min_eq_right (by omega)]
    · rw [if_neg (fun z => c ((nI_ltI (by decide) hn).mp z)), Nat.min_eq_left (by omega)]) ?_
  refine pj_newq (pc := 6) (t0 := 6) (N9 := min n 101) (C1 := 0) (N1 := 0) dX1_rowOf_6 q1047 q1048 rfl (Int32.not_lt.mpr (nI_pos' (by omega))) (nI_clamp (by omega)) (by omega) (by omega) (by omega) (fun q hq gq => ?_)
  refine pj_aret (pc := 9) dX1_rowOf_9 rfl (Or.inr ⟨_, rfl⟩) (Or.inr ⟨_, rfl⟩) ?_
  exact ⟨q, rfl, hq, rfl⟩
