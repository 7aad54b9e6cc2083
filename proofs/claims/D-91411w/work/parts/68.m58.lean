set_option maxRecDepth 100000
set_option maxHeartbeats 600000 in
theorem k_X10_gets {g : GP} {μ : Mem} {d : Nat} (hd : 2 ≤ d) {a : Nat} {f : Nat → Int32} (h : μ a = some (pO f)) {x : Int32} : PM g yX10_gets (ws_ yX10_gets cX10_gets 2 none) d 0 0 [.ref a, .int x] μ (rQ none (mset μ a (pO (upd f 2 (if f 2 + x < 1000000 then f 2 + x else 1000000))))) := by
  refine PM.of (by decide +kernel) (Nat.le_of_ble_eq_true rfl) ?_
  refine PJ.ok (fun G => ?_)
  show PJ g _ _ _ _ d 0 0 0 [(0, .ref a), (1, .int x)] [] _ _
  refine pl_aload_n (pc := 0) dX10_gets_0 rfl rfl ?_
  refine pj_ldc (pc := 1) q2384 dX10_gets_1 ?_
  refine pl_aload_n (pc := 3) dX10_gets_3 rfl rfl ?_
  refine pj_getf (pc := 4) ckX10 2 q1070 dX10_gets_4 (by decide) h rfl ?_
  refine pl_iload_n (pc := 7) dX10_gets_7 rfl rfl ?_
  refine pj_iadd (pc := 8) dX10_gets_8 ?_
  refine pj_mmin (pc := 9) q2385 dX10_gets_9 (by omega) (Nat.le_of_ble_eq_true rfl) ?_
  refine pj_putf (pc := 12) ckX10 2 q1070 dX10_gets_12 (by decide) rfl h rfl rfl (Nat.le_of_ble_eq_true rfl) ?_
  refine pj_vret (pc := 15) dX10_gets_15 rfl ?_
  exact ⟨rfl, rfl⟩
