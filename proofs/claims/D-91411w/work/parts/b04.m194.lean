set_option maxRecDepth 100000
set_option maxHeartbeats 600000 in
theorem k_X25_init {g : GP} {μ : Mem} {d : Nat} (hd : 3 ≤ d) {q : Nat} {a9 b9 : Nat} {s9 x9 : Int32} {l : Bool} (hm : μ q = some (.inr (27, [.null, .null, .int s9, .int x9]))) : PM g yX25_init (ws_ yX25_init cX25_init 4 none) d 0 0 [.ref q, .ref a9, .ref b9, .int (bI l)] μ (rQ none (mset μ q (.inr (27, [.ref a9, .ref b9, .int (nI 32), .int (bI l)])))) := by
  refine PM.of (by decide +kernel) (Nat.le_of_ble_eq_true rfl) ?_
  refine PJ.ok (fun G => ?_)
  show PJ g _ _ _ _ d 0 0 0 [(0, .ref q), (1, .ref a9), (2, .ref b9), (3, .int (bI l))] [] _ _
  refine pl_aload_n (pc := 0) dX25_init_0 rfl rfl ?_
  refine pl_aload_n (pc := 1) dX25_init_1 rfl rfl ?_
  refine pl_bipush (pc := 2) (v := 32) dX25_init_2 (by rfl) ?_
  refine pl_aload_n (pc := 4) dX25_init_4 rfl rfl ?_
  refine pl_callIv (pc := 5) (As := [_, _, _]) (C1 := 0) (N1 := 0) (C2 := 0) (N2 := 0) mdX24_init rfl q2129 q2130 q173 dX25_init_5 rfl rfl (Nat.le_of_ble_eq_true rfl) (k_X24_init_b (d := d - 1) (by omega) (by rfl) (by rfl) hm) (by omega) (by omega) (by omega) ?_
  refine pl_aload_n (pc := 8) dX25_init_8 rfl rfl ?_
  refine pl_iload_n (pc := 9) dX25_init_9 rfl rfl ?_
  refine pj_putfF (pc := 10) ckX25 3 q2133 dX25_init_10 (by decide) rfl rfl rfl mset_s (by cases l <;> rfl) (by cases l <;> rfl) (Nat.le_of_ble_eq_true rfl) ?_
  refine PJ.mem mset_m ?_
  refine pj_vret (pc := 13) dX25_init_13 rfl ?_
  exact ⟨rfl, rfl⟩
set_option maxHeartbeats 600000 in
theorem k_X30_init {g : GP} {μ : Mem} {d : Nat} (hd : 3 ≤ d) {q : Nat} {a9 b9 e9 : Nat} {s9 : Int32} (hm : μ q = some (.inr (32, [.null, .null, .int s9, .null]))) : PM g yX30_init (ws_ yX30_init cX30_init 4 none) d 0 0 [.ref q, .ref e9, .ref a9, .ref b9] μ (rQ none (mset μ q (.inr (32, [.ref a9, .ref b9, .int (nI 63), .ref e9])))) := by
  refine PM.of (by decide +kernel) (Nat.le_of_ble_eq_true rfl) ?_
  refine PJ.ok (fun G => ?_)
  show PJ g _ _ _ _ d 0 0 0 [(0, .ref q), (1, .ref e9), (2, .ref a9), (3, .ref b9)] [] _ _
  refine pl_aload_n (pc := 0) dX30_init_0 rfl rfl ?_
  refine pl_aload_n (pc := 1) dX30_init_1 rfl rfl ?_
  refine pl_bipush (pc := 2) (v := 63) dX30_init_2 (by rfl) ?_
  refine pl_aload_n (pc := 4) dX30_init_4 rfl rfl ?_
  refine pl_callIv (pc := 5) (As := [_, _, _]) (C1 := 0) (N1 := 0) (C2 := 0) (N2 := 0) mdX24_init rfl q2225 q2130 q173 dX30_init_5 rfl rfl (Nat.le_of_ble_eq_true rfl) (k_X24_init_c (d := d - 1) (x9 := 0) (by omega) (by rfl) (by rfl) hm) (by omega) (by omega) (by omega) ?_
  refine pl_aload_n (pc := 8) dX30_init_8 rfl rfl ?_
  refine pl_aload_n (pc := 9) dX30_init_9 rfl rfl ?_
  refine pj_putfF (pc := 10) ckX30 3 q2226 dX30_init_10 (by decide) rfl rfl rfl mset_s rfl rfl (Nat.le_of_ble_eq_true rfl) ?_
  refine PJ.mem mset_m ?_
  refine pj_vret (pc := 13) dX30_init_13 rfl ?_
  exact ⟨rfl, rfl⟩
