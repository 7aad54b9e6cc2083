set_option maxRecDepth 100000
set_option maxHeartbeats 600000 in
theorem k_X22_init {g : GP} {μ : Mem} {d : Nat} (hd : 2 ≤ d) {q : Nat} {a9 x9 : Int32} (hm : μ q = some (.inr (24, [.int x9]))) : PM g yX22_init (ws_ yX22_init cX22_init 2 none) d 0 0 [.ref q, .int a9] μ (rQ none (mset μ q (.inr (24, [.int a9])))) := by
  refine PM.of (by decide +kernel) (Nat.le_of_ble_eq_true rfl) ?_
  refine PJ.ok (fun G => ?_)
  show PJ g _ _ _ _ d 0 0 0 [(0, .ref q), (1, .int a9)] [] _ _
  refine pl_aload_n (pc := 0) dX22_init_0 rfl rfl ?_
  refine pl_callINv (pc := 1) (As := []) (C1 := 0) (N1 := 0) (C2 := 0) (N2 := 0) mdX21_init rfl q2071 q2072 q170 dX22_init_1 rfl rfl (Nat.le_of_ble_eq_true rfl) (k_X21_init (d := d - 1) (by omega)) (by omega) (by omega) (by omega) ?_
  refine pl_aload_n (pc := 4) dX22_init_4 rfl rfl ?_
  refine pl_iload_n (pc := 5) dX22_init_5 rfl rfl ?_
  refine pj_putfF (pc := 6) ckX22 0 q2075 dX22_init_6 (by decide) rfl rfl rfl hm rfl rfl (Nat.le_of_ble_eq_true rfl) ?_
  refine pj_vret (pc := 9) dX22_init_9 rfl ?_
  exact ⟨rfl, rfl⟩
set_option maxHeartbeats 600000 in
theorem k_X23_init {g : GP} {μ : Mem} {d : Nat} (hd : 2 ≤ d) {q : Nat} {c9 x9 : Int32} (hc : narrow .char (.int c9) = .int c9) (hf : fits .char (.int c9) = true) (hm : μ q = some (.inr (25, [.int x9]))) : PM g yX23_init (ws_ yX23_init cX23_init 2 none) d 0 0 [.ref q, .int c9] μ (rQ none (mset μ q (.inr (25, [.int c9])))) := by
  refine PM.of (by decide +kernel) (Nat.le_of_ble_eq_true rfl) ?_
  refine PJ.ok (fun G => ?_)
  show PJ g _ _ _ _ d 0 0 0 [(0, .ref q), (1, .int c9)] [] _ _
  refine pl_aload_n (pc := 0) dX23_init_0 rfl rfl ?_
  refine pl_callINv (pc := 1) (As := []) (C1 := 0) (N1 := 0) (C2 := 0) (N2 := 0) mdX21_init rfl q2111 q2072 q170 dX23_init_1 rfl rfl (Nat.le_of_ble_eq_true rfl) (k_X21_init (d := d - 1) (by omega)) (by omega) (by omega) (by omega) ?_
  refine pl_aload_n (pc := 4) dX23_init_4 rfl rfl ?_
  refine pl_iload_n (pc := 5) dX23_init_5 rfl rfl ?_
  refine pj_putfF (pc := 6) ckX23 0 q2112 dX23_init_6 (by decide) rfl rfl rfl hm hc hf (Nat.le_of_ble_eq_true rfl) ?_
  refine pj_vret (pc := 9) dX23_init_9 rfl ?_
  exact ⟨rfl, rfl⟩
set_option maxHeartbeats 600000 in
theorem k_X24_init {g : GP} {μ : Mem} {d : Nat} (hd : 2 ≤ d) {q : Nat} {a9 b9 : Nat} {c9 s9 x9 : Int32} (hc : narrow .char (.int c9) = .int c9) (hf : fits .char (.int c9) = true) (hm : μ q = some (.inr (26, [.null, .null, .int s9]))) : PM g yX24_init (ws_ yX24_init cX24_init 4 none) d 0 0 [.ref q, .ref a9, .int c9, .ref b9] μ (rQ none (mset μ q (.inr (26, [.ref a9, .ref b9, .int c9])))) := by
  refine PM.of (by decide +kernel) (Nat.le_of_ble_eq_true rfl) ?_
  refine PJ.ok (fun G => ?_)
  show PJ g _ _ _ _ d 0 0 0 [(0, .ref q), (1, .ref a9), (2, .int c9), (3, .ref b9)] [] _ _
  refine pl_aload_n (pc := 0) dX24_init_0 rfl rfl ?_
  refine pl_callINv (pc := 1) (As := []) (C1 := 0) (N1 := 0) (C2 := 0) (N2 := 0) mdX21_init rfl q2132 q2072 q170 dX24_init_1 rfl rfl (Nat.le_of_ble_eq_true rfl) (k_X21_init (d := d - 1) (by omega)) (by omega) (by omega) (by omega) ?_
  refine pl_aload_n (pc := 4) dX24_init_4 rfl rfl ?_
  refine pl_aload_n (pc := 5) dX24_init_5 rfl rfl ?_
  refine pj_putfF (pc := 6) ckX24 0 q2134 dX24_init_6 (by decide) rfl rfl rfl hm rfl rfl (Nat.le_of_ble_eq_true rfl) ?_
  refine pl_aload_n (pc := 9) dX24_init_9 rfl rfl ?_
  refine pl_iload_n (pc := 10) dX24_init_10 rfl rfl ?_
  refine pj_putfF (pc := 11) ckX24 2 q2140 dX24_init_11 (by decide) rfl rfl rfl mset_s hc hf (Nat.le_of_ble_eq_true rfl) ?_
  refine PJ.mem mset_m ?_
  refine pl_aload_n (pc := 14) dX24_init_14 rfl rfl ?_
  refine pl_aload_n (pc := 15) dX24_init_15 rfl rfl ?_
  refine pj_putfF (pc := 16) ckX24 1 q2137 dX24_init_16 (by decide) rfl rfl rfl mset_s rfl rfl (Nat.le_of_ble_eq_true rfl) ?_
  refine PJ.mem mset_m ?_
  refine pj_vret (pc := 19) dX24_init_19 rfl ?_
  exact ⟨rfl, rfl⟩
set_option maxHeartbeats 600000 in
theorem k_X24_init_b {g : GP} {μ : Mem} {d : Nat} (hd : 2 ≤ d) {q : Nat} {a9 b9 : Nat} {c9 s9 x9 : Int32} (hc : narrow .char (.int c9) = .int c9) (hf : fits .char (.int c9) = true) (hm : μ q = some (.inr (27, [.null, .null, .int s9, .int x9]))) : PM g yX24_init (ws_ yX24_init cX24_init 4 none) d 0 0 [.ref q, .ref a9, .int c9, .ref b9] μ (rQ none (mset μ q (.inr (27, [.ref a9, .ref b9, .int c9, .int x9])))) := by
  refine PM.of (by decide +kernel) (Nat.le_of_ble_eq_true rfl) ?_
  refine PJ.ok (fun G => ?_)
  show PJ g _ _ _ _ d 0 0 0 [(0, .ref q), (1, .ref a9), (2, .int c9), (3, .ref b9)] [] _ _
  refine pl_aload_n (pc := 0) dX24_init_0 rfl rfl ?_
  refine pl_callINv (pc := 1) (As := []) (C1 := 0) (N1 := 0) (C2 := 0) (N2 := 0) mdX21_init rfl q2132 q2072 q170 dX24_init_1 rfl rfl (Nat.le_of_ble_eq_true rfl) (k_X21_init (d := d - 1) (by omega)) (by omega) (by omega) (by omega) ?_
  refine pl_aload_n (pc := 4) dX24_init_4 rfl rfl ?_
  refine pl_aload_n (pc := 5) dX24_init_5 rfl rfl ?_
  refine pj_putfF (pc := 6) ckX25 0 q2134 dX24_init_6 (by decide) rfl rfl rfl hm rfl rfl (Nat.le_of_ble_eq_true rfl) ?_
  refine pl_aload_n (pc := 9) dX24_init_9 rfl rfl ?_
  refine pl_iload_n (pc := 10) dX24_init_10 rfl rfl ?_
  refine pj_putfF (pc := 11) ckX25 2 q2140 dX24_init_11 (by decide) rfl rfl rfl mset_s hc hf (Nat.le_of_ble_eq_true rfl) ?_
  refine PJ.mem mset_m ?_
  refine pl_aload_n (pc := 14) dX24_init_14 rfl rfl ?_
  refine pl_aload_n (pc := 15) dX24_init_15 rfl rfl ?_
  refine pj_putfF (pc := 16) ckX25 1 q2137 dX24_init_16 (by decide) rfl rfl rfl mset_s rfl rfl (Nat.le_of_ble_eq_true rfl) ?_
  refine PJ.mem mset_m ?_
  refine pj_vret (pc := 19) dX24_init_19 rfl ?_
  exact ⟨rfl, rfl⟩
set_option maxHeartbeats 600000 in
theorem k_X24_init_c {g : GP} {μ : Mem} {d : Nat} (hd : 2 ≤ d) {q : Nat} {a9 b9 : Nat} {c9 s9 x9 : Int32} (hc : narrow .char (.int c9) = .int c9) (hf : fits .char (.int c9) = true) (hm : μ q = some (.inr (32, [.null, .null, .int s9, .null]))) : PM g yX24_init (ws_ yX24_init cX24_init 4 none) d 0 0 [.ref q, .ref a9, .int c9, .ref b9] μ (rQ none (mset μ q (.inr (32, [.ref a9, .ref b9, .int c9, .null])))) := by
  refine PM.of (by decide +kernel) (Nat.le_of_ble_eq_true rfl) ?_
  refine PJ.ok (fun G => ?_)
  show PJ g _ _ _ _ d 0 0 0 [(0, .ref q), (1, .ref a9), (2, .int c9), (3, .ref b9)] [] _ _
  refine pl_aload_n (pc := 0) dX24_init_0 rfl rfl ?_
  refine pl_callINv (pc := 1) (As := []) (C1 := 0) (N1 := 0) (C2 := 0) (N2 := 0) mdX21_init rfl q2132 q2072 q170 dX24_init_1 rfl rfl (Nat.le_of_ble_eq_true rfl) (k_X21_init (d := d - 1) (by omega)) (by omega) (by omega) (by omega) ?_
  refine pl_aload_n (pc := 4) dX24_init_4 rfl rfl ?_
  refine pl_aload_n (pc := 5) dX24_init_5 rfl rfl ?_
  refine pj_putfF (pc := 6) ckX30 0 q2134 dX24_init_6 (by decide) rfl rfl rfl hm rfl rfl (Nat.le_of_ble_eq_true rfl) ?_
  refine pl_aload_n (pc := 9) dX24_init_9 rfl rfl ?_
  refine pl_iload_n (pc := 10) dX24_init_10 rfl rfl ?_
  refine pj_putfF (pc := 11) ckX30 2 q2140 dX24_init_11 (by decide) rfl rfl rfl mset_s hc hf (Nat.le_of_ble_eq_true rfl) ?_
  refine PJ.mem mset_m ?_
  refine pl_aload_n (pc := 14) dX24_init_14 rfl rfl ?_
  refine pl_aload_n (pc := 15) dX24_init_15 rfl rfl ?_
  refine pj_putfF (pc := 16) ckX30 1 q2137 dX24_init_16 (by decide) rfl rfl rfl mset_s rfl rfl (Nat.le_of_ble_eq_true rfl) ?_
  refine PJ.mem mset_m ?_
  refine pj_vret (pc := 19) dX24_init_19 rfl ?_
  exact ⟨rfl, rfl⟩
set_option maxHeartbeats 600000 in
theorem k_X28_init {g : GP} {μ : Mem} {d : Nat} (hd : 1 ≤ d) {q : Nat} {a9 : Nat} (hm : μ q = some (.inr (30, [.null]))) : PM g yX28_init (ws_ yX28_init cX28_init 2 none) d 0 0 [.ref q, .ref a9] μ (rQ none (mset μ q (.inr (30, [.ref a9])))) := by
  refine PM.of (by decide +kernel) (Nat.le_of_ble_eq_true rfl) ?_
  refine PJ.ok (fun G => ?_)
  show PJ g _ _ _ _ d 0 0 0 [(0, .ref q), (1, .ref a9)] [] _ _
  refine pl_aload_n (pc := 0) dX28_init_0 rfl rfl ?_
  refine pj_objInit (pc := 1) q2196 q187 q188 dX28_init_1 (by omega) (by decide) ?_
  refine pl_aload_n (pc := 4) dX28_init_4 rfl rfl ?_
  refine pl_aload_n (pc := 5) dX28_init_5 rfl rfl ?_
  refine pj_putfF (pc := 6) ckX28 0 q2197 dX28_init_6 (by decide) rfl rfl rfl hm rfl rfl (Nat.le_of_ble_eq_true rfl) ?_
  refine pj_vret (pc := 9) dX28_init_9 rfl ?_
  exact ⟨rfl, rfl⟩
set_option maxHeartbeats 600000 in
theorem k_X29_init {g : GP} {μ : Mem} {d : Nat} (hd : 1 ≤ d) {q : Nat} {a9 b9 : Nat} {c9 s9 : Int32} (hc : narrow .char (.int c9) = .int c9) (hf : fits .char (.int c9) = true) (hm : μ q = some (.inr (31, [.null, .null, .int s9]))) : PM g yX29_init (ws_ yX29_init cX29_init 4 none) d 0 0 [.ref q, .ref a9, .int c9, .ref b9] μ (rQ none (mset μ q (.inr (31, [.ref a9, .ref b9, .int c9])))) := by
  refine PM.of (by decide +kernel) (Nat.le_of_ble_eq_true rfl) ?_
  refine PJ.ok (fun G => ?_)
  show PJ g _ _ _ _ d 0 0 0 [(0, .ref q), (1, .ref a9), (2, .int c9), (3, .ref b9)] [] _ _
  refine pl_aload_n (pc := 0) dX29_init_0 rfl rfl ?_
  refine pj_objInit (pc := 1) q2206 q187 q188 dX29_init_1 (by omega) (by decide) ?_
  refine pl_aload_n (pc := 4) dX29_init_4 rfl rfl ?_
  refine pl_aload_n (pc := 5) dX29_init_5 rfl rfl ?_
  refine pj_putfF (pc := 6) ckX29 0 q2207 dX29_init_6 (by decide) rfl rfl rfl hm rfl rfl (Nat.le_of_ble_eq_true rfl) ?_
  refine pl_aload_n (pc := 9) dX29_init_9 rfl rfl ?_
  refine pl_iload_n (pc := 10) dX29_init_10 rfl rfl ?_
  refine pj_putfF (pc := 11) ckX29 2 q2209 dX29_init_11 (by decide) rfl rfl rfl mset_s hc hf (Nat.le_of_ble_eq_true rfl) ?_
  refine PJ.mem mset_m ?_
  refine pl_aload_n (pc := 14) dX29_init_14 rfl rfl ?_
  refine pl_aload_n (pc := 15) dX29_init_15 rfl rfl ?_
  refine pj_putfF (pc := 16) ckX29 1 q2208 dX29_init_16 (by decide) rfl rfl rfl mset_s rfl rfl (Nat.le_of_ble_eq_true rfl) ?_
  refine PJ.mem mset_m ?_
  refine pj_vret (pc := 19) dX29_init_19 rfl ?_
  exact ⟨rfl, rfl⟩
