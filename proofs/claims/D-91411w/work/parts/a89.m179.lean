set_option maxRecDepth 100000
theorem min16 : ∀ n, n < 16 → (if nI n < nI 16 - nI 0 then nI n else nI 16 - nI 0) = nI n := by decide +kernel
theorem sub00 : ∀ n, n < 16 → nI n - nI 0 = nI n := by decide +kernel
theorem fitb : ∀ b, b < 128 → fits .byte (.int (nI b)) = true := by decide +kernel
set_option maxHeartbeats 600000 in
theorem k_J7_init {g : GP} {μ : Mem} {d : Nat} (hd : 2 ≤ d) {q : Nat} (hm : μ q = some (.inr (9, [.null, .int 0, .int 0, .int 0]))) : PM g yJ7_init (ws_ yJ7_init cJ7_init 2 none) d 1 16 [.ref q, .int (nI 16)] μ (WQ none (fun M => ∃ v, μ v = none ∧ SbM g μ q v (fun _ => 0) 0 M)) := by
  refine PM.of (by decide +kernel) (Nat.le_of_ble_eq_true rfl) ?_
  refine PJ.ok (fun G => ?_)
  show PJ g _ _ _ _ d 1 16 0 [(0, .ref q), (1, .int (nI 16))] [] _ _
  refine pl_aload_n (pc := 0) dJ7_init_0 rfl rfl ?_
  refine pj_objInit (pc := 1) q264 q187 q188 dJ7_init_1 (by omega) (by decide) ?_
  refine pj_gets (pc := 4) (st_compact G) q265 dJ7_init_4 ?_
  refine pj_if_eq (pc := 7) (tgt := 25) dJ7_init_7 (by decide) (fun h => absurd h (by decide)) (fun _ => ?_)
  refine pl_aload_n (pc := 10) dJ7_init_10 rfl rfl ?_
  refine pl_iload_n (pc := 11) dJ7_init_11 rfl rfl ?_
  refine pj_newa (pc := 12) (C1 := 0) (N1 := 0) (t0 := 2) (a0 := (16, .inl (fun _ => 0))) dJ7_init_12 q305 rfl rfl (fun _ => rfl) (Int32.not_lt.mpr (nI_pos' (by omega))) (nI_clamp (by omega)) (by decide) (by omega) (by omega) (fun q_12 hn_12 gq_12 => ?_)
  have hne : q ≠ q_12 := fun z => by rw [← z, hm] at hn_12; cases hn_12
  refine pj_putf (pc := 14) ckJ8 0 q307 dJ7_init_14 (by decide) rfl ((mset_n hne).trans hm) rfl rfl (Nat.le_of_ble_eq_true rfl) ?_
  refine pl_aload_n (pc := 17) dJ7_init_17 rfl rfl ?_
  refine pl_iconst (pc := 18) (v := 0) dJ7_init_18 (by rfl) ?_
  refine pj_putf (pc := 19) ckJ8 1 q308 dJ7_init_19 (by decide) rfl mset_s rfl rfl (Nat.le_of_ble_eq_true rfl) ?_
  refine PJ.mem mset_m ?_
  refine pj_goto (pc := 22) (tgt := 38) dJ7_init_22 (by decide) ?_
  refine pj_vret (pc := 38) dJ7_init_38 rfl ?_
  exact ⟨rfl, q_12, hn_12, mset_s, (mset_n (Ne.symm hne)).trans mset_s, hne, fun x h1 h2 => (mset_n h1).trans (mset_n h2)⟩
set_option maxHeartbeats 600000 in
theorem k_J8_init {g : GP} {μ : Mem} {d : Nat} (hd : 3 ≤ d) {q : Nat} (hm : μ q = some (.inr (9, [.null, .int 0, .int 0, .int 0]))) : PM g yJ8_init (ws_ yJ8_init cJ8_init 1 none) d 1 16 [.ref q] μ (WQ none (fun M => ∃ v, μ v = none ∧ SbM g μ q v (fun _ => 0) 0 M)) := by
  refine PM.of (by decide +kernel) (Nat.le_of_ble_eq_true rfl) ?_
  refine PJ.ok (fun G => ?_)
  show PJ g _ _ _ _ d 1 16 0 [(0, .ref q)] [] _ _
  refine pl_aload_n (pc := 0) dJ8_init_0 rfl rfl ?_
  refine pl_bipush (pc := 1) (v := 16) dJ8_init_1 (by rfl) ?_
  refine pl_callIWv (pc := 3) (As := [_]) (C1 := 1) (N1 := 16) (C2 := 0) (N2 := 0) mdJ7_init rfl q261 q262 q134 dJ8_init_3 rfl rfl (Nat.le_of_ble_eq_true rfl) (k_J7_init (d := d - 1) (by omega) hm) (by omega) (by omega) (by omega) (fun My1 qy1 => ?_)
  refine pj_vret (pc := 6) dJ8_init_6 rfl ?_
  exact ⟨rfl, qy1⟩
set_option maxHeartbeats 600000 in
theorem k_J14_checkLength {g : GP} {μ : Mem} {d : Nat} (hd : 1 ≤ d) {n : Nat} (hn : n < 16) : PM g yJ14_checkLength (ws_ yJ14_checkLength cJ14_checkLength 2 none) d 0 0 [.int (nI 0), .int (nI n)] μ (rQ none μ) := by
  refine PM.of (by decide +kernel) (Nat.le_of_ble_eq_true rfl) ?_
  refine PJ.ok (fun G => ?_)
  show PJ g _ _ _ _ d 0 0 0 [(0, .int (nI 0)), (1, .int (nI n))] [] _ _
  refine pl_iload_n (pc := 0) dJ14_checkLength_0 rfl rfl ?_
  refine pl_iload_n (pc := 1) dJ14_checkLength_1 rfl rfl ?_
  refine pl_icmp_ge (pc := 2) (tgt := 37) dJ14_checkLength_2 (by decide) (by omega) (by omega) (fun c2 => ?_) (fun c2 => ?_)
  · refine pj_vret (pc := 37) dJ14_checkLength_37 rfl ?_
    exact ⟨rfl, rfl⟩
  · exfalso; omega
set_option maxHeartbeats 600000 in
theorem k_J14_copyOfRangeByte {g : GP} {μ : Mem} {d : Nat} (hd : 2 ≤ d) {a n : Nat} {f : Nat → Int32} (ha : μ a = some (intX g 2 16 f)) (hn : n < 16) (hf : ∀ i, i < n → ∃ b, b < 128 ∧ f i = nI b) : PM g yJ14_copyOfRangeByte (ws_ yJ14_copyOfRangeByte cJ14_copyOfRangeByte 5 (some (.array .byte))) d 1 n [.ref a, .int (nI 0), .int (nI n)] μ (fun o M => ∃ q : Nat, o = .inl (some (.ref q)) ∧ μ q = none ∧ M = mset μ q (intX g 2 n (va_cpy f (fun _ => 0) 0 0 n))) := by
  refine PM.of (by decide +kernel) (Nat.le_of_ble_eq_true rfl) ?_
  refine PJ.ok (fun G => ?_)
  show PJ g _ _ _ _ d 1 n 0 [(0, .ref a), (1, .int (nI 0)), (2, .int (nI n))] [] _ _
  refine pl_iload_n (pc := 0) dJ14_copyOfRangeByte_0 rfl rfl ?_
  refine pl_iload_n (pc := 1) dJ14_copyOfRangeByte_1 rfl rfl ?_
  refine pl_callSv (pc := 2) (As := [_, _]) (C1 := 0) (N1 := 0) (C2 := 1) (N2 := n) mdJ14_checkLength q499 q500 q141 dJ14_copyOfRangeByte_2 rfl rfl (Nat.le_of_ble_eq_true rfl) (k_J14_checkLength (d := d - 1) (by omega) hn) (by omega) (by omega) (by omega) ?_
  refine pl_iload_n (pc := 5) dJ14_copyOfRangeByte_5 rfl rfl ?_
  refine pl_iload_n (pc := 6) dJ14_copyOfRangeByte_6 rfl rfl ?_
  refine pj_isub (pc := 7) dJ14_copyOfRangeByte_7 ?_
  refine PJ.top (y := nI n) (sub00 n hn) ?_
  refine pj_istore_n (pc := 8) (lv' := [(3, _), (0, _), (1, _), (2, _)]) dJ14_copyOfRangeByte_8 rfl (by decide) rfl ?_
  refine pl_iload_n (pc := 9) dJ14_copyOfRangeByte_9 rfl rfl ?_
  refine pj_newa (pc := 10) (C1 := 0) (N1 := 0) (t0 := 2) (a0 := (n, .inl (fun _ => 0))) dJ14_copyOfRangeByte_10 q305 rfl rfl (fun _ => rfl) (Int32.not_lt.mpr (nI_pos' (by omega))) (nI_clamp (by omega)) (by show n * 1 ≤ 536870912; omega) (by omega) (by omega) (fun q_10 hn_10 gq_10 => ?_)
  have hne : a ≠ q_10 := fun z => by rw [← z, ha] at hn_10; cases hn_10
  have ha2 := (mset_n (e := (.inl (gA g 2, n, .inl (fun _ => 0)) : va_E)) hne).trans ha
  refine pj_astore (pc := 12) (lv' := [(4, _), (3, _), (0, _), (1, _), (2, _)]) dJ14_copyOfRangeByte_12 (by decide) rfl ?_
  refine pl_aload_n (pc := 14) dJ14_copyOfRangeByte_14 rfl rfl ?_
  refine pl_iload_n (pc := 15) dJ14_copyOfRangeByte_15 rfl rfl ?_
  refine pl_aload (pc := 16) dJ14_copyOfRangeByte_16 rfl ?_
  refine pl_iconst (pc := 18) (v := 0) dJ14_copyOfRangeByte_18 (by rfl) ?_
  refine pl_aload_n (pc := 19) dJ14_copyOfRangeByte_19 rfl rfl ?_
  refine pj_alen (pc := 20) 2 dJ14_copyOfRangeByte_20 ha2 rfl (v := nI 16) rfl ?_
  refine pl_iload_n (pc := 21) dJ14_copyOfRangeByte_21 rfl rfl ?_
  refine pj_isub (pc := 22) dJ14_copyOfRangeByte_22 ?_
  refine pl_iload_n (pc := 23) dJ14_copyOfRangeByte_23 rfl rfl ?_
  refine pj_mmin (pc := 24) q361 dJ14_copyOfRangeByte_24 (by omega) (Nat.le_of_ble_eq_true rfl) ?_
  refine PJ.top (y := nI n) (min16 n hn) ?_
  refine pj_copyi (pc := 27) 2 q364 dJ14_copyOfRangeByte_27 ha2 mset_s rfl rfl (sp := 0) (dp := 0) (k := n) (by omega) (by omega) (by decide) (by omega) (fun i hi => by obtain ⟨b9, hb9, e9⟩ := hf i hi; rw [Nat.zero_add, e9]; exact fitb b9 hb9) (by omega) (Nat.le_of_ble_eq_true rfl) ?_
  refine PJ.mem mset_m ?_
  refine pl_aload (pc := 30) dJ14_copyOfRangeByte_30 rfl ?_
  refine pj_aret (pc := 32) dJ14_copyOfRangeByte_32 rfl (Or.inr ⟨_, rfl⟩) (Or.inr ⟨_, rfl⟩) ?_
  exact ⟨q_10, rfl, hn_10, rfl⟩
set_option maxHeartbeats 600000 in
theorem k_J14_copyOfRange {g : GP} {μ : Mem} {d : Nat} (hd : 3 ≤ d) {a n : Nat} {f : Nat → Int32} (ha : μ a = some (intX g 2 16 f)) (hn : n < 16) (hf : ∀ i, i < n → ∃ b, b < 128 ∧ f i = nI b) : PM g yJ14_copyOfRange (ws_ yJ14_copyOfRange cJ14_copyOfRange 3 (some (.array .byte))) d 1 n [.ref a, .int (nI 0), .int (nI n)] μ (fun o M => ∃ q : Nat, o = .inl (some (.ref q)) ∧ μ q = none ∧ M = mset μ q (intX g 2 n (va_cpy f (fun _ => 0) 0 0 n))) := by
  refine PM.of (by decide +kernel) (Nat.le_of_ble_eq_true rfl) ?_
  refine PJ.ok (fun G => ?_)
  show PJ g _ _ _ _ d 1 n 0 [(0, .ref a), (1, .int (nI 0)), (2, .int (nI n))] [] _ _
  refine pl_iload_n (pc := 0) dJ14_copyOfRange_0 rfl rfl ?_
  refine pj_if_ne (pc := 1) (tgt := 10) dJ14_copyOfRange_1 (by decide) (fun h => absurd h (by decide)) (fun _ => ?_)
  refine pl_iload_n (pc := 4) dJ14_copyOfRange_4 rfl rfl ?_
  refine pl_aload_n (pc := 5) dJ14_copyOfRange_5 rfl rfl ?_
  refine pj_alen (pc := 6) 2 dJ14_copyOfRange_6 ha rfl (v := nI 16) rfl ?_
  refine pl_icmp_eq (pc := 7) (tgt := 17) dJ14_copyOfRange_7 (by decide) (by omega) (by omega) (fun c7 => ?_) (fun c7 => ?_)
  · exfalso; omega
  · refine pl_aload_n (pc := 10) dJ14_copyOfRange_10 rfl rfl ?_
    refine pl_iload_n (pc := 11) dJ14_copyOfRange_11 rfl rfl ?_
    refine pl_iload_n (pc := 12) dJ14_copyOfRange_12 rfl rfl ?_
    refine pl_callSQ (pc := 13) (As := [_, _, _]) (C1 := 1) (N1 := n) (C2 := 0) (N2 := 0) mdJ14_copyOfRangeByte q496 q497 q141 dJ14_copyOfRange_13 rfl rfl (Nat.le_of_ble_eq_true rfl) (k_J14_copyOfRangeByte (d := d - 1) (by omega) ha hn hf) (by omega) (by omega) (by omega) (fun q_13 M_13 hM_13 => ?_)
    refine pj_aret (pc := 16) dJ14_copyOfRange_16 rfl (Or.inr ⟨_, rfl⟩) (Or.inr ⟨_, rfl⟩) ?_
    exact ⟨q_13, rfl, hM_13⟩
