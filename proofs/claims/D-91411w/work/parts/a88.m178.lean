set_option maxRecDepth 100000
/-- a string builder of 16 bytes: n letters -/
def SbM (g : GP) (μ0 : Mem) (a v : Nat) (f : Nat → Int32) (n : Nat) (M : Mem) : Prop := M a = some (.inr (9, [.ref v, .int 0, .int 0, .int (nI n)])) ∧ M v = some (intX g 2 16 f) ∧ a ≠ v ∧ ∀ x, x ≠ a → x ≠ v → M x = μ0 x
section SBM
variable {g : GP} {μ0 M : Mem} {a v n j : Nat} {f : Nat → Int32} {x : Int32}
theorem SbM.cnt {k : Nat} (h : SbM g μ0 a v f n M) : SbM g μ0 a v f k (mset M a (.inr (9, [.ref v, .int 0, .int 0, .int (nI k)]))) :=
  ⟨mset_s, (mset_n (Ne.symm h.2.2.1)).trans h.2.1, h.2.2.1, fun x h1 h2 => (mset_n h1).trans (h.2.2.2 x h1 h2)⟩
theorem SbM.put (h : SbM g μ0 a v f n M) : SbM g μ0 a v (upd f j x) n (mset M v (intX g 2 16 (upd f j x))) :=
  ⟨(mset_n h.2.2.1).trans h.1, mset_s, h.2.2.1, fun x h1 h2 => (mset_n h2).trans (h.2.2.2 x h1 h2)⟩
end SBM
theorem i2b128 : ∀ j, j < 128 → (nI j).toInt8.toInt32 = nI j := by decide +kernel
theorem narb128 : ∀ j, j < 128 → vp_nar .byte (nI j) = nI j := by decide +kernel
theorem sbb_cap : ∀ n, n < 16 → nI (n + 1) - nI 16 ≤ 0 := by decide +kernel
theorem shr16 : (nI 16 >>> nI 0) = nI 16 := by decide +kernel
set_option maxHeartbeats 600000 in
theorem k_J7_isLatin1 {g : GP} {μ : Mem} {d : Nat} {μ0 : Mem} {a v n : Nat} {f : Nat → Int32} (hd : 1 ≤ d) (h : SbM g μ0 a v f n μ)  : PM g yJ7_isLatin1 (ws_ yJ7_isLatin1 cJ7_isLatin1 1 (some .boolean)) d 0 0 [.ref a] μ (rQ (some (.int (nI 1))) μ) := by
  refine PM.of (by decide +kernel) (Nat.le_of_ble_eq_true rfl) ?_
  refine PJ.ok (fun G => ?_)
  show PJ g _ _ _ _ d 0 0 0 [(0, .ref a)] [] _ _
  refine pj_gets (pc := 0) (st_compact G) q265 dJ7_isLatin1_0 ?_
  refine pj_if_eq (pc := 3) (tgt := 17) dJ7_isLatin1_3 (by decide) (fun h => absurd h (by decide)) (fun _ => ?_)
  refine pl_aload_n (pc := 6) dJ7_isLatin1_6 rfl rfl ?_
  refine pj_getf (pc := 7) ckJ8 1 q308 dJ7_isLatin1_7 (by decide) (h.1) rfl ?_
  refine pj_if_ne (pc := 10) (tgt := 17) dJ7_isLatin1_10 (by decide) (fun h => absurd h (by decide)) (fun _ => ?_)
  refine pl_iconst (pc := 13) (v := 1) dJ7_isLatin1_13 (by rfl) ?_
  refine pj_goto (pc := 14) (tgt := 18) dJ7_isLatin1_14 (by decide) ?_
  refine pj_zret (pc := 18) .boolean dJ7_isLatin1_18 rfl (by rfl) ?_
  exact ⟨rfl, rfl⟩
set_option maxHeartbeats 600000 in
theorem k_J7_length {g : GP} {μ : Mem} {d : Nat} {μ0 : Mem} {a v n : Nat} {f : Nat → Int32} (hd : 1 ≤ d) (h : SbM g μ0 a v f n μ)  : PM g yJ7_length (ws_ yJ7_length cJ7_length 1 (some .int)) d 0 0 [.ref a] μ (rQ (some (.int (nI n))) μ) := by
  refine PM.of (by decide +kernel) (Nat.le_of_ble_eq_true rfl) ?_
  refine PJ.ok (fun G => ?_)
  show PJ g _ _ _ _ d 0 0 0 [(0, .ref a)] [] _ _
  refine pl_aload_n (pc := 0) dJ7_length_0 rfl rfl ?_
  refine pj_getf (pc := 1) ckJ8 3 q310 dJ7_length_1 (by decide) (h.1) rfl ?_
  refine pj_iret (pc := 4) dJ7_length_4 rfl ?_
  exact ⟨rfl, rfl⟩
set_option maxHeartbeats 600000 in
theorem k_J7_getValue {g : GP} {μ : Mem} {d : Nat} {μ0 : Mem} {a v n : Nat} {f : Nat → Int32} (hd : 1 ≤ d) (h : SbM g μ0 a v f n μ)  : PM g yJ7_getValue (ws_ yJ7_getValue cJ7_getValue 1 (some (.array .byte))) d 0 0 [.ref a] μ (rQ (some (.ref v)) μ) := by
  refine PM.of (by decide +kernel) (Nat.le_of_ble_eq_true rfl) ?_
  refine PJ.ok (fun G => ?_)
  show PJ g _ _ _ _ d 0 0 0 [(0, .ref a)] [] _ _
  refine pl_aload_n (pc := 0) dJ7_getValue_0 rfl rfl ?_
  refine pj_getf (pc := 1) ckJ8 0 q307 dJ7_getValue_1 (by decide) (h.1) rfl ?_
  refine pj_aret (pc := 4) dJ7_getValue_4 rfl (Or.inr ⟨_, rfl⟩) (Or.inr ⟨_, rfl⟩) ?_
  exact ⟨rfl, rfl⟩
set_option maxHeartbeats 600000 in
theorem k_J16_canEncode {g : GP} {μ : Mem} {d : Nat} (hd : 1 ≤ d) {c : Nat} (hc : c < 128) : PM g yJ16_canEncode (ws_ yJ16_canEncode cJ16_canEncode 1 (some .boolean)) d 0 0 [.int (nI c)] μ (rQ (some (.int (nI 1))) μ) := by
  refine PM.of (by decide +kernel) (Nat.le_of_ble_eq_true rfl) ?_
  refine PJ.ok (fun G => ?_)
  show PJ g _ _ _ _ d 0 0 0 [(0, .int (nI c))] [] _ _
  refine pl_iload_n (pc := 0) dJ16_canEncode_0 rfl rfl ?_
  refine pl_sipush (pc := 1) (v := 255) dJ16_canEncode_1 (by rfl) ?_
  refine pl_icmp_gt (pc := 4) (tgt := 11) dJ16_canEncode_4 (by decide) (by omega) (by omega) (fun c4 => ?_) (fun c4 => ?_)
  · exfalso; omega
  · refine pl_iconst (pc := 7) (v := 1) dJ16_canEncode_7 (by rfl) ?_
    refine pj_goto (pc := 8) (tgt := 12) dJ16_canEncode_8 (by decide) ?_
    refine pj_zret (pc := 12) .boolean dJ16_canEncode_12 rfl (by rfl) ?_
    exact ⟨rfl, rfl⟩
set_option maxHeartbeats 600000 in
theorem k_J7_ens {g : GP} {μ : Mem} {d : Nat} {μ0 : Mem} {a v n : Nat} {f : Nat → Int32} (hd : 1 ≤ d) (h : SbM g μ0 a v f n μ) (hn : n < 16) : PM g yJ7_ensureCapacityInternal (ws_ yJ7_ensureCapacityInternal cJ7_ensureCapacityInternal 3 none) d 0 0 [.ref a, .int (nI (n + 1))] μ (rQ none μ) := by
  refine PM.of (by decide +kernel) (Nat.le_of_ble_eq_true rfl) ?_
  refine PJ.ok (fun G => ?_)
  show PJ g _ _ _ _ d 0 0 0 [(0, .ref a), (1, .int (nI (n + 1)))] [] _ _
  refine pl_aload_n (pc := 0) dJ7_ensureCapacityInternal_0 rfl rfl ?_
  refine pj_getf (pc := 1) ckJ8 0 q307 dJ7_ensureCapacityInternal_1 (by decide) (h.1) rfl ?_
  refine pj_alen (pc := 4) 2 dJ7_ensureCapacityInternal_4 (h.2.1) rfl (v := nI 16) rfl ?_
  refine pl_aload_n (pc := 5) dJ7_ensureCapacityInternal_5 rfl rfl ?_
  refine pj_getf (pc := 6) ckJ8 1 q308 dJ7_ensureCapacityInternal_6 (by decide) (h.1) rfl ?_
  refine pj_ishr (pc := 9) dJ7_ensureCapacityInternal_9 ?_
  refine PJ.top (y := nI 16) shr16 ?_
  refine pj_istore_n (pc := 10) (lv' := [(2, _), (0, _), (1, _)]) dJ7_ensureCapacityInternal_10 rfl (by decide) rfl ?_
  refine pl_iload_n (pc := 11) dJ7_ensureCapacityInternal_11 rfl rfl ?_
  refine pl_iload_n (pc := 12) dJ7_ensureCapacityInternal_12 rfl rfl ?_
  refine pj_isub (pc := 13) dJ7_ensureCapacityInternal_13 ?_
  refine pj_if_le (pc := 14) (tgt := 38) dJ7_ensureCapacityInternal_14 (by decide) (fun c14 => ?_) (fun c14 => ?_)
  · refine pj_vret (pc := 38) dJ7_ensureCapacityInternal_38 rfl ?_
    exact ⟨rfl, rfl⟩
  · exact absurd (sbb_cap n hn) c14
set_option maxHeartbeats 600000 in
theorem k_J7_append_3 {g : GP} {μ : Mem} {d : Nat} {μ0 : Mem} {a v n : Nat} {f : Nat → Int32} (hd : 2 ≤ d) (h : SbM g μ0 a v f n μ) (hn : n < 16) {c : Nat} (hc : c < 128) : PM g yJ7_append_3 (ws_ yJ7_append_3 cJ7_append_3 2 (some (.object "java/lang/AbstractStringBuilder"))) d 0 0 [.ref a, .int (nI c)] μ (WQ (some (.ref a)) (SbM g μ0 a v (upd f n (nI c)) (n + 1))) := by
  refine PM.of (by decide +kernel) (Nat.le_of_ble_eq_true rfl) ?_
  refine PJ.ok (fun G => ?_)
  show PJ g _ _ _ _ d 0 0 0 [(0, .ref a), (1, .int (nI c))] [] _ _
  refine pl_aload_n (pc := 0) dJ7_append_3_0 rfl rfl ?_
  refine pl_aload_n (pc := 1) dJ7_append_3_1 rfl rfl ?_
  refine pj_getf (pc := 2) ckJ8 3 q310 dJ7_append_3_2 (by decide) (h.1) rfl ?_
  refine pl_iconst (pc := 5) (v := 1) dJ7_append_3_5 (by rfl) ?_
  refine pl_iadd (pc := 6) dJ7_append_3_6 ?_
  refine pl_callPv (pc := 7) (As := [_]) (C1 := 0) (N1 := 0) (C2 := 0) (N2 := 0) ckJ8 mdJ7_ensureCapacityInternal q332 q3201 q333 q370 rfl q334 q134 dJ7_append_3_7 rfl rfl (Nat.le_of_ble_eq_true rfl) h.1 (k_J7_ens (d := d - 1) (by omega) h hn) (by omega) (by omega) (by omega) ?_
  refine pl_aload_n (pc := 10) dJ7_append_3_10 rfl rfl ?_
  refine pl_callOd (pc := 11) (As := []) (x := yJ7_isLatin1) (owner := "java/lang/AbstractStringBuilder") (C1 := 0) (N1 := 0) (C2 := 0) (N2 := 0) ckJ8 mdJ7_isLatin1 (lk_all q367) (lk_all q369) (dcl_c q368 q371) ⟨⟨by decide, by decide⟩, by decide +kernel⟩ q370 q368 q134 dJ7_append_3_11 rfl rfl (Nat.le_of_ble_eq_true rfl) h.1 (k_J7_isLatin1 (d := d - 1) (by omega) h) (by omega) (by omega) (by omega) ?_
  refine pj_if_eq (pc := 14) (tgt := 45) dJ7_append_3_14 (by decide) (fun h => absurd h (by decide)) (fun _ => ?_)
  refine pl_iload_n (pc := 17) dJ7_append_3_17 rfl rfl ?_
  refine pl_callSd (pc := 18) (As := [_]) (C1 := 0) (N1 := 0) (C2 := 0) (N2 := 0) mdJ16_canEncode q1914 q1915 q144 dJ7_append_3_18 rfl rfl (Nat.le_of_ble_eq_true rfl) (k_J16_canEncode (d := d - 1) (by omega) hc) (by omega) (by omega) (by omega) ?_
  refine pj_if_eq (pc := 21) (tgt := 45) dJ7_append_3_21 (by decide) (fun h => absurd h (by decide)) (fun _ => ?_)
  refine pl_aload_n (pc := 24) dJ7_append_3_24 rfl rfl ?_
  refine pj_getf (pc := 25) ckJ8 0 q307 dJ7_append_3_25 (by decide) (h.1) rfl ?_
  refine pl_aload_n (pc := 28) dJ7_append_3_28 rfl rfl ?_
  refine pj_dup (pc := 29) dJ7_append_3_29 rfl ?_
  refine pj_getf (pc := 30) ckJ8 3 q310 dJ7_append_3_30 (by decide) (h.1) rfl ?_
  refine pj_dup_x1 (pc := 33) dJ7_append_3_33 rfl rfl ?_
  refine pl_iconst (pc := 34) (v := 1) dJ7_append_3_34 (by rfl) ?_
  refine pl_iadd (pc := 35) dJ7_append_3_35 ?_
  refine pj_putf (pc := 36) ckJ8 3 q310 dJ7_append_3_36 (by decide) rfl h.1 rfl rfl (Nat.le_of_ble_eq_true rfl) ?_
  refine sxg (T := SbM g μ0 a v f (n + 1)) h.cnt (fun My1 y1 => ?_)
  refine pl_iload_n (pc := 39) dJ7_append_3_39 rfl rfl ?_
  refine pj_i2b (pc := 40) dJ7_append_3_40 rfl ?_
  refine PJ.top (y := nI c) (i2b128 c hc) ?_
  refine pl_bast (pc := 41) (n := 16) dJ7_append_3_41 y1.2.1 (by omega) (by decide) ?_
  rw [narb128 c hc]
  refine sxg (T := SbM g μ0 a v (upd f n (nI c)) (n + 1)) y1.put (fun My2 y2 => ?_)
  refine pj_goto (pc := 42) (tgt := 75) dJ7_append_3_42 (by decide) ?_
  refine pl_aload_n (pc := 75) dJ7_append_3_75 rfl rfl ?_
  refine pj_aret (pc := 76) dJ7_append_3_76 rfl (Or.inl ⟨_, rfl⟩) (Or.inr ⟨_, rfl⟩) ?_
  exact ⟨rfl, y2⟩
set_option maxHeartbeats 600000 in
theorem k_J8_append_3 {g : GP} {μ : Mem} {d : Nat} {μ0 : Mem} {a v n : Nat} {f : Nat → Int32} (hd : 3 ≤ d) (h : SbM g μ0 a v f n μ) (hn : n < 16) {c : Nat} (hc : c < 128) : PM g yJ8_append_3 (ws_ yJ8_append_3 cJ8_append_3 2 (some (.object "java/lang/StringBuilder"))) d 0 0 [.ref a, .int (nI c)] μ (WQ (some (.ref a)) (SbM g μ0 a v (upd f n (nI c)) (n + 1))) := by
  refine PM.of (by decide +kernel) (Nat.le_of_ble_eq_true rfl) ?_
  refine PJ.ok (fun G => ?_)
  show PJ g _ _ _ _ d 0 0 0 [(0, .ref a), (1, .int (nI c))] [] _ _
  refine pl_aload_n (pc := 0) dJ8_append_3_0 rfl rfl ?_
  refine pl_iload_n (pc := 1) dJ8_append_3_1 rfl rfl ?_
  refine pl_callSUWd (pc := 2) (As := [_]) (C1 := 0) (N1 := 0) (C2 := 0) (N2 := 0) ckJ8 mdJ7_append_3 (by decide) q1911 q3211 q319 q1912 q134 dJ8_append_3_2 rfl rfl (Nat.le_of_ble_eq_true rfl) h.1 (k_J7_append_3 (d := d - 1) (by omega) h hn hc) (by omega) (by omega) (by omega) (fun My1 y1 => ?_)
  refine pj_pop (pc := 5) dJ8_append_3_5 rfl ?_
  refine pl_aload_n (pc := 6) dJ8_append_3_6 rfl rfl ?_
  refine pj_aret (pc := 7) dJ8_append_3_7 rfl (Or.inl ⟨_, rfl⟩) (Or.inr ⟨_, rfl⟩) ?_
  exact ⟨rfl, y1⟩
set_option maxHeartbeats 600000 in
theorem k_J8_length {g : GP} {μ : Mem} {d : Nat} {μ0 : Mem} {a v n : Nat} {f : Nat → Int32} (hd : 2 ≤ d) (h : SbM g μ0 a v f n μ)  : PM g yJ8_length (ws_ yJ8_length cJ8_length 1 (some .int)) d 0 0 [.ref a] μ (rQ (some (.int (nI n))) μ) := by
  refine PM.of (by decide +kernel) (Nat.le_of_ble_eq_true rfl) ?_
  refine PJ.ok (fun G => ?_)
  show PJ g _ _ _ _ d 0 0 0 [(0, .ref a)] [] _ _
  refine pl_aload_n (pc := 0) dJ8_length_0 rfl rfl ?_
  refine pl_callSUd (pc := 1) (As := []) (C1 := 0) (N1 := 0) (C2 := 0) (N2 := 0) ckJ8 mdJ7_length (by decide) q490 q486 q319 q485 q134 dJ8_length_1 rfl rfl (Nat.le_of_ble_eq_true rfl) h.1 (k_J7_length (d := d - 1) (by omega) h) (by omega) (by omega) (by omega) ?_
  refine pj_iret (pc := 4) dJ8_length_4 rfl ?_
  exact ⟨rfl, rfl⟩
