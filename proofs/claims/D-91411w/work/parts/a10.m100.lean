set_option maxRecDepth 100000
set_option maxHeartbeats 600000 in
theorem k_X14_isBy {g : GP} {μ : Mem} {d : Nat} (hd : 1 ≤ d) {q : Nat} {a9 b9 c9 x : Int32} (hm : μ q = some (.inr (16, [.int a9, .int b9, .int c9]))) : PM g yX14_isBy (ws_ yX14_isBy cX14_isBy 2 (some .boolean)) d 0 0 [.ref q, .int x] μ (rQ (some (.int (bI (decide (c9 = x))))) μ) := by
  refine PM.of (by decide +kernel) (Nat.le_of_ble_eq_true rfl) ?_
  refine PJ.ok (fun G => ?_)
  show PJ g _ _ _ _ d 0 0 0 [(0, .ref q), (1, .int x)] [] _ _
  refine pl_aload_n (pc := 0) dX14_isBy_0 rfl rfl ?_
  refine pj_getf (pc := 1) ckX14 2 q1729 dX14_isBy_1 (by decide) hm rfl ?_
  refine pl_iload_n (pc := 4) dX14_isBy_4 rfl rfl ?_
  refine pj_icmp_ne (pc := 5) (tgt := 12) dX14_isBy_5 (by decide) (fun c5 => ?_) (fun c5 => ?_)
  · refine pl_iconst (pc := 12) (v := 0) dX14_isBy_12 (by rfl) ?_
    refine pj_zret (pc := 13) .boolean dX14_isBy_13 rfl (by rfl) ?_
    refine ⟨?_, rfl⟩
    have e9 : decide (c9 = x) = false := by simp [c5]
    rw [e9]
    rfl
  · refine pl_iconst (pc := 8) (v := 1) dX14_isBy_8 (by rfl) ?_
    refine pj_goto (pc := 9) (tgt := 13) dX14_isBy_9 (by decide) ?_
    refine pj_zret (pc := 13) .boolean dX14_isBy_13 rfl (by rfl) ?_
    refine ⟨?_, rfl⟩
    have e9 : decide (c9 = x) = true := by simp [c5]
    rw [e9]
    rfl
set_option maxHeartbeats 600000 in
theorem k_X15_isBy {g : GP} {μ : Mem} {d : Nat} (hd : 1 ≤ d) {q : Nat} {x : Int32} : PM g yX15_isBy (ws_ yX15_isBy cX15_isBy 2 (some .boolean)) d 0 0 [.ref q, .int x] μ (rQ (some (.int (nI 0))) μ) := by
  refine PM.of (by decide +kernel) (Nat.le_of_ble_eq_true rfl) ?_
  refine PJ.ok (fun G => ?_)
  show PJ g _ _ _ _ d 0 0 0 [(0, .ref q), (1, .int x)] [] _ _
  refine pl_iconst (pc := 0) (v := 0) dX15_isBy_0 (by rfl) ?_
  refine pj_zret (pc := 1) .boolean dX15_isBy_1 rfl (by rfl) ?_
  exact ⟨rfl, rfl⟩
theorem ph_isBy {g : GP} {own : String} {cc : ByteArray} {nL : Nat} {i : MI} {d C N pc : Nat} {ls : List (Nat × Value)} {rest : List Value} {μ : Mem} {Q : OC → Mem → Prop} {q index : Nat} {r : Nat → Int32} {x : Int32} (hq : HoC μ q r) (hf : isFarmV (r 0) = true) (hl : Cond.methodLink own index (⟨"SettlerColony$Country", "isBy", "(I)Z"⟩ : MethodName) ∈ lw_all) (hdg : decode cc pc = .ok (.invokevirtual index, 3)) (hd : 2 ≤ d) (hr8 : (rest.map fun v => v.category).sum ≤ 8) (kk : PJ g own cc nL i d C N (pc + 3) ls (.int (bI (decide (r 0 = nI 3) && decide (r 3 = x))) :: rest) μ Q) : PJ g own cc nL i d C N pc ls (.int x :: .ref q :: rest) μ Q := by
  rcases hq with ⟨e0, e1, e2, hm⟩ | ⟨e0, e1, e2, hm⟩ | ⟨e0, hm⟩ | ⟨e0, e2, hm⟩ | ⟨e0, hm⟩ | ⟨e0, e2, hm⟩
  · exact absurd hf (by rw [e0]; decide)
  · exact absurd hf (by rw [e0]; decide)
  · rw [e0] at kk
    exact pl_callVd (As := [_]) (C1 := 0) (N1 := 0) (C2 := C) (N2 := N) ckX14 mdX14_isBy rfl hl q2371 q2372 q162 hdg rfl rfl hr8 hm (k_X14_isBy (d := d - 1) (by omega) hm) (by omega) (by omega) (by omega) kk
  · exact absurd hf (by rw [e0]; decide)
  · rw [e0] at kk
    exact pl_callOd (As := [_]) (x := (⟨"SettlerColony$Country", "isBy", "(I)Z"⟩ : MethodName)) (owner := "SettlerColony$Country") (C1 := 0) (N1 := 0) (C2 := C) (N2 := N) ckX15 mdX15_isBy (lk_all hl) (lk_all q2373) (dcl_c q2371 q2377) (by decide) q2374 q2375 q164 hdg rfl rfl hr8 hm (k_X15_isBy (d := d - 1) (by omega)) (by omega) (by omega) (by omega) kk
  · exact absurd hf (by rw [e0]; decide)
theorem ph_holder_F {g : GP} {own : String} {cc : ByteArray} {nL : Nat} {i : MI} {d C N pc : Nat} {ls : List (Nat × Value)} {rest : List Value} {μ : Mem} {Q : OC → Mem → Prop} {q index : Nat} {r : Nat → Int32} (hq : HoC μ q r) (hf : isFarmV (r 0) = true) (hl : Cond.methodLink own index (⟨"SettlerColony$Country", "holder", "()I"⟩ : MethodName) ∈ lw_all) (hdg : decode cc pc = .ok (.invokevirtual index, 3)) (hd : 2 ≤ d) (hr8 : (rest.map fun v => v.category).sum ≤ 8) (kk : PJ g own cc nL i d C N (pc + 3) ls (.int (r 1) :: rest) μ Q) : PJ g own cc nL i d C N pc ls (.ref q :: rest) μ Q := by
  rcases hq with ⟨e0, e1, e2, hm⟩ | ⟨e0, e1, e2, hm⟩ | ⟨e0, hm⟩ | ⟨e0, e2, hm⟩ | ⟨e0, hm⟩ | ⟨e0, e2, hm⟩
  · exact absurd hf (by rw [e0]; decide)
  · exact absurd hf (by rw [e0]; decide)
  · skip
    exact pl_callVd (As := []) (C1 := 0) (N1 := 0) (C2 := C) (N2 := N) ckX14 mdX14_holder rfl hl q1154 q3214 q162 hdg rfl rfl hr8 hm (k_X14_holder (d := d - 1) (by omega) hm) (by omega) (by omega) (by omega) kk
  · exact absurd hf (by rw [e0]; decide)
  · skip
    exact pl_callOd (As := []) (x := (⟨"SettlerColony$Country", "holder", "()I"⟩ : MethodName)) (owner := "SettlerColony$Country") (C1 := 0) (N1 := 0) (C2 := C) (N2 := N) ckX15 mdX14_holder (lk_all hl) (lk_all q3213) (dcl_c q1154 q1155) (by decide) q3215 q1154 q162 hdg rfl rfl hr8 hm (k_X15_holder (d := d - 1) (by omega) hm) (by omega) (by omega) (by omega) kk
  · exact absurd hf (by rw [e0]; decide)
theorem ph_paid_F {g : GP} {own : String} {cc : ByteArray} {nL : Nat} {i : MI} {d C N pc : Nat} {ls : List (Nat × Value)} {rest : List Value} {μ : Mem} {Q : OC → Mem → Prop} {q index : Nat} {r : Nat → Int32} (hq : HoC μ q r) (hf : isFarmV (r 0) = true) (hl : Cond.methodLink own index (⟨"SettlerColony$Country", "paid", "()I"⟩ : MethodName) ∈ lw_all) (hdg : decode cc pc = .ok (.invokevirtual index, 3)) (hd : 2 ≤ d) (hr8 : (rest.map fun v => v.category).sum ≤ 8) (kk : PJ g own cc nL i d C N (pc + 3) ls (.int (r 2) :: rest) μ Q) : PJ g own cc nL i d C N pc ls (.ref q :: rest) μ Q := by
  rcases hq with ⟨e0, e1, e2, hm⟩ | ⟨e0, e1, e2, hm⟩ | ⟨e0, hm⟩ | ⟨e0, e2, hm⟩ | ⟨e0, hm⟩ | ⟨e0, e2, hm⟩
  · exact absurd hf (by rw [e0]; decide)
  · exact absurd hf (by rw [e0]; decide)
  · skip
    exact pl_callVd (As := []) (C1 := 0) (N1 := 0) (C2 := C) (N2 := N) ckX14 mdX14_paid rfl hl q1348 q3217 q162 hdg rfl rfl hr8 hm (k_X14_paid (d := d - 1) (by omega) hm) (by omega) (by omega) (by omega) kk
  · exact absurd hf (by rw [e0]; decide)
  · skip
    exact pl_callOd (As := []) (x := (⟨"SettlerColony$Country", "paid", "()I"⟩ : MethodName)) (owner := "SettlerColony$Country") (C1 := 0) (N1 := 0) (C2 := C) (N2 := N) ckX15 mdX14_paid (lk_all hl) (lk_all q3216) (dcl_c q1348 q1349) (by decide) q3218 q1348 q162 hdg rfl rfl hr8 hm (k_X15_paid (d := d - 1) (by omega) hm) (by omega) (by omega) (by omega) kk
  · exact absurd hf (by rw [e0]; decide)
