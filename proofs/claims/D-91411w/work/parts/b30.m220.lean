set_option maxRecDepth 100000
section CC9
variable {g : GP} {own : String} {cc : ByteArray} {nL : Nat} {i : MI} {d C N pc : Nat} {ls : List (Nat × Value)} {rest : List Value} {μ : Mem} {Q : OC → Mem → Prop}
theorem pl_callC {r9 : Int32 × MS} {codes : List String} {T : MS → Mem → Prop} {ci nf : Nat} {Cn : String} {Tn : u_T} {ty : Nat → FieldType} {fs : List Value} {a : Nat} {y : MethodName} {b : ByteArray} {L n d1 C1 N1 C2 N2 index : Nat} {r : Option FieldType} {st : List Value} (As : List Value) (cl : CLk ci Cn Tn nf ty) (md : MDy y b L r n) (hy : y.cls = Cn) (h1 : Cond.methodLink own index y ∈ lw_all) (h2 : Cond.instanceMethod y ∈ lw_all) (h3 : Cond.selects Cn y y ∈ lw_all) (h4 : Cond.initialized Cn ∈ lw_all) (hdg : decode cc pc = .ok (.invokevirtual index, 3)) (hst : st = As.reverse ++ .ref a :: rest) (hn : As.length = n) (hr8 : (rest.map fun v => v.category).sum ≤ 8) (hm : μ a = some (.inr (ci, fs))) (hM : PM g y (ws_ y b L r) d1 C1 N1 (.ref a :: As) μ (CQ codes r9 T)) (hd : d1 + 1 ≤ d) (hC : C1 + C2 ≤ C) (hN : N1 + N2 ≤ N) (kr : ∀ M1 : Mem, r9.2.1 0 = nI 0 → T r9.2 M1 → PJ g own cc nL i d C2 N2 (pc + 3) ls (.int r9.1 :: rest) M1 Q) (kx : ∀ (k : Nat) (E : String) (q : Nat) (M1 : Mem), codes[k]? = some E → r9.2.1 0 = nI (k + 1) → T r9.2 M1 → PX g own cc nL i d C2 N2 pc ls rest E q M1 Q) : PJ g own cc nL i d C N pc ls st μ Q :=
  pj_callV As cl md hy h1 h2 h3 h4 hdg hst hn hr8 hm hM hd hC hN (fun v9 μ8 h => by
    obtain ⟨h1, hT⟩ := h
    rcases h1 with ⟨h0, e1⟩ | ⟨k, q, E, -, -, e1⟩
    · cases e1
      exact kr μ8 h0 hT
    · cases e1) (fun E9 q μ8 h => by
    obtain ⟨h1, hT⟩ := h
    rcases h1 with ⟨-, e1⟩ | ⟨k, q1, E, hE, h0, e1⟩
    · cases e1
    · cases e1
      exact kx k _ _ μ8 hE h0 hT)
theorem pl_callCU {τ9 : MS} {codes : List String} {T : MS → Mem → Prop} {ci nf : Nat} {Cn : String} {Tn : u_T} {ty : Nat → FieldType} {fs : List Value} {a : Nat} {y : MethodName} {b : ByteArray} {L n d1 C1 N1 C2 N2 index : Nat} {r : Option FieldType} {st : List Value} (As : List Value) (cl : CLk ci Cn Tn nf ty) (md : MDy y b L r n) (hy : y.cls = Cn) (h1 : Cond.methodLink own index y ∈ lw_all) (h2 : Cond.instanceMethod y ∈ lw_all) (h3 : Cond.selects Cn y y ∈ lw_all) (h4 : Cond.initialized Cn ∈ lw_all) (hdg : decode cc pc = .ok (.invokevirtual index, 3)) (hst : st = As.reverse ++ .ref a :: rest) (hn : As.length = n) (hr8 : (rest.map fun v => v.category).sum ≤ 8) (hm : μ a = some (.inr (ci, fs))) (hM : PM g y (ws_ y b L r) d1 C1 N1 (.ref a :: As) μ (CQU codes τ9 T)) (hd : d1 + 1 ≤ d) (hC : C1 + C2 ≤ C) (hN : N1 + N2 ≤ N) (kr : ∀ M1 : Mem, τ9.1 0 = nI 0 → T τ9 M1 → PJ g own cc nL i d C2 N2 (pc + 3) ls rest M1 Q) (kx : ∀ (k : Nat) (E : String) (q : Nat) (M1 : Mem), codes[k]? = some E → τ9.1 0 = nI (k + 1) → T τ9 M1 → PX g own cc nL i d C2 N2 pc ls rest E q M1 Q) : PJ g own cc nL i d C N pc ls st μ Q :=
  pj_callV As cl md hy h1 h2 h3 h4 hdg hst hn hr8 hm hM hd hC hN (fun v9 μ8 h => by
    obtain ⟨h1, hT⟩ := h
    rcases h1 with ⟨h0, e1⟩ | ⟨k, q, E, -, -, e1⟩
    · cases e1
      exact kr μ8 h0 hT
    · cases e1) (fun E9 q μ8 h => by
    obtain ⟨h1, hT⟩ := h
    rcases h1 with ⟨-, e1⟩ | ⟨k, q1, E, hE, h0, e1⟩
    · cases e1
    · cases e1
      exact kx k _ _ μ8 hE h0 hT)
theorem pl_callHC {r9 : Int32 × MS} {codes : List String} {T : MS → Mem → Prop} {ci nf : Nat} {Cn : String} {Tn : u_T} {ty : Nat → FieldType} {fs : List Value} {a : Nat} {y : MethodName} {b : ByteArray} {L n d1 C1 N1 C2 N2 index : Nat} {r : Option FieldType} {hh : List (Nat × Nat × Nat × Nat)} {st : List Value} (As : List Value) (cl : CLk ci Cn Tn nf ty) (md : MDz y b L r hh n) (hy : y.cls = Cn) (h1 : Cond.methodLink own index y ∈ lw_all) (h2 : Cond.instanceMethod y ∈ lw_all) (h3 : Cond.selects Cn y y ∈ lw_all) (h4 : Cond.initialized Cn ∈ lw_all) (hdg : decode cc pc = .ok (.invokevirtual index, 3)) (hst : st = As.reverse ++ .ref a :: rest) (hn : As.length = n) (hr8 : (rest.map fun v => v.category).sum ≤ 8) (hm : μ a = some (.inr (ci, fs))) (hM : PM g y (wsW_ y b L r hh) d1 C1 N1 (.ref a :: As) μ (CQ codes r9 T)) (hd : d1 + 1 ≤ d) (hC : C1 + C2 ≤ C) (hN : N1 + N2 ≤ N) (kr : ∀ M1 : Mem, r9.2.1 0 = nI 0 → T r9.2 M1 → PJ g own cc nL i d C2 N2 (pc + 3) ls (.int r9.1 :: rest) M1 Q) (kx : ∀ (k : Nat) (E : String) (q : Nat) (M1 : Mem), codes[k]? = some E → r9.2.1 0 = nI (k + 1) → T r9.2 M1 → PX g own cc nL i d C2 N2 pc ls rest E q M1 Q) : PJ g own cc nL i d C N pc ls st μ Q :=
  pj_callVH As cl md hy h1 h2 h3 h4 hdg hst hn hr8 hm hM hd hC hN (fun v9 μ8 h => by
    obtain ⟨h1, hT⟩ := h
    rcases h1 with ⟨h0, e1⟩ | ⟨k, q, E, -, -, e1⟩
    · cases e1
      exact kr μ8 h0 hT
    · cases e1) (fun E9 q μ8 h => by
    obtain ⟨h1, hT⟩ := h
    rcases h1 with ⟨-, e1⟩ | ⟨k, q1, E, hE, h0, e1⟩
    · cases e1
    · cases e1
      exact kx k _ _ μ8 hE h0 hT)
theorem pl_callHCU {τ9 : MS} {codes : List String} {T : MS → Mem → Prop} {ci nf : Nat} {Cn : String} {Tn : u_T} {ty : Nat → FieldType} {fs : List Value} {a : Nat} {y : MethodName} {b : ByteArray} {L n d1 C1 N1 C2 N2 index : Nat} {r : Option FieldType} {hh : List (Nat × Nat × Nat × Nat)} {st : List Value} (As : List Value) (cl : CLk ci Cn Tn nf ty) (md : MDz y b L r hh n) (hy : y.cls = Cn) (h1 : Cond.methodLink own index y ∈ lw_all) (h2 : Cond.instanceMethod y ∈ lw_all) (h3 : Cond.selects Cn y y ∈ lw_all) (h4 : Cond.initialized Cn ∈ lw_all) (hdg : decode cc pc = .ok (.invokevirtual index, 3)) (hst : st = As.reverse ++ .ref a :: rest) (hn : As.length = n) (hr8 : (rest.map fun v => v.category).sum ≤ 8) (hm : μ a = some (.inr (ci, fs))) (hM : PM g y (wsW_ y b L r hh) d1 C1 N1 (.ref a :: As) μ (CQU codes τ9 T)) (hd : d1 + 1 ≤ d) (hC : C1 + C2 ≤ C) (hN : N1 + N2 ≤ N) (kr : ∀ M1 : Mem, τ9.1 0 = nI 0 → T τ9 M1 → PJ g own cc nL i d C2 N2 (pc + 3) ls rest M1 Q) (kx : ∀ (k : Nat) (E : String) (q : Nat) (M1 : Mem), codes[k]? = some E → τ9.1 0 = nI (k + 1) → T τ9 M1 → PX g own cc nL i d C2 N2 pc ls rest E q M1 Q) : PJ g own cc nL i d C N pc ls st μ Q :=
  pj_callVH As cl md hy h1 h2 h3 h4 hdg hst hn hr8 hm hM hd hC hN (fun v9 μ8 h => by
    obtain ⟨h1, hT⟩ := h
    rcases h1 with ⟨h0, e1⟩ | ⟨k, q, E, -, -, e1⟩
    · cases e1
      exact kr μ8 h0 hT
    · cases e1) (fun E9 q μ8 h => by
    obtain ⟨h1, hT⟩ := h
    rcases h1 with ⟨-, e1⟩ | ⟨k, q1, E, hE, h0, e1⟩
    · cases e1
    · cases e1
      exact kx k _ _ μ8 hE h0 hT)
end CC9
/-- how one of the law's helpers ends: what was thrown, by number; what was answered stands in out -/
def WQ0 (g : GP) (out : Nat) (r : Int32 × MS) (T : MS → Mem → Prop) : OC → Mem → Prop := fun o M => o = .inl (some (.int (r.2.1 0))) ∧ ∃ M0, T r.2 M0 ∧ ((r.2.1 0 = nI 0 ∧ ∃ x, M0 out = some (ouC g x) ∧ M = mset M0 out (ouC g (vp_updL x 0 r.1.toInt64))) ∨ (¬ r.2.1 0 = nI 0 ∧ M = M0))
def WQU (τ : MS) (T : MS → Mem → Prop) : OC → Mem → Prop := fun o M => o = .inl (some (.int (τ.1 0))) ∧ T τ M
set_option maxHeartbeats 400000 in
theorem w0_land {g : GP} {μ : Mem} {d C N a out : Nat} {fs : List Value} {x0 x1 x2 : Int32} {r9 : Int32 × MS} {T : MS → Mem → Prop} (hd : 1 ≤ d) (ha : μ a = some (.inr (11, fs))) (hc : PM g yX1_land (ws_ yX1_land cX1_land 5 (some .int)) (d - 1) C N [.ref a, .int x0, .int x1, .int x2] μ (CQ ["java/lang/IndexOutOfBoundsException", "java/lang/IllegalArgumentException"] r9 T)) (hT : ∀ τ M, T τ M → ∃ x, M out = some (ouC g x)) : PM g yX0_land (wsW_ yX0_land cX0_land 6 (some .int) [(0, 12, 15, 13), (0, 12, 19, 15)]) d C N [.ref a, .int x0, .int x1, .int x2, .ref out] μ (WQ0 g out r9 T) := by
  refine PM.ofH (by decide +kernel) (Nat.le_of_ble_eq_true rfl) ?_
  refine PJ.ok (fun G => ?_)
  show PJ g _ _ _ _ d C N 0 [(0, .ref a), (1, .int x0), (2, .int x1), (3, .int x2), (4, .ref out)] [] _ _
  refine pl_aload (pc := 0) dX0_land_0 rfl ?_
  refine pl_iconst (pc := 2) (v := 0) dX0_land_2 (by rfl) ?_
  refine pl_aload_n (pc := 3) dX0_land_3 rfl rfl ?_
  refine pl_iload_n (pc := 4) dX0_land_4 rfl rfl ?_
  refine pl_iload_n (pc := 5) dX0_land_5 rfl rfl ?_
  refine pl_iload_n (pc := 6) dX0_land_6 rfl rfl ?_
  refine pl_callC (pc := 7) (As := [_, _, _]) (C1 := C) (N1 := N) (C2 := 0) (N2 := 0) ckX1 mdX1_land rfl q1235 q1236 q1237 q125 dX0_land_7 rfl rfl (Nat.le_of_ble_eq_true rfl) ha hc (by omega) (by omega) (by omega) (fun M1 h0 hT9 => ?_) (fun k9 E9 q9 M1 hE h0 hT9 => ?_)
  · obtain ⟨x9, ho1⟩ := hT _ _ hT9
    refine pj_i2l (pc := 10) dX0_land_10 rfl ?_
    refine pj_last (pc := 11) dX0_land_11 ho1 (vp_in_nI (n := 0) (N := 1) (by decide) (by decide)) ?_
    refine PJ.mem (μ1 := mset M1 out (ouC g (vp_updL x9 0 r9.1.toInt64))) rfl ?_
    refine pj_goto (pc := 12) (tgt := 23) dX0_land_12 (by decide) ?_
    refine pl_iconst (pc := 23) (v := 0) dX0_land_23 (by rfl) ?_
    refine pj_iret (pc := 24) dX0_land_24 rfl ?_
    exact ⟨by rw [h0], M1, hT9, Or.inl ⟨h0, x9, ho1, rfl⟩⟩
  · rcases k9 with _ | _ | k9
    · cases hE
      refine px_catch (name := "java/lang/IndexOutOfBoundsException") [] ⟨0, 12, 15, 13⟩ [⟨0, 12, 19, 15⟩] rfl (fun z hz => by cases hz) (by decide) (by decide) q1215 q1248 ?_
      refine pj_astore (pc := 15) (lv' := [(5, _), (0, _), (1, _), (2, _), (3, _), (4, _)]) dX0_land_15 (by decide) rfl ?_
      refine pl_iconst (pc := 17) (v := 1) dX0_land_17 (by rfl) ?_
      refine pj_iret (pc := 18) dX0_land_18 rfl ?_
      exact ⟨by rw [h0], M1, hT9, Or.inr ⟨by rw [h0]; decide, rfl⟩⟩
    · cases hE
      refine px_catch (name := "java/lang/IllegalArgumentException") [⟨0, 12, 15, 13⟩] ⟨0, 12, 19, 15⟩ [] rfl (fun z hz => by cases List.mem_singleton.mp hz; exact Or.inr ⟨by decide, "java/lang/IndexOutOfBoundsException", q1215, fun G => va_Nc.of (nr_leaf G [2, 1, 1, 0, 0, 1, 0] (by decide +kernel))⟩) (by decide) (by decide) q1234 q213 ?_
      refine pj_astore (pc := 19) (lv' := [(5, _), (0, _), (1, _), (2, _), (3, _), (4, _)]) dX0_land_19 (by decide) rfl ?_
      refine pl_iconst (pc := 21) (v := 2) dX0_land_21 (by rfl) ?_
      refine pj_iret (pc := 22) dX0_land_22 rfl ?_
      exact ⟨by rw [h0], M1, hT9, Or.inr ⟨by rw [h0]; decide, rfl⟩⟩
    · cases hE
set_option maxHeartbeats 400000 in
theorem w0_rain {g : GP} {μ : Mem} {d C N a out : Nat} {fs : List Value} {x0 x1 : Int32} {r9 : Int32 × MS} {T : MS → Mem → Prop} (hd : 1 ≤ d) (ha : μ a = some (.inr (11, fs))) (hc : PM g yX1_rain (ws_ yX1_rain cX1_rain 3 (some .int)) (d - 1) C N [.ref a, .int x0, .int x1] μ (CQ ["java/lang/IndexOutOfBoundsException", "java/lang/IllegalArgumentException"] r9 T)) (hT : ∀ τ M, T τ M → ∃ x, M out = some (ouC g x)) : PM g yX0_rain (wsW_ yX0_rain cX0_rain 5 (some .int) [(0, 10, 13, 13), (0, 10, 17, 15)]) d C N [.ref a, .int x0, .int x1, .ref out] μ (WQ0 g out r9 T) := by
  refine PM.ofH (by decide +kernel) (Nat.le_of_ble_eq_true rfl) ?_
  refine PJ.ok (fun G => ?_)
  show PJ g _ _ _ _ d C N 0 [(0, .ref a), (1, .int x0), (2, .int x1), (3, .ref out)] [] _ _
  refine pl_aload_n (pc := 0) dX0_rain_0 rfl rfl ?_
  refine pl_iconst (pc := 1) (v := 0) dX0_rain_1 (by rfl) ?_
  refine pl_aload_n (pc := 2) dX0_rain_2 rfl rfl ?_
  refine pl_iload_n (pc := 3) dX0_rain_3 rfl rfl ?_
  refine pl_iload_n (pc := 4) dX0_rain_4 rfl rfl ?_
  refine pl_callC (pc := 5) (As := [_, _]) (C1 := C) (N1 := N) (C2 := 0) (N2 := 0) ckX1 mdX1_rain rfl q1279 q1280 q1281 q125 dX0_rain_5 rfl rfl (Nat.le_of_ble_eq_true rfl) ha hc (by omega) (by omega) (by omega) (fun M1 h0 hT9 => ?_) (fun k9 E9 q9 M1 hE h0 hT9 => ?_)
  · obtain ⟨x9, ho1⟩ := hT _ _ hT9
    refine pj_i2l (pc := 8) dX0_rain_8 rfl ?_
    refine pj_last (pc := 9) dX0_rain_9 ho1 (vp_in_nI (n := 0) (N := 1) (by decide) (by decide)) ?_
    refine PJ.mem (μ1 := mset M1 out (ouC g (vp_updL x9 0 r9.1.toInt64))) rfl ?_
    refine pj_goto (pc := 10) (tgt := 21) dX0_rain_10 (by decide) ?_
    refine pl_iconst (pc := 21) (v := 0) dX0_rain_21 (by rfl) ?_
    refine pj_iret (pc := 22) dX0_rain_22 rfl ?_
    exact ⟨by rw [h0], M1, hT9, Or.inl ⟨h0, x9, ho1, rfl⟩⟩
  · rcases k9 with _ | _ | k9
    · cases hE
      refine px_catch (name := "java/lang/IndexOutOfBoundsException") [] ⟨0, 10, 13, 13⟩ [⟨0, 10, 17, 15⟩] rfl (fun z hz => by cases hz) (by decide) (by decide) q1215 q1248 ?_
      refine pj_astore (pc := 13) (lv' := [(4, _), (0, _), (1, _), (2, _), (3, _)]) dX0_rain_13 (by decide) rfl ?_
      refine pl_iconst (pc := 15) (v := 1) dX0_rain_15 (by rfl) ?_
      refine pj_iret (pc := 16) dX0_rain_16 rfl ?_
      exact ⟨by rw [h0], M1, hT9, Or.inr ⟨by rw [h0]; decide, rfl⟩⟩
    · cases hE
      refine px_catch (name := "java/lang/IllegalArgumentException") [⟨0, 10, 13, 13⟩] ⟨0, 10, 17, 15⟩ [] rfl (fun z hz => by cases List.mem_singleton.mp hz; exact Or.inr ⟨by decide, "java/lang/IndexOutOfBoundsException", q1215, fun G => va_Nc.of (nr_leaf G [2, 1, 1, 0, 0, 1, 0] (by decide +kernel))⟩) (by decide) (by decide) q1234 q213 ?_
      refine pj_astore (pc := 17) (lv' := [(4, _), (0, _), (1, _), (2, _), (3, _)]) dX0_rain_17 (by decide) rfl ?_
      refine pl_iconst (pc := 19) (v := 2) dX0_rain_19 (by rfl) ?_
      refine pj_iret (pc := 20) dX0_rain_20 rfl ?_
      exact ⟨by rw [h0], M1, hT9, Or.inr ⟨by rw [h0]; decide, rfl⟩⟩
    · cases hE
set_option maxHeartbeats 400000 in
theorem w0_rains {g : GP} {μ : Mem} {d C N a out : Nat} {fs : List Value} {x0 x1 x2 : Int32} {r9 : Int32 × MS} {T : MS → Mem → Prop} (hd : 1 ≤ d) (ha : μ a = some (.inr (11, fs))) (hc : PM g yX1_rains (ws_ yX1_rains cX1_rains 5 (some .int)) (d - 1) C N [.ref a, .int x0, .int x1, .int x2] μ (CQ ["java/lang/IndexOutOfBoundsException", "java/lang/IllegalArgumentException"] r9 T)) (hT : ∀ τ M, T τ M → ∃ x, M out = some (ouC g x)) : PM g yX0_rains (wsW_ yX0_rains cX0_rains 6 (some .int) [(0, 12, 15, 13), (0, 12, 19, 15)]) d C N [.ref a, .int x0, .int x1, .int x2, .ref out] μ (WQ0 g out r9 T) := by
  refine PM.ofH (by decide +kernel) (Nat.le_of_ble_eq_true rfl) ?_
  refine PJ.ok (fun G => ?_)
  show PJ g _ _ _ _ d C N 0 [(0, .ref a), (1, .int x0), (2, .int x1), (3, .int x2), (4, .ref out)] [] _ _
  refine pl_aload (pc := 0) dX0_rains_0 rfl ?_
  refine pl_iconst (pc := 2) (v := 0) dX0_rains_2 (by rfl) ?_
  refine pl_aload_n (pc := 3) dX0_rains_3 rfl rfl ?_
  refine pl_iload_n (pc := 4) dX0_rains_4 rfl rfl ?_
  refine pl_iload_n (pc := 5) dX0_rains_5 rfl rfl ?_
  refine pl_iload_n (pc := 6) dX0_rains_6 rfl rfl ?_
  refine pl_callC (pc := 7) (As := [_, _, _]) (C1 := C) (N1 := N) (C2 := 0) (N2 := 0) ckX1 mdX1_rains rfl q1292 q1293 q1294 q125 dX0_rains_7 rfl rfl (Nat.le_of_ble_eq_true rfl) ha hc (by omega) (by omega) (by omega) (fun M1 h0 hT9 => ?_) (fun k9 E9 q9 M1 hE h0 hT9 => ?_)
  · obtain ⟨x9, ho1⟩ := hT _ _ hT9
    refine pj_i2l (pc := 10) dX0_rains_10 rfl ?_
    refine pj_last (pc := 11) dX0_rains_11 ho1 (vp_in_nI (n := 0) (N := 1) (by decide) (by decide)) ?_
    refine PJ.mem (μ1 := mset M1 out (ouC g (vp_updL x9 0 r9.1.toInt64))) rfl ?_
    refine pj_goto (pc := 12) (tgt := 23) dX0_rains_12 (by decide) ?_
    refine pl_iconst (pc := 23) (v := 0) dX0_rains_23 (by rfl) ?_
    refine pj_iret (pc := 24) dX0_rains_24 rfl ?_
    exact ⟨by rw [h0], M1, hT9, Or.inl ⟨h0, x9, ho1, rfl⟩⟩
  · rcases k9 with _ | _ | k9
    · cases hE
      refine px_catch (name := "java/lang/IndexOutOfBoundsException") [] ⟨0, 12, 15, 13⟩ [⟨0, 12, 19, 15⟩] rfl (fun z hz => by cases hz) (by decide) (by decide) q1215 q1248 ?_
      refine pj_astore (pc := 15) (lv' := [(5, _), (0, _), (1, _), (2, _), (3, _), (4, _)]) dX0_rains_15 (by decide) rfl ?_
      refine pl_iconst (pc := 17) (v := 1) dX0_rains_17 (by rfl) ?_
      refine pj_iret (pc := 18) dX0_rains_18 rfl ?_
      exact ⟨by rw [h0], M1, hT9, Or.inr ⟨by rw [h0]; decide, rfl⟩⟩
    · cases hE
      refine px_catch (name := "java/lang/IllegalArgumentException") [⟨0, 12, 15, 13⟩] ⟨0, 12, 19, 15⟩ [] rfl (fun z hz => by cases List.mem_singleton.mp hz; exact Or.inr ⟨by decide, "java/lang/IndexOutOfBoundsException", q1215, fun G => va_Nc.of (nr_leaf G [2, 1, 1, 0, 0, 1, 0] (by decide +kernel))⟩) (by decide) (by decide) q1234 q213 ?_
      refine pj_astore (pc := 19) (lv' := [(5, _), (0, _), (1, _), (2, _), (3, _), (4, _)]) dX0_rains_19 (by decide) rfl ?_
      refine pl_iconst (pc := 21) (v := 2) dX0_rains_21 (by rfl) ?_
      refine pj_iret (pc := 22) dX0_rains_22 rfl ?_
      exact ⟨by rw [h0], M1, hT9, Or.inr ⟨by rw [h0]; decide, rfl⟩⟩
    · cases hE
set_option maxHeartbeats 400000 in
theorem w0_fell {g : GP} {μ : Mem} {d C N a out : Nat} {fs : List Value} {x0 x1 : Int32} {r9 : Int32 × MS} {T : MS → Mem → Prop} (hd : 1 ≤ d) (ha : μ a = some (.inr (11, fs))) (hc : PM g yX1_fell (ws_ yX1_fell cX1_fell 3 (some .int)) (d - 1) C N [.ref a, .int x0, .int x1] μ (CQ ["java/lang/IndexOutOfBoundsException", "java/lang/IllegalArgumentException"] r9 T)) (hT : ∀ τ M, T τ M → ∃ x, M out = some (ouC g x)) : PM g yX0_fell (wsW_ yX0_fell cX0_fell 5 (some .int) [(0, 10, 13, 13), (0, 10, 17, 15)]) d C N [.ref a, .int x0, .int x1, .ref out] μ (WQ0 g out r9 T) := by
  refine PM.ofH (by decide +kernel) (Nat.le_of_ble_eq_true rfl) ?_
  refine PJ.ok (fun G => ?_)
  show PJ g _ _ _ _ d C N 0 [(0, .ref a), (1, .int x0), (2, .int x1), (3, .ref out)] [] _ _
  refine pl_aload_n (pc := 0) dX0_fell_0 rfl rfl ?_
  refine pl_iconst (pc := 1) (v := 0) dX0_fell_1 (by rfl) ?_
  refine pl_aload_n (pc := 2) dX0_fell_2 rfl rfl ?_
  refine pl_iload_n (pc := 3) dX0_fell_3 rfl rfl ?_
  refine pl_iload_n (pc := 4) dX0_fell_4 rfl rfl ?_
  refine pl_callC (pc := 5) (As := [_, _]) (C1 := C) (N1 := N) (C2 := 0) (N2 := 0) ckX1 mdX1_fell rfl q1299 q1300 q1301 q125 dX0_fell_5 rfl rfl (Nat.le_of_ble_eq_true rfl) ha hc (by omega) (by omega) (by omega) (fun M1 h0 hT9 => ?_) (fun k9 E9 q9 M1 hE h0 hT9 => ?_)
  · obtain ⟨x9, ho1⟩ := hT _ _ hT9
    refine pj_i2l (pc := 8) dX0_fell_8 rfl ?_
    refine pj_last (pc := 9) dX0_fell_9 ho1 (vp_in_nI (n := 0) (N := 1) (by decide) (by decide)) ?_
    refine PJ.mem (μ1 := mset M1 out (ouC g (vp_updL x9 0 r9.1.toInt64))) rfl ?_
    refine pj_goto (pc := 10) (tgt := 21) dX0_fell_10 (by decide) ?_
    refine pl_iconst (pc := 21) (v := 0) dX0_fell_21 (by rfl) ?_
    refine pj_iret (pc := 22) dX0_fell_22 rfl ?_
    exact ⟨by rw [h0], M1, hT9, Or.inl ⟨h0, x9, ho1, rfl⟩⟩
  · rcases k9 with _ | _ | k9
    · cases hE
      refine px_catch (name := "java/lang/IndexOutOfBoundsException") [] ⟨0, 10, 13, 13⟩ [⟨0, 10, 17, 15⟩] rfl (fun z hz => by cases hz) (by decide) (by decide) q1215 q1248 ?_
      refine pj_astore (pc := 13) (lv' := [(4, _), (0, _), (1, _), (2, _), (3, _)]) dX0_fell_13 (by decide) rfl ?_
      refine pl_iconst (pc := 15) (v := 1) dX0_fell_15 (by rfl) ?_
      refine pj_iret (pc := 16) dX0_fell_16 rfl ?_
      exact ⟨by rw [h0], M1, hT9, Or.inr ⟨by rw [h0]; decide, rfl⟩⟩
    · cases hE
      refine px_catch (name := "java/lang/IllegalArgumentException") [⟨0, 10, 13, 13⟩] ⟨0, 10, 17, 15⟩ [] rfl (fun z hz => by cases List.mem_singleton.mp hz; exact Or.inr ⟨by decide, "java/lang/IndexOutOfBoundsException", q1215, fun G => va_Nc.of (nr_leaf G [2, 1, 1, 0, 0, 1, 0] (by decide +kernel))⟩) (by decide) (by decide) q1234 q213 ?_
      refine pj_astore (pc := 17) (lv' := [(4, _), (0, _), (1, _), (2, _), (3, _)]) dX0_fell_17 (by decide) rfl ?_
      refine pl_iconst (pc := 19) (v := 2) dX0_fell_19 (by rfl) ?_
      refine pj_iret (pc := 20) dX0_fell_20 rfl ?_
      exact ⟨by rw [h0], M1, hT9, Or.inr ⟨by rw [h0]; decide, rfl⟩⟩
    · cases hE
set_option maxHeartbeats 400000 in
theorem w0_seen {g : GP} {μ : Mem} {d C N a out : Nat} {fs : List Value} {x0 : Int32} {r9 : Int32 × MS} {T : MS → Mem → Prop} (hd : 1 ≤ d) (ha : μ a = some (.inr (11, fs))) (hc : PM g yX1_seen (ws_ yX1_seen cX1_seen 2 (some .int)) (d - 1) C N [.ref a, .int x0] μ (CQ ["java/lang/IndexOutOfBoundsException"] r9 T)) (hT : ∀ τ M, T τ M → ∃ x, M out = some (ouC g x)) : PM g yX0_seen (wsW_ yX0_seen cX0_seen 4 (some .int) [(0, 9, 12, 13)]) d C N [.ref a, .int x0, .ref out] μ (WQ0 g out r9 T) := by
  refine PM.ofH (by decide +kernel) (Nat.le_of_ble_eq_true rfl) ?_
  refine PJ.ok (fun G => ?_)
  show PJ g _ _ _ _ d C N 0 [(0, .ref a), (1, .int x0), (2, .ref out)] [] _ _
  refine pl_aload_n (pc := 0) dX0_seen_0 rfl rfl ?_
  refine pl_iconst (pc := 1) (v := 0) dX0_seen_1 (by rfl) ?_
  refine pl_aload_n (pc := 2) dX0_seen_2 rfl rfl ?_
  refine pl_iload_n (pc := 3) dX0_seen_3 rfl rfl ?_
  refine pl_callC (pc := 4) (As := [_]) (C1 := C) (N1 := N) (C2 := 0) (N2 := 0) ckX1 mdX1_seen rfl q1315 q1316 q1317 q125 dX0_seen_4 rfl rfl (Nat.le_of_ble_eq_true rfl) ha hc (by omega) (by omega) (by omega) (fun M1 h0 hT9 => ?_) (fun k9 E9 q9 M1 hE h0 hT9 => ?_)
  · obtain ⟨x9, ho1⟩ := hT _ _ hT9
    refine pj_i2l (pc := 7) dX0_seen_7 rfl ?_
    refine pj_last (pc := 8) dX0_seen_8 ho1 (vp_in_nI (n := 0) (N := 1) (by decide) (by decide)) ?_
    refine PJ.mem (μ1 := mset M1 out (ouC g (vp_updL x9 0 r9.1.toInt64))) rfl ?_
    refine pj_goto (pc := 9) (tgt := 15) dX0_seen_9 (by decide) ?_
    refine pl_iconst (pc := 15) (v := 0) dX0_seen_15 (by rfl) ?_
    refine pj_iret (pc := 16) dX0_seen_16 rfl ?_
    exact ⟨by rw [h0], M1, hT9, Or.inl ⟨h0, x9, ho1, rfl⟩⟩
  · rcases k9 with _ | k9
    · cases hE
      refine px_catch (name := "java/lang/IndexOutOfBoundsException") [] ⟨0, 9, 12, 13⟩ [] rfl (fun z hz => by cases hz) (by decide) (by decide) q1215 q1248 ?_
      refine pj_astore_n (pc := 12) (lv' := [(3, _), (0, _), (1, _), (2, _)]) dX0_seen_12 rfl (by decide) rfl ?_
      refine pl_iconst (pc := 13) (v := 1) dX0_seen_13 (by rfl) ?_
      refine pj_iret (pc := 14) dX0_seen_14 rfl ?_
      exact ⟨by rw [h0], M1, hT9, Or.inr ⟨by rw [h0]; decide, rfl⟩⟩
    · cases hE
set_option maxHeartbeats 400000 in
theorem w0_promise {g : GP} {μ : Mem} {d C N a out : Nat} {fs : List Value} {x0 : Int32} {r9 : Int32 × MS} {T : MS → Mem → Prop} (hd : 1 ≤ d) (ha : μ a = some (.inr (11, fs))) (hc : PM g yX1_promise (ws_ yX1_promise cX1_promise 2 (some .int)) (d - 1) C N [.ref a, .int x0] μ (CQ ["java/lang/IndexOutOfBoundsException"] r9 T)) (hT : ∀ τ M, T τ M → ∃ x, M out = some (ouC g x)) : PM g yX0_promise (wsW_ yX0_promise cX0_promise 4 (some .int) [(0, 9, 12, 13)]) d C N [.ref a, .int x0, .ref out] μ (WQ0 g out r9 T) := by
  refine PM.ofH (by decide +kernel) (Nat.le_of_ble_eq_true rfl) ?_
  refine PJ.ok (fun G => ?_)
  show PJ g _ _ _ _ d C N 0 [(0, .ref a), (1, .int x0), (2, .ref out)] [] _ _
  refine pl_aload_n (pc := 0) dX0_promise_0 rfl rfl ?_
  refine pl_iconst (pc := 1) (v := 0) dX0_promise_1 (by rfl) ?_
  refine pl_aload_n (pc := 2) dX0_promise_2 rfl rfl ?_
  refine pl_iload_n (pc := 3) dX0_promise_3 rfl rfl ?_
  refine pl_callC (pc := 4) (As := [_]) (C1 := C) (N1 := N) (C2 := 0) (N2 := 0) ckX1 mdX1_promise rfl q1322 q1323 q1324 q125 dX0_promise_4 rfl rfl (Nat.le_of_ble_eq_true rfl) ha hc (by omega) (by omega) (by omega) (fun M1 h0 hT9 => ?_) (fun k9 E9 q9 M1 hE h0 hT9 => ?_)
  · obtain ⟨x9, ho1⟩ := hT _ _ hT9
    refine pj_i2l (pc := 7) dX0_promise_7 rfl ?_
    refine pj_last (pc := 8) dX0_promise_8 ho1 (vp_in_nI (n := 0) (N := 1) (by decide) (by decide)) ?_
    refine PJ.mem (μ1 := mset M1 out (ouC g (vp_updL x9 0 r9.1.toInt64))) rfl ?_
    refine pj_goto (pc := 9) (tgt := 15) dX0_promise_9 (by decide) ?_
    refine pl_iconst (pc := 15) (v := 0) dX0_promise_15 (by rfl) ?_
    refine pj_iret (pc := 16) dX0_promise_16 rfl ?_
    exact ⟨by rw [h0], M1, hT9, Or.inl ⟨h0, x9, ho1, rfl⟩⟩
  · rcases k9 with _ | k9
    · cases hE
      refine px_catch (name := "java/lang/IndexOutOfBoundsException") [] ⟨0, 9, 12, 13⟩ [] rfl (fun z hz => by cases hz) (by decide) (by decide) q1215 q1248 ?_
      refine pj_astore_n (pc := 12) (lv' := [(3, _), (0, _), (1, _), (2, _)]) dX0_promise_12 rfl (by decide) rfl ?_
      refine pl_iconst (pc := 13) (v := 1) dX0_promise_13 (by rfl) ?_
      refine pj_iret (pc := 14) dX0_promise_14 rfl ?_
      exact ⟨by rw [h0], M1, hT9, Or.inr ⟨by rw [h0]; decide, rfl⟩⟩
    · cases hE
set_option maxHeartbeats 400000 in
theorem w0_section {g : GP} {μ : Mem} {d C N a out : Nat} {fs : List Value} {x0 x1 : Int32} {r9 : Int32 × MS} {T : MS → Mem → Prop} (hd : 1 ≤ d) (ha : μ a = some (.inr (11, fs))) (hc : PM g yX1_section (ws_ yX1_section cX1_section 6 (some .int)) (d - 1) C N [.ref a, .int x0, .int x1] μ (CQ ["java/lang/IndexOutOfBoundsException", "java/lang/IllegalArgumentException"] r9 T)) (hT : ∀ τ M, T τ M → ∃ x, M out = some (ouC g x)) : PM g yX0_section (wsW_ yX0_section cX0_section 5 (some .int) [(0, 10, 13, 13), (0, 10, 17, 15)]) d C N [.ref a, .int x0, .int x1, .ref out] μ (WQ0 g out r9 T) := by
  refine PM.ofH (by decide +kernel) (Nat.le_of_ble_eq_true rfl) ?_
  refine PJ.ok (fun G => ?_)
  show PJ g _ _ _ _ d C N 0 [(0, .ref a), (1, .int x0), (2, .int x1), (3, .ref out)] [] _ _
  refine pl_aload_n (pc := 0) dX0_section_0 rfl rfl ?_
  refine pl_iconst (pc := 1) (v := 0) dX0_section_1 (by rfl) ?_
  refine pl_aload_n (pc := 2) dX0_section_2 rfl rfl ?_
  refine pl_iload_n (pc := 3) dX0_section_3 rfl rfl ?_
  refine pl_iload_n (pc := 4) dX0_section_4 rfl rfl ?_
  refine pl_callC (pc := 5) (As := [_, _]) (C1 := C) (N1 := N) (C2 := 0) (N2 := 0) ckX1 mdX1_section rfl q1336 q1337 q1338 q125 dX0_section_5 rfl rfl (Nat.le_of_ble_eq_true rfl) ha hc (by omega) (by omega) (by omega) (fun M1 h0 hT9 => ?_) (fun k9 E9 q9 M1 hE h0 hT9 => ?_)
  · obtain ⟨x9, ho1⟩ := hT _ _ hT9
    refine pj_i2l (pc := 8) dX0_section_8 rfl ?_
    refine pj_last (pc := 9) dX0_section_9 ho1 (vp_in_nI (n := 0) (N := 1) (by decide) (by decide)) ?_
    refine PJ.mem (μ1 := mset M1 out (ouC g (vp_updL x9 0 r9.1.toInt64))) rfl ?_
    refine pj_goto (pc := 10) (tgt := 21) dX0_section_10 (by decide) ?_
    refine pl_iconst (pc := 21) (v := 0) dX0_section_21 (by rfl) ?_
    refine pj_iret (pc := 22) dX0_section_22 rfl ?_
    exact ⟨by rw [h0], M1, hT9, Or.inl ⟨h0, x9, ho1, rfl⟩⟩
  · rcases k9 with _ | _ | k9
    · cases hE
      refine px_catch (name := "java/lang/IndexOutOfBoundsException") [] ⟨0, 10, 13, 13⟩ [⟨0, 10, 17, 15⟩] rfl (fun z hz => by cases hz) (by decide) (by decide) q1215 q1248 ?_
      refine pj_astore (pc := 13) (lv' := [(4, _), (0, _), (1, _), (2, _), (3, _)]) dX0_section_13 (by decide) rfl ?_
      refine pl_iconst (pc := 15) (v := 1) dX0_section_15 (by rfl) ?_
      refine pj_iret (pc := 16) dX0_section_16 rfl ?_
      exact ⟨by rw [h0], M1, hT9, Or.inr ⟨by rw [h0]; decide, rfl⟩⟩
    · cases hE
      refine px_catch (name := "java/lang/IllegalArgumentException") [⟨0, 10, 13, 13⟩] ⟨0, 10, 17, 15⟩ [] rfl (fun z hz => by cases List.mem_singleton.mp hz; exact Or.inr ⟨by decide, "java/lang/IndexOutOfBoundsException", q1215, fun G => va_Nc.of (nr_leaf G [2, 1, 1, 0, 0, 1, 0] (by decide +kernel))⟩) (by decide) (by decide) q1234 q213 ?_
      refine pj_astore (pc := 17) (lv' := [(4, _), (0, _), (1, _), (2, _), (3, _)]) dX0_section_17 (by decide) rfl ?_
      refine pl_iconst (pc := 19) (v := 2) dX0_section_19 (by rfl) ?_
      refine pj_iret (pc := 20) dX0_section_20 rfl ?_
      exact ⟨by rw [h0], M1, hT9, Or.inr ⟨by rw [h0]; decide, rfl⟩⟩
    · cases hE
set_option maxHeartbeats 400000 in
theorem w0_is {g : GP} {μ : Mem} {d C N a out : Nat} {fs : List Value} {x0 x1 : Int32} {r9 : Int32 × MS} {T : MS → Mem → Prop} (hd : 1 ≤ d) (ha : μ a = some (.inr (11, fs))) (hc : PM g yX1_is (ws_ yX1_is cX1_is 5 (some .boolean)) (d - 1) C N [.ref a, .int x0, .int x1] μ (CQ ["java/lang/IndexOutOfBoundsException", "java/lang/IllegalArgumentException"] r9 T)) (hT : ∀ τ M, T τ M → ∃ x, M out = some (ouC g x)) (hb : r9.1 = nI 0 ∨ r9.1 = nI 1) : PM g yX0_is (wsW_ yX0_is cX0_is 5 (some .int) [(0, 17, 20, 13), (0, 17, 24, 15)]) d C N [.ref a, .int x0, .int x1, .ref out] μ (WQ0 g out r9 T) := by
  refine PM.ofH (by decide +kernel) (Nat.le_of_ble_eq_true rfl) ?_
  refine PJ.ok (fun G => ?_)
  show PJ g _ _ _ _ d C N 0 [(0, .ref a), (1, .int x0), (2, .int x1), (3, .ref out)] [] _ _
  refine pl_aload_n (pc := 0) dX0_is_0 rfl rfl ?_
  refine pl_iconst (pc := 1) (v := 0) dX0_is_1 (by rfl) ?_
  refine pl_aload_n (pc := 2) dX0_is_2 rfl rfl ?_
  refine pl_iload_n (pc := 3) dX0_is_3 rfl rfl ?_
  refine pl_iload_n (pc := 4) dX0_is_4 rfl rfl ?_
  refine pl_callC (pc := 5) (As := [_, _]) (C1 := C) (N1 := N) (C2 := 0) (N2 := 0) ckX1 mdX1_is rfl q1361 q1362 q1363 q125 dX0_is_5 rfl rfl (Nat.le_of_ble_eq_true rfl) ha hc (by omega) (by omega) (by omega) (fun M1 h0 hT9 => ?_) (fun k9 E9 q9 M1 hE h0 hT9 => ?_)
  · obtain ⟨x9, ho1⟩ := hT _ _ hT9
    refine pj_if_eq (pc := 8) (tgt := 15) dX0_is_8 (by decide) (fun c8 => ?_) (fun c8 => ?_)
    · refine pj_lconst (pc := 15) (v := 0) dX0_is_15 (by rfl) ?_
      refine pj_last (pc := 16) dX0_is_16 ho1 (vp_in_nI (n := 0) (N := 1) (by decide) (by decide)) ?_
      refine PJ.mem (μ1 := mset M1 out (ouC g (vp_updL x9 0 r9.1.toInt64))) (by first | (rw [show r9.1 = nI 0 from (by assumption)]; rfl) | (rw [hb.resolve_left (by assumption)]; rfl)) ?_
      refine pj_goto (pc := 17) (tgt := 28) dX0_is_17 (by decide) ?_
      refine pl_iconst (pc := 28) (v := 0) dX0_is_28 (by rfl) ?_
      refine pj_iret (pc := 29) dX0_is_29 rfl ?_
      exact ⟨by rw [h0], M1, hT9, Or.inl ⟨h0, x9, ho1, rfl⟩⟩
    · refine pj_lconst (pc := 11) (v := 1) dX0_is_11 (by rfl) ?_
      refine pj_goto (pc := 12) (tgt := 16) dX0_is_12 (by decide) ?_
      refine pj_last (pc := 16) dX0_is_16 ho1 (vp_in_nI (n := 0) (N := 1) (by decide) (by decide)) ?_
      refine PJ.mem (μ1 := mset M1 out (ouC g (vp_updL x9 0 r9.1.toInt64))) (by first | (rw [show r9.1 = nI 0 from (by assumption)]; rfl) | (rw [hb.resolve_left (by assumption)]; rfl)) ?_
      refine pj_goto (pc := 17) (tgt := 28) dX0_is_17 (by decide) ?_
      refine pl_iconst (pc := 28) (v := 0) dX0_is_28 (by rfl) ?_
      refine pj_iret (pc := 29) dX0_is_29 rfl ?_
      exact ⟨by rw [h0], M1, hT9, Or.inl ⟨h0, x9, ho1, rfl⟩⟩
  · rcases k9 with _ | _ | k9
    · cases hE
      refine px_catch (name := "java/lang/IndexOutOfBoundsException") [] ⟨0, 17, 20, 13⟩ [⟨0, 17, 24, 15⟩] rfl (fun z hz => by cases hz) (by decide) (by decide) q1215 q1248 ?_
      refine pj_astore (pc := 20) (lv' := [(4, _), (0, _), (1, _), (2, _), (3, _)]) dX0_is_20 (by decide) rfl ?_
      refine pl_iconst (pc := 22) (v := 1) dX0_is_22 (by rfl) ?_
      refine pj_iret (pc := 23) dX0_is_23 rfl ?_
      exact ⟨by rw [h0], M1, hT9, Or.inr ⟨by rw [h0]; decide, rfl⟩⟩
    · cases hE
      refine px_catch (name := "java/lang/IllegalArgumentException") [⟨0, 17, 20, 13⟩] ⟨0, 17, 24, 15⟩ [] rfl (fun z hz => by cases List.mem_singleton.mp hz; exact Or.inr ⟨by decide, "java/lang/IndexOutOfBoundsException", q1215, fun G => va_Nc.of (nr_leaf G [2, 1, 1, 0, 0, 1, 0] (by decide +kernel))⟩) (by decide) (by decide) q1234 q213 ?_
      refine pj_astore (pc := 24) (lv' := [(4, _), (0, _), (1, _), (2, _), (3, _)]) dX0_is_24 (by decide) rfl ?_
      refine pl_iconst (pc := 26) (v := 2) dX0_is_26 (by rfl) ?_
      refine pj_iret (pc := 27) dX0_is_27 rfl ?_
      exact ⟨by rw [h0], M1, hT9, Or.inr ⟨by rw [h0]; decide, rfl⟩⟩
    · cases hE
set_option maxHeartbeats 400000 in
theorem w0_people {g : GP} {μ : Mem} {d C N a out : Nat} {fs : List Value} {x0 x1 x2 : Int32} {r9 : Int32 × MS} {T : MS → Mem → Prop} (hd : 1 ≤ d) (ha : μ a = some (.inr (11, fs))) (hc : PM g yX1_people (ws_ yX1_people cX1_people 6 (some .int)) (d - 1) C N [.ref a, .int x0, .int x1, .int x2] μ (CQ ["java/lang/IllegalArgumentException"] r9 T)) (hT : ∀ τ M, T τ M → ∃ x, M out = some (ouC g x)) : PM g yX0_people (wsW_ yX0_people cX0_people 6 (some .int) [(0, 12, 15, 15)]) d C N [.ref a, .int x0, .int x1, .int x2, .ref out] μ (WQ0 g out r9 T) := by
  refine PM.ofH (by decide +kernel) (Nat.le_of_ble_eq_true rfl) ?_
  refine PJ.ok (fun G => ?_)
  show PJ g _ _ _ _ d C N 0 [(0, .ref a), (1, .int x0), (2, .int x1), (3, .int x2), (4, .ref out)] [] _ _
  refine pl_aload (pc := 0) dX0_people_0 rfl ?_
  refine pl_iconst (pc := 2) (v := 0) dX0_people_2 (by rfl) ?_
  refine pl_aload_n (pc := 3) dX0_people_3 rfl rfl ?_
  refine pl_iload_n (pc := 4) dX0_people_4 rfl rfl ?_
  refine pl_iload_n (pc := 5) dX0_people_5 rfl rfl ?_
  refine pl_iload_n (pc := 6) dX0_people_6 rfl rfl ?_
  refine pl_callC (pc := 7) (As := [_, _, _]) (C1 := C) (N1 := N) (C2 := 0) (N2 := 0) ckX1 mdX1_people rfl q1398 q1399 q1400 q125 dX0_people_7 rfl rfl (Nat.le_of_ble_eq_true rfl) ha hc (by omega) (by omega) (by omega) (fun M1 h0 hT9 => ?_) (fun k9 E9 q9 M1 hE h0 hT9 => ?_)
  · obtain ⟨x9, ho1⟩ := hT _ _ hT9
    refine pj_i2l (pc := 10) dX0_people_10 rfl ?_
    refine pj_last (pc := 11) dX0_people_11 ho1 (vp_in_nI (n := 0) (N := 1) (by decide) (by decide)) ?_
    refine PJ.mem (μ1 := mset M1 out (ouC g (vp_updL x9 0 r9.1.toInt64))) rfl ?_
    refine pj_goto (pc := 12) (tgt := 19) dX0_people_12 (by decide) ?_
    refine pl_iconst (pc := 19) (v := 0) dX0_people_19 (by rfl) ?_
    refine pj_iret (pc := 20) dX0_people_20 rfl ?_
    exact ⟨by rw [h0], M1, hT9, Or.inl ⟨h0, x9, ho1, rfl⟩⟩
  · rcases k9 with _ | k9
    · cases hE
      refine px_catch (name := "java/lang/IllegalArgumentException") [] ⟨0, 12, 15, 15⟩ [] rfl (fun z hz => by cases hz) (by decide) (by decide) q1234 q213 ?_
      refine pj_astore (pc := 15) (lv' := [(5, _), (0, _), (1, _), (2, _), (3, _), (4, _)]) dX0_people_15 (by decide) rfl ?_
      refine pl_iconst (pc := 17) (v := 1) dX0_people_17 (by rfl) ?_
      refine pj_iret (pc := 18) dX0_people_18 rfl ?_
      exact ⟨by rw [h0], M1, hT9, Or.inr ⟨by rw [h0]; decide, rfl⟩⟩
    · cases hE
set_option maxHeartbeats 400000 in
theorem w0_person {g : GP} {μ : Mem} {d C N a out : Nat} {fs : List Value} {x0 x1 : Int32} {r9 : Int32 × MS} {T : MS → Mem → Prop} (hd : 1 ≤ d) (ha : μ a = some (.inr (11, fs))) (hc : PM g yX1_person (ws_ yX1_person cX1_person 4 (some .int)) (d - 1) C N [.ref a, .int x0, .int x1] μ (CQ ["java/lang/IndexOutOfBoundsException", "java/lang/IllegalArgumentException"] r9 T)) (hT : ∀ τ M, T τ M → ∃ x, M out = some (ouC g x)) : PM g yX0_person (wsW_ yX0_person cX0_person 5 (some .int) [(0, 10, 13, 13), (0, 10, 17, 15)]) d C N [.ref a, .int x0, .int x1, .ref out] μ (WQ0 g out r9 T) := by
  refine PM.ofH (by decide +kernel) (Nat.le_of_ble_eq_true rfl) ?_
  refine PJ.ok (fun G => ?_)
  show PJ g _ _ _ _ d C N 0 [(0, .ref a), (1, .int x0), (2, .int x1), (3, .ref out)] [] _ _
  refine pl_aload_n (pc := 0) dX0_person_0 rfl rfl ?_
  refine pl_iconst (pc := 1) (v := 0) dX0_person_1 (by rfl) ?_
  refine pl_aload_n (pc := 2) dX0_person_2 rfl rfl ?_
  refine pl_iload_n (pc := 3) dX0_person_3 rfl rfl ?_
  refine pl_iload_n (pc := 4) dX0_person_4 rfl rfl ?_
  refine pl_callC (pc := 5) (As := [_, _]) (C1 := C) (N1 := N) (C2 := 0) (N2 := 0) ckX1 mdX1_person rfl q1407 q1408 q1409 q125 dX0_person_5 rfl rfl (Nat.le_of_ble_eq_true rfl) ha hc (by omega) (by omega) (by omega) (fun M1 h0 hT9 => ?_) (fun k9 E9 q9 M1 hE h0 hT9 => ?_)
  · obtain ⟨x9, ho1⟩ := hT _ _ hT9
    refine pj_i2l (pc := 8) dX0_person_8 rfl ?_
    refine pj_last (pc := 9) dX0_person_9 ho1 (vp_in_nI (n := 0) (N := 1) (by decide) (by decide)) ?_
    refine PJ.mem (μ1 := mset M1 out (ouC g (vp_updL x9 0 r9.1.toInt64))) rfl ?_
    refine pj_goto (pc := 10) (tgt := 21) dX0_person_10 (by decide) ?_
    refine pl_iconst (pc := 21) (v := 0) dX0_person_21 (by rfl) ?_
    refine pj_iret (pc := 22) dX0_person_22 rfl ?_
    exact ⟨by rw [h0], M1, hT9, Or.inl ⟨h0, x9, ho1, rfl⟩⟩
  · rcases k9 with _ | _ | k9
    · cases hE
      refine px_catch (name := "java/lang/IndexOutOfBoundsException") [] ⟨0, 10, 13, 13⟩ [⟨0, 10, 17, 15⟩] rfl (fun z hz => by cases hz) (by decide) (by decide) q1215 q1248 ?_
      refine pj_astore (pc := 13) (lv' := [(4, _), (0, _), (1, _), (2, _), (3, _)]) dX0_person_13 (by decide) rfl ?_
      refine pl_iconst (pc := 15) (v := 1) dX0_person_15 (by rfl) ?_
      refine pj_iret (pc := 16) dX0_person_16 rfl ?_
      exact ⟨by rw [h0], M1, hT9, Or.inr ⟨by rw [h0]; decide, rfl⟩⟩
    · cases hE
      refine px_catch (name := "java/lang/IllegalArgumentException") [⟨0, 10, 13, 13⟩] ⟨0, 10, 17, 15⟩ [] rfl (fun z hz => by cases List.mem_singleton.mp hz; exact Or.inr ⟨by decide, "java/lang/IndexOutOfBoundsException", q1215, fun G => va_Nc.of (nr_leaf G [2, 1, 1, 0, 0, 1, 0] (by decide +kernel))⟩) (by decide) (by decide) q1234 q213 ?_
      refine pj_astore (pc := 17) (lv' := [(4, _), (0, _), (1, _), (2, _), (3, _)]) dX0_person_17 (by decide) rfl ?_
      refine pl_iconst (pc := 19) (v := 2) dX0_person_19 (by rfl) ?_
      refine pj_iret (pc := 20) dX0_person_20 rfl ?_
      exact ⟨by rw [h0], M1, hT9, Or.inr ⟨by rw [h0]; decide, rfl⟩⟩
    · cases hE
set_option maxHeartbeats 400000 in
theorem w0_party {g : GP} {μ : Mem} {d C N a out : Nat} {fs : List Value} {x0 : Int32} {r9 : Int32 × MS} {T : MS → Mem → Prop} (hd : 1 ≤ d) (ha : μ a = some (.inr (11, fs))) (hc : PM g yX1_party (ws_ yX1_party cX1_party 2 (some .int)) (d - 1) C N [.ref a, .int x0] μ (CQ ["java/lang/IllegalArgumentException"] r9 T)) (hT : ∀ τ M, T τ M → ∃ x, M out = some (ouC g x)) : PM g yX0_party (wsW_ yX0_party cX0_party 4 (some .int) [(0, 9, 12, 15)]) d C N [.ref a, .int x0, .ref out] μ (WQ0 g out r9 T) := by
  refine PM.ofH (by decide +kernel) (Nat.le_of_ble_eq_true rfl) ?_
  refine PJ.ok (fun G => ?_)
  show PJ g _ _ _ _ d C N 0 [(0, .ref a), (1, .int x0), (2, .ref out)] [] _ _
  refine pl_aload_n (pc := 0) dX0_party_0 rfl rfl ?_
  refine pl_iconst (pc := 1) (v := 0) dX0_party_1 (by rfl) ?_
  refine pl_aload_n (pc := 2) dX0_party_2 rfl rfl ?_
  refine pl_iload_n (pc := 3) dX0_party_3 rfl rfl ?_
  refine pl_callC (pc := 4) (As := [_]) (C1 := C) (N1 := N) (C2 := 0) (N2 := 0) ckX1 mdX1_party rfl q1418 q1419 q1420 q125 dX0_party_4 rfl rfl (Nat.le_of_ble_eq_true rfl) ha hc (by omega) (by omega) (by omega) (fun M1 h0 hT9 => ?_) (fun k9 E9 q9 M1 hE h0 hT9 => ?_)
  · obtain ⟨x9, ho1⟩ := hT _ _ hT9
    refine pj_i2l (pc := 7) dX0_party_7 rfl ?_
    refine pj_last (pc := 8) dX0_party_8 ho1 (vp_in_nI (n := 0) (N := 1) (by decide) (by decide)) ?_
    refine PJ.mem (μ1 := mset M1 out (ouC g (vp_updL x9 0 r9.1.toInt64))) rfl ?_
    refine pj_goto (pc := 9) (tgt := 15) dX0_party_9 (by decide) ?_
    refine pl_iconst (pc := 15) (v := 0) dX0_party_15 (by rfl) ?_
    refine pj_iret (pc := 16) dX0_party_16 rfl ?_
    exact ⟨by rw [h0], M1, hT9, Or.inl ⟨h0, x9, ho1, rfl⟩⟩
  · rcases k9 with _ | k9
    · cases hE
      refine px_catch (name := "java/lang/IllegalArgumentException") [] ⟨0, 9, 12, 15⟩ [] rfl (fun z hz => by cases hz) (by decide) (by decide) q1234 q213 ?_
      refine pj_astore_n (pc := 12) (lv' := [(3, _), (0, _), (1, _), (2, _)]) dX0_party_12 rfl (by decide) rfl ?_
      refine pl_iconst (pc := 13) (v := 1) dX0_party_13 (by rfl) ?_
      refine pj_iret (pc := 14) dX0_party_14 rfl ?_
      exact ⟨by rw [h0], M1, hT9, Or.inr ⟨by rw [h0]; decide, rfl⟩⟩
    · cases hE
set_option maxHeartbeats 400000 in
theorem w0_queue {g : GP} {μ : Mem} {d C N a out : Nat} {fs : List Value} {x0 x1 : Int32} {r9 : Int32 × MS} {T : MS → Mem → Prop} (hd : 1 ≤ d) (ha : μ a = some (.inr (11, fs))) (hc : PM g yX1_queue (ws_ yX1_queue cX1_queue 5 (some .int)) (d - 1) C N [.ref a, .int x0, .int x1] μ (CQ ["java/lang/IndexOutOfBoundsException"] r9 T)) (hT : ∀ τ M, T τ M → ∃ x, M out = some (ouC g x)) : PM g yX0_queue (wsW_ yX0_queue cX0_queue 5 (some .int) [(0, 10, 13, 13)]) d C N [.ref a, .int x0, .int x1, .ref out] μ (WQ0 g out r9 T) := by
  refine PM.ofH (by decide +kernel) (Nat.le_of_ble_eq_true rfl) ?_
  refine PJ.ok (fun G => ?_)
  show PJ g _ _ _ _ d C N 0 [(0, .ref a), (1, .int x0), (2, .int x1), (3, .ref out)] [] _ _
  refine pl_aload_n (pc := 0) dX0_queue_0 rfl rfl ?_
  refine pl_iconst (pc := 1) (v := 0) dX0_queue_1 (by rfl) ?_
  refine pl_aload_n (pc := 2) dX0_queue_2 rfl rfl ?_
  refine pl_iload_n (pc := 3) dX0_queue_3 rfl rfl ?_
  refine pl_iload_n (pc := 4) dX0_queue_4 rfl rfl ?_
  refine pl_callC (pc := 5) (As := [_, _]) (C1 := C) (N1 := N) (C2 := 0) (N2 := 0) ckX1 mdX1_queue rfl q1451 q1452 q1453 q125 dX0_queue_5 rfl rfl (Nat.le_of_ble_eq_true rfl) ha hc (by omega) (by omega) (by omega) (fun M1 h0 hT9 => ?_) (fun k9 E9 q9 M1 hE h0 hT9 => ?_)
  · obtain ⟨x9, ho1⟩ := hT _ _ hT9
    refine pj_i2l (pc := 8) dX0_queue_8 rfl ?_
    refine pj_last (pc := 9) dX0_queue_9 ho1 (vp_in_nI (n := 0) (N := 1) (by decide) (by decide)) ?_
    refine PJ.mem (μ1 := mset M1 out (ouC g (vp_updL x9 0 r9.1.toInt64))) rfl ?_
    refine pj_goto (pc := 10) (tgt := 17) dX0_queue_10 (by decide) ?_
    refine pl_iconst (pc := 17) (v := 0) dX0_queue_17 (by rfl) ?_
    refine pj_iret (pc := 18) dX0_queue_18 rfl ?_
    exact ⟨by rw [h0], M1, hT9, Or.inl ⟨h0, x9, ho1, rfl⟩⟩
  · rcases k9 with _ | k9
    · cases hE
      refine px_catch (name := "java/lang/IndexOutOfBoundsException") [] ⟨0, 10, 13, 13⟩ [] rfl (fun z hz => by cases hz) (by decide) (by decide) q1215 q1248 ?_
      refine pj_astore (pc := 13) (lv' := [(4, _), (0, _), (1, _), (2, _), (3, _)]) dX0_queue_13 (by decide) rfl ?_
      refine pl_iconst (pc := 15) (v := 1) dX0_queue_15 (by rfl) ?_
      refine pj_iret (pc := 16) dX0_queue_16 rfl ?_
      exact ⟨by rw [h0], M1, hT9, Or.inr ⟨by rw [h0]; decide, rfl⟩⟩
    · cases hE
set_option maxHeartbeats 400000 in
theorem w0_where {g : GP} {μ : Mem} {d C N a out : Nat} {fs : List Value} {x0 x1 : Int32} {r9 : Int32 × MS} {T : MS → Mem → Prop} (hd : 1 ≤ d) (ha : μ a = some (.inr (11, fs))) (hc : PM g yX1_where (ws_ yX1_where cX1_where 4 (some .int)) (d - 1) C N [.ref a, .int x0, .int x1] μ (CQ ["java/lang/IndexOutOfBoundsException", "java/lang/IllegalArgumentException"] r9 T)) (hT : ∀ τ M, T τ M → ∃ x, M out = some (ouC g x)) : PM g yX0_where (wsW_ yX0_where cX0_where 5 (some .int) [(0, 10, 13, 13), (0, 10, 17, 15)]) d C N [.ref a, .int x0, .int x1, .ref out] μ (WQ0 g out r9 T) := by
  refine PM.ofH (by decide +kernel) (Nat.le_of_ble_eq_true rfl) ?_
  refine PJ.ok (fun G => ?_)
  show PJ g _ _ _ _ d C N 0 [(0, .ref a), (1, .int x0), (2, .int x1), (3, .ref out)] [] _ _
  refine pl_aload_n (pc := 0) dX0_where_0 rfl rfl ?_
  refine pl_iconst (pc := 1) (v := 0) dX0_where_1 (by rfl) ?_
  refine pl_aload_n (pc := 2) dX0_where_2 rfl rfl ?_
  refine pl_iload_n (pc := 3) dX0_where_3 rfl rfl ?_
  refine pl_iload_n (pc := 4) dX0_where_4 rfl rfl ?_
  refine pl_callC (pc := 5) (As := [_, _]) (C1 := C) (N1 := N) (C2 := 0) (N2 := 0) ckX1 mdX1_where rfl q1462 q1463 q1464 q125 dX0_where_5 rfl rfl (Nat.le_of_ble_eq_true rfl) ha hc (by omega) (by omega) (by omega) (fun M1 h0 hT9 => ?_) (fun k9 E9 q9 M1 hE h0 hT9 => ?_)
  · obtain ⟨x9, ho1⟩ := hT _ _ hT9
    refine pj_i2l (pc := 8) dX0_where_8 rfl ?_
    refine pj_last (pc := 9) dX0_where_9 ho1 (vp_in_nI (n := 0) (N := 1) (by decide) (by decide)) ?_
    refine PJ.mem (μ1 := mset M1 out (ouC g (vp_updL x9 0 r9.1.toInt64))) rfl ?_
    refine pj_goto (pc := 10) (tgt := 21) dX0_where_10 (by decide) ?_
    refine pl_iconst (pc := 21) (v := 0) dX0_where_21 (by rfl) ?_
    refine pj_iret (pc := 22) dX0_where_22 rfl ?_
    exact ⟨by rw [h0], M1, hT9, Or.inl ⟨h0, x9, ho1, rfl⟩⟩
  · rcases k9 with _ | _ | k9
    · cases hE
      refine px_catch (name := "java/lang/IndexOutOfBoundsException") [] ⟨0, 10, 13, 13⟩ [⟨0, 10, 17, 15⟩] rfl (fun z hz => by cases hz) (by decide) (by decide) q1215 q1248 ?_
      refine pj_astore (pc := 13) (lv' := [(4, _), (0, _), (1, _), (2, _), (3, _)]) dX0_where_13 (by decide) rfl ?_
      refine pl_iconst (pc := 15) (v := 1) dX0_where_15 (by rfl) ?_
      refine pj_iret (pc := 16) dX0_where_16 rfl ?_
      exact ⟨by rw [h0], M1, hT9, Or.inr ⟨by rw [h0]; decide, rfl⟩⟩
    · cases hE
      refine px_catch (name := "java/lang/IllegalArgumentException") [⟨0, 10, 13, 13⟩] ⟨0, 10, 17, 15⟩ [] rfl (fun z hz => by cases List.mem_singleton.mp hz; exact Or.inr ⟨by decide, "java/lang/IndexOutOfBoundsException", q1215, fun G => va_Nc.of (nr_leaf G [2, 1, 1, 0, 0, 1, 0] (by decide +kernel))⟩) (by decide) (by decide) q1234 q213 ?_
      refine pj_astore (pc := 17) (lv' := [(4, _), (0, _), (1, _), (2, _), (3, _)]) dX0_where_17 (by decide) rfl ?_
      refine pl_iconst (pc := 19) (v := 2) dX0_where_19 (by rfl) ?_
      refine pj_iret (pc := 20) dX0_where_20 rfl ?_
      exact ⟨by rw [h0], M1, hT9, Or.inr ⟨by rw [h0]; decide, rfl⟩⟩
    · cases hE
set_option maxHeartbeats 400000 in
theorem w0_lot {g : GP} {μ : Mem} {d C N a out : Nat} {fs : List Value} {x0 : Int32} {r9 : Int32 × MS} {T : MS → Mem → Prop} (hd : 1 ≤ d) (ha : μ a = some (.inr (11, fs))) (hc : PM g yX1_lot (ws_ yX1_lot cX1_lot 6 (some .int)) (d - 1) C N [.ref a, .int x0] μ (CQ ["java/lang/IndexOutOfBoundsException"] r9 T)) (hT : ∀ τ M, T τ M → ∃ x, M out = some (ouC g x)) : PM g yX0_lot (wsW_ yX0_lot cX0_lot 4 (some .int) [(0, 9, 12, 13)]) d C N [.ref a, .int x0, .ref out] μ (WQ0 g out r9 T) := by
  refine PM.ofH (by decide +kernel) (Nat.le_of_ble_eq_true rfl) ?_
  refine PJ.ok (fun G => ?_)
  show PJ g _ _ _ _ d C N 0 [(0, .ref a), (1, .int x0), (2, .ref out)] [] _ _
  refine pl_aload_n (pc := 0) dX0_lot_0 rfl rfl ?_
  refine pl_iconst (pc := 1) (v := 0) dX0_lot_1 (by rfl) ?_
  refine pl_aload_n (pc := 2) dX0_lot_2 rfl rfl ?_
  refine pl_iload_n (pc := 3) dX0_lot_3 rfl rfl ?_
  refine pl_callC (pc := 4) (As := [_]) (C1 := C) (N1 := N) (C2 := 0) (N2 := 0) ckX1 mdX1_lot rfl q1469 q1470 q1471 q125 dX0_lot_4 rfl rfl (Nat.le_of_ble_eq_true rfl) ha hc (by omega) (by omega) (by omega) (fun M1 h0 hT9 => ?_) (fun k9 E9 q9 M1 hE h0 hT9 => ?_)
  · obtain ⟨x9, ho1⟩ := hT _ _ hT9
    refine pj_i2l (pc := 7) dX0_lot_7 rfl ?_
    refine pj_last (pc := 8) dX0_lot_8 ho1 (vp_in_nI (n := 0) (N := 1) (by decide) (by decide)) ?_
    refine PJ.mem (μ1 := mset M1 out (ouC g (vp_updL x9 0 r9.1.toInt64))) rfl ?_
    refine pj_goto (pc := 9) (tgt := 15) dX0_lot_9 (by decide) ?_
    refine pl_iconst (pc := 15) (v := 0) dX0_lot_15 (by rfl) ?_
    refine pj_iret (pc := 16) dX0_lot_16 rfl ?_
    exact ⟨by rw [h0], M1, hT9, Or.inl ⟨h0, x9, ho1, rfl⟩⟩
  · rcases k9 with _ | k9
    · cases hE
      refine px_catch (name := "java/lang/IndexOutOfBoundsException") [] ⟨0, 9, 12, 13⟩ [] rfl (fun z hz => by cases hz) (by decide) (by decide) q1215 q1248 ?_
      refine pj_astore_n (pc := 12) (lv' := [(3, _), (0, _), (1, _), (2, _)]) dX0_lot_12 rfl (by decide) rfl ?_
      refine pl_iconst (pc := 13) (v := 1) dX0_lot_13 (by rfl) ?_
      refine pj_iret (pc := 14) dX0_lot_14 rfl ?_
      exact ⟨by rw [h0], M1, hT9, Or.inr ⟨by rw [h0]; decide, rfl⟩⟩
    · cases hE
set_option maxHeartbeats 400000 in
theorem w0_ask {g : GP} {μ : Mem} {d C N a out : Nat} {fs : List Value} {x0 : Int32} {r9 : Int32 × MS} {T : MS → Mem → Prop} (hd : 1 ≤ d) (ha : μ a = some (.inr (11, fs))) (hc : PM g yX1_ask (ws_ yX1_ask cX1_ask 3 (some .int)) (d - 1) C N [.ref a, .int x0] μ (CQ ["java/lang/IndexOutOfBoundsException"] r9 T)) (hT : ∀ τ M, T τ M → ∃ x, M out = some (ouC g x)) : PM g yX0_ask (wsW_ yX0_ask cX0_ask 4 (some .int) [(0, 9, 12, 13)]) d C N [.ref a, .int x0, .ref out] μ (WQ0 g out r9 T) := by
  refine PM.ofH (by decide +kernel) (Nat.le_of_ble_eq_true rfl) ?_
  refine PJ.ok (fun G => ?_)
  show PJ g _ _ _ _ d C N 0 [(0, .ref a), (1, .int x0), (2, .ref out)] [] _ _
  refine pl_aload_n (pc := 0) dX0_ask_0 rfl rfl ?_
  refine pl_iconst (pc := 1) (v := 0) dX0_ask_1 (by rfl) ?_
  refine pl_aload_n (pc := 2) dX0_ask_2 rfl rfl ?_
  refine pl_iload_n (pc := 3) dX0_ask_3 rfl rfl ?_
  refine pl_callC (pc := 4) (As := [_]) (C1 := C) (N1 := N) (C2 := 0) (N2 := 0) ckX1 mdX1_ask rfl q1587 q1588 q1589 q125 dX0_ask_4 rfl rfl (Nat.le_of_ble_eq_true rfl) ha hc (by omega) (by omega) (by omega) (fun M1 h0 hT9 => ?_) (fun k9 E9 q9 M1 hE h0 hT9 => ?_)
  · obtain ⟨x9, ho1⟩ := hT _ _ hT9
    refine pj_i2l (pc := 7) dX0_ask_7 rfl ?_
    refine pj_last (pc := 8) dX0_ask_8 ho1 (vp_in_nI (n := 0) (N := 1) (by decide) (by decide)) ?_
    refine PJ.mem (μ1 := mset M1 out (ouC g (vp_updL x9 0 r9.1.toInt64))) rfl ?_
    refine pj_goto (pc := 9) (tgt := 15) dX0_ask_9 (by decide) ?_
    refine pl_iconst (pc := 15) (v := 0) dX0_ask_15 (by rfl) ?_
    refine pj_iret (pc := 16) dX0_ask_16 rfl ?_
    exact ⟨by rw [h0], M1, hT9, Or.inl ⟨h0, x9, ho1, rfl⟩⟩
  · rcases k9 with _ | k9
    · cases hE
      refine px_catch (name := "java/lang/IndexOutOfBoundsException") [] ⟨0, 9, 12, 13⟩ [] rfl (fun z hz => by cases hz) (by decide) (by decide) q1215 q1248 ?_
      refine pj_astore_n (pc := 12) (lv' := [(3, _), (0, _), (1, _), (2, _)]) dX0_ask_12 rfl (by decide) rfl ?_
      refine pl_iconst (pc := 13) (v := 1) dX0_ask_13 (by rfl) ?_
      refine pj_iret (pc := 14) dX0_ask_14 rfl ?_
      exact ⟨by rw [h0], M1, hT9, Or.inr ⟨by rw [h0]; decide, rfl⟩⟩
    · cases hE
set_option maxHeartbeats 400000 in
theorem w0_draw {g : GP} {μ : Mem} {d C N a out : Nat} {fs : List Value} {x0 : Int32} {r9 : Int32 × MS} {T : MS → Mem → Prop} (hd : 1 ≤ d) (ha : μ a = some (.inr (11, fs))) (hc : PM g yX1_draw (ws_ yX1_draw cX1_draw 6 (some .int)) (d - 1) C N [.ref a, .int x0] μ (CQ ["java/lang/IllegalArgumentException"] r9 T)) (hT : ∀ τ M, T τ M → ∃ x, M out = some (ouC g x)) : PM g yX0_draw (wsW_ yX0_draw cX0_draw 4 (some .int) [(0, 9, 12, 15)]) d C N [.ref a, .int x0, .ref out] μ (WQ0 g out r9 T) := by
  refine PM.ofH (by decide +kernel) (Nat.le_of_ble_eq_true rfl) ?_
  refine PJ.ok (fun G => ?_)
  show PJ g _ _ _ _ d C N 0 [(0, .ref a), (1, .int x0), (2, .ref out)] [] _ _
  refine pl_aload_n (pc := 0) dX0_draw_0 rfl rfl ?_
  refine pl_iconst (pc := 1) (v := 0) dX0_draw_1 (by rfl) ?_
  refine pl_aload_n (pc := 2) dX0_draw_2 rfl rfl ?_
  refine pl_iload_n (pc := 3) dX0_draw_3 rfl rfl ?_
  refine pl_callC (pc := 4) (As := [_]) (C1 := C) (N1 := N) (C2 := 0) (N2 := 0) ckX1 mdX1_draw rfl q1667 q1668 q1669 q125 dX0_draw_4 rfl rfl (Nat.le_of_ble_eq_true rfl) ha hc (by omega) (by omega) (by omega) (fun M1 h0 hT9 => ?_) (fun k9 E9 q9 M1 hE h0 hT9 => ?_)
  · obtain ⟨x9, ho1⟩ := hT _ _ hT9
    refine pj_i2l (pc := 7) dX0_draw_7 rfl ?_
    refine pj_last (pc := 8) dX0_draw_8 ho1 (vp_in_nI (n := 0) (N := 1) (by decide) (by decide)) ?_
    refine PJ.mem (μ1 := mset M1 out (ouC g (vp_updL x9 0 r9.1.toInt64))) rfl ?_
    refine pj_goto (pc := 9) (tgt := 15) dX0_draw_9 (by decide) ?_
    refine pl_iconst (pc := 15) (v := 0) dX0_draw_15 (by rfl) ?_
    refine pj_iret (pc := 16) dX0_draw_16 rfl ?_
    exact ⟨by rw [h0], M1, hT9, Or.inl ⟨h0, x9, ho1, rfl⟩⟩
  · rcases k9 with _ | k9
    · cases hE
      refine px_catch (name := "java/lang/IllegalArgumentException") [] ⟨0, 9, 12, 15⟩ [] rfl (fun z hz => by cases hz) (by decide) (by decide) q1234 q213 ?_
      refine pj_astore_n (pc := 12) (lv' := [(3, _), (0, _), (1, _), (2, _)]) dX0_draw_12 rfl (by decide) rfl ?_
      refine pl_iconst (pc := 13) (v := 1) dX0_draw_13 (by rfl) ?_
      refine pj_iret (pc := 14) dX0_draw_14 rfl ?_
      exact ⟨by rw [h0], M1, hT9, Or.inr ⟨by rw [h0]; decide, rfl⟩⟩
    · cases hE
set_option maxHeartbeats 400000 in
theorem w0_acre {g : GP} {μ : Mem} {d C N a out : Nat} {fs : List Value} {x0 : Int32} {r9 : Int32 × MS} {T : MS → Mem → Prop} (hd : 1 ≤ d) (ha : μ a = some (.inr (11, fs))) (hc : PM g yX1_acre (ws_ yX1_acre cX1_acre 2 (some .int)) (d - 1) C N [.ref a, .int x0] μ (CQ ["java/lang/IndexOutOfBoundsException"] r9 T)) (hT : ∀ τ M, T τ M → ∃ x, M out = some (ouC g x)) : PM g yX0_acre (wsW_ yX0_acre cX0_acre 4 (some .int) [(0, 9, 12, 13)]) d C N [.ref a, .int x0, .ref out] μ (WQ0 g out r9 T) := by
  refine PM.ofH (by decide +kernel) (Nat.le_of_ble_eq_true rfl) ?_
  refine PJ.ok (fun G => ?_)
  show PJ g _ _ _ _ d C N 0 [(0, .ref a), (1, .int x0), (2, .ref out)] [] _ _
  refine pl_aload_n (pc := 0) dX0_acre_0 rfl rfl ?_
  refine pl_iconst (pc := 1) (v := 0) dX0_acre_1 (by rfl) ?_
  refine pl_aload_n (pc := 2) dX0_acre_2 rfl rfl ?_
  refine pl_iload_n (pc := 3) dX0_acre_3 rfl rfl ?_
  refine pl_callC (pc := 4) (As := [_]) (C1 := C) (N1 := N) (C2 := 0) (N2 := 0) ckX1 mdX1_acre rfl q1687 q1688 q1689 q125 dX0_acre_4 rfl rfl (Nat.le_of_ble_eq_true rfl) ha hc (by omega) (by omega) (by omega) (fun M1 h0 hT9 => ?_) (fun k9 E9 q9 M1 hE h0 hT9 => ?_)
  · obtain ⟨x9, ho1⟩ := hT _ _ hT9
    refine pj_i2l (pc := 7) dX0_acre_7 rfl ?_
    refine pj_last (pc := 8) dX0_acre_8 ho1 (vp_in_nI (n := 0) (N := 1) (by decide) (by decide)) ?_
    refine PJ.mem (μ1 := mset M1 out (ouC g (vp_updL x9 0 r9.1.toInt64))) rfl ?_
    refine pj_goto (pc := 9) (tgt := 15) dX0_acre_9 (by decide) ?_
    refine pl_iconst (pc := 15) (v := 0) dX0_acre_15 (by rfl) ?_
    refine pj_iret (pc := 16) dX0_acre_16 rfl ?_
    exact ⟨by rw [h0], M1, hT9, Or.inl ⟨h0, x9, ho1, rfl⟩⟩
  · rcases k9 with _ | k9
    · cases hE
      refine px_catch (name := "java/lang/IndexOutOfBoundsException") [] ⟨0, 9, 12, 13⟩ [] rfl (fun z hz => by cases hz) (by decide) (by decide) q1215 q1248 ?_
      refine pj_astore_n (pc := 12) (lv' := [(3, _), (0, _), (1, _), (2, _)]) dX0_acre_12 rfl (by decide) rfl ?_
      refine pl_iconst (pc := 13) (v := 1) dX0_acre_13 (by rfl) ?_
      refine pj_iret (pc := 14) dX0_acre_14 rfl ?_
      exact ⟨by rw [h0], M1, hT9, Or.inr ⟨by rw [h0]; decide, rfl⟩⟩
    · cases hE
set_option maxHeartbeats 400000 in
theorem w0_buy {g : GP} {μ : Mem} {d C N a out : Nat} {fs : List Value} {x0 x1 : Int32} {r9 : Int32 × MS} {T : MS → Mem → Prop} (hd : 1 ≤ d) (ha : μ a = some (.inr (11, fs))) (hc : PM g yX1_buy (ws_ yX1_buy cX1_buy 5 (some .int)) (d - 1) C N [.ref a, .int x0, .int x1] μ (CQ ["java/lang/IndexOutOfBoundsException"] r9 T)) (hT : ∀ τ M, T τ M → ∃ x, M out = some (ouC g x)) : PM g yX0_buy (wsW_ yX0_buy cX0_buy 5 (some .int) [(0, 10, 13, 13)]) d C N [.ref a, .int x0, .int x1, .ref out] μ (WQ0 g out r9 T) := by
  refine PM.ofH (by decide +kernel) (Nat.le_of_ble_eq_true rfl) ?_
  refine PJ.ok (fun G => ?_)
  show PJ g _ _ _ _ d C N 0 [(0, .ref a), (1, .int x0), (2, .int x1), (3, .ref out)] [] _ _
  refine pl_aload_n (pc := 0) dX0_buy_0 rfl rfl ?_
  refine pl_iconst (pc := 1) (v := 0) dX0_buy_1 (by rfl) ?_
  refine pl_aload_n (pc := 2) dX0_buy_2 rfl rfl ?_
  refine pl_iload_n (pc := 3) dX0_buy_3 rfl rfl ?_
  refine pl_iload_n (pc := 4) dX0_buy_4 rfl rfl ?_
  refine pl_callC (pc := 5) (As := [_, _]) (C1 := C) (N1 := N) (C2 := 0) (N2 := 0) ckX1 mdX1_buy rfl q1694 q1695 q1696 q125 dX0_buy_5 rfl rfl (Nat.le_of_ble_eq_true rfl) ha hc (by omega) (by omega) (by omega) (fun M1 h0 hT9 => ?_) (fun k9 E9 q9 M1 hE h0 hT9 => ?_)
  · obtain ⟨x9, ho1⟩ := hT _ _ hT9
    refine pj_i2l (pc := 8) dX0_buy_8 rfl ?_
    refine pj_last (pc := 9) dX0_buy_9 ho1 (vp_in_nI (n := 0) (N := 1) (by decide) (by decide)) ?_
    refine PJ.mem (μ1 := mset M1 out (ouC g (vp_updL x9 0 r9.1.toInt64))) rfl ?_
    refine pj_goto (pc := 10) (tgt := 17) dX0_buy_10 (by decide) ?_
    refine pl_iconst (pc := 17) (v := 0) dX0_buy_17 (by rfl) ?_
    refine pj_iret (pc := 18) dX0_buy_18 rfl ?_
    exact ⟨by rw [h0], M1, hT9, Or.inl ⟨h0, x9, ho1, rfl⟩⟩
  · rcases k9 with _ | k9
    · cases hE
      refine px_catch (name := "java/lang/IndexOutOfBoundsException") [] ⟨0, 10, 13, 13⟩ [] rfl (fun z hz => by cases hz) (by decide) (by decide) q1215 q1248 ?_
      refine pj_astore (pc := 13) (lv' := [(4, _), (0, _), (1, _), (2, _), (3, _)]) dX0_buy_13 (by decide) rfl ?_
      refine pl_iconst (pc := 15) (v := 1) dX0_buy_15 (by rfl) ?_
      refine pj_iret (pc := 16) dX0_buy_16 rfl ?_
      exact ⟨by rw [h0], M1, hT9, Or.inr ⟨by rw [h0]; decide, rfl⟩⟩
    · cases hE
set_option maxHeartbeats 400000 in
theorem w0_order {g : GP} {μ : Mem} {d C N a out : Nat} {fs : List Value} {x0 : Int32} {r9 : Int32 × MS} {T : MS → Mem → Prop} (hd : 1 ≤ d) (ha : μ a = some (.inr (11, fs))) (hc : PM g yX1_order (ws_ yX1_order cX1_order 4 (some .int)) (d - 1) C N [.ref a, .int x0] μ (CQ ["java/lang/IndexOutOfBoundsException"] r9 T)) (hT : ∀ τ M, T τ M → ∃ x, M out = some (ouC g x)) : PM g yX0_order (wsW_ yX0_order cX0_order 4 (some .int) [(0, 9, 12, 13)]) d C N [.ref a, .int x0, .ref out] μ (WQ0 g out r9 T) := by
  refine PM.ofH (by decide +kernel) (Nat.le_of_ble_eq_true rfl) ?_
  refine PJ.ok (fun G => ?_)
  show PJ g _ _ _ _ d C N 0 [(0, .ref a), (1, .int x0), (2, .ref out)] [] _ _
  refine pl_aload_n (pc := 0) dX0_order_0 rfl rfl ?_
  refine pl_iconst (pc := 1) (v := 0) dX0_order_1 (by rfl) ?_
  refine pl_aload_n (pc := 2) dX0_order_2 rfl rfl ?_
  refine pl_iload_n (pc := 3) dX0_order_3 rfl rfl ?_
  refine pl_callC (pc := 4) (As := [_]) (C1 := C) (N1 := N) (C2 := 0) (N2 := 0) ckX1 mdX1_order rfl q1748 q1749 q1750 q125 dX0_order_4 rfl rfl (Nat.le_of_ble_eq_true rfl) ha hc (by omega) (by omega) (by omega) (fun M1 h0 hT9 => ?_) (fun k9 E9 q9 M1 hE h0 hT9 => ?_)
  · obtain ⟨x9, ho1⟩ := hT _ _ hT9
    refine pj_i2l (pc := 7) dX0_order_7 rfl ?_
    refine pj_last (pc := 8) dX0_order_8 ho1 (vp_in_nI (n := 0) (N := 1) (by decide) (by decide)) ?_
    refine PJ.mem (μ1 := mset M1 out (ouC g (vp_updL x9 0 r9.1.toInt64))) rfl ?_
    refine pj_goto (pc := 9) (tgt := 15) dX0_order_9 (by decide) ?_
    refine pl_iconst (pc := 15) (v := 0) dX0_order_15 (by rfl) ?_
    refine pj_iret (pc := 16) dX0_order_16 rfl ?_
    exact ⟨by rw [h0], M1, hT9, Or.inl ⟨h0, x9, ho1, rfl⟩⟩
  · rcases k9 with _ | k9
    · cases hE
      refine px_catch (name := "java/lang/IndexOutOfBoundsException") [] ⟨0, 9, 12, 13⟩ [] rfl (fun z hz => by cases hz) (by decide) (by decide) q1215 q1248 ?_
      refine pj_astore_n (pc := 12) (lv' := [(3, _), (0, _), (1, _), (2, _)]) dX0_order_12 rfl (by decide) rfl ?_
      refine pl_iconst (pc := 13) (v := 1) dX0_order_13 (by rfl) ?_
      refine pj_iret (pc := 14) dX0_order_14 rfl ?_
      exact ⟨by rw [h0], M1, hT9, Or.inr ⟨by rw [h0]; decide, rfl⟩⟩
    · cases hE
set_option maxHeartbeats 400000 in
theorem w0_choose {g : GP} {μ : Mem} {d C N a out : Nat} {fs : List Value} {x0 x1 : Int32} {r9 : Int32 × MS} {T : MS → Mem → Prop} (hd : 1 ≤ d) (ha : μ a = some (.inr (11, fs))) (hc : PM g yX1_choose (ws_ yX1_choose cX1_choose 6 (some .int)) (d - 1) C N [.ref a, .int x0, .int x1] μ (CQ ["java/lang/IndexOutOfBoundsException"] r9 T)) (hT : ∀ τ M, T τ M → ∃ x, M out = some (ouC g x)) : PM g yX0_choose (wsW_ yX0_choose cX0_choose 5 (some .int) [(0, 10, 13, 13)]) d C N [.ref a, .int x0, .int x1, .ref out] μ (WQ0 g out r9 T) := by
  refine PM.ofH (by decide +kernel) (Nat.le_of_ble_eq_true rfl) ?_
  refine PJ.ok (fun G => ?_)
  show PJ g _ _ _ _ d C N 0 [(0, .ref a), (1, .int x0), (2, .int x1), (3, .ref out)] [] _ _
  refine pl_aload_n (pc := 0) dX0_choose_0 rfl rfl ?_
  refine pl_iconst (pc := 1) (v := 0) dX0_choose_1 (by rfl) ?_
  refine pl_aload_n (pc := 2) dX0_choose_2 rfl rfl ?_
  refine pl_iload_n (pc := 3) dX0_choose_3 rfl rfl ?_
  refine pl_iload_n (pc := 4) dX0_choose_4 rfl rfl ?_
  refine pl_callC (pc := 5) (As := [_, _]) (C1 := C) (N1 := N) (C2 := 0) (N2 := 0) ckX1 mdX1_choose rfl q1774 q1775 q1776 q125 dX0_choose_5 rfl rfl (Nat.le_of_ble_eq_true rfl) ha hc (by omega) (by omega) (by omega) (fun M1 h0 hT9 => ?_) (fun k9 E9 q9 M1 hE h0 hT9 => ?_)
  · obtain ⟨x9, ho1⟩ := hT _ _ hT9
    refine pj_i2l (pc := 8) dX0_choose_8 rfl ?_
    refine pj_last (pc := 9) dX0_choose_9 ho1 (vp_in_nI (n := 0) (N := 1) (by decide) (by decide)) ?_
    refine PJ.mem (μ1 := mset M1 out (ouC g (vp_updL x9 0 r9.1.toInt64))) rfl ?_
    refine pj_goto (pc := 10) (tgt := 17) dX0_choose_10 (by decide) ?_
    refine pl_iconst (pc := 17) (v := 0) dX0_choose_17 (by rfl) ?_
    refine pj_iret (pc := 18) dX0_choose_18 rfl ?_
    exact ⟨by rw [h0], M1, hT9, Or.inl ⟨h0, x9, ho1, rfl⟩⟩
  · rcases k9 with _ | k9
    · cases hE
      refine px_catch (name := "java/lang/IndexOutOfBoundsException") [] ⟨0, 10, 13, 13⟩ [] rfl (fun z hz => by cases hz) (by decide) (by decide) q1215 q1248 ?_
      refine pj_astore (pc := 13) (lv' := [(4, _), (0, _), (1, _), (2, _), (3, _)]) dX0_choose_13 (by decide) rfl ?_
      refine pl_iconst (pc := 15) (v := 1) dX0_choose_15 (by rfl) ?_
      refine pj_iret (pc := 16) dX0_choose_16 rfl ?_
      exact ⟨by rw [h0], M1, hT9, Or.inr ⟨by rw [h0]; decide, rfl⟩⟩
    · cases hE
set_option maxHeartbeats 400000 in
theorem w0_run {g : GP} {μ : Mem} {d C N a out : Nat} {fs : List Value} {x0 x1 : Int32} {r9 : Int32 × MS} {T : MS → Mem → Prop} (hd : 1 ≤ d) (ha : μ a = some (.inr (11, fs))) (hc : PM g yX1_run (ws_ yX1_run cX1_run 7 (some .int)) (d - 1) C N [.ref a, .int x0, .int x1] μ (CQ ["java/lang/IndexOutOfBoundsException"] r9 T)) (hT : ∀ τ M, T τ M → ∃ x, M out = some (ouC g x)) : PM g yX0_run (wsW_ yX0_run cX0_run 5 (some .int) [(0, 10, 13, 13)]) d C N [.ref a, .int x0, .int x1, .ref out] μ (WQ0 g out r9 T) := by
  refine PM.ofH (by decide +kernel) (Nat.le_of_ble_eq_true rfl) ?_
  refine PJ.ok (fun G => ?_)
  show PJ g _ _ _ _ d C N 0 [(0, .ref a), (1, .int x0), (2, .int x1), (3, .ref out)] [] _ _
  refine pl_aload_n (pc := 0) dX0_run_0 rfl rfl ?_
  refine pl_iconst (pc := 1) (v := 0) dX0_run_1 (by rfl) ?_
  refine pl_aload_n (pc := 2) dX0_run_2 rfl rfl ?_
  refine pl_iload_n (pc := 3) dX0_run_3 rfl rfl ?_
  refine pl_iload_n (pc := 4) dX0_run_4 rfl rfl ?_
  refine pl_callC (pc := 5) (As := [_, _]) (C1 := C) (N1 := N) (C2 := 0) (N2 := 0) ckX1 mdX1_run rfl q1799 q1800 q1801 q125 dX0_run_5 rfl rfl (Nat.le_of_ble_eq_true rfl) ha hc (by omega) (by omega) (by omega) (fun M1 h0 hT9 => ?_) (fun k9 E9 q9 M1 hE h0 hT9 => ?_)
  · obtain ⟨x9, ho1⟩ := hT _ _ hT9
    refine pj_i2l (pc := 8) dX0_run_8 rfl ?_
    refine pj_last (pc := 9) dX0_run_9 ho1 (vp_in_nI (n := 0) (N := 1) (by decide) (by decide)) ?_
    refine PJ.mem (μ1 := mset M1 out (ouC g (vp_updL x9 0 r9.1.toInt64))) rfl ?_
    refine pj_goto (pc := 10) (tgt := 17) dX0_run_10 (by decide) ?_
    refine pl_iconst (pc := 17) (v := 0) dX0_run_17 (by rfl) ?_
    refine pj_iret (pc := 18) dX0_run_18 rfl ?_
    exact ⟨by rw [h0], M1, hT9, Or.inl ⟨h0, x9, ho1, rfl⟩⟩
  · rcases k9 with _ | k9
    · cases hE
      refine px_catch (name := "java/lang/IndexOutOfBoundsException") [] ⟨0, 10, 13, 13⟩ [] rfl (fun z hz => by cases hz) (by decide) (by decide) q1215 q1248 ?_
      refine pj_astore (pc := 13) (lv' := [(4, _), (0, _), (1, _), (2, _), (3, _)]) dX0_run_13 (by decide) rfl ?_
      refine pl_iconst (pc := 15) (v := 1) dX0_run_15 (by rfl) ?_
      refine pj_iret (pc := 16) dX0_run_16 rfl ?_
      exact ⟨by rw [h0], M1, hT9, Or.inr ⟨by rw [h0]; decide, rfl⟩⟩
    · cases hE
set_option maxHeartbeats 400000 in
theorem w0_squat {g : GP} {μ : Mem} {d C N a out : Nat} {fs : List Value} {x0 x1 : Int32} {r9 : Int32 × MS} {T : MS → Mem → Prop} (hd : 1 ≤ d) (ha : μ a = some (.inr (11, fs))) (hc : PM g yX1_squat (ws_ yX1_squat cX1_squat 5 (some .int)) (d - 1) C N [.ref a, .int x0, .int x1] μ (CQ ["java/lang/IndexOutOfBoundsException"] r9 T)) (hT : ∀ τ M, T τ M → ∃ x, M out = some (ouC g x)) : PM g yX0_squat (wsW_ yX0_squat cX0_squat 5 (some .int) [(0, 10, 13, 13)]) d C N [.ref a, .int x0, .int x1, .ref out] μ (WQ0 g out r9 T) := by
  refine PM.ofH (by decide +kernel) (Nat.le_of_ble_eq_true rfl) ?_
  refine PJ.ok (fun G => ?_)
  show PJ g _ _ _ _ d C N 0 [(0, .ref a), (1, .int x0), (2, .int x1), (3, .ref out)] [] _ _
  refine pl_aload_n (pc := 0) dX0_squat_0 rfl rfl ?_
  refine pl_iconst (pc := 1) (v := 0) dX0_squat_1 (by rfl) ?_
  refine pl_aload_n (pc := 2) dX0_squat_2 rfl rfl ?_
  refine pl_iload_n (pc := 3) dX0_squat_3 rfl rfl ?_
  refine pl_iload_n (pc := 4) dX0_squat_4 rfl rfl ?_
  refine pl_callC (pc := 5) (As := [_, _]) (C1 := C) (N1 := N) (C2 := 0) (N2 := 0) ckX1 mdX1_squat rfl q1817 q1818 q1819 q125 dX0_squat_5 rfl rfl (Nat.le_of_ble_eq_true rfl) ha hc (by omega) (by omega) (by omega) (fun M1 h0 hT9 => ?_) (fun k9 E9 q9 M1 hE h0 hT9 => ?_)
  · obtain ⟨x9, ho1⟩ := hT _ _ hT9
    refine pj_i2l (pc := 8) dX0_squat_8 rfl ?_
    refine pj_last (pc := 9) dX0_squat_9 ho1 (vp_in_nI (n := 0) (N := 1) (by decide) (by decide)) ?_
    refine PJ.mem (μ1 := mset M1 out (ouC g (vp_updL x9 0 r9.1.toInt64))) rfl ?_
    refine pj_goto (pc := 10) (tgt := 17) dX0_squat_10 (by decide) ?_
    refine pl_iconst (pc := 17) (v := 0) dX0_squat_17 (by rfl) ?_
    refine pj_iret (pc := 18) dX0_squat_18 rfl ?_
    exact ⟨by rw [h0], M1, hT9, Or.inl ⟨h0, x9, ho1, rfl⟩⟩
  · rcases k9 with _ | k9
    · cases hE
      refine px_catch (name := "java/lang/IndexOutOfBoundsException") [] ⟨0, 10, 13, 13⟩ [] rfl (fun z hz => by cases hz) (by decide) (by decide) q1215 q1248 ?_
      refine pj_astore (pc := 13) (lv' := [(4, _), (0, _), (1, _), (2, _), (3, _)]) dX0_squat_13 (by decide) rfl ?_
      refine pl_iconst (pc := 15) (v := 1) dX0_squat_15 (by rfl) ?_
      refine pj_iret (pc := 16) dX0_squat_16 rfl ?_
      exact ⟨by rw [h0], M1, hT9, Or.inr ⟨by rw [h0]; decide, rfl⟩⟩
    · cases hE
set_option maxHeartbeats 400000 in
theorem w0_stock {g : GP} {μ : Mem} {d C N a out : Nat} {fs : List Value} {x0 x1 x2 : Int32} {r9 : Int32 × MS} {T : MS → Mem → Prop} (hd : 1 ≤ d) (ha : μ a = some (.inr (11, fs))) (hc : PM g yX1_stock (ws_ yX1_stock cX1_stock 7 (some .int)) (d - 1) C N [.ref a, .int x0, .int x1, .int x2] μ (CQ ["java/lang/IndexOutOfBoundsException", "java/lang/IllegalArgumentException"] r9 T)) (hT : ∀ τ M, T τ M → ∃ x, M out = some (ouC g x)) : PM g yX0_stock (wsW_ yX0_stock cX0_stock 6 (some .int) [(0, 12, 15, 13), (0, 12, 19, 15)]) d C N [.ref a, .int x0, .int x1, .int x2, .ref out] μ (WQ0 g out r9 T) := by
  refine PM.ofH (by decide +kernel) (Nat.le_of_ble_eq_true rfl) ?_
  refine PJ.ok (fun G => ?_)
  show PJ g _ _ _ _ d C N 0 [(0, .ref a), (1, .int x0), (2, .int x1), (3, .int x2), (4, .ref out)] [] _ _
  refine pl_aload (pc := 0) dX0_stock_0 rfl ?_
  refine pl_iconst (pc := 2) (v := 0) dX0_stock_2 (by rfl) ?_
  refine pl_aload_n (pc := 3) dX0_stock_3 rfl rfl ?_
  refine pl_iload_n (pc := 4) dX0_stock_4 rfl rfl ?_
  refine pl_iload_n (pc := 5) dX0_stock_5 rfl rfl ?_
  refine pl_iload_n (pc := 6) dX0_stock_6 rfl rfl ?_
  refine pl_callC (pc := 7) (As := [_, _, _]) (C1 := C) (N1 := N) (C2 := 0) (N2 := 0) ckX1 mdX1_stock rfl q1832 q1833 q1834 q125 dX0_stock_7 rfl rfl (Nat.le_of_ble_eq_true rfl) ha hc (by omega) (by omega) (by omega) (fun M1 h0 hT9 => ?_) (fun k9 E9 q9 M1 hE h0 hT9 => ?_)
  · obtain ⟨x9, ho1⟩ := hT _ _ hT9
    refine pj_i2l (pc := 10) dX0_stock_10 rfl ?_
    refine pj_last (pc := 11) dX0_stock_11 ho1 (vp_in_nI (n := 0) (N := 1) (by decide) (by decide)) ?_
    refine PJ.mem (μ1 := mset M1 out (ouC g (vp_updL x9 0 r9.1.toInt64))) rfl ?_
    refine pj_goto (pc := 12) (tgt := 23) dX0_stock_12 (by decide) ?_
    refine pl_iconst (pc := 23) (v := 0) dX0_stock_23 (by rfl) ?_
    refine pj_iret (pc := 24) dX0_stock_24 rfl ?_
    exact ⟨by rw [h0], M1, hT9, Or.inl ⟨h0, x9, ho1, rfl⟩⟩
  · rcases k9 with _ | _ | k9
    · cases hE
      refine px_catch (name := "java/lang/IndexOutOfBoundsException") [] ⟨0, 12, 15, 13⟩ [⟨0, 12, 19, 15⟩] rfl (fun z hz => by cases hz) (by decide) (by decide) q1215 q1248 ?_
      refine pj_astore (pc := 15) (lv' := [(5, _), (0, _), (1, _), (2, _), (3, _), (4, _)]) dX0_stock_15 (by decide) rfl ?_
      refine pl_iconst (pc := 17) (v := 1) dX0_stock_17 (by rfl) ?_
      refine pj_iret (pc := 18) dX0_stock_18 rfl ?_
      exact ⟨by rw [h0], M1, hT9, Or.inr ⟨by rw [h0]; decide, rfl⟩⟩
    · cases hE
      refine px_catch (name := "java/lang/IllegalArgumentException") [⟨0, 12, 15, 13⟩] ⟨0, 12, 19, 15⟩ [] rfl (fun z hz => by cases List.mem_singleton.mp hz; exact Or.inr ⟨by decide, "java/lang/IndexOutOfBoundsException", q1215, fun G => va_Nc.of (nr_leaf G [2, 1, 1, 0, 0, 1, 0] (by decide +kernel))⟩) (by decide) (by decide) q1234 q213 ?_
      refine pj_astore (pc := 19) (lv' := [(5, _), (0, _), (1, _), (2, _), (3, _), (4, _)]) dX0_stock_19 (by decide) rfl ?_
      refine pl_iconst (pc := 21) (v := 2) dX0_stock_21 (by rfl) ?_
      refine pj_iret (pc := 22) dX0_stock_22 rfl ?_
      exact ⟨by rw [h0], M1, hT9, Or.inr ⟨by rw [h0]; decide, rfl⟩⟩
    · cases hE
set_option maxHeartbeats 400000 in
theorem w0_fence {g : GP} {μ : Mem} {d C N a out : Nat} {fs : List Value} {x0 x1 : Int32} {r9 : Int32 × MS} {T : MS → Mem → Prop} (hd : 1 ≤ d) (ha : μ a = some (.inr (11, fs))) (hc : PM g yX1_fence (ws_ yX1_fence cX1_fence 6 (some .int)) (d - 1) C N [.ref a, .int x0, .int x1] μ (CQ ["java/lang/IndexOutOfBoundsException"] r9 T)) (hT : ∀ τ M, T τ M → ∃ x, M out = some (ouC g x)) : PM g yX0_fence (wsW_ yX0_fence cX0_fence 5 (some .int) [(0, 10, 13, 13)]) d C N [.ref a, .int x0, .int x1, .ref out] μ (WQ0 g out r9 T) := by
  refine PM.ofH (by decide +kernel) (Nat.le_of_ble_eq_true rfl) ?_
  refine PJ.ok (fun G => ?_)
  show PJ g _ _ _ _ d C N 0 [(0, .ref a), (1, .int x0), (2, .int x1), (3, .ref out)] [] _ _
  refine pl_aload_n (pc := 0) dX0_fence_0 rfl rfl ?_
  refine pl_iconst (pc := 1) (v := 0) dX0_fence_1 (by rfl) ?_
  refine pl_aload_n (pc := 2) dX0_fence_2 rfl rfl ?_
  refine pl_iload_n (pc := 3) dX0_fence_3 rfl rfl ?_
  refine pl_iload_n (pc := 4) dX0_fence_4 rfl rfl ?_
  refine pl_callC (pc := 5) (As := [_, _]) (C1 := C) (N1 := N) (C2 := 0) (N2 := 0) ckX1 mdX1_fence rfl q1842 q1843 q1844 q125 dX0_fence_5 rfl rfl (Nat.le_of_ble_eq_true rfl) ha hc (by omega) (by omega) (by omega) (fun M1 h0 hT9 => ?_) (fun k9 E9 q9 M1 hE h0 hT9 => ?_)
  · obtain ⟨x9, ho1⟩ := hT _ _ hT9
    refine pj_i2l (pc := 8) dX0_fence_8 rfl ?_
    refine pj_last (pc := 9) dX0_fence_9 ho1 (vp_in_nI (n := 0) (N := 1) (by decide) (by decide)) ?_
    refine PJ.mem (μ1 := mset M1 out (ouC g (vp_updL x9 0 r9.1.toInt64))) rfl ?_
    refine pj_goto (pc := 10) (tgt := 17) dX0_fence_10 (by decide) ?_
    refine pl_iconst (pc := 17) (v := 0) dX0_fence_17 (by rfl) ?_
    refine pj_iret (pc := 18) dX0_fence_18 rfl ?_
    exact ⟨by rw [h0], M1, hT9, Or.inl ⟨h0, x9, ho1, rfl⟩⟩
  · rcases k9 with _ | k9
    · cases hE
      refine px_catch (name := "java/lang/IndexOutOfBoundsException") [] ⟨0, 10, 13, 13⟩ [] rfl (fun z hz => by cases hz) (by decide) (by decide) q1215 q1248 ?_
      refine pj_astore (pc := 13) (lv' := [(4, _), (0, _), (1, _), (2, _), (3, _)]) dX0_fence_13 (by decide) rfl ?_
      refine pl_iconst (pc := 15) (v := 1) dX0_fence_15 (by rfl) ?_
      refine pj_iret (pc := 16) dX0_fence_16 rfl ?_
      exact ⟨by rw [h0], M1, hT9, Or.inr ⟨by rw [h0]; decide, rfl⟩⟩
    · cases hE
set_option maxHeartbeats 400000 in
theorem w0_law {g : GP} {μ : Mem} {d C N a out : Nat} {fs : List Value} {x0 : Int32} {r9 : Int32 × MS} {T : MS → Mem → Prop} (hd : 1 ≤ d) (ha : μ a = some (.inr (11, fs))) (hc : PM g yX1_law (wsW_ yX1_law cX1_law 5 (some .int) [(20, 42, 102, 365), (49, 95, 102, 365), (20, 42, 126, 0), (49, 95, 126, 0), (102, 119, 126, 0), (126, 128, 126, 0)]) (d - 1) C N [.ref a, .int x0] μ (CQ ["java/lang/IllegalArgumentException"] r9 T)) (hT : ∀ τ M, T τ M → ∃ x, M out = some (ouC g x)) : PM g yX0_law (wsW_ yX0_law cX0_law 4 (some .int) [(0, 9, 12, 15)]) d C N [.ref a, .int x0, .ref out] μ (WQ0 g out r9 T) := by
  refine PM.ofH (by decide +kernel) (Nat.le_of_ble_eq_true rfl) ?_
  refine PJ.ok (fun G => ?_)
  show PJ g _ _ _ _ d C N 0 [(0, .ref a), (1, .int x0), (2, .ref out)] [] _ _
  refine pl_aload_n (pc := 0) dX0_law_0 rfl rfl ?_
  refine pl_iconst (pc := 1) (v := 0) dX0_law_1 (by rfl) ?_
  refine pl_aload_n (pc := 2) dX0_law_2 rfl rfl ?_
  refine pl_iload_n (pc := 3) dX0_law_3 rfl rfl ?_
  refine pl_callHC (pc := 4) (As := [_]) (C1 := C) (N1 := N) (C2 := 0) (N2 := 0) ckX1 mdX1_law rfl q1849 q1850 q1851 q125 dX0_law_4 rfl rfl (Nat.le_of_ble_eq_true rfl) ha hc (by omega) (by omega) (by omega) (fun M1 h0 hT9 => ?_) (fun k9 E9 q9 M1 hE h0 hT9 => ?_)
  · obtain ⟨x9, ho1⟩ := hT _ _ hT9
    refine pj_i2l (pc := 7) dX0_law_7 rfl ?_
    refine pj_last (pc := 8) dX0_law_8 ho1 (vp_in_nI (n := 0) (N := 1) (by decide) (by decide)) ?_
    refine PJ.mem (μ1 := mset M1 out (ouC g (vp_updL x9 0 r9.1.toInt64))) rfl ?_
    refine pj_goto (pc := 9) (tgt := 15) dX0_law_9 (by decide) ?_
    refine pl_iconst (pc := 15) (v := 0) dX0_law_15 (by rfl) ?_
    refine pj_iret (pc := 16) dX0_law_16 rfl ?_
    exact ⟨by rw [h0], M1, hT9, Or.inl ⟨h0, x9, ho1, rfl⟩⟩
  · rcases k9 with _ | k9
    · cases hE
      refine px_catch (name := "java/lang/IllegalArgumentException") [] ⟨0, 9, 12, 15⟩ [] rfl (fun z hz => by cases hz) (by decide) (by decide) q1234 q213 ?_
      refine pj_astore_n (pc := 12) (lv' := [(3, _), (0, _), (1, _), (2, _)]) dX0_law_12 rfl (by decide) rfl ?_
      refine pl_iconst (pc := 13) (v := 1) dX0_law_13 (by rfl) ?_
      refine pj_iret (pc := 14) dX0_law_14 rfl ?_
      exact ⟨by rw [h0], M1, hT9, Or.inr ⟨by rw [h0]; decide, rfl⟩⟩
    · cases hE
set_option maxHeartbeats 400000 in
theorem w0_vote {g : GP} {μ : Mem} {d C N a out : Nat} {fs : List Value} {x0 x1 x2 : Int32} {r9 : Int32 × MS} {T : MS → Mem → Prop} (hd : 1 ≤ d) (ha : μ a = some (.inr (11, fs))) (hc : PM g yX1_vote (ws_ yX1_vote cX1_vote 6 (some .int)) (d - 1) C N [.ref a, .int x0, .int x1, .int x2] μ (CQ ["java/lang/IndexOutOfBoundsException"] r9 T)) (hT : ∀ τ M, T τ M → ∃ x, M out = some (ouC g x)) : PM g yX0_vote (wsW_ yX0_vote cX0_vote 6 (some .int) [(0, 12, 15, 13)]) d C N [.ref a, .int x0, .int x1, .int x2, .ref out] μ (WQ0 g out r9 T) := by
  refine PM.ofH (by decide +kernel) (Nat.le_of_ble_eq_true rfl) ?_
  refine PJ.ok (fun G => ?_)
  show PJ g _ _ _ _ d C N 0 [(0, .ref a), (1, .int x0), (2, .int x1), (3, .int x2), (4, .ref out)] [] _ _
  refine pl_aload (pc := 0) dX0_vote_0 rfl ?_
  refine pl_iconst (pc := 2) (v := 0) dX0_vote_2 (by rfl) ?_
  refine pl_aload_n (pc := 3) dX0_vote_3 rfl rfl ?_
  refine pl_iload_n (pc := 4) dX0_vote_4 rfl rfl ?_
  refine pl_iload_n (pc := 5) dX0_vote_5 rfl rfl ?_
  refine pl_iload_n (pc := 6) dX0_vote_6 rfl rfl ?_
  refine pl_callC (pc := 7) (As := [_, _, _]) (C1 := C) (N1 := N) (C2 := 0) (N2 := 0) ckX1 mdX1_vote rfl q2244 q2245 q2246 q125 dX0_vote_7 rfl rfl (Nat.le_of_ble_eq_true rfl) ha hc (by omega) (by omega) (by omega) (fun M1 h0 hT9 => ?_) (fun k9 E9 q9 M1 hE h0 hT9 => ?_)
  · obtain ⟨x9, ho1⟩ := hT _ _ hT9
    refine pj_i2l (pc := 10) dX0_vote_10 rfl ?_
    refine pj_last (pc := 11) dX0_vote_11 ho1 (vp_in_nI (n := 0) (N := 1) (by decide) (by decide)) ?_
    refine PJ.mem (μ1 := mset M1 out (ouC g (vp_updL x9 0 r9.1.toInt64))) rfl ?_
    refine pj_goto (pc := 12) (tgt := 19) dX0_vote_12 (by decide) ?_
    refine pl_iconst (pc := 19) (v := 0) dX0_vote_19 (by rfl) ?_
    refine pj_iret (pc := 20) dX0_vote_20 rfl ?_
    exact ⟨by rw [h0], M1, hT9, Or.inl ⟨h0, x9, ho1, rfl⟩⟩
  · rcases k9 with _ | k9
    · cases hE
      refine px_catch (name := "java/lang/IndexOutOfBoundsException") [] ⟨0, 12, 15, 13⟩ [] rfl (fun z hz => by cases hz) (by decide) (by decide) q1215 q1248 ?_
      refine pj_astore (pc := 15) (lv' := [(5, _), (0, _), (1, _), (2, _), (3, _), (4, _)]) dX0_vote_15 (by decide) rfl ?_
      refine pl_iconst (pc := 17) (v := 1) dX0_vote_17 (by rfl) ?_
      refine pj_iret (pc := 18) dX0_vote_18 rfl ?_
      exact ⟨by rw [h0], M1, hT9, Or.inr ⟨by rw [h0]; decide, rfl⟩⟩
    · cases hE
set_option maxHeartbeats 400000 in
theorem w0_close {g : GP} {μ : Mem} {d C N a out : Nat} {fs : List Value} {x0 : Int32} {r9 : Int32 × MS} {T : MS → Mem → Prop} (hd : 1 ≤ d) (ha : μ a = some (.inr (11, fs))) (hc : PM g yX1_close (ws_ yX1_close cX1_close 4 (some .int)) (d - 1) C N [.ref a, .int x0] μ (CQ ["java/lang/IndexOutOfBoundsException"] r9 T)) (hT : ∀ τ M, T τ M → ∃ x, M out = some (ouC g x)) : PM g yX0_close (wsW_ yX0_close cX0_close 4 (some .int) [(0, 9, 12, 13)]) d C N [.ref a, .int x0, .ref out] μ (WQ0 g out r9 T) := by
  refine PM.ofH (by decide +kernel) (Nat.le_of_ble_eq_true rfl) ?_
  refine PJ.ok (fun G => ?_)
  show PJ g _ _ _ _ d C N 0 [(0, .ref a), (1, .int x0), (2, .ref out)] [] _ _
  refine pl_aload_n (pc := 0) dX0_close_0 rfl rfl ?_
  refine pl_iconst (pc := 1) (v := 0) dX0_close_1 (by rfl) ?_
  refine pl_aload_n (pc := 2) dX0_close_2 rfl rfl ?_
  refine pl_iload_n (pc := 3) dX0_close_3 rfl rfl ?_
  refine pl_callC (pc := 4) (As := [_]) (C1 := C) (N1 := N) (C2 := 0) (N2 := 0) ckX1 mdX1_close rfl q2255 q2256 q2257 q125 dX0_close_4 rfl rfl (Nat.le_of_ble_eq_true rfl) ha hc (by omega) (by omega) (by omega) (fun M1 h0 hT9 => ?_) (fun k9 E9 q9 M1 hE h0 hT9 => ?_)
  · obtain ⟨x9, ho1⟩ := hT _ _ hT9
    refine pj_i2l (pc := 7) dX0_close_7 rfl ?_
    refine pj_last (pc := 8) dX0_close_8 ho1 (vp_in_nI (n := 0) (N := 1) (by decide) (by decide)) ?_
    refine PJ.mem (μ1 := mset M1 out (ouC g (vp_updL x9 0 r9.1.toInt64))) rfl ?_
    refine pj_goto (pc := 9) (tgt := 15) dX0_close_9 (by decide) ?_
    refine pl_iconst (pc := 15) (v := 0) dX0_close_15 (by rfl) ?_
    refine pj_iret (pc := 16) dX0_close_16 rfl ?_
    exact ⟨by rw [h0], M1, hT9, Or.inl ⟨h0, x9, ho1, rfl⟩⟩
  · rcases k9 with _ | k9
    · cases hE
      refine px_catch (name := "java/lang/IndexOutOfBoundsException") [] ⟨0, 9, 12, 13⟩ [] rfl (fun z hz => by cases hz) (by decide) (by decide) q1215 q1248 ?_
      refine pj_astore_n (pc := 12) (lv' := [(3, _), (0, _), (1, _), (2, _)]) dX0_close_12 rfl (by decide) rfl ?_
      refine pl_iconst (pc := 13) (v := 1) dX0_close_13 (by rfl) ?_
      refine pj_iret (pc := 14) dX0_close_14 rfl ?_
      exact ⟨by rw [h0], M1, hT9, Or.inr ⟨by rw [h0]; decide, rfl⟩⟩
    · cases hE
set_option maxHeartbeats 400000 in
theorem w0_assent {g : GP} {μ : Mem} {d C N a out : Nat} {fs : List Value} {x0 x1 : Int32} {r9 : Int32 × MS} {T : MS → Mem → Prop} (hd : 1 ≤ d) (ha : μ a = some (.inr (11, fs))) (hc : PM g yX1_assent (ws_ yX1_assent cX1_assent 4 (some .int)) (d - 1) C N [.ref a, .int x0, .int x1] μ (CQ ["java/lang/IndexOutOfBoundsException"] r9 T)) (hT : ∀ τ M, T τ M → ∃ x, M out = some (ouC g x)) : PM g yX0_assent (wsW_ yX0_assent cX0_assent 5 (some .int) [(0, 10, 13, 13)]) d C N [.ref a, .int x0, .int x1, .ref out] μ (WQ0 g out r9 T) := by
  refine PM.ofH (by decide +kernel) (Nat.le_of_ble_eq_true rfl) ?_
  refine PJ.ok (fun G => ?_)
  show PJ g _ _ _ _ d C N 0 [(0, .ref a), (1, .int x0), (2, .int x1), (3, .ref out)] [] _ _
  refine pl_aload_n (pc := 0) dX0_assent_0 rfl rfl ?_
  refine pl_iconst (pc := 1) (v := 0) dX0_assent_1 (by rfl) ?_
  refine pl_aload_n (pc := 2) dX0_assent_2 rfl rfl ?_
  refine pl_iload_n (pc := 3) dX0_assent_3 rfl rfl ?_
  refine pl_iload_n (pc := 4) dX0_assent_4 rfl rfl ?_
  refine pl_callC (pc := 5) (As := [_, _]) (C1 := C) (N1 := N) (C2 := 0) (N2 := 0) ckX1 mdX1_assent rfl q2262 q2263 q2264 q125 dX0_assent_5 rfl rfl (Nat.le_of_ble_eq_true rfl) ha hc (by omega) (by omega) (by omega) (fun M1 h0 hT9 => ?_) (fun k9 E9 q9 M1 hE h0 hT9 => ?_)
  · obtain ⟨x9, ho1⟩ := hT _ _ hT9
    refine pj_i2l (pc := 8) dX0_assent_8 rfl ?_
    refine pj_last (pc := 9) dX0_assent_9 ho1 (vp_in_nI (n := 0) (N := 1) (by decide) (by decide)) ?_
    refine PJ.mem (μ1 := mset M1 out (ouC g (vp_updL x9 0 r9.1.toInt64))) rfl ?_
    refine pj_goto (pc := 10) (tgt := 17) dX0_assent_10 (by decide) ?_
    refine pl_iconst (pc := 17) (v := 0) dX0_assent_17 (by rfl) ?_
    refine pj_iret (pc := 18) dX0_assent_18 rfl ?_
    exact ⟨by rw [h0], M1, hT9, Or.inl ⟨h0, x9, ho1, rfl⟩⟩
  · rcases k9 with _ | k9
    · cases hE
      refine px_catch (name := "java/lang/IndexOutOfBoundsException") [] ⟨0, 10, 13, 13⟩ [] rfl (fun z hz => by cases hz) (by decide) (by decide) q1215 q1248 ?_
      refine pj_astore (pc := 13) (lv' := [(4, _), (0, _), (1, _), (2, _), (3, _)]) dX0_assent_13 (by decide) rfl ?_
      refine pl_iconst (pc := 15) (v := 1) dX0_assent_15 (by rfl) ?_
      refine pj_iret (pc := 16) dX0_assent_16 rfl ?_
      exact ⟨by rw [h0], M1, hT9, Or.inr ⟨by rw [h0]; decide, rfl⟩⟩
    · cases hE
set_option maxHeartbeats 400000 in
theorem w0_force {g : GP} {μ : Mem} {d C N a out : Nat} {fs : List Value} {x0 : Int32} {r9 : Int32 × MS} {T : MS → Mem → Prop} (hd : 1 ≤ d) (ha : μ a = some (.inr (11, fs))) (hc : PM g yX1_force (ws_ yX1_force cX1_force 2 (some .int)) (d - 1) C N [.ref a, .int x0] μ (CQ ["java/lang/IndexOutOfBoundsException"] r9 T)) (hT : ∀ τ M, T τ M → ∃ x, M out = some (ouC g x)) : PM g yX0_force (wsW_ yX0_force cX0_force 4 (some .int) [(0, 9, 12, 13)]) d C N [.ref a, .int x0, .ref out] μ (WQ0 g out r9 T) := by
  refine PM.ofH (by decide +kernel) (Nat.le_of_ble_eq_true rfl) ?_
  refine PJ.ok (fun G => ?_)
  show PJ g _ _ _ _ d C N 0 [(0, .ref a), (1, .int x0), (2, .ref out)] [] _ _
  refine pl_aload_n (pc := 0) dX0_force_0 rfl rfl ?_
  refine pl_iconst (pc := 1) (v := 0) dX0_force_1 (by rfl) ?_
  refine pl_aload_n (pc := 2) dX0_force_2 rfl rfl ?_
  refine pl_iload_n (pc := 3) dX0_force_3 rfl rfl ?_
  refine pl_callC (pc := 4) (As := [_]) (C1 := C) (N1 := N) (C2 := 0) (N2 := 0) ckX1 mdX1_force rfl q2269 q2270 q2271 q125 dX0_force_4 rfl rfl (Nat.le_of_ble_eq_true rfl) ha hc (by omega) (by omega) (by omega) (fun M1 h0 hT9 => ?_) (fun k9 E9 q9 M1 hE h0 hT9 => ?_)
  · obtain ⟨x9, ho1⟩ := hT _ _ hT9
    refine pj_i2l (pc := 7) dX0_force_7 rfl ?_
    refine pj_last (pc := 8) dX0_force_8 ho1 (vp_in_nI (n := 0) (N := 1) (by decide) (by decide)) ?_
    refine PJ.mem (μ1 := mset M1 out (ouC g (vp_updL x9 0 r9.1.toInt64))) rfl ?_
    refine pj_goto (pc := 9) (tgt := 15) dX0_force_9 (by decide) ?_
    refine pl_iconst (pc := 15) (v := 0) dX0_force_15 (by rfl) ?_
    refine pj_iret (pc := 16) dX0_force_16 rfl ?_
    exact ⟨by rw [h0], M1, hT9, Or.inl ⟨h0, x9, ho1, rfl⟩⟩
  · rcases k9 with _ | k9
    · cases hE
      refine px_catch (name := "java/lang/IndexOutOfBoundsException") [] ⟨0, 9, 12, 13⟩ [] rfl (fun z hz => by cases hz) (by decide) (by decide) q1215 q1248 ?_
      refine pj_astore_n (pc := 12) (lv' := [(3, _), (0, _), (1, _), (2, _)]) dX0_force_12 rfl (by decide) rfl ?_
      refine pl_iconst (pc := 13) (v := 1) dX0_force_13 (by rfl) ?_
      refine pj_iret (pc := 14) dX0_force_14 rfl ?_
      exact ⟨by rw [h0], M1, hT9, Or.inr ⟨by rw [h0]; decide, rfl⟩⟩
    · cases hE
set_option maxHeartbeats 400000 in
theorem w0_means {g : GP} {μ : Mem} {d C N a out : Nat} {fs : List Value} {x0 x1 : Int32} {r9 : Int32 × MS} {T : MS → Mem → Prop} (hd : 1 ≤ d) (ha : μ a = some (.inr (11, fs))) (hc : PM g yX1_means (ws_ yX1_means cX1_means 3 (some .int)) (d - 1) C N [.ref a, .int x0, .int x1] μ (CQ ["java/lang/IndexOutOfBoundsException", "java/lang/IllegalArgumentException"] r9 T)) (hT : ∀ τ M, T τ M → ∃ x, M out = some (ouC g x)) : PM g yX0_means (wsW_ yX0_means cX0_means 5 (some .int) [(0, 10, 13, 13), (0, 10, 17, 15)]) d C N [.ref a, .int x0, .int x1, .ref out] μ (WQ0 g out r9 T) := by
  refine PM.ofH (by decide +kernel) (Nat.le_of_ble_eq_true rfl) ?_
  refine PJ.ok (fun G => ?_)
  show PJ g _ _ _ _ d C N 0 [(0, .ref a), (1, .int x0), (2, .int x1), (3, .ref out)] [] _ _
  refine pl_aload_n (pc := 0) dX0_means_0 rfl rfl ?_
  refine pl_iconst (pc := 1) (v := 0) dX0_means_1 (by rfl) ?_
  refine pl_aload_n (pc := 2) dX0_means_2 rfl rfl ?_
  refine pl_iload_n (pc := 3) dX0_means_3 rfl rfl ?_
  refine pl_iload_n (pc := 4) dX0_means_4 rfl rfl ?_
  refine pl_callC (pc := 5) (As := [_, _]) (C1 := C) (N1 := N) (C2 := 0) (N2 := 0) ckX1 mdX1_means rfl q2276 q2277 q2278 q125 dX0_means_5 rfl rfl (Nat.le_of_ble_eq_true rfl) ha hc (by omega) (by omega) (by omega) (fun M1 h0 hT9 => ?_) (fun k9 E9 q9 M1 hE h0 hT9 => ?_)
  · obtain ⟨x9, ho1⟩ := hT _ _ hT9
    refine pj_i2l (pc := 8) dX0_means_8 rfl ?_
    refine pj_last (pc := 9) dX0_means_9 ho1 (vp_in_nI (n := 0) (N := 1) (by decide) (by decide)) ?_
    refine PJ.mem (μ1 := mset M1 out (ouC g (vp_updL x9 0 r9.1.toInt64))) rfl ?_
    refine pj_goto (pc := 10) (tgt := 21) dX0_means_10 (by decide) ?_
    refine pl_iconst (pc := 21) (v := 0) dX0_means_21 (by rfl) ?_
    refine pj_iret (pc := 22) dX0_means_22 rfl ?_
    exact ⟨by rw [h0], M1, hT9, Or.inl ⟨h0, x9, ho1, rfl⟩⟩
  · rcases k9 with _ | _ | k9
    · cases hE
      refine px_catch (name := "java/lang/IndexOutOfBoundsException") [] ⟨0, 10, 13, 13⟩ [⟨0, 10, 17, 15⟩] rfl (fun z hz => by cases hz) (by decide) (by decide) q1215 q1248 ?_
      refine pj_astore (pc := 13) (lv' := [(4, _), (0, _), (1, _), (2, _), (3, _)]) dX0_means_13 (by decide) rfl ?_
      refine pl_iconst (pc := 15) (v := 1) dX0_means_15 (by rfl) ?_
      refine pj_iret (pc := 16) dX0_means_16 rfl ?_
      exact ⟨by rw [h0], M1, hT9, Or.inr ⟨by rw [h0]; decide, rfl⟩⟩
    · cases hE
      refine px_catch (name := "java/lang/IllegalArgumentException") [⟨0, 10, 13, 13⟩] ⟨0, 10, 17, 15⟩ [] rfl (fun z hz => by cases List.mem_singleton.mp hz; exact Or.inr ⟨by decide, "java/lang/IndexOutOfBoundsException", q1215, fun G => va_Nc.of (nr_leaf G [2, 1, 1, 0, 0, 1, 0] (by decide +kernel))⟩) (by decide) (by decide) q1234 q213 ?_
      refine pj_astore (pc := 17) (lv' := [(4, _), (0, _), (1, _), (2, _), (3, _)]) dX0_means_17 (by decide) rfl ?_
      refine pl_iconst (pc := 19) (v := 2) dX0_means_19 (by rfl) ?_
      refine pj_iret (pc := 20) dX0_means_20 rfl ?_
      exact ⟨by rw [h0], M1, hT9, Or.inr ⟨by rw [h0]; decide, rfl⟩⟩
    · cases hE
set_option maxHeartbeats 400000 in
theorem w0_why {g : GP} {μ : Mem} {d C N a out : Nat} {fs : List Value} {x0 : Int32} {r9 : Int32 × MS} {T : MS → Mem → Prop} (hd : 1 ≤ d) (ha : μ a = some (.inr (11, fs))) (hc : PM g yX1_why (ws_ yX1_why cX1_why 2 (some .int)) (d - 1) C N [.ref a, .int x0] μ (CQ ["java/lang/IllegalArgumentException"] r9 T)) (hT : ∀ τ M, T τ M → ∃ x, M out = some (ouC g x)) : PM g yX0_why (wsW_ yX0_why cX0_why 4 (some .int) [(0, 9, 12, 15)]) d C N [.ref a, .int x0, .ref out] μ (WQ0 g out r9 T) := by
  refine PM.ofH (by decide +kernel) (Nat.le_of_ble_eq_true rfl) ?_
  refine PJ.ok (fun G => ?_)
  show PJ g _ _ _ _ d C N 0 [(0, .ref a), (1, .int x0), (2, .ref out)] [] _ _
  refine pl_aload_n (pc := 0) dX0_why_0 rfl rfl ?_
  refine pl_iconst (pc := 1) (v := 0) dX0_why_1 (by rfl) ?_
  refine pl_aload_n (pc := 2) dX0_why_2 rfl rfl ?_
  refine pl_iload_n (pc := 3) dX0_why_3 rfl rfl ?_
  refine pl_callC (pc := 4) (As := [_]) (C1 := C) (N1 := N) (C2 := 0) (N2 := 0) ckX1 mdX1_why rfl q2283 q2284 q2285 q125 dX0_why_4 rfl rfl (Nat.le_of_ble_eq_true rfl) ha hc (by omega) (by omega) (by omega) (fun M1 h0 hT9 => ?_) (fun k9 E9 q9 M1 hE h0 hT9 => ?_)
  · obtain ⟨x9, ho1⟩ := hT _ _ hT9
    refine pj_i2l (pc := 7) dX0_why_7 rfl ?_
    refine pj_last (pc := 8) dX0_why_8 ho1 (vp_in_nI (n := 0) (N := 1) (by decide) (by decide)) ?_
    refine PJ.mem (μ1 := mset M1 out (ouC g (vp_updL x9 0 r9.1.toInt64))) rfl ?_
    refine pj_goto (pc := 9) (tgt := 15) dX0_why_9 (by decide) ?_
    refine pl_iconst (pc := 15) (v := 0) dX0_why_15 (by rfl) ?_
    refine pj_iret (pc := 16) dX0_why_16 rfl ?_
    exact ⟨by rw [h0], M1, hT9, Or.inl ⟨h0, x9, ho1, rfl⟩⟩
  · rcases k9 with _ | k9
    · cases hE
      refine px_catch (name := "java/lang/IllegalArgumentException") [] ⟨0, 9, 12, 15⟩ [] rfl (fun z hz => by cases hz) (by decide) (by decide) q1234 q213 ?_
      refine pj_astore_n (pc := 12) (lv' := [(3, _), (0, _), (1, _), (2, _)]) dX0_why_12 rfl (by decide) rfl ?_
      refine pl_iconst (pc := 13) (v := 1) dX0_why_13 (by rfl) ?_
      refine pj_iret (pc := 14) dX0_why_14 rfl ?_
      exact ⟨by rw [h0], M1, hT9, Or.inr ⟨by rw [h0]; decide, rfl⟩⟩
    · cases hE
set_option maxHeartbeats 400000 in
theorem w0_fund {g : GP} {μ : Mem} {d C N a out : Nat} {fs : List Value} {x0 : Int32} {r9 : Int32 × MS} {T : MS → Mem → Prop} (hd : 1 ≤ d) (ha : μ a = some (.inr (11, fs))) (hc : PM g yX1_fund (ws_ yX1_fund cX1_fund 2 (some .int)) (d - 1) C N [.ref a, .int x0] μ (CQ ["java/lang/IllegalArgumentException"] r9 T)) (hT : ∀ τ M, T τ M → ∃ x, M out = some (ouC g x)) : PM g yX0_fund (wsW_ yX0_fund cX0_fund 4 (some .int) [(0, 9, 12, 15)]) d C N [.ref a, .int x0, .ref out] μ (WQ0 g out r9 T) := by
  refine PM.ofH (by decide +kernel) (Nat.le_of_ble_eq_true rfl) ?_
  refine PJ.ok (fun G => ?_)
  show PJ g _ _ _ _ d C N 0 [(0, .ref a), (1, .int x0), (2, .ref out)] [] _ _
  refine pl_aload_n (pc := 0) dX0_fund_0 rfl rfl ?_
  refine pl_iconst (pc := 1) (v := 0) dX0_fund_1 (by rfl) ?_
  refine pl_aload_n (pc := 2) dX0_fund_2 rfl rfl ?_
  refine pl_iload_n (pc := 3) dX0_fund_3 rfl rfl ?_
  refine pl_callC (pc := 4) (As := [_]) (C1 := C) (N1 := N) (C2 := 0) (N2 := 0) ckX1 mdX1_fund rfl q2291 q2292 q2293 q125 dX0_fund_4 rfl rfl (Nat.le_of_ble_eq_true rfl) ha hc (by omega) (by omega) (by omega) (fun M1 h0 hT9 => ?_) (fun k9 E9 q9 M1 hE h0 hT9 => ?_)
  · obtain ⟨x9, ho1⟩ := hT _ _ hT9
    refine pj_i2l (pc := 7) dX0_fund_7 rfl ?_
    refine pj_last (pc := 8) dX0_fund_8 ho1 (vp_in_nI (n := 0) (N := 1) (by decide) (by decide)) ?_
    refine PJ.mem (μ1 := mset M1 out (ouC g (vp_updL x9 0 r9.1.toInt64))) rfl ?_
    refine pj_goto (pc := 9) (tgt := 15) dX0_fund_9 (by decide) ?_
    refine pl_iconst (pc := 15) (v := 0) dX0_fund_15 (by rfl) ?_
    refine pj_iret (pc := 16) dX0_fund_16 rfl ?_
    exact ⟨by rw [h0], M1, hT9, Or.inl ⟨h0, x9, ho1, rfl⟩⟩
  · rcases k9 with _ | k9
    · cases hE
      refine px_catch (name := "java/lang/IllegalArgumentException") [] ⟨0, 9, 12, 15⟩ [] rfl (fun z hz => by cases hz) (by decide) (by decide) q1234 q213 ?_
      refine pj_astore_n (pc := 12) (lv' := [(3, _), (0, _), (1, _), (2, _)]) dX0_fund_12 rfl (by decide) rfl ?_
      refine pl_iconst (pc := 13) (v := 1) dX0_fund_13 (by rfl) ?_
      refine pj_iret (pc := 14) dX0_fund_14 rfl ?_
      exact ⟨by rw [h0], M1, hT9, Or.inr ⟨by rw [h0]; decide, rfl⟩⟩
    · cases hE
set_option maxHeartbeats 400000 in
theorem w0_bill {g : GP} {μ : Mem} {d C N a out : Nat} {fs : List Value} {x0 : Int32} {r9 : Int32 × MS} {T : MS → Mem → Prop} (hd : 1 ≤ d) (ha : μ a = some (.inr (11, fs))) (hc : PM g yX1_bill (ws_ yX1_bill cX1_bill 2 (some .int)) (d - 1) C N [.ref a, .int x0] μ (CQ ["java/lang/IllegalArgumentException"] r9 T)) (hT : ∀ τ M, T τ M → ∃ x, M out = some (ouC g x)) : PM g yX0_bill (wsW_ yX0_bill cX0_bill 4 (some .int) [(0, 9, 12, 15)]) d C N [.ref a, .int x0, .ref out] μ (WQ0 g out r9 T) := by
  refine PM.ofH (by decide +kernel) (Nat.le_of_ble_eq_true rfl) ?_
  refine PJ.ok (fun G => ?_)
  show PJ g _ _ _ _ d C N 0 [(0, .ref a), (1, .int x0), (2, .ref out)] [] _ _
  refine pl_aload_n (pc := 0) dX0_bill_0 rfl rfl ?_
  refine pl_iconst (pc := 1) (v := 0) dX0_bill_1 (by rfl) ?_
  refine pl_aload_n (pc := 2) dX0_bill_2 rfl rfl ?_
  refine pl_iload_n (pc := 3) dX0_bill_3 rfl rfl ?_
  refine pl_callC (pc := 4) (As := [_]) (C1 := C) (N1 := N) (C2 := 0) (N2 := 0) ckX1 mdX1_bill rfl q2299 q2300 q2301 q125 dX0_bill_4 rfl rfl (Nat.le_of_ble_eq_true rfl) ha hc (by omega) (by omega) (by omega) (fun M1 h0 hT9 => ?_) (fun k9 E9 q9 M1 hE h0 hT9 => ?_)
  · obtain ⟨x9, ho1⟩ := hT _ _ hT9
    refine pj_i2l (pc := 7) dX0_bill_7 rfl ?_
    refine pj_last (pc := 8) dX0_bill_8 ho1 (vp_in_nI (n := 0) (N := 1) (by decide) (by decide)) ?_
    refine PJ.mem (μ1 := mset M1 out (ouC g (vp_updL x9 0 r9.1.toInt64))) rfl ?_
    refine pj_goto (pc := 9) (tgt := 15) dX0_bill_9 (by decide) ?_
    refine pl_iconst (pc := 15) (v := 0) dX0_bill_15 (by rfl) ?_
    refine pj_iret (pc := 16) dX0_bill_16 rfl ?_
    exact ⟨by rw [h0], M1, hT9, Or.inl ⟨h0, x9, ho1, rfl⟩⟩
  · rcases k9 with _ | k9
    · cases hE
      refine px_catch (name := "java/lang/IllegalArgumentException") [] ⟨0, 9, 12, 15⟩ [] rfl (fun z hz => by cases hz) (by decide) (by decide) q1234 q213 ?_
      refine pj_astore_n (pc := 12) (lv' := [(3, _), (0, _), (1, _), (2, _)]) dX0_bill_12 rfl (by decide) rfl ?_
      refine pl_iconst (pc := 13) (v := 1) dX0_bill_13 (by rfl) ?_
      refine pj_iret (pc := 14) dX0_bill_14 rfl ?_
      exact ⟨by rw [h0], M1, hT9, Or.inr ⟨by rw [h0]; decide, rfl⟩⟩
    · cases hE
set_option maxHeartbeats 400000 in
theorem w0_pass {g : GP} {μ : Mem} {d C N a out : Nat} {fs : List Value} {x0 : Int32} {r9 : Int32 × MS} {T : MS → Mem → Prop} (hd : 1 ≤ d) (ha : μ a = some (.inr (11, fs))) (hc : PM g yX1_pass (ws_ yX1_pass cX1_pass 3 (some .int)) (d - 1) C N [.ref a, .int x0] μ (CQ ["java/lang/IndexOutOfBoundsException"] r9 T)) (hT : ∀ τ M, T τ M → ∃ x, M out = some (ouC g x)) : PM g yX0_pass (wsW_ yX0_pass cX0_pass 4 (some .int) [(0, 9, 12, 13)]) d C N [.ref a, .int x0, .ref out] μ (WQ0 g out r9 T) := by
  refine PM.ofH (by decide +kernel) (Nat.le_of_ble_eq_true rfl) ?_
  refine PJ.ok (fun G => ?_)
  show PJ g _ _ _ _ d C N 0 [(0, .ref a), (1, .int x0), (2, .ref out)] [] _ _
  refine pl_aload_n (pc := 0) dX0_pass_0 rfl rfl ?_
  refine pl_iconst (pc := 1) (v := 0) dX0_pass_1 (by rfl) ?_
  refine pl_aload_n (pc := 2) dX0_pass_2 rfl rfl ?_
  refine pl_iload_n (pc := 3) dX0_pass_3 rfl rfl ?_
  refine pl_callC (pc := 4) (As := [_]) (C1 := C) (N1 := N) (C2 := 0) (N2 := 0) ckX1 mdX1_pass rfl q2308 q2309 q2310 q125 dX0_pass_4 rfl rfl (Nat.le_of_ble_eq_true rfl) ha hc (by omega) (by omega) (by omega) (fun M1 h0 hT9 => ?_) (fun k9 E9 q9 M1 hE h0 hT9 => ?_)
  · obtain ⟨x9, ho1⟩ := hT _ _ hT9
    refine pj_i2l (pc := 7) dX0_pass_7 rfl ?_
    refine pj_last (pc := 8) dX0_pass_8 ho1 (vp_in_nI (n := 0) (N := 1) (by decide) (by decide)) ?_
    refine PJ.mem (μ1 := mset M1 out (ouC g (vp_updL x9 0 r9.1.toInt64))) rfl ?_
    refine pj_goto (pc := 9) (tgt := 15) dX0_pass_9 (by decide) ?_
    refine pl_iconst (pc := 15) (v := 0) dX0_pass_15 (by rfl) ?_
    refine pj_iret (pc := 16) dX0_pass_16 rfl ?_
    exact ⟨by rw [h0], M1, hT9, Or.inl ⟨h0, x9, ho1, rfl⟩⟩
  · rcases k9 with _ | k9
    · cases hE
      refine px_catch (name := "java/lang/IndexOutOfBoundsException") [] ⟨0, 9, 12, 13⟩ [] rfl (fun z hz => by cases hz) (by decide) (by decide) q1215 q1248 ?_
      refine pj_astore_n (pc := 12) (lv' := [(3, _), (0, _), (1, _), (2, _)]) dX0_pass_12 rfl (by decide) rfl ?_
      refine pl_iconst (pc := 13) (v := 1) dX0_pass_13 (by rfl) ?_
      refine pj_iret (pc := 14) dX0_pass_14 rfl ?_
      exact ⟨by rw [h0], M1, hT9, Or.inr ⟨by rw [h0]; decide, rfl⟩⟩
    · cases hE
set_option maxHeartbeats 400000 in
theorem w0_billed {g : GP} {μ : Mem} {d C N a out : Nat} {fs : List Value} {x0 : Int32} {r9 : Int32 × MS} {T : MS → Mem → Prop} (hd : 1 ≤ d) (ha : μ a = some (.inr (11, fs))) (hc : PM g yX1_billed (ws_ yX1_billed cX1_billed 2 (some .int)) (d - 1) C N [.ref a, .int x0] μ (CQ ["java/lang/IndexOutOfBoundsException"] r9 T)) (hT : ∀ τ M, T τ M → ∃ x, M out = some (ouC g x)) : PM g yX0_billed (wsW_ yX0_billed cX0_billed 4 (some .int) [(0, 9, 12, 13)]) d C N [.ref a, .int x0, .ref out] μ (WQ0 g out r9 T) := by
  refine PM.ofH (by decide +kernel) (Nat.le_of_ble_eq_true rfl) ?_
  refine PJ.ok (fun G => ?_)
  show PJ g _ _ _ _ d C N 0 [(0, .ref a), (1, .int x0), (2, .ref out)] [] _ _
  refine pl_aload_n (pc := 0) dX0_billed_0 rfl rfl ?_
  refine pl_iconst (pc := 1) (v := 0) dX0_billed_1 (by rfl) ?_
  refine pl_aload_n (pc := 2) dX0_billed_2 rfl rfl ?_
  refine pl_iload_n (pc := 3) dX0_billed_3 rfl rfl ?_
  refine pl_callC (pc := 4) (As := [_]) (C1 := C) (N1 := N) (C2 := 0) (N2 := 0) ckX1 mdX1_billed rfl q2319 q2320 q2321 q125 dX0_billed_4 rfl rfl (Nat.le_of_ble_eq_true rfl) ha hc (by omega) (by omega) (by omega) (fun M1 h0 hT9 => ?_) (fun k9 E9 q9 M1 hE h0 hT9 => ?_)
  · obtain ⟨x9, ho1⟩ := hT _ _ hT9
    refine pj_i2l (pc := 7) dX0_billed_7 rfl ?_
    refine pj_last (pc := 8) dX0_billed_8 ho1 (vp_in_nI (n := 0) (N := 1) (by decide) (by decide)) ?_
    refine PJ.mem (μ1 := mset M1 out (ouC g (vp_updL x9 0 r9.1.toInt64))) rfl ?_
    refine pj_goto (pc := 9) (tgt := 15) dX0_billed_9 (by decide) ?_
    refine pl_iconst (pc := 15) (v := 0) dX0_billed_15 (by rfl) ?_
    refine pj_iret (pc := 16) dX0_billed_16 rfl ?_
    exact ⟨by rw [h0], M1, hT9, Or.inl ⟨h0, x9, ho1, rfl⟩⟩
  · rcases k9 with _ | k9
    · cases hE
      refine px_catch (name := "java/lang/IndexOutOfBoundsException") [] ⟨0, 9, 12, 13⟩ [] rfl (fun z hz => by cases hz) (by decide) (by decide) q1215 q1248 ?_
      refine pj_astore_n (pc := 12) (lv' := [(3, _), (0, _), (1, _), (2, _)]) dX0_billed_12 rfl (by decide) rfl ?_
      refine pl_iconst (pc := 13) (v := 1) dX0_billed_13 (by rfl) ?_
      refine pj_iret (pc := 14) dX0_billed_14 rfl ?_
      exact ⟨by rw [h0], M1, hT9, Or.inr ⟨by rw [h0]; decide, rfl⟩⟩
    · cases hE
set_option maxHeartbeats 400000 in
theorem w0_week {g : GP} {μ : Mem} {d C N a out : Nat} {fs : List Value} {x0 : Int32} {r9 : Int32 × MS} {T : MS → Mem → Prop} (hd : 1 ≤ d) (ha : μ a = some (.inr (11, fs))) (hc : PM g yX1_week (ws_ yX1_week cX1_week 3 (some .int)) (d - 1) C N [.ref a, .int x0] μ (CQ ["java/lang/IllegalArgumentException", "java/lang/IllegalStateException"] r9 T)) (hT : ∀ τ M, T τ M → ∃ x, M out = some (ouC g x)) : PM g yX0_week (wsW_ yX0_week cX0_week 4 (some .int) [(0, 9, 12, 15), (0, 9, 15, 127)]) d C N [.ref a, .int x0, .ref out] μ (WQ0 g out r9 T) := by
  refine PM.ofH (by decide +kernel) (Nat.le_of_ble_eq_true rfl) ?_
  refine PJ.ok (fun G => ?_)
  show PJ g _ _ _ _ d C N 0 [(0, .ref a), (1, .int x0), (2, .ref out)] [] _ _
  refine pl_aload_n (pc := 0) dX0_week_0 rfl rfl ?_
  refine pl_iconst (pc := 1) (v := 0) dX0_week_1 (by rfl) ?_
  refine pl_aload_n (pc := 2) dX0_week_2 rfl rfl ?_
  refine pl_iload_n (pc := 3) dX0_week_3 rfl rfl ?_
  refine pl_callC (pc := 4) (As := [_]) (C1 := C) (N1 := N) (C2 := 0) (N2 := 0) ckX1 mdX1_week rfl q2327 q2328 q2329 q125 dX0_week_4 rfl rfl (Nat.le_of_ble_eq_true rfl) ha hc (by omega) (by omega) (by omega) (fun M1 h0 hT9 => ?_) (fun k9 E9 q9 M1 hE h0 hT9 => ?_)
  · obtain ⟨x9, ho1⟩ := hT _ _ hT9
    refine pj_i2l (pc := 7) dX0_week_7 rfl ?_
    refine pj_last (pc := 8) dX0_week_8 ho1 (vp_in_nI (n := 0) (N := 1) (by decide) (by decide)) ?_
    refine PJ.mem (μ1 := mset M1 out (ouC g (vp_updL x9 0 r9.1.toInt64))) rfl ?_
    refine pj_goto (pc := 9) (tgt := 18) dX0_week_9 (by decide) ?_
    refine pl_iconst (pc := 18) (v := 0) dX0_week_18 (by rfl) ?_
    refine pj_iret (pc := 19) dX0_week_19 rfl ?_
    exact ⟨by rw [h0], M1, hT9, Or.inl ⟨h0, x9, ho1, rfl⟩⟩
  · rcases k9 with _ | _ | k9
    · cases hE
      refine px_catch (name := "java/lang/IllegalArgumentException") [] ⟨0, 9, 12, 15⟩ [⟨0, 9, 15, 127⟩] rfl (fun z hz => by cases hz) (by decide) (by decide) q1234 q213 ?_
      refine pj_astore_n (pc := 12) (lv' := [(3, _), (0, _), (1, _), (2, _)]) dX0_week_12 rfl (by decide) rfl ?_
      refine pl_iconst (pc := 13) (v := 1) dX0_week_13 (by rfl) ?_
      refine pj_iret (pc := 14) dX0_week_14 rfl ?_
      exact ⟨by rw [h0], M1, hT9, Or.inr ⟨by rw [h0]; decide, rfl⟩⟩
    · cases hE
      refine px_catch (name := "java/lang/IllegalStateException") [⟨0, 9, 12, 15⟩] ⟨0, 9, 15, 127⟩ [] rfl (fun z hz => by cases List.mem_singleton.mp hz; exact Or.inr ⟨by decide, "java/lang/IllegalArgumentException", q1234, fun G => va_Nc.of (nr_leaf G [2, 0, 1, 0, 0, 2] (by decide +kernel))⟩) (by decide) (by decide) q2326 q2336 ?_
      refine pj_astore_n (pc := 15) (lv' := [(3, _), (0, _), (1, _), (2, _)]) dX0_week_15 rfl (by decide) rfl ?_
      refine pl_iconst (pc := 16) (v := 2) dX0_week_16 (by rfl) ?_
      refine pj_iret (pc := 17) dX0_week_17 rfl ?_
      exact ⟨by rw [h0], M1, hT9, Or.inr ⟨by rw [h0]; decide, rfl⟩⟩
    · cases hE
set_option maxHeartbeats 400000 in
theorem w0_as {g : GP} {μ : Mem} {d C N a out : Nat} {fs : List Value} {x0 x1 x2 : Int32} {r9 : Int32 × MS} {T : MS → Mem → Prop} (hd : 1 ≤ d) (ha : μ a = some (.inr (11, fs))) (hc : PM g yX1_as (ws_ yX1_as cX1_as 4 (some .int)) (d - 1) C N [.ref a, .int x0, .int x1, .int x2] μ (CQ ["java/lang/IllegalArgumentException"] r9 T)) (hT : ∀ τ M, T τ M → ∃ x, M out = some (ouC g x)) : PM g yX0_as (wsW_ yX0_as cX0_as 6 (some .int) [(0, 12, 15, 15)]) d C N [.ref a, .int x0, .int x1, .int x2, .ref out] μ (WQ0 g out r9 T) := by
  refine PM.ofH (by decide +kernel) (Nat.le_of_ble_eq_true rfl) ?_
  refine PJ.ok (fun G => ?_)
  show PJ g _ _ _ _ d C N 0 [(0, .ref a), (1, .int x0), (2, .int x1), (3, .int x2), (4, .ref out)] [] _ _
  refine pl_aload (pc := 0) dX0_as_0 rfl ?_
  refine pl_iconst (pc := 2) (v := 0) dX0_as_2 (by rfl) ?_
  refine pl_aload_n (pc := 3) dX0_as_3 rfl rfl ?_
  refine pl_iload_n (pc := 4) dX0_as_4 rfl rfl ?_
  refine pl_iload_n (pc := 5) dX0_as_5 rfl rfl ?_
  refine pl_iload_n (pc := 6) dX0_as_6 rfl rfl ?_
  refine pl_callC (pc := 7) (As := [_, _, _]) (C1 := C) (N1 := N) (C2 := 0) (N2 := 0) ckX1 mdX1_as rfl q2460 q2461 q2462 q125 dX0_as_7 rfl rfl (Nat.le_of_ble_eq_true rfl) ha hc (by omega) (by omega) (by omega) (fun M1 h0 hT9 => ?_) (fun k9 E9 q9 M1 hE h0 hT9 => ?_)
  · obtain ⟨x9, ho1⟩ := hT _ _ hT9
    refine pj_i2l (pc := 10) dX0_as_10 rfl ?_
    refine pj_last (pc := 11) dX0_as_11 ho1 (vp_in_nI (n := 0) (N := 1) (by decide) (by decide)) ?_
    refine PJ.mem (μ1 := mset M1 out (ouC g (vp_updL x9 0 r9.1.toInt64))) rfl ?_
    refine pj_goto (pc := 12) (tgt := 19) dX0_as_12 (by decide) ?_
    refine pl_iconst (pc := 19) (v := 0) dX0_as_19 (by rfl) ?_
    refine pj_iret (pc := 20) dX0_as_20 rfl ?_
    exact ⟨by rw [h0], M1, hT9, Or.inl ⟨h0, x9, ho1, rfl⟩⟩
  · rcases k9 with _ | k9
    · cases hE
      refine px_catch (name := "java/lang/IllegalArgumentException") [] ⟨0, 12, 15, 15⟩ [] rfl (fun z hz => by cases hz) (by decide) (by decide) q1234 q213 ?_
      refine pj_astore (pc := 15) (lv' := [(5, _), (0, _), (1, _), (2, _), (3, _), (4, _)]) dX0_as_15 (by decide) rfl ?_
      refine pl_iconst (pc := 17) (v := 1) dX0_as_17 (by rfl) ?_
      refine pj_iret (pc := 18) dX0_as_18 rfl ?_
      exact ⟨by rw [h0], M1, hT9, Or.inr ⟨by rw [h0]; decide, rfl⟩⟩
    · cases hE
set_option maxHeartbeats 400000 in
theorem w0_tried {g : GP} {μ : Mem} {d C N a out : Nat} {fs : List Value} {x0 x1 x2 x3 : Int32} {r9 : Int32 × MS} {T : MS → Mem → Prop} (hd : 1 ≤ d) (ha : μ a = some (.inr (11, fs))) (hc : PM g yX1_tried (ws_ yX1_tried cX1_tried 7 (some .int)) (d - 1) C N [.ref a, .int x0, .int x1, .int x2, .int x3] μ (CQ ["java/lang/IllegalArgumentException", "java/lang/IllegalStateException"] r9 T)) (hT : ∀ τ M, T τ M → ∃ x, M out = some (ouC g x)) : PM g yX0_tried (wsW_ yX0_tried cX0_tried 7 (some .int) [(0, 14, 17, 15), (0, 14, 21, 127)]) d C N [.ref a, .int x0, .int x1, .int x2, .int x3, .ref out] μ (WQ0 g out r9 T) := by
  refine PM.ofH (by decide +kernel) (Nat.le_of_ble_eq_true rfl) ?_
  refine PJ.ok (fun G => ?_)
  show PJ g _ _ _ _ d C N 0 [(0, .ref a), (1, .int x0), (2, .int x1), (3, .int x2), (4, .int x3), (5, .ref out)] [] _ _
  refine pl_aload (pc := 0) dX0_tried_0 rfl ?_
  refine pl_iconst (pc := 2) (v := 0) dX0_tried_2 (by rfl) ?_
  refine pl_aload_n (pc := 3) dX0_tried_3 rfl rfl ?_
  refine pl_iload_n (pc := 4) dX0_tried_4 rfl rfl ?_
  refine pl_iload_n (pc := 5) dX0_tried_5 rfl rfl ?_
  refine pl_iload_n (pc := 6) dX0_tried_6 rfl rfl ?_
  refine pl_iload (pc := 7) dX0_tried_7 rfl ?_
  refine pl_callC (pc := 9) (As := [_, _, _, _]) (C1 := C) (N1 := N) (C2 := 0) (N2 := 0) ckX1 mdX1_tried rfl q2469 q2470 q2471 q125 dX0_tried_9 rfl rfl (Nat.le_of_ble_eq_true rfl) ha hc (by omega) (by omega) (by omega) (fun M1 h0 hT9 => ?_) (fun k9 E9 q9 M1 hE h0 hT9 => ?_)
  · obtain ⟨x9, ho1⟩ := hT _ _ hT9
    refine pj_i2l (pc := 12) dX0_tried_12 rfl ?_
    refine pj_last (pc := 13) dX0_tried_13 ho1 (vp_in_nI (n := 0) (N := 1) (by decide) (by decide)) ?_
    refine PJ.mem (μ1 := mset M1 out (ouC g (vp_updL x9 0 r9.1.toInt64))) rfl ?_
    refine pj_goto (pc := 14) (tgt := 25) dX0_tried_14 (by decide) ?_
    refine pl_iconst (pc := 25) (v := 0) dX0_tried_25 (by rfl) ?_
    refine pj_iret (pc := 26) dX0_tried_26 rfl ?_
    exact ⟨by rw [h0], M1, hT9, Or.inl ⟨h0, x9, ho1, rfl⟩⟩
  · rcases k9 with _ | _ | k9
    · cases hE
      refine px_catch (name := "java/lang/IllegalArgumentException") [] ⟨0, 14, 17, 15⟩ [⟨0, 14, 21, 127⟩] rfl (fun z hz => by cases hz) (by decide) (by decide) q1234 q213 ?_
      refine pj_astore (pc := 17) (lv' := [(6, _), (0, _), (1, _), (2, _), (3, _), (4, _), (5, _)]) dX0_tried_17 (by decide) rfl ?_
      refine pl_iconst (pc := 19) (v := 1) dX0_tried_19 (by rfl) ?_
      refine pj_iret (pc := 20) dX0_tried_20 rfl ?_
      exact ⟨by rw [h0], M1, hT9, Or.inr ⟨by rw [h0]; decide, rfl⟩⟩
    · cases hE
      refine px_catch (name := "java/lang/IllegalStateException") [⟨0, 14, 17, 15⟩] ⟨0, 14, 21, 127⟩ [] rfl (fun z hz => by cases List.mem_singleton.mp hz; exact Or.inr ⟨by decide, "java/lang/IllegalArgumentException", q1234, fun G => va_Nc.of (nr_leaf G [2, 0, 1, 0, 0, 2] (by decide +kernel))⟩) (by decide) (by decide) q2326 q2336 ?_
      refine pj_astore (pc := 21) (lv' := [(6, _), (0, _), (1, _), (2, _), (3, _), (4, _), (5, _)]) dX0_tried_21 (by decide) rfl ?_
      refine pl_iconst (pc := 23) (v := 2) dX0_tried_23 (by rfl) ?_
      refine pj_iret (pc := 24) dX0_tried_24 rfl ?_
      exact ⟨by rw [h0], M1, hT9, Or.inr ⟨by rw [h0]; decide, rfl⟩⟩
    · cases hE
set_option maxHeartbeats 400000 in
theorem w0_prices {g : GP} {μ : Mem} {d C N a : Nat} {fs : List Value} {x0 x1 x2 : Int32} {τ9 : MS} {T : MS → Mem → Prop} (hd : 1 ≤ d) (ha : μ a = some (.inr (11, fs))) (hc : PM g yX1_prices (ws_ yX1_prices cX1_prices 4 none) (d - 1) C N [.ref a, .int x0, .int x1, .int x2] μ (CQU ["java/lang/IllegalArgumentException"] τ9 T)) : PM g yX0_prices (wsW_ yX0_prices cX0_prices 5 (some .int) [(0, 7, 10, 15)]) d C N [.ref a, .int x0, .int x1, .int x2] μ (WQU τ9 T) := by
  refine PM.ofH (by decide +kernel) (Nat.le_of_ble_eq_true rfl) ?_
  refine PJ.ok (fun G => ?_)
  show PJ g _ _ _ _ d C N 0 [(0, .ref a), (1, .int x0), (2, .int x1), (3, .int x2)] [] _ _
  refine pl_aload_n (pc := 0) dX0_prices_0 rfl rfl ?_
  refine pl_iload_n (pc := 1) dX0_prices_1 rfl rfl ?_
  refine pl_iload_n (pc := 2) dX0_prices_2 rfl rfl ?_
  refine pl_iload_n (pc := 3) dX0_prices_3 rfl rfl ?_
  refine pl_callCU (pc := 4) (As := [_, _, _]) (C1 := C) (N1 := N) (C2 := 0) (N2 := 0) ckX1 mdX1_prices rfl q2483 q2484 q2485 q125 dX0_prices_4 rfl rfl (Nat.le_of_ble_eq_true rfl) ha hc (by omega) (by omega) (by omega) (fun M1 h0 hT9 => ?_) (fun k9 E9 q9 M1 hE h0 hT9 => ?_)
  · refine pj_goto (pc := 7) (tgt := 14) dX0_prices_7 (by decide) ?_
    refine pl_iconst (pc := 14) (v := 0) dX0_prices_14 (by rfl) ?_
    refine pj_iret (pc := 15) dX0_prices_15 rfl ?_
    exact ⟨by rw [h0], hT9⟩
  · rcases k9 with _ | k9
    · cases hE
      refine px_catch (name := "java/lang/IllegalArgumentException") [] ⟨0, 7, 10, 15⟩ [] rfl (fun z hz => by cases hz) (by decide) (by decide) q1234 q213 ?_
      refine pj_astore (pc := 10) (lv' := [(4, _), (0, _), (1, _), (2, _), (3, _)]) dX0_prices_10 (by decide) rfl ?_
      refine pl_iconst (pc := 12) (v := 1) dX0_prices_12 (by rfl) ?_
      refine pj_iret (pc := 13) dX0_prices_13 rfl ?_
      exact ⟨by rw [h0], hT9⟩
    · cases hE
set_option maxHeartbeats 400000 in
theorem w0_worst {g : GP} {μ : Mem} {d C N a : Nat} {fs : List Value} {x0 x1 x2 x3 : Int32} {τ9 : MS} {T : MS → Mem → Prop} (hd : 1 ≤ d) (ha : μ a = some (.inr (11, fs))) (hc : PM g yX1_worst (ws_ yX1_worst cX1_worst 5 none) (d - 1) C N [.ref a, .int x0, .int x1, .int x2, .int x3] μ (CQU ["java/lang/IllegalArgumentException"] τ9 T)) : PM g yX0_worst (wsW_ yX0_worst cX0_worst 6 (some .int) [(0, 9, 12, 15)]) d C N [.ref a, .int x0, .int x1, .int x2, .int x3] μ (WQU τ9 T) := by
  refine PM.ofH (by decide +kernel) (Nat.le_of_ble_eq_true rfl) ?_
  refine PJ.ok (fun G => ?_)
  show PJ g _ _ _ _ d C N 0 [(0, .ref a), (1, .int x0), (2, .int x1), (3, .int x2), (4, .int x3)] [] _ _
  refine pl_aload_n (pc := 0) dX0_worst_0 rfl rfl ?_
  refine pl_iload_n (pc := 1) dX0_worst_1 rfl rfl ?_
  refine pl_iload_n (pc := 2) dX0_worst_2 rfl rfl ?_
  refine pl_iload_n (pc := 3) dX0_worst_3 rfl rfl ?_
  refine pl_iload (pc := 4) dX0_worst_4 rfl ?_
  refine pl_callCU (pc := 6) (As := [_, _, _, _]) (C1 := C) (N1 := N) (C2 := 0) (N2 := 0) ckX1 mdX1_worst rfl q2490 q2491 q2492 q125 dX0_worst_6 rfl rfl (Nat.le_of_ble_eq_true rfl) ha hc (by omega) (by omega) (by omega) (fun M1 h0 hT9 => ?_) (fun k9 E9 q9 M1 hE h0 hT9 => ?_)
  · refine pj_goto (pc := 9) (tgt := 16) dX0_worst_9 (by decide) ?_
    refine pl_iconst (pc := 16) (v := 0) dX0_worst_16 (by rfl) ?_
    refine pj_iret (pc := 17) dX0_worst_17 rfl ?_
    exact ⟨by rw [h0], hT9⟩
  · rcases k9 with _ | k9
    · cases hE
      refine px_catch (name := "java/lang/IllegalArgumentException") [] ⟨0, 9, 12, 15⟩ [] rfl (fun z hz => by cases hz) (by decide) (by decide) q1234 q213 ?_
      refine pj_astore (pc := 12) (lv' := [(5, _), (0, _), (1, _), (2, _), (3, _), (4, _)]) dX0_worst_12 (by decide) rfl ?_
      refine pl_iconst (pc := 14) (v := 1) dX0_worst_14 (by rfl) ?_
      refine pj_iret (pc := 15) dX0_worst_15 rfl ?_
      exact ⟨by rw [h0], hT9⟩
    · cases hE
set_option maxHeartbeats 400000 in
theorem w0_planned {g : GP} {μ : Mem} {d C N a out : Nat} {fs : List Value} {x0 x1 : Int32} {r9 : Int32 × MS} {T : MS → Mem → Prop} (hd : 1 ≤ d) (ha : μ a = some (.inr (11, fs))) (hc : PM g yX1_planned (ws_ yX1_planned cX1_planned 6 (some .int)) (d - 1) C N [.ref a, .int x0, .int x1] μ (CQ ["java/lang/IllegalArgumentException", "java/lang/IllegalStateException"] r9 T)) (hT : ∀ τ M, T τ M → ∃ x, M out = some (ouC g x)) : PM g yX0_planned (wsW_ yX0_planned cX0_planned 5 (some .int) [(0, 10, 13, 15), (0, 10, 17, 127)]) d C N [.ref a, .int x0, .int x1, .ref out] μ (WQ0 g out r9 T) := by
  refine PM.ofH (by decide +kernel) (Nat.le_of_ble_eq_true rfl) ?_
  refine PJ.ok (fun G => ?_)
  show PJ g _ _ _ _ d C N 0 [(0, .ref a), (1, .int x0), (2, .int x1), (3, .ref out)] [] _ _
  refine pl_aload_n (pc := 0) dX0_planned_0 rfl rfl ?_
  refine pl_iconst (pc := 1) (v := 0) dX0_planned_1 (by rfl) ?_
  refine pl_aload_n (pc := 2) dX0_planned_2 rfl rfl ?_
  refine pl_iload_n (pc := 3) dX0_planned_3 rfl rfl ?_
  refine pl_iload_n (pc := 4) dX0_planned_4 rfl rfl ?_
  refine pl_callC (pc := 5) (As := [_, _]) (C1 := C) (N1 := N) (C2 := 0) (N2 := 0) ckX1 mdX1_planned rfl q2500 q2501 q2502 q125 dX0_planned_5 rfl rfl (Nat.le_of_ble_eq_true rfl) ha hc (by omega) (by omega) (by omega) (fun M1 h0 hT9 => ?_) (fun k9 E9 q9 M1 hE h0 hT9 => ?_)
  · obtain ⟨x9, ho1⟩ := hT _ _ hT9
    refine pj_i2l (pc := 8) dX0_planned_8 rfl ?_
    refine pj_last (pc := 9) dX0_planned_9 ho1 (vp_in_nI (n := 0) (N := 1) (by decide) (by decide)) ?_
    refine PJ.mem (μ1 := mset M1 out (ouC g (vp_updL x9 0 r9.1.toInt64))) rfl ?_
    refine pj_goto (pc := 10) (tgt := 21) dX0_planned_10 (by decide) ?_
    refine pl_iconst (pc := 21) (v := 0) dX0_planned_21 (by rfl) ?_
    refine pj_iret (pc := 22) dX0_planned_22 rfl ?_
    exact ⟨by rw [h0], M1, hT9, Or.inl ⟨h0, x9, ho1, rfl⟩⟩
  · rcases k9 with _ | _ | k9
    · cases hE
      refine px_catch (name := "java/lang/IllegalArgumentException") [] ⟨0, 10, 13, 15⟩ [⟨0, 10, 17, 127⟩] rfl (fun z hz => by cases hz) (by decide) (by decide) q1234 q213 ?_
      refine pj_astore (pc := 13) (lv' := [(4, _), (0, _), (1, _), (2, _), (3, _)]) dX0_planned_13 (by decide) rfl ?_
      refine pl_iconst (pc := 15) (v := 1) dX0_planned_15 (by rfl) ?_
      refine pj_iret (pc := 16) dX0_planned_16 rfl ?_
      exact ⟨by rw [h0], M1, hT9, Or.inr ⟨by rw [h0]; decide, rfl⟩⟩
    · cases hE
      refine px_catch (name := "java/lang/IllegalStateException") [⟨0, 10, 13, 15⟩] ⟨0, 10, 17, 127⟩ [] rfl (fun z hz => by cases List.mem_singleton.mp hz; exact Or.inr ⟨by decide, "java/lang/IllegalArgumentException", q1234, fun G => va_Nc.of (nr_leaf G [2, 0, 1, 0, 0, 2] (by decide +kernel))⟩) (by decide) (by decide) q2326 q2336 ?_
      refine pj_astore (pc := 17) (lv' := [(4, _), (0, _), (1, _), (2, _), (3, _)]) dX0_planned_17 (by decide) rfl ?_
      refine pl_iconst (pc := 19) (v := 2) dX0_planned_19 (by rfl) ?_
      refine pj_iret (pc := 20) dX0_planned_20 rfl ?_
      exact ⟨by rw [h0], M1, hT9, Or.inr ⟨by rw [h0]; decide, rfl⟩⟩
    · cases hE
