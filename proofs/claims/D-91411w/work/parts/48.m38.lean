set_option maxRecDepth 100000
section VE
variable {g : GP} {own : String} {cc : ByteArray} {nL : Nat} {i : MI} {d C N pc : Nat} {ls : List (Nat × Value)} {rest : List Value} {μ : Mem} {Q : OC → Mem → Prop}
theorem pl_callVEv {ci nf : Nat} {Cn : String} {Tn : u_T} {ty : Nat → FieldType} {fs : List Value} {a : Nat} {y : MethodName} {b : ByteArray} {L n d1 C1 N1 C2 N2 index : Nat} {r : Option FieldType} {ad9 : Nat → Nat} {μ9 : Mem} {P : MS → Prop} {st : List Value} (As : List Value) (cl : CLk ci Cn Tn nf ty) (md : MDy y b L r n) (hy : y.cls = Cn) (h1 : Cond.methodLink own index y ∈ lw_all) (h2 : Cond.instanceMethod y ∈ lw_all) (h3 : Cond.selects Cn y y ∈ lw_all) (h4 : Cond.initialized Cn ∈ lw_all) (hdg : decode cc pc = .ok (.invokevirtual index, 3)) (hst : st = As.reverse ++ .ref a :: rest) (hn : As.length = n) (hr8 : (rest.map fun v => v.category).sum ≤ 8) (hm : μ a = some (.inr (ci, fs))) (hM : PM g y (ws_ y b L r) d1 C1 N1 (.ref a :: As) μ (rE g ad9 μ9 none P)) (hd : d1 + 1 ≤ d) (hC : C1 + C2 ≤ C) (hN : N1 + N2 ≤ N) (kk : ∀ σ1 : MS, P σ1 → PJ g own cc nL i d C2 N2 (pc + 3) ls rest (mm g ad9 μ9 σ1) Q) : PJ g own cc nL i d C N pc ls st μ Q :=
  pj_callV As cl md hy h1 h2 h3 h4 hdg hst hn hr8 hm hM hd hC hN (fun v9 μ8 h => by
    obtain ⟨e1, σ1, rfl, h1⟩ := h
    cases e1
    exact kk σ1 h1) (fun E9 q μ8 h => by cases h.1)
theorem pl_callVEd {v : Value} {ci nf : Nat} {Cn : String} {Tn : u_T} {ty : Nat → FieldType} {fs : List Value} {a : Nat} {y : MethodName} {b : ByteArray} {L n d1 C1 N1 C2 N2 index : Nat} {r : Option FieldType} {ad9 : Nat → Nat} {μ9 : Mem} {P : MS → Prop} {st : List Value} (As : List Value) (cl : CLk ci Cn Tn nf ty) (md : MDy y b L r n) (hy : y.cls = Cn) (h1 : Cond.methodLink own index y ∈ lw_all) (h2 : Cond.instanceMethod y ∈ lw_all) (h3 : Cond.selects Cn y y ∈ lw_all) (h4 : Cond.initialized Cn ∈ lw_all) (hdg : decode cc pc = .ok (.invokevirtual index, 3)) (hst : st = As.reverse ++ .ref a :: rest) (hn : As.length = n) (hr8 : (rest.map fun v => v.category).sum ≤ 8) (hm : μ a = some (.inr (ci, fs))) (hM : PM g y (ws_ y b L r) d1 C1 N1 (.ref a :: As) μ (rE g ad9 μ9 (some v) P)) (hd : d1 + 1 ≤ d) (hC : C1 + C2 ≤ C) (hN : N1 + N2 ≤ N) (kk : ∀ σ1 : MS, P σ1 → PJ g own cc nL i d C2 N2 (pc + 3) ls (v :: rest) (mm g ad9 μ9 σ1) Q) : PJ g own cc nL i d C N pc ls st μ Q :=
  pj_callV As cl md hy h1 h2 h3 h4 hdg hst hn hr8 hm hM hd hC hN (fun v9 μ8 h => by
    obtain ⟨e1, σ1, rfl, h1⟩ := h
    cases e1
    exact kk σ1 h1) (fun E9 q μ8 h => by cases h.1)
theorem pl_callVB {ci nf : Nat} {Cn : String} {Tn : u_T} {ty : Nat → FieldType} {fs : List Value} {a : Nat} {y : MethodName} {b : ByteArray} {L n d1 C1 N1 C2 N2 index : Nat} {r : Option FieldType} {ad9 : Nat → Nat} {μ9 : Mem} {P : Bool → MS → Prop} {st : List Value} (As : List Value) (cl : CLk ci Cn Tn nf ty) (md : MDy y b L r n) (hy : y.cls = Cn) (h1 : Cond.methodLink own index y ∈ lw_all) (h2 : Cond.instanceMethod y ∈ lw_all) (h3 : Cond.selects Cn y y ∈ lw_all) (h4 : Cond.initialized Cn ∈ lw_all) (hdg : decode cc pc = .ok (.invokevirtual index, 3)) (hst : st = As.reverse ++ .ref a :: rest) (hn : As.length = n) (hr8 : (rest.map fun v => v.category).sum ≤ 8) (hm : μ a = some (.inr (ci, fs))) (hM : PM g y (ws_ y b L r) d1 C1 N1 (.ref a :: As) μ (fun o M => ∃ (b9 : Bool) (σ1 : MS), o = .inl (some (.int (bI b9))) ∧ M = mm g ad9 μ9 σ1 ∧ P b9 σ1)) (hd : d1 + 1 ≤ d) (hC : C1 + C2 ≤ C) (hN : N1 + N2 ≤ N) (kk : ∀ (b9 : Bool) (σ1 : MS), P b9 σ1 → PJ g own cc nL i d C2 N2 (pc + 3) ls (.int (bI b9) :: rest) (mm g ad9 μ9 σ1) Q) : PJ g own cc nL i d C N pc ls st μ Q :=
  pj_callV As cl md hy h1 h2 h3 h4 hdg hst hn hr8 hm hM hd hC hN (fun v9 μ8 h => by
    obtain ⟨b9, σ1, e1, rfl, h1⟩ := h
    cases e1
    exact kk b9 σ1 h1) (fun E9 q μ8 h => by
    obtain ⟨b9, σ1, e1, -⟩ := h
    cases e1)
end VE
theorem appR_app (L1 L2 : List Cd) (r : RP) : appR L1 (appR L2 r) = appR (L1 ++ L2) r := by
  rcases r with e | ⟨p, o, L⟩
  · rfl
  · simp [appR]
theorem bindR_bind (r : RP) (f g : Nat → Nat → Option RP) : bindR r (fun p o => thenR (f p o) g) = thenR (bindR r f) g := by
  rcases r with e | ⟨p, o, L⟩
  · rfl
  · show (thenR (f p o) g).map (appR L) = thenR ((f p o).map (appR L)) g
    rcases f p o with _ | e | ⟨p2, o2, L2⟩
    · rfl
    · rfl
    · show ((g p2 o2).map (appR L2)).map (appR L) = (g p2 o2).map (appR (L ++ L2))
      rcases g p2 o2 with _ | r2
      · rfl
      · exact congrArg some (appR_app L L2 r2)
theorem thenR_of {r r1 : RP} {f g : Nat → Nat → Option RP} (h : bindR r (fun p o => thenR (f p o) g) = some r1) : ∃ rs, bindR r f = some rs ∧ bindR rs g = some r1 := by
  rw [bindR_bind] at h
  cases h1 : bindR r f with
  | none => rw [h1] at h; cases h
  | some rs => rw [h1] at h; exact ⟨rs, rfl, h⟩
theorem bindR_bad {e : Nat × Nat} {r1 : RP} {f : Nat → Nat → Option RP} (h : bindR (.inl e) f = some r1) : r1 = .inl e := (Option.some.inj h).symm
def skR (B : Nat → Nat) (n : Nat) : RP → RP
  | .inl e => .inl e
  | .inr (p, o, L) => .inr (sk B n p, o, L)
theorem R_blanks {g : GP} {μ : Mem} {d : Nat} (hd : 2 ≤ d) {ad : Nat → Nat} {σ0 σ : MS} {n l c : Nat} {B : Nat → Nat} (hA : Inj ad 18) (tx0 : Txt σ0 n B) {r : RP} (h : PR n l c σ0 r σ) : PM g yX9_blanks (ws_ yX9_blanks cX9_blanks 1 none) d 0 0 [.ref (ad 0)] (mm g ad μ σ) (rE g ad μ none (PR n l c σ0 (skR B n r))) := by
  have tx := tx0.of h.1
  have hn := tx.2.1
  rcases r with ⟨k, w⟩ | ⟨p, o, L⟩
  · obtain ⟨-, -, -, -, -, p, hp, ep⟩ := id h
    have := skF_in B (n - p) p
    exact PM.toE (w_X9_blanks hd hA tx ep (by omega)) (h.badP (by show sk B n p ≤ n + 5; unfold sk; omega))
  · obtain ⟨-, a1, -, -, h4, -⟩ := id h
    have hq := sk_in (B := B) a1
    exact PM.toE (w_X9_blanks hd hA tx h4 (by omega)) (h.at hq.1 hq.2)
theorem R_sign {g : GP} {μ : Mem} {d : Nat} (hd : 3 ≤ d) {ad : Nat → Nat} {σ0 σ : MS} {n l c : Nat} {B : Nat → Nat} (hA : Inj ad 18) (tx0 : Txt σ0 n B) (hl : σ0.1 16 = nI l) (hl2 : l < 12) {ch : Nat} (hch : ch < 256) {r r1 : RP} (h : PR n l c σ0 r σ) (hr : bindR r (signP B n ch) = some r1) : PM g yX9_sign (ws_ yX9_sign cX9_sign 2 none) d 0 0 [.ref (ad 0), .int (nI ch)] (mm g ad μ σ) (rE g ad μ none (PR n l c σ0 r1)) := by
  rcases r with ⟨k, w⟩ | ⟨p, o, L⟩
  · rw [bindR_bad hr]
    obtain ⟨-, h0, hk, e12, -⟩ := id h
    exact PM.toE (b_X9_sign (by omega) hA e12 h0 hk) h
  · exact o_X9_sign hd hA tx0 hl hl2 h hch hr
theorem R_emits {g : GP} {μ : Mem} {d : Nat} (hd : 1 ≤ d) {ad : Nat → Nat} {σ0 σ : MS} {n l c : Nat} (hn : n ≤ 300) (hA : Inj ad 18) (hl : σ0.1 16 = nI l) (hl2 : l < 12) {k : Nat} {v : Int32} {r r1 : RP} (h : PR n l c σ0 r σ) (hroom : ∀ p o L, r = .inr (p, o, L) → c + L.length + 1 ≤ p) (hr : bindR r (emitP k v) = some r1) : PM g yX9_emits (ws_ yX9_emits cX9_emits 3 none) d 0 0 [.ref (ad 0), .int (nI k), .int v] (mm g ad μ σ) (rE g ad μ none (PR n l c σ0 r1)) := by
  rcases r with ⟨k9, w⟩ | ⟨p, o, L⟩
  · rw [bindR_bad hr]
    obtain ⟨-, h0, hk, e12, -⟩ := id h
    exact PM.toE (b_X9_emits hd hA e12 h0 hk) h
  · have e1 : r1 = .inr (p, o, L ++ [(k, v)]) := (Option.some.inj hr).symm
    subst e1
    have hrm := hroom p o L rfl
    obtain ⟨s, a1, a2, a3, h4, h5, h6, h7, h8, -⟩ := id h
    exact PM.toE (w_X9_emits hd hA ((s.1 16 (by omega)).trans hl) hl2 h8 (by omega)) (h.em hl hl2 hn hrm)
set_option maxHeartbeats 600000 in
theorem o_X9_bracket {g : GP} {μ : Mem} {d : Nat} (hd : 3 ≤ d) {ad : Nat → Nat} {σ0 σ : MS} {n l c : Nat} {B : Nat → Nat} (hA : Inj ad 18) (tx0 : Txt σ0 n B) (hl : σ0.1 16 = nI l) (hl2 : l < 12) {p o : Nat} {L : List Cd} {r1 : RP} (h : PR n l c σ0 (.inr (p, o, L)) σ) (hr : bindR (.inr (p, o, L)) (bracketP B n) = some r1) : PM g yX9_bracket (ws_ yX9_bracket cX9_bracket 1 none) d 0 0 [.ref (ad 0)] (mm g ad μ σ) (rE g ad μ none (PR n l c σ0 r1)) := by
  refine PM.of (by decide +kernel) (Nat.le_of_ble_eq_true rfl) ?_
  refine PJ.ok (fun G => ?_)
  show PJ g _ _ _ _ d 0 0 0 [(0, .ref (ad 0))] [] _ _
  have tx := tx0.of h.1
  have hn3 := tx.2.1
  obtain ⟨-, a1, a2, a3, h4, h5, h6, h7, h8, -⟩ := id h
  have hq := sk_in (B := B) a1
  have hB := tx.2.2.2.1
  have hBq := hB (sk B n p)
  refine pl_aload_n (pc := 0) dX9_bracket_0 rfl rfl ?_
  refine pj_getf (pc := 1) ckX9 12 q2528 dX9_bracket_1 (by decide) (mm_o hA) rfl ?_
  refine PJ.top (y := nI _) (h5) ?_
  refine pl_if_leN (pc := 4) (tgt := 8) dX9_bracket_4 (by decide) (by omega) (fun c4 => ?_) (fun c4 => ?_)
  · refine pl_aload_n (pc := 8) dX9_bracket_8 rfl rfl ?_
    refine pl_callVv (pc := 9) (As := []) (C2 := 0) (N2 := 0) ckX9 mdX9_blanks rfl q2804 q2806 qs72 q154 dX9_bracket_9 rfl rfl (Nat.le_of_ble_eq_true rfl) (mm_o hA) (w_X9_blanks (d := d - 1) (by omega) hA tx h4 (by omega)) (by omega) (by decide) (by decide) ?_
    refine pl_aload_n (pc := 12) dX9_bracket_12 rfl rfl ?_
    refine pl_aload_n (pc := 13) dX9_bracket_13 rfl rfl ?_
    refine pj_getf (pc := 14) ckX9 11 q2527 dX9_bracket_14 (by decide) (mm_o hA) rfl ?_
    refine PJ.top (y := nI _) (rfl) ?_
    refine pl_callVd (pc := 17) (As := [_]) (C2 := 0) (N2 := 0) ckX9 mdX9_byteAt rfl q2808 q2810 qs73 q154 dX9_bracket_17 rfl rfl (Nat.le_of_ble_eq_true rfl) (mm_o hA) (w_X9_byteAt (d := d - 1) (by omega) hA (tx.F (by decide)) (by omega)) (by omega) (by decide) (by decide) ?_
    refine pl_bipush (pc := 20) (v := 40) dX9_bracket_20 (by rfl) ?_
    refine pl_icmp_ne (pc := 22) (tgt := 33) dX9_bracket_22 (by decide) (by omega) (by omega) (fun c22 => ?_) (fun c22 => ?_)
    · refine pl_aload_n (pc := 33) dX9_bracket_33 rfl rfl ?_
      refine pl_iconst (pc := 34) (v := 1) dX9_bracket_34 (by rfl) ?_
      refine pl_aload_n (pc := 35) dX9_bracket_35 rfl rfl ?_
      refine pj_getf (pc := 36) ckX9 11 q2527 dX9_bracket_36 (by decide) (mm_o hA) rfl ?_
      refine PJ.top (y := nI _) (rfl) ?_
      refine pl_callVv (pc := 39) (As := [_, _]) (C2 := 0) (N2 := 0) ckX9 mdX9_wrong rfl q2838 q2840 qs77 q154 dX9_bracket_39 rfl rfl (Nat.le_of_ble_eq_true rfl) (mm_o hA) (w_X9_wrong (d := d - 1) (by omega) hA) (by omega) (by decide) (by decide) ?_
      refine pj_vret (pc := 42) dX9_bracket_42 rfl ?_
      have e1 : r1 = .inl (1, sk B n p) := by simpa [bindR, bracketP, appR, c22] using hr.symm
      subst e1
      exact ⟨rfl, _, rfl, (h.at hq.1 hq.2).bad (by decide) (by decide)⟩
    · have hz9 : sk B n p + 1 ≤ n := by
        rcases Nat.lt_or_ge (sk B n p) n with z | z
        · omega
        · rw [tx.2.2.2.2 _ z] at c22; cases c22
      refine pl_aload_n (pc := 25) dX9_bracket_25 rfl rfl ?_
      refine pl_iconst (pc := 26) (v := 1) dX9_bracket_26 (by rfl) ?_
      refine pl_callVEv (pc := 27) (As := [_]) (C2 := 0) (N2 := 0) ckX9 mdX9_opens rfl q2886 q2888 qs86 q154 dX9_bracket_27 rfl rfl (Nat.le_of_ble_eq_true rfl) (mm_o hA) (o_X9_opens (d := d - 1) (by omega) hA tx0 hl hl2 (h.at hq.1 hq.2) (r1 := r1) hz9 (by simpa [bindR, bracketP, c22] using hr)) (by omega) (by decide) (by decide) (fun σ1 q1 => ?_)
      refine pj_goto (pc := 30) (tgt := 42) dX9_bracket_30 (by decide) ?_
      refine pj_vret (pc := 42) dX9_bracket_42 rfl ?_
      exact ⟨rfl, σ1, rfl, q1⟩
  · exact absurd c4 (by omega)
theorem R_bracket {g : GP} {μ : Mem} {d : Nat} (hd : 3 ≤ d) {ad : Nat → Nat} {σ0 σ : MS} {n l c : Nat} {B : Nat → Nat} (hA : Inj ad 18) (tx0 : Txt σ0 n B) (hl : σ0.1 16 = nI l) (hl2 : l < 12) {r r1 : RP} (h : PR n l c σ0 r σ) (hr : bindR r (bracketP B n) = some r1) : PM g yX9_bracket (ws_ yX9_bracket cX9_bracket 1 none) d 0 0 [.ref (ad 0)] (mm g ad μ σ) (rE g ad μ none (PR n l c σ0 r1)) := by
  rcases r with ⟨k, w⟩ | ⟨p, o, L⟩
  · rw [bindR_bad hr]
    obtain ⟨-, h0, hk, e12, -⟩ := id h
    exact PM.toE (b_X9_bracket (by omega) hA e12 h0 hk) h
  · exact o_X9_bracket hd hA tx0 hl hl2 h hr
set_option maxHeartbeats 600000 in
theorem R_closes {g : GP} {μ : Mem} {d : Nat} (hd : 4 ≤ d) {ad : Nat → Nat} {σ0 σ : MS} {n l c : Nat} {B : Nat → Nat} (hA : Inj ad 18) (tx0 : Txt σ0 n B) (hl : σ0.1 16 = nI l) (hl2 : l < 12) {r r1 : RP} (h : PR n l c σ0 r σ) {ch : Nat} (hch : ch < 256) (hr : bindR r (closesP B n ch) = some r1) (hopen : ∀ p o L, bindR r (signP B n ch) = some (.inr (p, o, L)) → 1 ≤ o) : PM g yX9_closes (ws_ yX9_closes cX9_closes 2 none) d 0 0 [.ref (ad 0), .int (nI ch)] (mm g ad μ σ) (rE g ad μ none (PR n l c σ0 r1)) := by
  refine PM.of (by decide +kernel) (Nat.le_of_ble_eq_true rfl) ?_
  refine PJ.ok (fun G => ?_)
  show PJ g _ _ _ _ d 0 0 0 [(0, .ref (ad 0)), (1, .int (nI ch))] [] _ _
  obtain ⟨rs, hs1, hs2⟩ := thenR_of hr
  refine pl_aload_n (pc := 0) dX9_closes_0 rfl rfl ?_
  refine pl_iload_n (pc := 1) dX9_closes_1 rfl rfl ?_
  refine pl_callVEv (pc := 2) (As := [_]) (C2 := 0) (N2 := 0) ckX9 mdX9_sign rfl q2846 q2848 qs79 q154 dX9_closes_2 rfl rfl (Nat.le_of_ble_eq_true rfl) (mm_o hA) (R_sign (d := d - 1) (by omega) hA tx0 hl hl2 hch h hs1) (by omega) (by decide) (by decide) (fun σ1 q1 => ?_)
  rcases rs with ⟨k9, w9⟩ | ⟨p, o, L⟩
  · refine pl_aload_n (pc := 5) dX9_closes_5 rfl rfl ?_
    refine pj_dup (pc := 6) dX9_closes_6 rfl ?_
    refine pj_getf (pc := 7) ckX9 14 q2530 dX9_closes_7 (by decide) (mm_o hA) rfl ?_
    refine pl_iconst (pc := 10) (v := 1) dX9_closes_10 (by rfl) ?_
    refine pj_isub (pc := 11) dX9_closes_11 ?_
    refine pm_putI (pc := 12) 14 hA q2530 dX9_closes_12 (by decide) rfl (by rfl) (by rfl) rfl ?_
    refine pj_vret (pc := 15) dX9_closes_15 rfl ?_
    rw [bindR_bad hs2]
    exact ⟨rfl, _, rfl, q1.badF (Or.inl rfl)⟩
  · refine pl_aload_n (pc := 5) dX9_closes_5 rfl rfl ?_
    refine pj_dup (pc := 6) dX9_closes_6 rfl ?_
    refine pj_getf (pc := 7) ckX9 14 q2530 dX9_closes_7 (by decide) (mm_o hA) rfl ?_
    refine PJ.top (y := nI o) q1.2.2.2.2.2.2.2.1 ?_
    refine pl_iconst (pc := 10) (v := 1) dX9_closes_10 (by rfl) ?_
    refine pl_isub (pc := 11) dX9_closes_11 (hopen p o L hs1) ?_
    refine pm_putI (pc := 12) 14 hA q2530 dX9_closes_12 (by decide) rfl (by rfl) (by rfl) rfl ?_
    refine pj_vret (pc := 15) dX9_closes_15 rfl ?_
    have e1 : r1 = .inr (p, o - 1, L) := by simpa [bindR, appR] using hs2.symm
    subst e1
    exact ⟨rfl, _, rfl, q1.op (by have := q1.2.2.1; omega)⟩
