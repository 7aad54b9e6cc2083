set_option maxRecDepth 100000
section VSU
variable {g : GP} {own : String} {cc : ByteArray} {nL : Nat} {i : MI} {d C N pc : Nat} {ls : List (Nat × Value)} {rest : List Value} {μ : Mem} {Q : OC → Mem → Prop}
/-- super.m(..) -/
theorem pj_callSU {ci nf : Nat} {Cn : String} {Tn : u_T} {ty : Nat → FieldType} {fs : List Value} {a : Nat} {y : MethodName} {b : ByteArray} {L n d1 C1 N1 C2 N2 index : Nat} {r : Option FieldType} {st : List Value} {Qc : OC → Mem → Prop} (As : List Value) (cl : CLk ci Cn Tn nf ty) (md : MDy y b L r n) (hno : y.name ≠ "<init>") (h1 : Cond.methodLink own index y ∈ lw_all) (hsm : Cond.sameMethod y.cls y.cls y.name y.desc ∈ lw_all) (hsup : Cond.superclass own y.cls ∈ lw_all) (h2 : Cond.instanceMethod y ∈ lw_all) (h4 : Cond.initialized y.cls ∈ lw_all) (hdg : decode cc pc = .ok (.invokespecial index, 3)) (hst : st = As.reverse ++ .ref a :: rest) (hn : As.length = n) (hr8 : (rest.map fun v => v.category).sum ≤ 8) (hm : μ a = some (.inr (ci, fs))) (hM : PM g y (ws_ y b L r) d1 C1 N1 (.ref a :: As) μ Qc) (hd : d1 + 1 ≤ d) (hC : C1 + C2 ≤ C) (hN : N1 + N2 ≤ N)
    (kr : ∀ (v : Option Value) (μ1 : Mem), Qc (.inl v) μ1 → PJ g own cc nL i d C2 N2 (pc + 3) ls (v.toList ++ rest) μ1 Q)
    (kx : ∀ (E9 : String) (q : Nat) (μ1 : Mem), Qc (.inr (E9, q)) μ1 → PX g own cc nL i d C2 N2 pc ls rest E9 q μ1 Q) : PJ g own cc nL i d C N pc ls st μ Q := by
  subst hst
  refine PJ.behind (As := As) (rest0 := rest) (len := 3) (av := (Value.ref a :: As).toArray) hC hN (fun p e R s m args below meth c G E H locs cells slots K K9 B arr hl9 => ?_) kr kx
  have hw := E.2.2.2.2.2.2.2.2.2.1
  have hlen : ∀ sig, parseMethodDescriptor y.desc = some sig → n = sig.parameters.length := fun sig h => by
    have h9 := md.1.2.2
    rw [h] at h9
    exact (Option.some.inj h9).symm
  have bk : (rmD d1 C1 N1).cells = C1 ∧ (rmD d1 C1 N1).slots = N1 ∧ (rmD d1 C1 N1).frames + 1 ≤ R.frames ∧ 8 + (L + 11) + (rmD d1 C1 N1).locals ≤ R.locals ∧ (∀ w ∈ ws_ y b L r, ∀ (a' : Array Value) (U : State), s.WarmedH U.vm → w.before a' U = true) ∧ Cond.code y b L r ∈ ws_ y b L r :=
    ⟨rfl, rfl, (rm_fits E.2.2.2.2.2.2.2.2.2.2.1 E.2.2.2.2.2.2.2.2.2.2.2 hd md.2.2).1, (rm_fits (C1 := C1) (N1 := N1) E.2.2.2.2.2.2.2.2.2.2.1 E.2.2.2.2.2.2.2.2.2.2.2 hd md.2.2).2, pay_in E.2.2.2.2.1 (lw_meth md.2.1), List.mem_cons_self⟩
  exact vx_runSU ((G.K hw).1 ci _ cl.2.1).2 ⟨E.1, E.2.1, E.2.2.1, E.2.2.2.1, E.2.2.2.2.1⟩ (hM G) ⟨bk, E.2.2.2.2.1 _ h1, E.2.2.2.2.1 _ hsm, E.2.2.2.2.1 _ hsup, E.2.2.2.2.1 _ h2, E.2.2.2.2.1 _ h4, E.2.2.2.2.1 _ md.2.1, hno, hlen⟩ ⟨Pc_blind, Sim.recv G hw B.2.2.2.2.1 cl.2.1 hm, Pc_now hw B.2.2.2.2.1 B.2.2.2.2.2⟩ rfl hn hl9.1 rfl (lv_room hr8) hdg (B.room hC hN)
/-- a private method of a class above -/
theorem pj_callP {ci nf : Nat} {Cn : String} {Tn : u_T} {ty : Nat → FieldType} {fs : List Value} {a : Nat} {y : MethodName} {b : ByteArray} {L n d1 C1 N1 C2 N2 index : Nat} {r : Option FieldType} {st : List Value} {Qc : OC → Mem → Prop} {x2 y2 : MethodName} (As : List Value) (cl : CLk ci Cn Tn nf ty) (md : MDy y b L r n) (h1 : Cond.methodLink own index y ∈ lw_all) (hsm : Cond.sameMethod y.cls y.cls y.name y.desc ∈ lw_all) (hpv : Cond.privateMethod y ∈ lw_tbl) (hsel : Cond.selects Cn x2 y2 ∈ lw_all) (hy2 : y2.cls = y.cls) (h2 : Cond.instanceMethod y ∈ lw_all) (h4 : Cond.initialized y.cls ∈ lw_all) (hdg : decode cc pc = .ok (.invokevirtual index, 3)) (hst : st = As.reverse ++ .ref a :: rest) (hn : As.length = n) (hr8 : (rest.map fun v => v.category).sum ≤ 8) (hm : μ a = some (.inr (ci, fs))) (hM : PM g y (ws_ y b L r) d1 C1 N1 (.ref a :: As) μ Qc) (hd : d1 + 1 ≤ d) (hC : C1 + C2 ≤ C) (hN : N1 + N2 ≤ N)
    (kr : ∀ (v : Option Value) (μ1 : Mem), Qc (.inl v) μ1 → PJ g own cc nL i d C2 N2 (pc + 3) ls (v.toList ++ rest) μ1 Q)
    (kx : ∀ (E9 : String) (q : Nat) (μ1 : Mem), Qc (.inr (E9, q)) μ1 → PX g own cc nL i d C2 N2 pc ls rest E9 q μ1 Q) : PJ g own cc nL i d C N pc ls st μ Q := by
  subst hst
  refine PJ.behind (As := As) (rest0 := rest) (len := 3) (av := (Value.ref a :: As).toArray) hC hN (fun p e R s m args below meth c G E H locs cells slots K K9 B arr hl9 => ?_) kr kx
  have hw := E.2.2.2.2.2.2.2.2.2.1
  have hcl := ((G.K hw).1 ci _ cl.2.1).2.1
  obtain ⟨mk, methM, hnamed, hmethM, hstM, habM⟩ := Cond.instanceMethod_spec (E.2.2.2.2.1 _ h2)
  obtain ⟨methM', cM, hmethM', -, -, -, -, -, -, hsigM⟩ := Cond.code_spec hnamed (E.2.2.2.2.1 _ md.2.1)
  cases hmethM.symm.trans hmethM'
  have hlen : ∀ sig, parseMethodDescriptor y.desc = some sig → n = sig.parameters.length := fun sig h => by
    have h9 := md.1.2.2
    rw [h] at h9
    exact (Option.some.inj h9).symm
  have bk : (rmD d1 C1 N1).cells = C1 ∧ (rmD d1 C1 N1).slots = N1 ∧ (rmD d1 C1 N1).frames + 1 ≤ R.frames ∧ 8 + (L + 11) + (rmD d1 C1 N1).locals ≤ R.locals ∧ (∀ w ∈ ws_ y b L r, ∀ (a' : Array Value) (U : State), s.WarmedH U.vm → w.before a' U = true) ∧ Cond.code y b L r ∈ ws_ y b L r :=
    ⟨rfl, rfl, (rm_fits E.2.2.2.2.2.2.2.2.2.2.1 E.2.2.2.2.2.2.2.2.2.2.2 hd md.2.2).1, (rm_fits (C1 := C1) (N1 := N1) E.2.2.2.2.2.2.2.2.2.2.1 E.2.2.2.2.2.2.2.2.2.2.2 hd md.2.2).2, pay_in E.2.2.2.2.1 (lw_meth md.2.1), List.mem_cons_self⟩
  obtain ⟨c2, r2, m2, q1, q2, q3, q4, kP, hkP, hkPi⟩ := Cond.selects_spec (E.2.2.2.2.1 _ hsel)
  cases hcl.symm.trans q1
  have hkc : m2.cls = mk.cls := Option.some.inj ((findClass_of_methodNamed q3).symm.trans (by rw [hy2]; exact findClass_of_methodNamed hnamed))
  rw [hkc] at hkP
  have hp9 : (Cond.privateMethod y).before args s = true := Cond.privateMethod_warm hw.1 (G_tbl G hpv)
  exact vx_runO ⟨E.1, E.2.1, E.2.2.1, E.2.2.2.1, E.2.2.2.2.1⟩ (hM G) bk (E.2.2.2.2.1 _ h4) hlen (E.2.2.2.2.1 _ h1) (E.2.2.2.2.1 _ hsm) ⟨md.1.1, md.1.2.1⟩ (x := y) (owner := y.cls) hnamed hmethM hstM hsigM hnamed hmethM habM hcl (selectMethod_private hmethM (Cond.privateMethod_at hp9 mk methM hnamed hmethM)) hkP (Or.inl hkPi) ⟨Pc_blind, Sim.recv G hw B.2.2.2.2.1 cl.2.1 hm, Pc_now hw B.2.2.2.2.1 B.2.2.2.2.2⟩ rfl hn hl9.1 rfl (lv_room hr8) hdg (B.room hC hN)

theorem pl_callSUd {v : Value} {μ1 : Mem} {ci nf : Nat} {Cn : String} {Tn : u_T} {ty : Nat → FieldType} {fs : List Value} {a : Nat} {y : MethodName} {b : ByteArray} {L n d1 C1 N1 C2 N2 index : Nat} {r : Option FieldType} {st : List Value} (As : List Value) (cl : CLk ci Cn Tn nf ty) (md : MDy y b L r n) (hno : y.name ≠ "<init>") (h1 : Cond.methodLink own index y ∈ lw_all) (hsm : Cond.sameMethod y.cls y.cls y.name y.desc ∈ lw_all) (hsup : Cond.superclass own y.cls ∈ lw_all) (h2 : Cond.instanceMethod y ∈ lw_all) (h4 : Cond.initialized y.cls ∈ lw_all) (hdg : decode cc pc = .ok (.invokespecial index, 3)) (hst : st = As.reverse ++ .ref a :: rest) (hn : As.length = n) (hr8 : (rest.map fun v => v.category).sum ≤ 8) (hm : μ a = some (.inr (ci, fs))) (hM : PM g y (ws_ y b L r) d1 C1 N1 (.ref a :: As) μ (rQ (some v) μ1)) (hd : d1 + 1 ≤ d) (hC : C1 + C2 ≤ C) (hN : N1 + N2 ≤ N) (kk : PJ g own cc nL i d C2 N2 (pc + 3) ls (v :: rest) μ1 Q) : PJ g own cc nL i d C N pc ls st μ Q :=
  pj_callSU As cl md hno h1 hsm hsup h2 h4 hdg hst hn hr8 hm hM hd hC hN (fun v9 μ9 h => by
    obtain ⟨e1, rfl⟩ := h
    cases e1
    exact kk) (fun E9 q μ9 h => by cases h.1)
theorem pl_callSUv {μ1 : Mem} {ci nf : Nat} {Cn : String} {Tn : u_T} {ty : Nat → FieldType} {fs : List Value} {a : Nat} {y : MethodName} {b : ByteArray} {L n d1 C1 N1 C2 N2 index : Nat} {r : Option FieldType} {st : List Value} (As : List Value) (cl : CLk ci Cn Tn nf ty) (md : MDy y b L r n) (hno : y.name ≠ "<init>") (h1 : Cond.methodLink own index y ∈ lw_all) (hsm : Cond.sameMethod y.cls y.cls y.name y.desc ∈ lw_all) (hsup : Cond.superclass own y.cls ∈ lw_all) (h2 : Cond.instanceMethod y ∈ lw_all) (h4 : Cond.initialized y.cls ∈ lw_all) (hdg : decode cc pc = .ok (.invokespecial index, 3)) (hst : st = As.reverse ++ .ref a :: rest) (hn : As.length = n) (hr8 : (rest.map fun v => v.category).sum ≤ 8) (hm : μ a = some (.inr (ci, fs))) (hM : PM g y (ws_ y b L r) d1 C1 N1 (.ref a :: As) μ (rQ none μ1)) (hd : d1 + 1 ≤ d) (hC : C1 + C2 ≤ C) (hN : N1 + N2 ≤ N) (kk : PJ g own cc nL i d C2 N2 (pc + 3) ls rest μ1 Q) : PJ g own cc nL i d C N pc ls st μ Q :=
  pj_callSU As cl md hno h1 hsm hsup h2 h4 hdg hst hn hr8 hm hM hd hC hN (fun v9 μ9 h => by
    obtain ⟨e1, rfl⟩ := h
    cases e1
    exact kk) (fun E9 q μ9 h => by cases h.1)
theorem pl_callSUWd {v : Value} {T : Mem → Prop} {ci nf : Nat} {Cn : String} {Tn : u_T} {ty : Nat → FieldType} {fs : List Value} {a : Nat} {y : MethodName} {b : ByteArray} {L n d1 C1 N1 C2 N2 index : Nat} {r : Option FieldType} {st : List Value} (As : List Value) (cl : CLk ci Cn Tn nf ty) (md : MDy y b L r n) (hno : y.name ≠ "<init>") (h1 : Cond.methodLink own index y ∈ lw_all) (hsm : Cond.sameMethod y.cls y.cls y.name y.desc ∈ lw_all) (hsup : Cond.superclass own y.cls ∈ lw_all) (h2 : Cond.instanceMethod y ∈ lw_all) (h4 : Cond.initialized y.cls ∈ lw_all) (hdg : decode cc pc = .ok (.invokespecial index, 3)) (hst : st = As.reverse ++ .ref a :: rest) (hn : As.length = n) (hr8 : (rest.map fun v => v.category).sum ≤ 8) (hm : μ a = some (.inr (ci, fs))) (hM : PM g y (ws_ y b L r) d1 C1 N1 (.ref a :: As) μ (WQ (some v) T)) (hd : d1 + 1 ≤ d) (hC : C1 + C2 ≤ C) (hN : N1 + N2 ≤ N) (kk : ∀ M1 : Mem, T M1 → PJ g own cc nL i d C2 N2 (pc + 3) ls (v :: rest) M1 Q) : PJ g own cc nL i d C N pc ls st μ Q :=
  pj_callSU As cl md hno h1 hsm hsup h2 h4 hdg hst hn hr8 hm hM hd hC hN (fun v9 μ9 h => by
    obtain ⟨e1, h1⟩ := h
    cases e1
    exact kk μ9 h1) (fun E9 q μ9 h => by cases h.1)
theorem pl_callPd {v : Value} {μ1 : Mem} {ci nf : Nat} {Cn : String} {Tn : u_T} {ty : Nat → FieldType} {fs : List Value} {a : Nat} {y : MethodName} {b : ByteArray} {L n d1 C1 N1 C2 N2 index : Nat} {r : Option FieldType} {st : List Value} {x2 y2 : MethodName} (As : List Value) (cl : CLk ci Cn Tn nf ty) (md : MDy y b L r n) (h1 : Cond.methodLink own index y ∈ lw_all) (hsm : Cond.sameMethod y.cls y.cls y.name y.desc ∈ lw_all) (hpv : Cond.privateMethod y ∈ lw_tbl) (hsel : Cond.selects Cn x2 y2 ∈ lw_all) (hy2 : y2.cls = y.cls) (h2 : Cond.instanceMethod y ∈ lw_all) (h4 : Cond.initialized y.cls ∈ lw_all) (hdg : decode cc pc = .ok (.invokevirtual index, 3)) (hst : st = As.reverse ++ .ref a :: rest) (hn : As.length = n) (hr8 : (rest.map fun v => v.category).sum ≤ 8) (hm : μ a = some (.inr (ci, fs))) (hM : PM g y (ws_ y b L r) d1 C1 N1 (.ref a :: As) μ (rQ (some v) μ1)) (hd : d1 + 1 ≤ d) (hC : C1 + C2 ≤ C) (hN : N1 + N2 ≤ N) (kk : PJ g own cc nL i d C2 N2 (pc + 3) ls (v :: rest) μ1 Q) : PJ g own cc nL i d C N pc ls st μ Q :=
  pj_callP As cl md h1 hsm hpv hsel hy2 h2 h4 hdg hst hn hr8 hm hM hd hC hN (fun v9 μ9 h => by
    obtain ⟨e1, rfl⟩ := h
    cases e1
    exact kk) (fun E9 q μ9 h => by cases h.1)
theorem pl_callPv {μ1 : Mem} {ci nf : Nat} {Cn : String} {Tn : u_T} {ty : Nat → FieldType} {fs : List Value} {a : Nat} {y : MethodName} {b : ByteArray} {L n d1 C1 N1 C2 N2 index : Nat} {r : Option FieldType} {st : List Value} {x2 y2 : MethodName} (As : List Value) (cl : CLk ci Cn Tn nf ty) (md : MDy y b L r n) (h1 : Cond.methodLink own index y ∈ lw_all) (hsm : Cond.sameMethod y.cls y.cls y.name y.desc ∈ lw_all) (hpv : Cond.privateMethod y ∈ lw_tbl) (hsel : Cond.selects Cn x2 y2 ∈ lw_all) (hy2 : y2.cls = y.cls) (h2 : Cond.instanceMethod y ∈ lw_all) (h4 : Cond.initialized y.cls ∈ lw_all) (hdg : decode cc pc = .ok (.invokevirtual index, 3)) (hst : st = As.reverse ++ .ref a :: rest) (hn : As.length = n) (hr8 : (rest.map fun v => v.category).sum ≤ 8) (hm : μ a = some (.inr (ci, fs))) (hM : PM g y (ws_ y b L r) d1 C1 N1 (.ref a :: As) μ (rQ none μ1)) (hd : d1 + 1 ≤ d) (hC : C1 + C2 ≤ C) (hN : N1 + N2 ≤ N) (kk : PJ g own cc nL i d C2 N2 (pc + 3) ls rest μ1 Q) : PJ g own cc nL i d C N pc ls st μ Q :=
  pj_callP As cl md h1 hsm hpv hsel hy2 h2 h4 hdg hst hn hr8 hm hM hd hC hN (fun v9 μ9 h => by
    obtain ⟨e1, rfl⟩ := h
    cases e1
    exact kk) (fun E9 q μ9 h => by cases h.1)
theorem pl_callPWd {v : Value} {T : Mem → Prop} {ci nf : Nat} {Cn : String} {Tn : u_T} {ty : Nat → FieldType} {fs : List Value} {a : Nat} {y : MethodName} {b : ByteArray} {L n d1 C1 N1 C2 N2 index : Nat} {r : Option FieldType} {st : List Value} {x2 y2 : MethodName} (As : List Value) (cl : CLk ci Cn Tn nf ty) (md : MDy y b L r n) (h1 : Cond.methodLink own index y ∈ lw_all) (hsm : Cond.sameMethod y.cls y.cls y.name y.desc ∈ lw_all) (hpv : Cond.privateMethod y ∈ lw_tbl) (hsel : Cond.selects Cn x2 y2 ∈ lw_all) (hy2 : y2.cls = y.cls) (h2 : Cond.instanceMethod y ∈ lw_all) (h4 : Cond.initialized y.cls ∈ lw_all) (hdg : decode cc pc = .ok (.invokevirtual index, 3)) (hst : st = As.reverse ++ .ref a :: rest) (hn : As.length = n) (hr8 : (rest.map fun v => v.category).sum ≤ 8) (hm : μ a = some (.inr (ci, fs))) (hM : PM g y (ws_ y b L r) d1 C1 N1 (.ref a :: As) μ (WQ (some v) T)) (hd : d1 + 1 ≤ d) (hC : C1 + C2 ≤ C) (hN : N1 + N2 ≤ N) (kk : ∀ M1 : Mem, T M1 → PJ g own cc nL i d C2 N2 (pc + 3) ls (v :: rest) M1 Q) : PJ g own cc nL i d C N pc ls st μ Q :=
  pj_callP As cl md h1 hsm hpv hsel hy2 h2 h4 hdg hst hn hr8 hm hM hd hC hN (fun v9 μ9 h => by
    obtain ⟨e1, h1⟩ := h
    cases e1
    exact kk μ9 h1) (fun E9 q μ9 h => by cases h.1)
end VSU
