set_option maxRecDepth 100000
/-- an answer, and what is known of the memory -/
def WQ (v : Option Value) (T : Mem → Prop) : OC → Mem → Prop := fun o M => o = .inl v ∧ T M
/-- a throw of class E, and what is known of the memory -/
def XQ (E : String) (T : Mem → Prop) : OC → Mem → Prop := fun o M => ∃ q, o = .inr (E, q) ∧ T M
section WR
variable {g : GP} {own : String} {cc : ByteArray} {nL : Nat} {i : MI} {d C N pc : Nat} {ls : List (Nat × Value)} {rest : List Value} {μ : Mem} {Q : OC → Mem → Prop}
theorem pl_callSWd {v : Value} {y : MethodName} {b : ByteArray} {L n d1 C1 N1 C2 N2 index : Nat} {r : Option FieldType} {T : Mem → Prop} {st : List Value} (As : List Value) (md : MDy y b L r n) (h1 : Cond.methodLink own index y ∈ lw_all) (h2 : Cond.static y ∈ lw_all) (h3 : Cond.initialized y.cls ∈ lw_all) (hdg : decode cc pc = .ok (.invokestatic index, 3)) (hst : st = As.reverse ++ rest) (hn : As.length = n) (hr8 : (rest.map fun v => v.category).sum ≤ 8) (hM : PM g y (ws_ y b L r) d1 C1 N1 As μ (WQ (some v) T)) (hd : d1 + 1 ≤ d) (hC : C1 + C2 ≤ C) (hN : N1 + N2 ≤ N) (kk : ∀ M1 : Mem, T M1 → PJ g own cc nL i d C2 N2 (pc + 3) ls (v :: rest) M1 Q) : PJ g own cc nL i d C N pc ls st μ Q :=
  pj_callS As md h1 h2 h3 hdg hst hn hr8 hM hd hC hN (fun v9 μ8 h => by
    obtain ⟨e1, h1⟩ := h
    cases e1
    exact kk μ8 h1) (fun E9 q μ8 h => by cases h.1)
theorem pl_callSWv {y : MethodName} {b : ByteArray} {L n d1 C1 N1 C2 N2 index : Nat} {r : Option FieldType} {T : Mem → Prop} {st : List Value} (As : List Value) (md : MDy y b L r n) (h1 : Cond.methodLink own index y ∈ lw_all) (h2 : Cond.static y ∈ lw_all) (h3 : Cond.initialized y.cls ∈ lw_all) (hdg : decode cc pc = .ok (.invokestatic index, 3)) (hst : st = As.reverse ++ rest) (hn : As.length = n) (hr8 : (rest.map fun v => v.category).sum ≤ 8) (hM : PM g y (ws_ y b L r) d1 C1 N1 As μ (WQ none T)) (hd : d1 + 1 ≤ d) (hC : C1 + C2 ≤ C) (hN : N1 + N2 ≤ N) (kk : ∀ M1 : Mem, T M1 → PJ g own cc nL i d C2 N2 (pc + 3) ls rest M1 Q) : PJ g own cc nL i d C N pc ls st μ Q :=
  pj_callS As md h1 h2 h3 hdg hst hn hr8 hM hd hC hN (fun v9 μ8 h => by
    obtain ⟨e1, h1⟩ := h
    cases e1
    exact kk μ8 h1) (fun E9 q μ8 h => by cases h.1)
theorem pl_callSX {E8 : String} {y : MethodName} {b : ByteArray} {L n d1 C1 N1 C2 N2 index : Nat} {r : Option FieldType} {T : Mem → Prop} {st : List Value} (As : List Value) (md : MDy y b L r n) (h1 : Cond.methodLink own index y ∈ lw_all) (h2 : Cond.static y ∈ lw_all) (h3 : Cond.initialized y.cls ∈ lw_all) (hdg : decode cc pc = .ok (.invokestatic index, 3)) (hst : st = As.reverse ++ rest) (hn : As.length = n) (hr8 : (rest.map fun v => v.category).sum ≤ 8) (hM : PM g y (ws_ y b L r) d1 C1 N1 As μ (XQ E8 T)) (hd : d1 + 1 ≤ d) (hC : C1 + C2 ≤ C) (hN : N1 + N2 ≤ N) (kk : ∀ (q : Nat) (M1 : Mem), T M1 → PX g own cc nL i d C2 N2 pc ls rest E8 q M1 Q) : PJ g own cc nL i d C N pc ls st μ Q :=
  pj_callS As md h1 h2 h3 hdg hst hn hr8 hM hd hC hN (fun v9 μ8 h => by
    obtain ⟨q, e1, -⟩ := h
    cases e1) (fun E9 q μ8 h => by
    obtain ⟨q1, e1, h1⟩ := h
    cases e1
    exact kk q μ8 h1)
theorem pl_callVWd {v : Value} {ci nf : Nat} {Cn : String} {Tn : u_T} {ty : Nat → FieldType} {fs : List Value} {a : Nat} {y : MethodName} {b : ByteArray} {L n d1 C1 N1 C2 N2 index : Nat} {r : Option FieldType} {T : Mem → Prop} {st : List Value} (As : List Value) (cl : CLk ci Cn Tn nf ty) (md : MDy y b L r n) (hy : y.cls = Cn) (h1 : Cond.methodLink own index y ∈ lw_all) (h2 : Cond.instanceMethod y ∈ lw_all) (h3 : Cond.selects Cn y y ∈ lw_all) (h4 : Cond.initialized Cn ∈ lw_all) (hdg : decode cc pc = .ok (.invokevirtual index, 3)) (hst : st = As.reverse ++ .ref a :: rest) (hn : As.length = n) (hr8 : (rest.map fun v => v.category).sum ≤ 8) (hm : μ a = some (.inr (ci, fs))) (hM : PM g y (ws_ y b L r) d1 C1 N1 (.ref a :: As) μ (WQ (some v) T)) (hd : d1 + 1 ≤ d) (hC : C1 + C2 ≤ C) (hN : N1 + N2 ≤ N) (kk : ∀ M1 : Mem, T M1 → PJ g own cc nL i d C2 N2 (pc + 3) ls (v :: rest) M1 Q) : PJ g own cc nL i d C N pc ls st μ Q :=
  pj_callV As cl md hy h1 h2 h3 h4 hdg hst hn hr8 hm hM hd hC hN (fun v9 μ8 h => by
    obtain ⟨e1, h1⟩ := h
    cases e1
    exact kk μ8 h1) (fun E9 q μ8 h => by cases h.1)
theorem pl_callVWv {ci nf : Nat} {Cn : String} {Tn : u_T} {ty : Nat → FieldType} {fs : List Value} {a : Nat} {y : MethodName} {b : ByteArray} {L n d1 C1 N1 C2 N2 index : Nat} {r : Option FieldType} {T : Mem → Prop} {st : List Value} (As : List Value) (cl : CLk ci Cn Tn nf ty) (md : MDy y b L r n) (hy : y.cls = Cn) (h1 : Cond.methodLink own index y ∈ lw_all) (h2 : Cond.instanceMethod y ∈ lw_all) (h3 : Cond.selects Cn y y ∈ lw_all) (h4 : Cond.initialized Cn ∈ lw_all) (hdg : decode cc pc = .ok (.invokevirtual index, 3)) (hst : st = As.reverse ++ .ref a :: rest) (hn : As.length = n) (hr8 : (rest.map fun v => v.category).sum ≤ 8) (hm : μ a = some (.inr (ci, fs))) (hM : PM g y (ws_ y b L r) d1 C1 N1 (.ref a :: As) μ (WQ none T)) (hd : d1 + 1 ≤ d) (hC : C1 + C2 ≤ C) (hN : N1 + N2 ≤ N) (kk : ∀ M1 : Mem, T M1 → PJ g own cc nL i d C2 N2 (pc + 3) ls rest M1 Q) : PJ g own cc nL i d C N pc ls st μ Q :=
  pj_callV As cl md hy h1 h2 h3 h4 hdg hst hn hr8 hm hM hd hC hN (fun v9 μ8 h => by
    obtain ⟨e1, h1⟩ := h
    cases e1
    exact kk μ8 h1) (fun E9 q μ8 h => by cases h.1)
theorem pl_callVX {E8 : String} {ci nf : Nat} {Cn : String} {Tn : u_T} {ty : Nat → FieldType} {fs : List Value} {a : Nat} {y : MethodName} {b : ByteArray} {L n d1 C1 N1 C2 N2 index : Nat} {r : Option FieldType} {T : Mem → Prop} {st : List Value} (As : List Value) (cl : CLk ci Cn Tn nf ty) (md : MDy y b L r n) (hy : y.cls = Cn) (h1 : Cond.methodLink own index y ∈ lw_all) (h2 : Cond.instanceMethod y ∈ lw_all) (h3 : Cond.selects Cn y y ∈ lw_all) (h4 : Cond.initialized Cn ∈ lw_all) (hdg : decode cc pc = .ok (.invokevirtual index, 3)) (hst : st = As.reverse ++ .ref a :: rest) (hn : As.length = n) (hr8 : (rest.map fun v => v.category).sum ≤ 8) (hm : μ a = some (.inr (ci, fs))) (hM : PM g y (ws_ y b L r) d1 C1 N1 (.ref a :: As) μ (XQ E8 T)) (hd : d1 + 1 ≤ d) (hC : C1 + C2 ≤ C) (hN : N1 + N2 ≤ N) (kk : ∀ (q : Nat) (M1 : Mem), T M1 → PX g own cc nL i d C2 N2 pc ls rest E8 q M1 Q) : PJ g own cc nL i d C N pc ls st μ Q :=
  pj_callV As cl md hy h1 h2 h3 h4 hdg hst hn hr8 hm hM hd hC hN (fun v9 μ8 h => by
    obtain ⟨q, e1, -⟩ := h
    cases e1) (fun E9 q μ8 h => by
    obtain ⟨q1, e1, h1⟩ := h
    cases e1
    exact kk q μ8 h1)
theorem pl_callIWv {a : Nat} {y : MethodName} {b : ByteArray} {L n d1 C1 N1 C2 N2 index : Nat} {T : Mem → Prop} {st : List Value} (As : List Value) (md : MDy y b L none n) (hy : y.name = "<init>") (h1 : Cond.methodLink own index y ∈ lw_all) (h2 : Cond.instanceMethod y ∈ lw_all) (h3 : Cond.initialized y.cls ∈ lw_all) (hdg : decode cc pc = .ok (.invokespecial index, 3)) (hst : st = As.reverse ++ .ref a :: rest) (hn : As.length = n) (hr8 : (rest.map fun v => v.category).sum ≤ 8) (hM : PM g y (ws_ y b L none) d1 C1 N1 (.ref a :: As) μ (WQ none T)) (hd : d1 + 1 ≤ d) (hC : C1 + C2 ≤ C) (hN : N1 + N2 ≤ N) (kk : ∀ M1 : Mem, T M1 → PJ g own cc nL i d C2 N2 (pc + 3) ls rest M1 Q) : PJ g own cc nL i d C N pc ls st μ Q :=
  pj_callI As md hy h1 h2 h3 hdg hst hn hr8 hM hd hC hN (fun v9 μ8 h => by
    obtain ⟨e1, h1⟩ := h
    cases e1
    exact kk μ8 h1) (fun E9 q μ8 h => by cases h.1)
theorem pl_callIX {E8 : String} {a : Nat} {y : MethodName} {b : ByteArray} {L n d1 C1 N1 C2 N2 index : Nat} {T : Mem → Prop} {st : List Value} (As : List Value) (md : MDy y b L none n) (hy : y.name = "<init>") (h1 : Cond.methodLink own index y ∈ lw_all) (h2 : Cond.instanceMethod y ∈ lw_all) (h3 : Cond.initialized y.cls ∈ lw_all) (hdg : decode cc pc = .ok (.invokespecial index, 3)) (hst : st = As.reverse ++ .ref a :: rest) (hn : As.length = n) (hr8 : (rest.map fun v => v.category).sum ≤ 8) (hM : PM g y (ws_ y b L none) d1 C1 N1 (.ref a :: As) μ (XQ E8 T)) (hd : d1 + 1 ≤ d) (hC : C1 + C2 ≤ C) (hN : N1 + N2 ≤ N) (kk : ∀ (q : Nat) (M1 : Mem), T M1 → PX g own cc nL i d C2 N2 pc ls rest E8 q M1 Q) : PJ g own cc nL i d C N pc ls st μ Q :=
  pj_callI As md hy h1 h2 h3 hdg hst hn hr8 hM hd hC hN (fun v9 μ8 h => by
    obtain ⟨q, e1, -⟩ := h
    cases e1) (fun E9 q μ8 h => by
    obtain ⟨q1, e1, h1⟩ := h
    cases e1
    exact kk q μ8 h1)
theorem pl_callVNWd {v : Value} {ci nf : Nat} {Cn host : String} {Tn : u_T} {ty : Nat → FieldType} {fs : List Value} {a : Nat} {y : MethodName} {b : ByteArray} {L n d1 C1 N1 C2 N2 index : Nat} {r : Option FieldType} {T : Mem → Prop} {st : List Value} (As : List Value) (cl : CLk ci Cn Tn nf ty) (md : MDy y b L r n) (h1 : Cond.methodLinkNest own index y host ∈ lw_tbl) (h2 : Cond.instanceMethod y ∈ lw_all) (h3 : Cond.selects Cn y y ∈ lw_all) (h4 : Cond.initialized y.cls ∈ lw_all) (hdg : decode cc pc = .ok (.invokevirtual index, 3)) (hst : st = As.reverse ++ .ref a :: rest) (hn : As.length = n) (hr8 : (rest.map fun v => v.category).sum ≤ 8) (hm : μ a = some (.inr (ci, fs))) (hM : PM g y (ws_ y b L r) d1 C1 N1 (.ref a :: As) μ (WQ (some v) T)) (hd : d1 + 1 ≤ d) (hC : C1 + C2 ≤ C) (hN : N1 + N2 ≤ N) (kk : ∀ M1 : Mem, T M1 → PJ g own cc nL i d C2 N2 (pc + 3) ls (v :: rest) M1 Q) : PJ g own cc nL i d C N pc ls st μ Q :=
  pj_callVN As cl md h1 h2 h3 h4 hdg hst hn hr8 hm hM hd hC hN (fun v9 μ8 h => by
    obtain ⟨e1, h1⟩ := h
    cases e1
    exact kk μ8 h1) (fun E9 q μ8 h => by cases h.1)
theorem pl_callVNWv {ci nf : Nat} {Cn host : String} {Tn : u_T} {ty : Nat → FieldType} {fs : List Value} {a : Nat} {y : MethodName} {b : ByteArray} {L n d1 C1 N1 C2 N2 index : Nat} {r : Option FieldType} {T : Mem → Prop} {st : List Value} (As : List Value) (cl : CLk ci Cn Tn nf ty) (md : MDy y b L r n) (h1 : Cond.methodLinkNest own index y host ∈ lw_tbl) (h2 : Cond.instanceMethod y ∈ lw_all) (h3 : Cond.selects Cn y y ∈ lw_all) (h4 : Cond.initialized y.cls ∈ lw_all) (hdg : decode cc pc = .ok (.invokevirtual index, 3)) (hst : st = As.reverse ++ .ref a :: rest) (hn : As.length = n) (hr8 : (rest.map fun v => v.category).sum ≤ 8) (hm : μ a = some (.inr (ci, fs))) (hM : PM g y (ws_ y b L r) d1 C1 N1 (.ref a :: As) μ (WQ none T)) (hd : d1 + 1 ≤ d) (hC : C1 + C2 ≤ C) (hN : N1 + N2 ≤ N) (kk : ∀ M1 : Mem, T M1 → PJ g own cc nL i d C2 N2 (pc + 3) ls rest M1 Q) : PJ g own cc nL i d C N pc ls st μ Q :=
  pj_callVN As cl md h1 h2 h3 h4 hdg hst hn hr8 hm hM hd hC hN (fun v9 μ8 h => by
    obtain ⟨e1, h1⟩ := h
    cases e1
    exact kk μ8 h1) (fun E9 q μ8 h => by cases h.1)
theorem pl_callVNX {E8 : String} {ci nf : Nat} {Cn host : String} {Tn : u_T} {ty : Nat → FieldType} {fs : List Value} {a : Nat} {y : MethodName} {b : ByteArray} {L n d1 C1 N1 C2 N2 index : Nat} {r : Option FieldType} {T : Mem → Prop} {st : List Value} (As : List Value) (cl : CLk ci Cn Tn nf ty) (md : MDy y b L r n) (h1 : Cond.methodLinkNest own index y host ∈ lw_tbl) (h2 : Cond.instanceMethod y ∈ lw_all) (h3 : Cond.selects Cn y y ∈ lw_all) (h4 : Cond.initialized y.cls ∈ lw_all) (hdg : decode cc pc = .ok (.invokevirtual index, 3)) (hst : st = As.reverse ++ .ref a :: rest) (hn : As.length = n) (hr8 : (rest.map fun v => v.category).sum ≤ 8) (hm : μ a = some (.inr (ci, fs))) (hM : PM g y (ws_ y b L r) d1 C1 N1 (.ref a :: As) μ (XQ E8 T)) (hd : d1 + 1 ≤ d) (hC : C1 + C2 ≤ C) (hN : N1 + N2 ≤ N) (kk : ∀ (q : Nat) (M1 : Mem), T M1 → PX g own cc nL i d C2 N2 pc ls rest E8 q M1 Q) : PJ g own cc nL i d C N pc ls st μ Q :=
  pj_callVN As cl md h1 h2 h3 h4 hdg hst hn hr8 hm hM hd hC hN (fun v9 μ8 h => by
    obtain ⟨q, e1, -⟩ := h
    cases e1) (fun E9 q μ8 h => by
    obtain ⟨q1, e1, h1⟩ := h
    cases e1
    exact kk q μ8 h1)
theorem pl_callSNWd {v : Value} {host : String} {y : MethodName} {b : ByteArray} {L n d1 C1 N1 C2 N2 index : Nat} {r : Option FieldType} {T : Mem → Prop} {st : List Value} (As : List Value) (md : MDy y b L r n) (h1 : Cond.methodLinkNest own index y host ∈ lw_tbl) (h2 : Cond.static y ∈ lw_all) (h4 : Cond.initialized y.cls ∈ lw_all) (hdg : decode cc pc = .ok (.invokestatic index, 3)) (hst : st = As.reverse ++ rest) (hn : As.length = n) (hr8 : (rest.map fun v => v.category).sum ≤ 8) (hM : PM g y (ws_ y b L r) d1 C1 N1 As μ (WQ (some v) T)) (hd : d1 + 1 ≤ d) (hC : C1 + C2 ≤ C) (hN : N1 + N2 ≤ N) (kk : ∀ M1 : Mem, T M1 → PJ g own cc nL i d C2 N2 (pc + 3) ls (v :: rest) M1 Q) : PJ g own cc nL i d C N pc ls st μ Q :=
  pj_callSN As md h1 h2 h4 hdg hst hn hr8 hM hd hC hN (fun v9 μ8 h => by
    obtain ⟨e1, h1⟩ := h
    cases e1
    exact kk μ8 h1) (fun E9 q μ8 h => by cases h.1)
theorem pl_callSNWv {host : String} {y : MethodName} {b : ByteArray} {L n d1 C1 N1 C2 N2 index : Nat} {r : Option FieldType} {T : Mem → Prop} {st : List Value} (As : List Value) (md : MDy y b L r n) (h1 : Cond.methodLinkNest own index y host ∈ lw_tbl) (h2 : Cond.static y ∈ lw_all) (h4 : Cond.initialized y.cls ∈ lw_all) (hdg : decode cc pc = .ok (.invokestatic index, 3)) (hst : st = As.reverse ++ rest) (hn : As.length = n) (hr8 : (rest.map fun v => v.category).sum ≤ 8) (hM : PM g y (ws_ y b L r) d1 C1 N1 As μ (WQ none T)) (hd : d1 + 1 ≤ d) (hC : C1 + C2 ≤ C) (hN : N1 + N2 ≤ N) (kk : ∀ M1 : Mem, T M1 → PJ g own cc nL i d C2 N2 (pc + 3) ls rest M1 Q) : PJ g own cc nL i d C N pc ls st μ Q :=
  pj_callSN As md h1 h2 h4 hdg hst hn hr8 hM hd hC hN (fun v9 μ8 h => by
    obtain ⟨e1, h1⟩ := h
    cases e1
    exact kk μ8 h1) (fun E9 q μ8 h => by cases h.1)
theorem pl_callSNX {E8 : String} {host : String} {y : MethodName} {b : ByteArray} {L n d1 C1 N1 C2 N2 index : Nat} {r : Option FieldType} {T : Mem → Prop} {st : List Value} (As : List Value) (md : MDy y b L r n) (h1 : Cond.methodLinkNest own index y host ∈ lw_tbl) (h2 : Cond.static y ∈ lw_all) (h4 : Cond.initialized y.cls ∈ lw_all) (hdg : decode cc pc = .ok (.invokestatic index, 3)) (hst : st = As.reverse ++ rest) (hn : As.length = n) (hr8 : (rest.map fun v => v.category).sum ≤ 8) (hM : PM g y (ws_ y b L r) d1 C1 N1 As μ (XQ E8 T)) (hd : d1 + 1 ≤ d) (hC : C1 + C2 ≤ C) (hN : N1 + N2 ≤ N) (kk : ∀ (q : Nat) (M1 : Mem), T M1 → PX g own cc nL i d C2 N2 pc ls rest E8 q M1 Q) : PJ g own cc nL i d C N pc ls st μ Q :=
  pj_callSN As md h1 h2 h4 hdg hst hn hr8 hM hd hC hN (fun v9 μ8 h => by
    obtain ⟨q, e1, -⟩ := h
    cases e1) (fun E9 q μ8 h => by
    obtain ⟨q1, e1, h1⟩ := h
    cases e1
    exact kk q μ8 h1)
theorem pl_callINWv {host : String} {a : Nat} {y : MethodName} {b : ByteArray} {L n d1 C1 N1 C2 N2 index : Nat} {T : Mem → Prop} {st : List Value} (As : List Value) (md : MDy y b L none n) (hy : y.name = "<init>") (h1 : Cond.methodLinkNest own index y host ∈ lw_tbl) (h2 : Cond.instanceMethod y ∈ lw_all) (h4 : Cond.initialized y.cls ∈ lw_all) (hdg : decode cc pc = .ok (.invokespecial index, 3)) (hst : st = As.reverse ++ .ref a :: rest) (hn : As.length = n) (hr8 : (rest.map fun v => v.category).sum ≤ 8) (hM : PM g y (ws_ y b L none) d1 C1 N1 (.ref a :: As) μ (WQ none T)) (hd : d1 + 1 ≤ d) (hC : C1 + C2 ≤ C) (hN : N1 + N2 ≤ N) (kk : ∀ M1 : Mem, T M1 → PJ g own cc nL i d C2 N2 (pc + 3) ls rest M1 Q) : PJ g own cc nL i d C N pc ls st μ Q :=
  pj_callIN As md hy h1 h2 h4 hdg hst hn hr8 hM hd hC hN (fun v9 μ8 h => by
    obtain ⟨e1, h1⟩ := h
    cases e1
    exact kk μ8 h1) (fun E9 q μ8 h => by cases h.1)
theorem pl_callINX {E8 : String} {host : String} {a : Nat} {y : MethodName} {b : ByteArray} {L n d1 C1 N1 C2 N2 index : Nat} {T : Mem → Prop} {st : List Value} (As : List Value) (md : MDy y b L none n) (hy : y.name = "<init>") (h1 : Cond.methodLinkNest own index y host ∈ lw_tbl) (h2 : Cond.instanceMethod y ∈ lw_all) (h4 : Cond.initialized y.cls ∈ lw_all) (hdg : decode cc pc = .ok (.invokespecial index, 3)) (hst : st = As.reverse ++ .ref a :: rest) (hn : As.length = n) (hr8 : (rest.map fun v => v.category).sum ≤ 8) (hM : PM g y (ws_ y b L none) d1 C1 N1 (.ref a :: As) μ (XQ E8 T)) (hd : d1 + 1 ≤ d) (hC : C1 + C2 ≤ C) (hN : N1 + N2 ≤ N) (kk : ∀ (q : Nat) (M1 : Mem), T M1 → PX g own cc nL i d C2 N2 pc ls rest E8 q M1 Q) : PJ g own cc nL i d C N pc ls st μ Q :=
  pj_callIN As md hy h1 h2 h4 hdg hst hn hr8 hM hd hC hN (fun v9 μ8 h => by
    obtain ⟨q, e1, -⟩ := h
    cases e1) (fun E9 q μ8 h => by
    obtain ⟨q1, e1, h1⟩ := h
    cases e1
    exact kk q μ8 h1)
theorem pl_callSHWd {v : Value} {y : MethodName} {b : ByteArray} {L n d1 C1 N1 C2 N2 index : Nat} {r : Option FieldType} {hh : List (Nat × Nat × Nat × Nat)} {T : Mem → Prop} {st : List Value} (As : List Value) (md : MDz y b L r hh n) (h1 : Cond.methodLink own index y ∈ lw_all) (h2 : Cond.static y ∈ lw_all) (h3 : Cond.initialized y.cls ∈ lw_all) (hdg : decode cc pc = .ok (.invokestatic index, 3)) (hst : st = As.reverse ++ rest) (hn : As.length = n) (hr8 : (rest.map fun v => v.category).sum ≤ 8) (hM : PM g y (wsW_ y b L r hh) d1 C1 N1 As μ (WQ (some v) T)) (hd : d1 + 1 ≤ d) (hC : C1 + C2 ≤ C) (hN : N1 + N2 ≤ N) (kk : ∀ M1 : Mem, T M1 → PJ g own cc nL i d C2 N2 (pc + 3) ls (v :: rest) M1 Q) : PJ g own cc nL i d C N pc ls st μ Q :=
  pj_callSH As md h1 h2 h3 hdg hst hn hr8 hM hd hC hN (fun v9 μ8 h => by
    obtain ⟨e1, h1⟩ := h
    cases e1
    exact kk μ8 h1) (fun E9 q μ8 h => by cases h.1)
theorem pl_callSHWv {y : MethodName} {b : ByteArray} {L n d1 C1 N1 C2 N2 index : Nat} {r : Option FieldType} {hh : List (Nat × Nat × Nat × Nat)} {T : Mem → Prop} {st : List Value} (As : List Value) (md : MDz y b L r hh n) (h1 : Cond.methodLink own index y ∈ lw_all) (h2 : Cond.static y ∈ lw_all) (h3 : Cond.initialized y.cls ∈ lw_all) (hdg : decode cc pc = .ok (.invokestatic index, 3)) (hst : st = As.reverse ++ rest) (hn : As.length = n) (hr8 : (rest.map fun v => v.category).sum ≤ 8) (hM : PM g y (wsW_ y b L r hh) d1 C1 N1 As μ (WQ none T)) (hd : d1 + 1 ≤ d) (hC : C1 + C2 ≤ C) (hN : N1 + N2 ≤ N) (kk : ∀ M1 : Mem, T M1 → PJ g own cc nL i d C2 N2 (pc + 3) ls rest M1 Q) : PJ g own cc nL i d C N pc ls st μ Q :=
  pj_callSH As md h1 h2 h3 hdg hst hn hr8 hM hd hC hN (fun v9 μ8 h => by
    obtain ⟨e1, h1⟩ := h
    cases e1
    exact kk μ8 h1) (fun E9 q μ8 h => by cases h.1)
theorem pl_callSHX {E8 : String} {y : MethodName} {b : ByteArray} {L n d1 C1 N1 C2 N2 index : Nat} {r : Option FieldType} {hh : List (Nat × Nat × Nat × Nat)} {T : Mem → Prop} {st : List Value} (As : List Value) (md : MDz y b L r hh n) (h1 : Cond.methodLink own index y ∈ lw_all) (h2 : Cond.static y ∈ lw_all) (h3 : Cond.initialized y.cls ∈ lw_all) (hdg : decode cc pc = .ok (.invokestatic index, 3)) (hst : st = As.reverse ++ rest) (hn : As.length = n) (hr8 : (rest.map fun v => v.category).sum ≤ 8) (hM : PM g y (wsW_ y b L r hh) d1 C1 N1 As μ (XQ E8 T)) (hd : d1 + 1 ≤ d) (hC : C1 + C2 ≤ C) (hN : N1 + N2 ≤ N) (kk : ∀ (q : Nat) (M1 : Mem), T M1 → PX g own cc nL i d C2 N2 pc ls rest E8 q M1 Q) : PJ g own cc nL i d C N pc ls st μ Q :=
  pj_callSH As md h1 h2 h3 hdg hst hn hr8 hM hd hC hN (fun v9 μ8 h => by
    obtain ⟨q, e1, -⟩ := h
    cases e1) (fun E9 q μ8 h => by
    obtain ⟨q1, e1, h1⟩ := h
    cases e1
    exact kk q μ8 h1)
theorem pl_callVHWd {v : Value} {ci nf : Nat} {Cn : String} {Tn : u_T} {ty : Nat → FieldType} {fs : List Value} {a : Nat} {y : MethodName} {b : ByteArray} {L n d1 C1 N1 C2 N2 index : Nat} {r : Option FieldType} {hh : List (Nat × Nat × Nat × Nat)} {T : Mem → Prop} {st : List Value} (As : List Value) (cl : CLk ci Cn Tn nf ty) (md : MDz y b L r hh n) (hy : y.cls = Cn) (h1 : Cond.methodLink own index y ∈ lw_all) (h2 : Cond.instanceMethod y ∈ lw_all) (h3 : Cond.selects Cn y y ∈ lw_all) (h4 : Cond.initialized Cn ∈ lw_all) (hdg : decode cc pc = .ok (.invokevirtual index, 3)) (hst : st = As.reverse ++ .ref a :: rest) (hn : As.length = n) (hr8 : (rest.map fun v => v.category).sum ≤ 8) (hm : μ a = some (.inr (ci, fs))) (hM : PM g y (wsW_ y b L r hh) d1 C1 N1 (.ref a :: As) μ (WQ (some v) T)) (hd : d1 + 1 ≤ d) (hC : C1 + C2 ≤ C) (hN : N1 + N2 ≤ N) (kk : ∀ M1 : Mem, T M1 → PJ g own cc nL i d C2 N2 (pc + 3) ls (v :: rest) M1 Q) : PJ g own cc nL i d C N pc ls st μ Q :=
  pj_callVH As cl md hy h1 h2 h3 h4 hdg hst hn hr8 hm hM hd hC hN (fun v9 μ8 h => by
    obtain ⟨e1, h1⟩ := h
    cases e1
    exact kk μ8 h1) (fun E9 q μ8 h => by cases h.1)
theorem pl_callVHWv {ci nf : Nat} {Cn : String} {Tn : u_T} {ty : Nat → FieldType} {fs : List Value} {a : Nat} {y : MethodName} {b : ByteArray} {L n d1 C1 N1 C2 N2 index : Nat} {r : Option FieldType} {hh : List (Nat × Nat × Nat × Nat)} {T : Mem → Prop} {st : List Value} (As : List Value) (cl : CLk ci Cn Tn nf ty) (md : MDz y b L r hh n) (hy : y.cls = Cn) (h1 : Cond.methodLink own index y ∈ lw_all) (h2 : Cond.instanceMethod y ∈ lw_all) (h3 : Cond.selects Cn y y ∈ lw_all) (h4 : Cond.initialized Cn ∈ lw_all) (hdg : decode cc pc = .ok (.invokevirtual index, 3)) (hst : st = As.reverse ++ .ref a :: rest) (hn : As.length = n) (hr8 : (rest.map fun v => v.category).sum ≤ 8) (hm : μ a = some (.inr (ci, fs))) (hM : PM g y (wsW_ y b L r hh) d1 C1 N1 (.ref a :: As) μ (WQ none T)) (hd : d1 + 1 ≤ d) (hC : C1 + C2 ≤ C) (hN : N1 + N2 ≤ N) (kk : ∀ M1 : Mem, T M1 → PJ g own cc nL i d C2 N2 (pc + 3) ls rest M1 Q) : PJ g own cc nL i d C N pc ls st μ Q :=
  pj_callVH As cl md hy h1 h2 h3 h4 hdg hst hn hr8 hm hM hd hC hN (fun v9 μ8 h => by
    obtain ⟨e1, h1⟩ := h
    cases e1
    exact kk μ8 h1) (fun E9 q μ8 h => by cases h.1)
theorem pl_callVHX {E8 : String} {ci nf : Nat} {Cn : String} {Tn : u_T} {ty : Nat → FieldType} {fs : List Value} {a : Nat} {y : MethodName} {b : ByteArray} {L n d1 C1 N1 C2 N2 index : Nat} {r : Option FieldType} {hh : List (Nat × Nat × Nat × Nat)} {T : Mem → Prop} {st : List Value} (As : List Value) (cl : CLk ci Cn Tn nf ty) (md : MDz y b L r hh n) (hy : y.cls = Cn) (h1 : Cond.methodLink own index y ∈ lw_all) (h2 : Cond.instanceMethod y ∈ lw_all) (h3 : Cond.selects Cn y y ∈ lw_all) (h4 : Cond.initialized Cn ∈ lw_all) (hdg : decode cc pc = .ok (.invokevirtual index, 3)) (hst : st = As.reverse ++ .ref a :: rest) (hn : As.length = n) (hr8 : (rest.map fun v => v.category).sum ≤ 8) (hm : μ a = some (.inr (ci, fs))) (hM : PM g y (wsW_ y b L r hh) d1 C1 N1 (.ref a :: As) μ (XQ E8 T)) (hd : d1 + 1 ≤ d) (hC : C1 + C2 ≤ C) (hN : N1 + N2 ≤ N) (kk : ∀ (q : Nat) (M1 : Mem), T M1 → PX g own cc nL i d C2 N2 pc ls rest E8 q M1 Q) : PJ g own cc nL i d C N pc ls st μ Q :=
  pj_callVH As cl md hy h1 h2 h3 h4 hdg hst hn hr8 hm hM hd hC hN (fun v9 μ8 h => by
    obtain ⟨q, e1, -⟩ := h
    cases e1) (fun E9 q μ8 h => by
    obtain ⟨q1, e1, h1⟩ := h
    cases e1
    exact kk q μ8 h1)
theorem pl_callOWd {v : Value} {ci nf : Nat} {Cn owner : String} {Tn : u_T} {ty : Nat → FieldType} {fs : List Value} {a : Nat} {x y : MethodName} {b : ByteArray} {L n d1 C1 N1 C2 N2 index : Nat} {r : Option FieldType} {T : Mem → Prop} {st : List Value} (As : List Value) (cl : CLk ci Cn Tn nf ty) (md : MDy y b L r n) (hlk : OkG g → (Cond.methodLink own index x).before #[Value.ref (gb g)] (gS g) = true) (hsm : OkG g → (Cond.sameMethod x.cls owner x.name x.desc).before #[Value.ref (gb g)] (gS g) = true) (hdc : DclX g ⟨owner, x.name, x.desc⟩) (hop : (owner ≠ "java/lang/invoke/MethodHandle" ∧ owner ≠ "java/lang/invoke/VarHandle") ∧ (parseMethodDescriptor x.desc).map (fun d => d.parameters.length) = some n) (hsel : Cond.selects Cn ⟨owner, x.name, x.desc⟩ y ∈ lw_all) (h2 : Cond.instanceMethod y ∈ lw_all) (h4 : Cond.initialized y.cls ∈ lw_all) (hdg : decode cc pc = .ok (.invokevirtual index, 3)) (hst : st = As.reverse ++ .ref a :: rest) (hn : As.length = n) (hr8 : (rest.map fun v => v.category).sum ≤ 8) (hm : μ a = some (.inr (ci, fs))) (hM : PM g y (ws_ y b L r) d1 C1 N1 (.ref a :: As) μ (WQ (some v) T)) (hd : d1 + 1 ≤ d) (hC : C1 + C2 ≤ C) (hN : N1 + N2 ≤ N) (kk : ∀ M1 : Mem, T M1 → PJ g own cc nL i d C2 N2 (pc + 3) ls (v :: rest) M1 Q) : PJ g own cc nL i d C N pc ls st μ Q :=
  pj_callO As cl md hlk hsm hdc hop hsel h2 h4 hdg hst hn hr8 hm hM hd hC hN (fun v9 μ8 h => by
    obtain ⟨e1, h1⟩ := h
    cases e1
    exact kk μ8 h1) (fun E9 q μ8 h => by cases h.1)
theorem pl_callOWv {ci nf : Nat} {Cn owner : String} {Tn : u_T} {ty : Nat → FieldType} {fs : List Value} {a : Nat} {x y : MethodName} {b : ByteArray} {L n d1 C1 N1 C2 N2 index : Nat} {r : Option FieldType} {T : Mem → Prop} {st : List Value} (As : List Value) (cl : CLk ci Cn Tn nf ty) (md : MDy y b L r n) (hlk : OkG g → (Cond.methodLink own index x).before #[Value.ref (gb g)] (gS g) = true) (hsm : OkG g → (Cond.sameMethod x.cls owner x.name x.desc).before #[Value.ref (gb g)] (gS g) = true) (hdc : DclX g ⟨owner, x.name, x.desc⟩) (hop : (owner ≠ "java/lang/invoke/MethodHandle" ∧ owner ≠ "java/lang/invoke/VarHandle") ∧ (parseMethodDescriptor x.desc).map (fun d => d.parameters.length) = some n) (hsel : Cond.selects Cn ⟨owner, x.name, x.desc⟩ y ∈ lw_all) (h2 : Cond.instanceMethod y ∈ lw_all) (h4 : Cond.initialized y.cls ∈ lw_all) (hdg : decode cc pc = .ok (.invokevirtual index, 3)) (hst : st = As.reverse ++ .ref a :: rest) (hn : As.length = n) (hr8 : (rest.map fun v => v.category).sum ≤ 8) (hm : μ a = some (.inr (ci, fs))) (hM : PM g y (ws_ y b L r) d1 C1 N1 (.ref a :: As) μ (WQ none T)) (hd : d1 + 1 ≤ d) (hC : C1 + C2 ≤ C) (hN : N1 + N2 ≤ N) (kk : ∀ M1 : Mem, T M1 → PJ g own cc nL i d C2 N2 (pc + 3) ls rest M1 Q) : PJ g own cc nL i d C N pc ls st μ Q :=
  pj_callO As cl md hlk hsm hdc hop hsel h2 h4 hdg hst hn hr8 hm hM hd hC hN (fun v9 μ8 h => by
    obtain ⟨e1, h1⟩ := h
    cases e1
    exact kk μ8 h1) (fun E9 q μ8 h => by cases h.1)
theorem pl_callOX {E8 : String} {ci nf : Nat} {Cn owner : String} {Tn : u_T} {ty : Nat → FieldType} {fs : List Value} {a : Nat} {x y : MethodName} {b : ByteArray} {L n d1 C1 N1 C2 N2 index : Nat} {r : Option FieldType} {T : Mem → Prop} {st : List Value} (As : List Value) (cl : CLk ci Cn Tn nf ty) (md : MDy y b L r n) (hlk : OkG g → (Cond.methodLink own index x).before #[Value.ref (gb g)] (gS g) = true) (hsm : OkG g → (Cond.sameMethod x.cls owner x.name x.desc).before #[Value.ref (gb g)] (gS g) = true) (hdc : DclX g ⟨owner, x.name, x.desc⟩) (hop : (owner ≠ "java/lang/invoke/MethodHandle" ∧ owner ≠ "java/lang/invoke/VarHandle") ∧ (parseMethodDescriptor x.desc).map (fun d => d.parameters.length) = some n) (hsel : Cond.selects Cn ⟨owner, x.name, x.desc⟩ y ∈ lw_all) (h2 : Cond.instanceMethod y ∈ lw_all) (h4 : Cond.initialized y.cls ∈ lw_all) (hdg : decode cc pc = .ok (.invokevirtual index, 3)) (hst : st = As.reverse ++ .ref a :: rest) (hn : As.length = n) (hr8 : (rest.map fun v => v.category).sum ≤ 8) (hm : μ a = some (.inr (ci, fs))) (hM : PM g y (ws_ y b L r) d1 C1 N1 (.ref a :: As) μ (XQ E8 T)) (hd : d1 + 1 ≤ d) (hC : C1 + C2 ≤ C) (hN : N1 + N2 ≤ N) (kk : ∀ (q : Nat) (M1 : Mem), T M1 → PX g own cc nL i d C2 N2 pc ls rest E8 q M1 Q) : PJ g own cc nL i d C N pc ls st μ Q :=
  pj_callO As cl md hlk hsm hdc hop hsel h2 h4 hdg hst hn hr8 hm hM hd hC hN (fun v9 μ8 h => by
    obtain ⟨q, e1, -⟩ := h
    cases e1) (fun E9 q μ8 h => by
    obtain ⟨q1, e1, h1⟩ := h
    cases e1
    exact kk q μ8 h1)
theorem pl_callOd {v : Value} {ci nf : Nat} {Cn owner : String} {Tn : u_T} {ty : Nat → FieldType} {fs : List Value} {a : Nat} {x y : MethodName} {b : ByteArray} {L n d1 C1 N1 C2 N2 index : Nat} {r : Option FieldType} {μ1 : Mem} {st : List Value} (As : List Value) (cl : CLk ci Cn Tn nf ty) (md : MDy y b L r n) (hlk : OkG g → (Cond.methodLink own index x).before #[Value.ref (gb g)] (gS g) = true) (hsm : OkG g → (Cond.sameMethod x.cls owner x.name x.desc).before #[Value.ref (gb g)] (gS g) = true) (hdc : DclX g ⟨owner, x.name, x.desc⟩) (hop : (owner ≠ "java/lang/invoke/MethodHandle" ∧ owner ≠ "java/lang/invoke/VarHandle") ∧ (parseMethodDescriptor x.desc).map (fun d => d.parameters.length) = some n) (hsel : Cond.selects Cn ⟨owner, x.name, x.desc⟩ y ∈ lw_all) (h2 : Cond.instanceMethod y ∈ lw_all) (h4 : Cond.initialized y.cls ∈ lw_all) (hdg : decode cc pc = .ok (.invokevirtual index, 3)) (hst : st = As.reverse ++ .ref a :: rest) (hn : As.length = n) (hr8 : (rest.map fun v => v.category).sum ≤ 8) (hm : μ a = some (.inr (ci, fs))) (hM : PM g y (ws_ y b L r) d1 C1 N1 (.ref a :: As) μ (rQ (some v) μ1)) (hd : d1 + 1 ≤ d) (hC : C1 + C2 ≤ C) (hN : N1 + N2 ≤ N) (kk : PJ g own cc nL i d C2 N2 (pc + 3) ls (v :: rest) μ1 Q) : PJ g own cc nL i d C N pc ls st μ Q :=
  pj_callO As cl md hlk hsm hdc hop hsel h2 h4 hdg hst hn hr8 hm hM hd hC hN (fun v9 μ9 h => by
    obtain ⟨e1, rfl⟩ := h
    cases e1
    exact kk) (fun E9 q μ9 h => by cases h.1)
theorem pl_callDWd {v : Value} {ci nf : Nat} {Cn owner : String} {Tn : u_T} {ty : Nat → FieldType} {fs : List Value} {a : Nat} {x y : MethodName} {b : ByteArray} {L n d1 C1 N1 C2 N2 index : Nat} {r : Option FieldType} {T : Mem → Prop} {st : List Value} (As : List Value) (cl : CLk ci Cn Tn nf ty) (md : MDy y b L r n) (hlk : OkG g → (Cond.methodLink own index x).before #[Value.ref (gb g)] (gS g) = true) (hsm : OkG g → (Cond.sameMethod x.cls owner x.name x.desc).before #[Value.ref (gb g)] (gS g) = true) (hdc : DclX g ⟨owner, x.name, x.desc⟩) (hop : (owner ≠ "java/lang/invoke/MethodHandle" ∧ owner ≠ "java/lang/invoke/VarHandle") ∧ (parseMethodDescriptor x.desc).map (fun d => d.parameters.length) = some n) (hsel : OkG g → (Cond.landsInDefault Cn x y).before #[Value.ref (gb g)] (gS g) = true) (h2 : Cond.instanceMethod y ∈ lw_all) (h4 : Cond.initialized y.cls ∈ lw_all) (hdg : decode cc pc = .ok (.invokevirtual index, 3)) (hst : st = As.reverse ++ .ref a :: rest) (hn : As.length = n) (hr8 : (rest.map fun v => v.category).sum ≤ 8) (hm : μ a = some (.inr (ci, fs))) (hM : PM g y (ws_ y b L r) d1 C1 N1 (.ref a :: As) μ (WQ (some v) T)) (hd : d1 + 1 ≤ d) (hC : C1 + C2 ≤ C) (hN : N1 + N2 ≤ N) (kk : ∀ M1 : Mem, T M1 → PJ g own cc nL i d C2 N2 (pc + 3) ls (v :: rest) M1 Q) : PJ g own cc nL i d C N pc ls st μ Q :=
  pj_callD As cl md hlk hsm hdc hop hsel h2 h4 hdg hst hn hr8 hm hM hd hC hN (fun v9 μ8 h => by
    obtain ⟨e1, h1⟩ := h
    cases e1
    exact kk μ8 h1) (fun E9 q μ8 h => by cases h.1)
theorem pl_callDWv {ci nf : Nat} {Cn owner : String} {Tn : u_T} {ty : Nat → FieldType} {fs : List Value} {a : Nat} {x y : MethodName} {b : ByteArray} {L n d1 C1 N1 C2 N2 index : Nat} {r : Option FieldType} {T : Mem → Prop} {st : List Value} (As : List Value) (cl : CLk ci Cn Tn nf ty) (md : MDy y b L r n) (hlk : OkG g → (Cond.methodLink own index x).before #[Value.ref (gb g)] (gS g) = true) (hsm : OkG g → (Cond.sameMethod x.cls owner x.name x.desc).before #[Value.ref (gb g)] (gS g) = true) (hdc : DclX g ⟨owner, x.name, x.desc⟩) (hop : (owner ≠ "java/lang/invoke/MethodHandle" ∧ owner ≠ "java/lang/invoke/VarHandle") ∧ (parseMethodDescriptor x.desc).map (fun d => d.parameters.length) = some n) (hsel : OkG g → (Cond.landsInDefault Cn x y).before #[Value.ref (gb g)] (gS g) = true) (h2 : Cond.instanceMethod y ∈ lw_all) (h4 : Cond.initialized y.cls ∈ lw_all) (hdg : decode cc pc = .ok (.invokevirtual index, 3)) (hst : st = As.reverse ++ .ref a :: rest) (hn : As.length = n) (hr8 : (rest.map fun v => v.category).sum ≤ 8) (hm : μ a = some (.inr (ci, fs))) (hM : PM g y (ws_ y b L r) d1 C1 N1 (.ref a :: As) μ (WQ none T)) (hd : d1 + 1 ≤ d) (hC : C1 + C2 ≤ C) (hN : N1 + N2 ≤ N) (kk : ∀ M1 : Mem, T M1 → PJ g own cc nL i d C2 N2 (pc + 3) ls rest M1 Q) : PJ g own cc nL i d C N pc ls st μ Q :=
  pj_callD As cl md hlk hsm hdc hop hsel h2 h4 hdg hst hn hr8 hm hM hd hC hN (fun v9 μ8 h => by
    obtain ⟨e1, h1⟩ := h
    cases e1
    exact kk μ8 h1) (fun E9 q μ8 h => by cases h.1)
theorem pl_callDX {E8 : String} {ci nf : Nat} {Cn owner : String} {Tn : u_T} {ty : Nat → FieldType} {fs : List Value} {a : Nat} {x y : MethodName} {b : ByteArray} {L n d1 C1 N1 C2 N2 index : Nat} {r : Option FieldType} {T : Mem → Prop} {st : List Value} (As : List Value) (cl : CLk ci Cn Tn nf ty) (md : MDy y b L r n) (hlk : OkG g → (Cond.methodLink own index x).before #[Value.ref (gb g)] (gS g) = true) (hsm : OkG g → (Cond.sameMethod x.cls owner x.name x.desc).before #[Value.ref (gb g)] (gS g) = true) (hdc : DclX g ⟨owner, x.name, x.desc⟩) (hop : (owner ≠ "java/lang/invoke/MethodHandle" ∧ owner ≠ "java/lang/invoke/VarHandle") ∧ (parseMethodDescriptor x.desc).map (fun d => d.parameters.length) = some n) (hsel : OkG g → (Cond.landsInDefault Cn x y).before #[Value.ref (gb g)] (gS g) = true) (h2 : Cond.instanceMethod y ∈ lw_all) (h4 : Cond.initialized y.cls ∈ lw_all) (hdg : decode cc pc = .ok (.invokevirtual index, 3)) (hst : st = As.reverse ++ .ref a :: rest) (hn : As.length = n) (hr8 : (rest.map fun v => v.category).sum ≤ 8) (hm : μ a = some (.inr (ci, fs))) (hM : PM g y (ws_ y b L r) d1 C1 N1 (.ref a :: As) μ (XQ E8 T)) (hd : d1 + 1 ≤ d) (hC : C1 + C2 ≤ C) (hN : N1 + N2 ≤ N) (kk : ∀ (q : Nat) (M1 : Mem), T M1 → PX g own cc nL i d C2 N2 pc ls rest E8 q M1 Q) : PJ g own cc nL i d C N pc ls st μ Q :=
  pj_callD As cl md hlk hsm hdc hop hsel h2 h4 hdg hst hn hr8 hm hM hd hC hN (fun v9 μ8 h => by
    obtain ⟨q, e1, -⟩ := h
    cases e1) (fun E9 q μ8 h => by
    obtain ⟨q1, e1, h1⟩ := h
    cases e1
    exact kk q μ8 h1)
theorem pl_callDd {v : Value} {ci nf : Nat} {Cn owner : String} {Tn : u_T} {ty : Nat → FieldType} {fs : List Value} {a : Nat} {x y : MethodName} {b : ByteArray} {L n d1 C1 N1 C2 N2 index : Nat} {r : Option FieldType} {μ1 : Mem} {st : List Value} (As : List Value) (cl : CLk ci Cn Tn nf ty) (md : MDy y b L r n) (hlk : OkG g → (Cond.methodLink own index x).before #[Value.ref (gb g)] (gS g) = true) (hsm : OkG g → (Cond.sameMethod x.cls owner x.name x.desc).before #[Value.ref (gb g)] (gS g) = true) (hdc : DclX g ⟨owner, x.name, x.desc⟩) (hop : (owner ≠ "java/lang/invoke/MethodHandle" ∧ owner ≠ "java/lang/invoke/VarHandle") ∧ (parseMethodDescriptor x.desc).map (fun d => d.parameters.length) = some n) (hsel : OkG g → (Cond.landsInDefault Cn x y).before #[Value.ref (gb g)] (gS g) = true) (h2 : Cond.instanceMethod y ∈ lw_all) (h4 : Cond.initialized y.cls ∈ lw_all) (hdg : decode cc pc = .ok (.invokevirtual index, 3)) (hst : st = As.reverse ++ .ref a :: rest) (hn : As.length = n) (hr8 : (rest.map fun v => v.category).sum ≤ 8) (hm : μ a = some (.inr (ci, fs))) (hM : PM g y (ws_ y b L r) d1 C1 N1 (.ref a :: As) μ (rQ (some v) μ1)) (hd : d1 + 1 ≤ d) (hC : C1 + C2 ≤ C) (hN : N1 + N2 ≤ N) (kk : PJ g own cc nL i d C2 N2 (pc + 3) ls (v :: rest) μ1 Q) : PJ g own cc nL i d C N pc ls st μ Q :=
  pj_callD As cl md hlk hsm hdc hop hsel h2 h4 hdg hst hn hr8 hm hM hd hC hN (fun v9 μ9 h => by
    obtain ⟨e1, rfl⟩ := h
    cases e1
    exact kk) (fun E9 q μ9 h => by cases h.1)
end WR
set_option maxHeartbeats 600000 in
theorem k_X4_kind {g : GP} {μ : Mem} {d : Nat} (hd : 1 ≤ d) {q : Nat} : PM g yX4_kind (ws_ yX4_kind cX4_kind 1 (some .int)) d 0 0 [.ref q] μ (rQ (some (.int (nI 0))) μ) := by
  refine PM.of (by decide +kernel) (Nat.le_of_ble_eq_true rfl) ?_
  refine PJ.ok (fun G => ?_)
  show PJ g _ _ _ _ d 0 0 0 [(0, .ref q)] [] _ _
  refine pl_iconst (pc := 0) (v := 0) dX4_kind_0 (by rfl) ?_
  refine pj_iret (pc := 1) dX4_kind_1 rfl ?_
  exact ⟨rfl, rfl⟩
set_option maxHeartbeats 600000 in
theorem k_X5_kind {g : GP} {μ : Mem} {d : Nat} (hd : 1 ≤ d) {q : Nat} : PM g yX5_kind (ws_ yX5_kind cX5_kind 1 (some .int)) d 0 0 [.ref q] μ (rQ (some (.int (nI 1))) μ) := by
  refine PM.of (by decide +kernel) (Nat.le_of_ble_eq_true rfl) ?_
  refine PJ.ok (fun G => ?_)
  show PJ g _ _ _ _ d 0 0 0 [(0, .ref q)] [] _ _
  refine pl_iconst (pc := 0) (v := 1) dX5_kind_0 (by rfl) ?_
  refine pj_iret (pc := 1) dX5_kind_1 rfl ?_
  exact ⟨rfl, rfl⟩
set_option maxHeartbeats 600000 in
theorem k_X14_kind {g : GP} {μ : Mem} {d : Nat} (hd : 1 ≤ d) {q : Nat} : PM g yX14_kind (ws_ yX14_kind cX14_kind 1 (some .int)) d 0 0 [.ref q] μ (rQ (some (.int (nI 3))) μ) := by
  refine PM.of (by decide +kernel) (Nat.le_of_ble_eq_true rfl) ?_
  refine PJ.ok (fun G => ?_)
  show PJ g _ _ _ _ d 0 0 0 [(0, .ref q)] [] _ _
  refine pl_iconst (pc := 0) (v := 3) dX14_kind_0 (by rfl) ?_
  refine pj_iret (pc := 1) dX14_kind_1 rfl ?_
  exact ⟨rfl, rfl⟩
set_option maxHeartbeats 600000 in
theorem k_X15_kind {g : GP} {μ : Mem} {d : Nat} (hd : 1 ≤ d) {q : Nat} : PM g yX15_kind (ws_ yX15_kind cX15_kind 1 (some .int)) d 0 0 [.ref q] μ (rQ (some (.int (nI 5))) μ) := by
  refine PM.of (by decide +kernel) (Nat.le_of_ble_eq_true rfl) ?_
  refine PJ.ok (fun G => ?_)
  show PJ g _ _ _ _ d 0 0 0 [(0, .ref q)] [] _ _
  refine pl_iconst (pc := 0) (v := 5) dX15_kind_0 (by rfl) ?_
  refine pj_iret (pc := 1) dX15_kind_1 rfl ?_
  exact ⟨rfl, rfl⟩
set_option maxHeartbeats 600000 in
theorem k_X16_kind {g : GP} {μ : Mem} {d : Nat} (hd : 1 ≤ d) {q : Nat} : PM g yX16_kind (ws_ yX16_kind cX16_kind 1 (some .int)) d 0 0 [.ref q] μ (rQ (some (.int (nI 4))) μ) := by
  refine PM.of (by decide +kernel) (Nat.le_of_ble_eq_true rfl) ?_
  refine PJ.ok (fun G => ?_)
  show PJ g _ _ _ _ d 0 0 0 [(0, .ref q)] [] _ _
  refine pl_iconst (pc := 0) (v := 4) dX16_kind_0 (by rfl) ?_
  refine pj_iret (pc := 1) dX16_kind_1 rfl ?_
  exact ⟨rfl, rfl⟩
set_option maxHeartbeats 600000 in
theorem k_X17_kind {g : GP} {μ : Mem} {d : Nat} (hd : 1 ≤ d) {q : Nat} : PM g yX17_kind (ws_ yX17_kind cX17_kind 1 (some .int)) d 0 0 [.ref q] μ (rQ (some (.int (nI 6))) μ) := by
  refine PM.of (by decide +kernel) (Nat.le_of_ble_eq_true rfl) ?_
  refine PJ.ok (fun G => ?_)
  show PJ g _ _ _ _ d 0 0 0 [(0, .ref q)] [] _ _
  refine pl_bipush (pc := 0) (v := 6) dX17_kind_0 (by rfl) ?_
  refine pj_iret (pc := 2) dX17_kind_2 rfl ?_
  exact ⟨rfl, rfl⟩
set_option maxHeartbeats 600000 in
theorem k_X14_holder {g : GP} {μ : Mem} {d : Nat} (hd : 1 ≤ d) {q : Nat} {a9 b9 c9 : Int32} (hm : μ q = some (.inr (16, [.int a9, .int b9, .int c9]))) : PM g yX14_holder (ws_ yX14_holder cX14_holder 1 (some .int)) d 0 0 [.ref q] μ (rQ (some (.int (a9))) μ) := by
  refine PM.of (by decide +kernel) (Nat.le_of_ble_eq_true rfl) ?_
  refine PJ.ok (fun G => ?_)
  show PJ g _ _ _ _ d 0 0 0 [(0, .ref q)] [] _ _
  refine pl_aload_n (pc := 0) dX14_holder_0 rfl rfl ?_
  refine pj_getf (pc := 1) ckX14 0 q1727 dX14_holder_1 (by decide) hm rfl ?_
  refine pj_iret (pc := 4) dX14_holder_4 rfl ?_
  exact ⟨rfl, rfl⟩
set_option maxHeartbeats 600000 in
theorem k_X14_paid {g : GP} {μ : Mem} {d : Nat} (hd : 1 ≤ d) {q : Nat} {a9 b9 c9 : Int32} (hm : μ q = some (.inr (16, [.int a9, .int b9, .int c9]))) : PM g yX14_paid (ws_ yX14_paid cX14_paid 1 (some .int)) d 0 0 [.ref q] μ (rQ (some (.int (b9))) μ) := by
  refine PM.of (by decide +kernel) (Nat.le_of_ble_eq_true rfl) ?_
  refine PJ.ok (fun G => ?_)
  show PJ g _ _ _ _ d 0 0 0 [(0, .ref q)] [] _ _
  refine pl_aload_n (pc := 0) dX14_paid_0 rfl rfl ?_
  refine pj_getf (pc := 1) ckX14 1 q1728 dX14_paid_1 (by decide) hm rfl ?_
  refine pj_iret (pc := 4) dX14_paid_4 rfl ?_
  exact ⟨rfl, rfl⟩
set_option maxHeartbeats 600000 in
theorem k_X15_holder {g : GP} {μ : Mem} {d : Nat} (hd : 1 ≤ d) {q : Nat} {a9 b9 c9 : Int32} (hm : μ q = some (.inr (17, [.int a9, .int b9, .int c9]))) : PM g yX14_holder (ws_ yX14_holder cX14_holder 1 (some .int)) d 0 0 [.ref q] μ (rQ (some (.int (a9))) μ) := by
  refine PM.of (by decide +kernel) (Nat.le_of_ble_eq_true rfl) ?_
  refine PJ.ok (fun G => ?_)
  show PJ g _ _ _ _ d 0 0 0 [(0, .ref q)] [] _ _
  refine pl_aload_n (pc := 0) dX14_holder_0 rfl rfl ?_
  refine pj_getf (pc := 1) ckX15 0 q1727 dX14_holder_1 (by decide) hm rfl ?_
  refine pj_iret (pc := 4) dX14_holder_4 rfl ?_
  exact ⟨rfl, rfl⟩
set_option maxHeartbeats 600000 in
theorem k_X15_paid {g : GP} {μ : Mem} {d : Nat} (hd : 1 ≤ d) {q : Nat} {a9 b9 c9 : Int32} (hm : μ q = some (.inr (17, [.int a9, .int b9, .int c9]))) : PM g yX14_paid (ws_ yX14_paid cX14_paid 1 (some .int)) d 0 0 [.ref q] μ (rQ (some (.int (b9))) μ) := by
  refine PM.of (by decide +kernel) (Nat.le_of_ble_eq_true rfl) ?_
  refine PJ.ok (fun G => ?_)
  show PJ g _ _ _ _ d 0 0 0 [(0, .ref q)] [] _ _
  refine pl_aload_n (pc := 0) dX14_paid_0 rfl rfl ?_
  refine pj_getf (pc := 1) ckX15 1 q1728 dX14_paid_1 (by decide) hm rfl ?_
  refine pj_iret (pc := 4) dX14_paid_4 rfl ?_
  exact ⟨rfl, rfl⟩
set_option maxHeartbeats 600000 in
theorem k_X16_holder {g : GP} {μ : Mem} {d : Nat} (hd : 1 ≤ d) {q : Nat} {a9 : Int32} (hm : μ q = some (.inr (18, [.int a9]))) : PM g yX16_holder (ws_ yX16_holder cX16_holder 1 (some .int)) d 0 0 [.ref q] μ (rQ (some (.int (a9))) μ) := by
  refine PM.of (by decide +kernel) (Nat.le_of_ble_eq_true rfl) ?_
  refine PJ.ok (fun G => ?_)
  show PJ g _ _ _ _ d 0 0 0 [(0, .ref q)] [] _ _
  refine pl_aload_n (pc := 0) dX16_holder_0 rfl rfl ?_
  refine pj_getf (pc := 1) ckX16 0 q1810 dX16_holder_1 (by decide) hm rfl ?_
  refine pj_iret (pc := 4) dX16_holder_4 rfl ?_
  exact ⟨rfl, rfl⟩
set_option maxHeartbeats 600000 in
theorem k_X17_holder {g : GP} {μ : Mem} {d : Nat} (hd : 1 ≤ d) {q : Nat} {a9 : Int32} (hm : μ q = some (.inr (19, [.int a9]))) : PM g yX16_holder (ws_ yX16_holder cX16_holder 1 (some .int)) d 0 0 [.ref q] μ (rQ (some (.int (a9))) μ) := by
  refine PM.of (by decide +kernel) (Nat.le_of_ble_eq_true rfl) ?_
  refine PJ.ok (fun G => ?_)
  show PJ g _ _ _ _ d 0 0 0 [(0, .ref q)] [] _ _
  refine pl_aload_n (pc := 0) dX16_holder_0 rfl rfl ?_
  refine pj_getf (pc := 1) ckX17 0 q1810 dX16_holder_1 (by decide) hm rfl ?_
  refine pj_iret (pc := 4) dX16_holder_4 rfl ?_
  exact ⟨rfl, rfl⟩
set_option maxHeartbeats 600000 in
theorem k_X14_isFarm {g : GP} {μ : Mem} {d : Nat} (hd : 1 ≤ d) {q : Nat} : PM g yX14_isFarm (ws_ yX14_isFarm cX14_isFarm 1 (some .boolean)) d 0 0 [.ref q] μ (rQ (some (.int (nI 1))) μ) := by
  refine PM.of (by decide +kernel) (Nat.le_of_ble_eq_true rfl) ?_
  refine PJ.ok (fun G => ?_)
  show PJ g _ _ _ _ d 0 0 0 [(0, .ref q)] [] _ _
  refine pl_iconst (pc := 0) (v := 1) dX14_isFarm_0 (by rfl) ?_
  refine pj_zret (pc := 1) .boolean dX14_isFarm_1 rfl (by rfl) ?_
  exact ⟨rfl, rfl⟩
set_option maxHeartbeats 600000 in
theorem k_X16_isPasture {g : GP} {μ : Mem} {d : Nat} (hd : 1 ≤ d) {q : Nat} : PM g yX16_isPasture (ws_ yX16_isPasture cX16_isPasture 1 (some .boolean)) d 0 0 [.ref q] μ (rQ (some (.int (nI 1))) μ) := by
  refine PM.of (by decide +kernel) (Nat.le_of_ble_eq_true rfl) ?_
  refine PJ.ok (fun G => ?_)
  show PJ g _ _ _ _ d 0 0 0 [(0, .ref q)] [] _ _
  refine pl_iconst (pc := 0) (v := 1) dX16_isPasture_0 (by rfl) ?_
  refine pj_zret (pc := 1) .boolean dX16_isPasture_1 rfl (by rfl) ?_
  exact ⟨rfl, rfl⟩
set_option maxHeartbeats 600000 in
theorem k_X16_ends {g : GP} {μ : Mem} {d : Nat} (hd : 1 ≤ d) {q : Nat} : PM g yX16_ends (ws_ yX16_ends cX16_ends 1 (some .boolean)) d 0 0 [.ref q] μ (rQ (some (.int (nI 1))) μ) := by
  refine PM.of (by decide +kernel) (Nat.le_of_ble_eq_true rfl) ?_
  refine PJ.ok (fun G => ?_)
  show PJ g _ _ _ _ d 0 0 0 [(0, .ref q)] [] _ _
  refine pl_iconst (pc := 0) (v := 1) dX16_ends_0 (by rfl) ?_
  refine pj_zret (pc := 1) .boolean dX16_ends_1 rfl (by rfl) ?_
  exact ⟨rfl, rfl⟩
set_option maxHeartbeats 600000 in
theorem k_X17_ends {g : GP} {μ : Mem} {d : Nat} (hd : 1 ≤ d) {q : Nat} : PM g yX17_ends (ws_ yX17_ends cX17_ends 1 (some .boolean)) d 0 0 [.ref q] μ (rQ (some (.int (nI 0))) μ) := by
  refine PM.of (by decide +kernel) (Nat.le_of_ble_eq_true rfl) ?_
  refine PJ.ok (fun G => ?_)
  show PJ g _ _ _ _ d 0 0 0 [(0, .ref q)] [] _ _
  refine pl_iconst (pc := 0) (v := 0) dX17_ends_0 (by rfl) ?_
  refine pj_zret (pc := 1) .boolean dX17_ends_1 rfl (by rfl) ?_
  exact ⟨rfl, rfl⟩
set_option maxHeartbeats 600000 in
theorem k_X31_isFarm {g : GP} {μ : Mem} {d : Nat} (hd : 1 ≤ d) {q : Nat} : PM g yX31_isFarm (ws_ yX31_isFarm cX31_isFarm 1 (some .boolean)) d 0 0 [.ref q] μ (rQ (some (.int (nI 0))) μ) := by
  refine PM.of (by decide +kernel) (Nat.le_of_ble_eq_true rfl) ?_
  refine PJ.ok (fun G => ?_)
  show PJ g _ _ _ _ d 0 0 0 [(0, .ref q)] [] _ _
  refine pl_iconst (pc := 0) (v := 0) dX31_isFarm_0 (by rfl) ?_
  refine pj_zret (pc := 1) .boolean dX31_isFarm_1 rfl (by rfl) ?_
  exact ⟨rfl, rfl⟩
set_option maxHeartbeats 600000 in
theorem k_X31_isPasture {g : GP} {μ : Mem} {d : Nat} (hd : 1 ≤ d) {q : Nat} : PM g yX31_isPasture (ws_ yX31_isPasture cX31_isPasture 1 (some .boolean)) d 0 0 [.ref q] μ (rQ (some (.int (nI 0))) μ) := by
  refine PM.of (by decide +kernel) (Nat.le_of_ble_eq_true rfl) ?_
  refine PJ.ok (fun G => ?_)
  show PJ g _ _ _ _ d 0 0 0 [(0, .ref q)] [] _ _
  refine pl_iconst (pc := 0) (v := 0) dX31_isPasture_0 (by rfl) ?_
  refine pj_zret (pc := 1) .boolean dX31_isPasture_1 rfl (by rfl) ?_
  exact ⟨rfl, rfl⟩
set_option maxHeartbeats 600000 in
theorem k_X34_ends {g : GP} {μ : Mem} {d : Nat} (hd : 1 ≤ d) {q : Nat} : PM g yX34_ends (ws_ yX34_ends cX34_ends 1 (some .boolean)) d 0 0 [.ref q] μ (rQ (some (.int (nI 0))) μ) := by
  refine PM.of (by decide +kernel) (Nat.le_of_ble_eq_true rfl) ?_
  refine PJ.ok (fun G => ?_)
  show PJ g _ _ _ _ d 0 0 0 [(0, .ref q)] [] _ _
  refine pl_iconst (pc := 0) (v := 0) dX34_ends_0 (by rfl) ?_
  refine pj_zret (pc := 1) .boolean dX34_ends_1 rfl (by rfl) ?_
  exact ⟨rfl, rfl⟩
set_option maxHeartbeats 600000 in
theorem k_X32_holder {g : GP} {μ : Mem} {d : Nat} (hd : 1 ≤ d) {q : Nat} : PM g yX32_holder (ws_ yX32_holder cX32_holder 1 (some .int)) d 0 0 [.ref q] μ (rQ (some (.int (-1))) μ) := by
  refine PM.of (by decide +kernel) (Nat.le_of_ble_eq_true rfl) ?_
  refine PJ.ok (fun G => ?_)
  show PJ g _ _ _ _ d 0 0 0 [(0, .ref q)] [] _ _
  refine pj_iconst (pc := 0) (v := (-1)) dX32_holder_0 (by rfl) ?_
  refine pj_iret (pc := 1) dX32_holder_1 rfl ?_
  exact ⟨rfl, rfl⟩
set_option maxHeartbeats 600000 in
theorem k_X33_paid {g : GP} {μ : Mem} {d : Nat} (hd : 1 ≤ d) {q : Nat} : PM g yX33_paid (ws_ yX33_paid cX33_paid 1 (some .int)) d 0 0 [.ref q] μ (rQ (some (.int (-1))) μ) := by
  refine PM.of (by decide +kernel) (Nat.le_of_ble_eq_true rfl) ?_
  refine PJ.ok (fun G => ?_)
  show PJ g _ _ _ _ d 0 0 0 [(0, .ref q)] [] _ _
  refine pj_iconst (pc := 0) (v := (-1)) dX33_paid_0 (by rfl) ?_
  refine pj_iret (pc := 1) dX33_paid_1 rfl ?_
  exact ⟨rfl, rfl⟩
theorem ph_kind {g : GP} {own : String} {cc : ByteArray} {nL : Nat} {i : MI} {d C N pc : Nat} {ls : List (Nat × Value)} {rest : List Value} {μ : Mem} {Q : OC → Mem → Prop} {q index : Nat} {r : Nat → Int32} (hq : HoC μ q r) (hlk : OkG g → (Cond.methodLink own index (⟨"SettlerColony$Holding", "kind", "()I"⟩ : MethodName)).before #[Value.ref (gb g)] (gS g) = true) (hsm : OkG g → (Cond.sameMethod "SettlerColony$Holding" "SettlerColony$Tells" "kind" "()I").before #[Value.ref (gb g)] (gS g) = true) (hdg : decode cc pc = .ok (.invokevirtual index, 3)) (hd : 2 ≤ d) (hr8 : (rest.map fun v => v.category).sum ≤ 8) (kk : PJ g own cc nL i d C N (pc + 3) ls (.int (r 0) :: rest) μ Q) : PJ g own cc nL i d C N pc ls (.ref q :: rest) μ Q := by
  rcases hq with ⟨e0, e1, e2, hm⟩ | ⟨e0, e1, e2, hm⟩ | ⟨e0, hm⟩ | ⟨e0, e2, hm⟩ | ⟨e0, hm⟩ | ⟨e0, e2, hm⟩
  · refine pl_callOd (As := []) (C1 := 0) (N1 := 0) (C2 := C) (N2 := N) ckX4 mdX4_kind hlk hsm (dcl_t q1133) (by decide) q1149 q1150 q148 hdg rfl rfl hr8 hm (k_X4_kind (d := d - 1) (by omega)) (by omega) (by omega) (by omega) ?_
    rw [e0] at kk
    exact kk
  · refine pl_callOd (As := []) (C1 := 0) (N1 := 0) (C2 := C) (N2 := N) ckX5 mdX5_kind hlk hsm (dcl_t q1133) (by decide) q1137 q1138 q149 hdg rfl rfl hr8 hm (k_X5_kind (d := d - 1) (by omega)) (by omega) (by omega) (by omega) ?_
    rw [e0] at kk
    exact kk
  · refine pl_callOd (As := []) (C1 := 0) (N1 := 0) (C2 := C) (N2 := N) ckX14 mdX14_kind hlk hsm (dcl_t q1133) (by decide) q1134 q1135 q162 hdg rfl rfl hr8 hm (k_X14_kind (d := d - 1) (by omega)) (by omega) (by omega) (by omega) ?_
    rw [e0] at kk
    exact kk
  · refine pl_callOd (As := []) (C1 := 0) (N1 := 0) (C2 := C) (N2 := N) ckX16 mdX16_kind hlk hsm (dcl_t q1133) (by decide) q1143 q1144 q165 hdg rfl rfl hr8 hm (k_X16_kind (d := d - 1) (by omega)) (by omega) (by omega) (by omega) ?_
    rw [e0] at kk
    exact kk
  · refine pl_callOd (As := []) (C1 := 0) (N1 := 0) (C2 := C) (N2 := N) ckX15 mdX15_kind hlk hsm (dcl_t q1133) (by decide) q1140 q1141 q164 hdg rfl rfl hr8 hm (k_X15_kind (d := d - 1) (by omega)) (by omega) (by omega) (by omega) ?_
    rw [e0] at kk
    exact kk
  · refine pl_callOd (As := []) (C1 := 0) (N1 := 0) (C2 := C) (N2 := N) ckX17 mdX17_kind hlk hsm (dcl_t q1133) (by decide) q1146 q1147 q166 hdg rfl rfl hr8 hm (k_X17_kind (d := d - 1) (by omega)) (by omega) (by omega) (by omega) ?_
    rw [e0] at kk
    exact kk
theorem ph_holder {g : GP} {own : String} {cc : ByteArray} {nL : Nat} {i : MI} {d C N pc : Nat} {ls : List (Nat × Value)} {rest : List Value} {μ : Mem} {Q : OC → Mem → Prop} {q index : Nat} {r : Nat → Int32} (hq : HoC μ q r) (hlk : OkG g → (Cond.methodLink own index (⟨"SettlerColony$Holding", "holder", "()I"⟩ : MethodName)).before #[Value.ref (gb g)] (gS g) = true) (hsm : OkG g → (Cond.sameMethod "SettlerColony$Holding" "SettlerColony$Holds" "holder" "()I").before #[Value.ref (gb g)] (gS g) = true) (hdg : decode cc pc = .ok (.invokevirtual index, 3)) (hd : 2 ≤ d) (hr8 : (rest.map fun v => v.category).sum ≤ 8) (kk : PJ g own cc nL i d C N (pc + 3) ls (.int (r 1) :: rest) μ Q) : PJ g own cc nL i d C N pc ls (.ref q :: rest) μ Q := by
  rcases hq with ⟨e0, e1, e2, hm⟩ | ⟨e0, e1, e2, hm⟩ | ⟨e0, hm⟩ | ⟨e0, e2, hm⟩ | ⟨e0, hm⟩ | ⟨e0, e2, hm⟩
  · refine pl_callDd (As := []) (C1 := 0) (N1 := 0) (C2 := C) (N2 := N) ckX4 mdX32_holder hlk hsm (dcl_t q1152) (by decide) (fun G => nr_leaf G [0, 0, 0, 0, 1, 0, 1, 0, 1] (by decide +kernel)) q1163 q3220 hdg rfl rfl hr8 hm (k_X32_holder (d := d - 1) (by omega)) (by omega) (by omega) (by omega) ?_
    rw [e1] at kk
    exact kk
  · refine pl_callDd (As := []) (C1 := 0) (N1 := 0) (C2 := C) (N2 := N) ckX5 mdX32_holder hlk hsm (dcl_t q1152) (by decide) (fun G => nr_leaf G [0, 0, 0, 0, 1, 0, 1, 1, 0] (by decide +kernel)) q1163 q3220 hdg rfl rfl hr8 hm (k_X32_holder (d := d - 1) (by omega)) (by omega) (by omega) (by omega) ?_
    rw [e1] at kk
    exact kk
  · refine pl_callOd (As := []) (C1 := 0) (N1 := 0) (C2 := C) (N2 := N) ckX14 mdX14_holder hlk hsm (dcl_t q1152) (by decide) q1153 q1154 q162 hdg rfl rfl hr8 hm (k_X14_holder (d := d - 1) (by omega) hm) (by omega) (by omega) (by omega) ?_
    exact kk
  · refine pl_callOd (As := []) (C1 := 0) (N1 := 0) (C2 := C) (N2 := N) ckX16 mdX16_holder hlk hsm (dcl_t q1152) (by decide) q1158 q1159 q165 hdg rfl rfl hr8 hm (k_X16_holder (d := d - 1) (by omega) hm) (by omega) (by omega) (by omega) ?_
    exact kk
  · refine pl_callOd (As := []) (C1 := 0) (N1 := 0) (C2 := C) (N2 := N) ckX15 mdX14_holder hlk hsm (dcl_t q1152) (by decide) q1157 q1154 q162 hdg rfl rfl hr8 hm (k_X15_holder (d := d - 1) (by omega) hm) (by omega) (by omega) (by omega) ?_
    exact kk
  · refine pl_callOd (As := []) (C1 := 0) (N1 := 0) (C2 := C) (N2 := N) ckX17 mdX16_holder hlk hsm (dcl_t q1152) (by decide) q1161 q1159 q165 hdg rfl rfl hr8 hm (k_X17_holder (d := d - 1) (by omega) hm) (by omega) (by omega) (by omega) ?_
    exact kk
theorem ph_paid {g : GP} {own : String} {cc : ByteArray} {nL : Nat} {i : MI} {d C N pc : Nat} {ls : List (Nat × Value)} {rest : List Value} {μ : Mem} {Q : OC → Mem → Prop} {q index : Nat} {r : Nat → Int32} (hq : HoC μ q r) (hlk : OkG g → (Cond.methodLink own index (⟨"SettlerColony$Holding", "paid", "()I"⟩ : MethodName)).before #[Value.ref (gb g)] (gS g) = true) (hsm : OkG g → (Cond.sameMethod "SettlerColony$Holding" "SettlerColony$Costs" "paid" "()I").before #[Value.ref (gb g)] (gS g) = true) (hdg : decode cc pc = .ok (.invokevirtual index, 3)) (hd : 2 ≤ d) (hr8 : (rest.map fun v => v.category).sum ≤ 8) (kk : PJ g own cc nL i d C N (pc + 3) ls (.int (r 2) :: rest) μ Q) : PJ g own cc nL i d C N pc ls (.ref q :: rest) μ Q := by
  rcases hq with ⟨e0, e1, e2, hm⟩ | ⟨e0, e1, e2, hm⟩ | ⟨e0, hm⟩ | ⟨e0, e2, hm⟩ | ⟨e0, hm⟩ | ⟨e0, e2, hm⟩
  · refine pl_callDd (As := []) (C1 := 0) (N1 := 0) (C2 := C) (N2 := N) ckX4 mdX33_paid hlk hsm (dcl_t q1346) (by decide) (fun G => nr_leaf G [0, 0, 0, 0, 1, 0, 0, 0, 0, 1] (by decide +kernel)) q1355 q3222 hdg rfl rfl hr8 hm (k_X33_paid (d := d - 1) (by omega)) (by omega) (by omega) (by omega) ?_
    rw [e2] at kk
    exact kk
  · refine pl_callDd (As := []) (C1 := 0) (N1 := 0) (C2 := C) (N2 := N) ckX5 mdX33_paid hlk hsm (dcl_t q1346) (by decide) (fun G => nr_leaf G [0, 0, 0, 0, 1, 0, 0, 1, 0, 0] (by decide +kernel)) q1355 q3222 hdg rfl rfl hr8 hm (k_X33_paid (d := d - 1) (by omega)) (by omega) (by omega) (by omega) ?_
    rw [e2] at kk
    exact kk
  · refine pl_callOd (As := []) (C1 := 0) (N1 := 0) (C2 := C) (N2 := N) ckX14 mdX14_paid hlk hsm (dcl_t q1346) (by decide) q1347 q1348 q162 hdg rfl rfl hr8 hm (k_X14_paid (d := d - 1) (by omega) hm) (by omega) (by omega) (by omega) ?_
    exact kk
  · refine pl_callDd (As := []) (C1 := 0) (N1 := 0) (C2 := C) (N2 := N) ckX16 mdX33_paid hlk hsm (dcl_t q1346) (by decide) (fun G => nr_leaf G [0, 0, 0, 0, 1, 0, 0, 0, 2] (by decide +kernel)) q1355 q3222 hdg rfl rfl hr8 hm (k_X33_paid (d := d - 1) (by omega)) (by omega) (by omega) (by omega) ?_
    rw [e2] at kk
    exact kk
  · refine pl_callOd (As := []) (C1 := 0) (N1 := 0) (C2 := C) (N2 := N) ckX15 mdX14_paid hlk hsm (dcl_t q1346) (by decide) q1351 q1348 q162 hdg rfl rfl hr8 hm (k_X15_paid (d := d - 1) (by omega) hm) (by omega) (by omega) (by omega) ?_
    exact kk
  · refine pl_callDd (As := []) (C1 := 0) (N1 := 0) (C2 := C) (N2 := N) ckX17 mdX33_paid hlk hsm (dcl_t q1346) (by decide) (fun G => nr_leaf G [0, 0, 0, 0, 1, 0, 0, 0, 1, 0] (by decide +kernel)) q1355 q3222 hdg rfl rfl hr8 hm (k_X33_paid (d := d - 1) (by omega)) (by omega) (by omega) (by omega) ?_
    rw [e2] at kk
    exact kk
theorem ph_isFarm {g : GP} {own : String} {cc : ByteArray} {nL : Nat} {i : MI} {d C N pc : Nat} {ls : List (Nat × Value)} {rest : List Value} {μ : Mem} {Q : OC → Mem → Prop} {q index : Nat} {r : Nat → Int32} (hq : HoC μ q r) (hlk : OkG g → (Cond.methodLink own index (⟨"SettlerColony$Holding", "isFarm", "()Z"⟩ : MethodName)).before #[Value.ref (gb g)] (gS g) = true) (hsm : OkG g → (Cond.sameMethod "SettlerColony$Holding" "SettlerColony$Tells" "isFarm" "()Z").before #[Value.ref (gb g)] (gS g) = true) (hdg : decode cc pc = .ok (.invokevirtual index, 3)) (hd : 2 ≤ d) (hr8 : (rest.map fun v => v.category).sum ≤ 8) (kk : PJ g own cc nL i d C N (pc + 3) ls (.int (bI (isFarmV (r 0))) :: rest) μ Q) : PJ g own cc nL i d C N pc ls (.ref q :: rest) μ Q := by
  rcases hq with ⟨e0, e1, e2, hm⟩ | ⟨e0, e1, e2, hm⟩ | ⟨e0, hm⟩ | ⟨e0, e2, hm⟩ | ⟨e0, hm⟩ | ⟨e0, e2, hm⟩
  · refine pl_callDd (As := []) (C1 := 0) (N1 := 0) (C2 := C) (N2 := N) ckX4 mdX31_isFarm hlk hsm (dcl_t q1200) (by decide) (fun G => nr_leaf G [0, 0, 0, 0, 1, 0, 0, 1, 1] (by decide +kernel)) q1209 q3221 hdg rfl rfl hr8 hm (k_X31_isFarm (d := d - 1) (by omega)) (by omega) (by omega) (by omega) ?_
    rw [e0] at kk
    exact kk
  · refine pl_callDd (As := []) (C1 := 0) (N1 := 0) (C2 := C) (N2 := N) ckX5 mdX31_isFarm hlk hsm (dcl_t q1200) (by decide) (fun G => nr_leaf G [0, 0, 0, 0, 1, 0, 1, 0, 0, 0] (by decide +kernel)) q1209 q3221 hdg rfl rfl hr8 hm (k_X31_isFarm (d := d - 1) (by omega)) (by omega) (by omega) (by omega) ?_
    rw [e0] at kk
    exact kk
  · refine pl_callOd (As := []) (C1 := 0) (N1 := 0) (C2 := C) (N2 := N) ckX14 mdX14_isFarm hlk hsm (dcl_t q1200) (by decide) q1201 q1202 q162 hdg rfl rfl hr8 hm (k_X14_isFarm (d := d - 1) (by omega)) (by omega) (by omega) (by omega) ?_
    rw [e0] at kk
    exact kk
  · refine pl_callDd (As := []) (C1 := 0) (N1 := 0) (C2 := C) (N2 := N) ckX16 mdX31_isFarm hlk hsm (dcl_t q1200) (by decide) (fun G => nr_leaf G [0, 0, 0, 0, 1, 0, 0, 3] (by decide +kernel)) q1209 q3221 hdg rfl rfl hr8 hm (k_X31_isFarm (d := d - 1) (by omega)) (by omega) (by omega) (by omega) ?_
    rw [e0] at kk
    exact kk
  · refine pl_callOd (As := []) (C1 := 0) (N1 := 0) (C2 := C) (N2 := N) ckX15 mdX14_isFarm hlk hsm (dcl_t q1200) (by decide) q1205 q1202 q162 hdg rfl rfl hr8 hm (k_X14_isFarm (d := d - 1) (by omega)) (by omega) (by omega) (by omega) ?_
    rw [e0] at kk
    exact kk
  · refine pl_callDd (As := []) (C1 := 0) (N1 := 0) (C2 := C) (N2 := N) ckX17 mdX31_isFarm hlk hsm (dcl_t q1200) (by decide) (fun G => nr_leaf G [0, 0, 0, 0, 1, 0, 0, 2, 0] (by decide +kernel)) q1209 q3221 hdg rfl rfl hr8 hm (k_X31_isFarm (d := d - 1) (by omega)) (by omega) (by omega) (by omega) ?_
    rw [e0] at kk
    exact kk
theorem ph_ends {g : GP} {own : String} {cc : ByteArray} {nL : Nat} {i : MI} {d C N pc : Nat} {ls : List (Nat × Value)} {rest : List Value} {μ : Mem} {Q : OC → Mem → Prop} {q index : Nat} {r : Nat → Int32} (hq : HoC μ q r) (hlk : OkG g → (Cond.methodLink own index (⟨"SettlerColony$Holding", "ends", "()Z"⟩ : MethodName)).before #[Value.ref (gb g)] (gS g) = true) (hsm : OkG g → (Cond.sameMethod "SettlerColony$Holding" "SettlerColony$Ends" "ends" "()Z").before #[Value.ref (gb g)] (gS g) = true) (hdg : decode cc pc = .ok (.invokevirtual index, 3)) (hd : 2 ≤ d) (hr8 : (rest.map fun v => v.category).sum ≤ 8) (kk : PJ g own cc nL i d C N (pc + 3) ls (.int (bI (decide (r 0 = nI 4))) :: rest) μ Q) : PJ g own cc nL i d C N pc ls (.ref q :: rest) μ Q := by
  rcases hq with ⟨e0, e1, e2, hm⟩ | ⟨e0, e1, e2, hm⟩ | ⟨e0, hm⟩ | ⟨e0, e2, hm⟩ | ⟨e0, hm⟩ | ⟨e0, e2, hm⟩
  · refine pl_callDd (As := []) (C1 := 0) (N1 := 0) (C2 := C) (N2 := N) ckX4 mdX34_ends hlk hsm (dcl_t q2432) (by decide) (fun G => nr_leaf G [0, 0, 0, 0, 0, 2, 1, 0, 0] (by decide +kernel)) q2443 q3223 hdg rfl rfl hr8 hm (k_X34_ends (d := d - 1) (by omega)) (by omega) (by omega) (by omega) ?_
    rw [e0] at kk
    exact kk
  · refine pl_callDd (As := []) (C1 := 0) (N1 := 0) (C2 := C) (N2 := N) ckX5 mdX34_ends hlk hsm (dcl_t q2432) (by decide) (fun G => nr_leaf G [0, 0, 0, 0, 0, 2, 2] (by decide +kernel)) q2443 q3223 hdg rfl rfl hr8 hm (k_X34_ends (d := d - 1) (by omega)) (by omega) (by omega) (by omega) ?_
    rw [e0] at kk
    exact kk
  · refine pl_callDd (As := []) (C1 := 0) (N1 := 0) (C2 := C) (N2 := N) ckX14 mdX34_ends hlk hsm (dcl_t q2432) (by decide) (fun G => nr_leaf G [0, 0, 0, 0, 0, 3, 0, 0, 0] (by decide +kernel)) q2443 q3223 hdg rfl rfl hr8 hm (k_X34_ends (d := d - 1) (by omega)) (by omega) (by omega) (by omega) ?_
    rw [e0] at kk
    exact kk
  · refine pl_callOd (As := []) (C1 := 0) (N1 := 0) (C2 := C) (N2 := N) ckX16 mdX16_ends hlk hsm (dcl_t q2432) (by decide) q2436 q2437 q165 hdg rfl rfl hr8 hm (k_X16_ends (d := d - 1) (by omega)) (by omega) (by omega) (by omega) ?_
    rw [e0] at kk
    exact kk
  · refine pl_callDd (As := []) (C1 := 0) (N1 := 0) (C2 := C) (N2 := N) ckX15 mdX34_ends hlk hsm (dcl_t q2432) (by decide) (fun G => nr_leaf G [0, 0, 0, 0, 0, 2, 1, 1] (by decide +kernel)) q2443 q3223 hdg rfl rfl hr8 hm (k_X34_ends (d := d - 1) (by omega)) (by omega) (by omega) (by omega) ?_
    rw [e0] at kk
    exact kk
  · refine pl_callOd (As := []) (C1 := 0) (N1 := 0) (C2 := C) (N2 := N) ckX17 mdX17_ends hlk hsm (dcl_t q2432) (by decide) q2439 q2440 q166 hdg rfl rfl hr8 hm (k_X17_ends (d := d - 1) (by omega)) (by omega) (by omega) (by omega) ?_
    rw [e0] at kk
    exact kk
theorem ph_isFarm_L {g : GP} {own : String} {cc : ByteArray} {nL : Nat} {i : MI} {d C N pc : Nat} {ls : List (Nat × Value)} {rest : List Value} {μ : Mem} {Q : OC → Mem → Prop} {q index : Nat} {r : Nat → Int32} (hq : HoC μ q r) (hw0 : r 0 ≠ nI 0) (hlk : OkG g → (Cond.methodLink own index (⟨"SettlerColony$Lot", "isFarm", "()Z"⟩ : MethodName)).before #[Value.ref (gb g)] (gS g) = true) (hsm : OkG g → (Cond.sameMethod "SettlerColony$Lot" "SettlerColony$Tells" "isFarm" "()Z").before #[Value.ref (gb g)] (gS g) = true) (hdg : decode cc pc = .ok (.invokevirtual index, 3)) (hd : 2 ≤ d) (hr8 : (rest.map fun v => v.category).sum ≤ 8) (kk : PJ g own cc nL i d C N (pc + 3) ls (.int (bI (isFarmV (r 0))) :: rest) μ Q) : PJ g own cc nL i d C N pc ls (.ref q :: rest) μ Q := by
  rcases hq with ⟨e0, e1, e2, hm⟩ | ⟨e0, e1, e2, hm⟩ | ⟨e0, hm⟩ | ⟨e0, e2, hm⟩ | ⟨e0, hm⟩ | ⟨e0, e2, hm⟩
  · exact absurd e0 hw0
  · refine pl_callDd (As := []) (C1 := 0) (N1 := 0) (C2 := C) (N2 := N) ckX5 mdX31_isFarm hlk hsm (dcl_t q1200) (by decide) (fun G => nr_leaf G [0, 0, 0, 0, 1, 0, 0, 0, 0, 0, 0] (by decide +kernel)) q1209 q3221 hdg rfl rfl hr8 hm (k_X31_isFarm (d := d - 1) (by omega)) (by omega) (by omega) (by omega) ?_
    rw [e0] at kk
    exact kk
  · refine pl_callOd (As := []) (C1 := 0) (N1 := 0) (C2 := C) (N2 := N) ckX14 mdX14_isFarm hlk hsm (dcl_t q1200) (by decide) q1201 q1202 q162 hdg rfl rfl hr8 hm (k_X14_isFarm (d := d - 1) (by omega)) (by omega) (by omega) (by omega) ?_
    rw [e0] at kk
    exact kk
  · refine pl_callDd (As := []) (C1 := 0) (N1 := 0) (C2 := C) (N2 := N) ckX16 mdX31_isFarm hlk hsm (dcl_t q1200) (by decide) (fun G => nr_leaf G [0, 0, 0, 0, 0, 5] (by decide +kernel)) q1209 q3221 hdg rfl rfl hr8 hm (k_X31_isFarm (d := d - 1) (by omega)) (by omega) (by omega) (by omega) ?_
    rw [e0] at kk
    exact kk
  · refine pl_callOd (As := []) (C1 := 0) (N1 := 0) (C2 := C) (N2 := N) ckX15 mdX14_isFarm hlk hsm (dcl_t q1200) (by decide) q1205 q1202 q162 hdg rfl rfl hr8 hm (k_X14_isFarm (d := d - 1) (by omega)) (by omega) (by omega) (by omega) ?_
    rw [e0] at kk
    exact kk
  · refine pl_callDd (As := []) (C1 := 0) (N1 := 0) (C2 := C) (N2 := N) ckX17 mdX31_isFarm hlk hsm (dcl_t q1200) (by decide) (fun G => nr_leaf G [0, 0, 0, 0, 0, 4, 1] (by decide +kernel)) q1209 q3221 hdg rfl rfl hr8 hm (k_X31_isFarm (d := d - 1) (by omega)) (by omega) (by omega) (by omega) ?_
    rw [e0] at kk
    exact kk
theorem ph_isPasture_L {g : GP} {own : String} {cc : ByteArray} {nL : Nat} {i : MI} {d C N pc : Nat} {ls : List (Nat × Value)} {rest : List Value} {μ : Mem} {Q : OC → Mem → Prop} {q index : Nat} {r : Nat → Int32} (hq : HoC μ q r) (hw0 : r 0 ≠ nI 0) (hlk : OkG g → (Cond.methodLink own index (⟨"SettlerColony$Lot", "isPasture", "()Z"⟩ : MethodName)).before #[Value.ref (gb g)] (gS g) = true) (hsm : OkG g → (Cond.sameMethod "SettlerColony$Lot" "SettlerColony$Tells" "isPasture" "()Z").before #[Value.ref (gb g)] (gS g) = true) (hdg : decode cc pc = .ok (.invokevirtual index, 3)) (hd : 2 ≤ d) (hr8 : (rest.map fun v => v.category).sum ≤ 8) (kk : PJ g own cc nL i d C N (pc + 3) ls (.int (bI (isPastV (r 0))) :: rest) μ Q) : PJ g own cc nL i d C N pc ls (.ref q :: rest) μ Q := by
  rcases hq with ⟨e0, e1, e2, hm⟩ | ⟨e0, e1, e2, hm⟩ | ⟨e0, hm⟩ | ⟨e0, e2, hm⟩ | ⟨e0, hm⟩ | ⟨e0, e2, hm⟩
  · exact absurd e0 hw0
  · refine pl_callDd (As := []) (C1 := 0) (N1 := 0) (C2 := C) (N2 := N) ckX5 mdX31_isPasture hlk hsm (dcl_t q1384) (by decide) (fun G => nr_leaf G [0, 0, 0, 0, 0, 3, 2] (by decide +kernel)) q1392 q3221 hdg rfl rfl hr8 hm (k_X31_isPasture (d := d - 1) (by omega)) (by omega) (by omega) (by omega) ?_
    rw [e0] at kk
    exact kk
  · refine pl_callDd (As := []) (C1 := 0) (N1 := 0) (C2 := C) (N2 := N) ckX14 mdX31_isPasture hlk hsm (dcl_t q1384) (by decide) (fun G => nr_leaf G [0, 0, 0, 0, 0, 4, 0, 0] (by decide +kernel)) q1392 q3221 hdg rfl rfl hr8 hm (k_X31_isPasture (d := d - 1) (by omega)) (by omega) (by omega) (by omega) ?_
    rw [e0] at kk
    exact kk
  · refine pl_callOd (As := []) (C1 := 0) (N1 := 0) (C2 := C) (N2 := N) ckX16 mdX16_isPasture hlk hsm (dcl_t q1384) (by decide) q1388 q1389 q165 hdg rfl rfl hr8 hm (k_X16_isPasture (d := d - 1) (by omega)) (by omega) (by omega) (by omega) ?_
    rw [e0] at kk
    exact kk
  · refine pl_callDd (As := []) (C1 := 0) (N1 := 0) (C2 := C) (N2 := N) ckX15 mdX31_isPasture hlk hsm (dcl_t q1384) (by decide) (fun G => nr_leaf G [0, 0, 0, 0, 0, 3, 1, 0] (by decide +kernel)) q1392 q3221 hdg rfl rfl hr8 hm (k_X31_isPasture (d := d - 1) (by omega)) (by omega) (by omega) (by omega) ?_
    rw [e0] at kk
    exact kk
  · refine pl_callOd (As := []) (C1 := 0) (N1 := 0) (C2 := C) (N2 := N) ckX17 mdX16_isPasture hlk hsm (dcl_t q1384) (by decide) q1391 q1389 q165 hdg rfl rfl hr8 hm (k_X16_isPasture (d := d - 1) (by omega)) (by omega) (by omega) (by omega) ?_
    rw [e0] at kk
    exact kk
theorem ph_holder_L {g : GP} {own : String} {cc : ByteArray} {nL : Nat} {i : MI} {d C N pc : Nat} {ls : List (Nat × Value)} {rest : List Value} {μ : Mem} {Q : OC → Mem → Prop} {q index : Nat} {r : Nat → Int32} (hq : HoC μ q r) (hw0 : r 0 ≠ nI 0) (hlk : OkG g → (Cond.methodLink own index (⟨"SettlerColony$Lot", "holder", "()I"⟩ : MethodName)).before #[Value.ref (gb g)] (gS g) = true) (hsm : OkG g → (Cond.sameMethod "SettlerColony$Lot" "SettlerColony$Holds" "holder" "()I").before #[Value.ref (gb g)] (gS g) = true) (hdg : decode cc pc = .ok (.invokevirtual index, 3)) (hd : 2 ≤ d) (hr8 : (rest.map fun v => v.category).sum ≤ 8) (kk : PJ g own cc nL i d C N (pc + 3) ls (.int (r 1) :: rest) μ Q) : PJ g own cc nL i d C N pc ls (.ref q :: rest) μ Q := by
  rcases hq with ⟨e0, e1, e2, hm⟩ | ⟨e0, e1, e2, hm⟩ | ⟨e0, hm⟩ | ⟨e0, e2, hm⟩ | ⟨e0, hm⟩ | ⟨e0, e2, hm⟩
  · exact absurd e0 hw0
  · refine pl_callDd (As := []) (C1 := 0) (N1 := 0) (C2 := C) (N2 := N) ckX5 mdX32_holder hlk hsm (dcl_t q1152) (by decide) (fun G => nr_leaf G [0, 0, 0, 0, 0, 3, 0, 1] (by decide +kernel)) q1163 q3220 hdg rfl rfl hr8 hm (k_X32_holder (d := d - 1) (by omega)) (by omega) (by omega) (by omega) ?_
    rw [e1] at kk
    exact kk
  · refine pl_callOd (As := []) (C1 := 0) (N1 := 0) (C2 := C) (N2 := N) ckX14 mdX14_holder hlk hsm (dcl_t q1152) (by decide) q1153 q1154 q162 hdg rfl rfl hr8 hm (k_X14_holder (d := d - 1) (by omega) hm) (by omega) (by omega) (by omega) ?_
    exact kk
  · refine pl_callOd (As := []) (C1 := 0) (N1 := 0) (C2 := C) (N2 := N) ckX16 mdX16_holder hlk hsm (dcl_t q1152) (by decide) q1158 q1159 q165 hdg rfl rfl hr8 hm (k_X16_holder (d := d - 1) (by omega) hm) (by omega) (by omega) (by omega) ?_
    exact kk
  · refine pl_callOd (As := []) (C1 := 0) (N1 := 0) (C2 := C) (N2 := N) ckX15 mdX14_holder hlk hsm (dcl_t q1152) (by decide) q1157 q1154 q162 hdg rfl rfl hr8 hm (k_X15_holder (d := d - 1) (by omega) hm) (by omega) (by omega) (by omega) ?_
    exact kk
  · refine pl_callOd (As := []) (C1 := 0) (N1 := 0) (C2 := C) (N2 := N) ckX17 mdX16_holder hlk hsm (dcl_t q1152) (by decide) q1161 q1159 q165 hdg rfl rfl hr8 hm (k_X17_holder (d := d - 1) (by omega) hm) (by omega) (by omega) (by omega) ?_
    exact kk
