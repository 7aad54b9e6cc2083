set_option maxRecDepth 100000
theorem fold_at {args : Array Value} {s : State} : ∀ {L : List Jvm.Cond} {w : Jvm.Cond} (i : Nat), (L.foldr Jvm.Cond.and Jvm.Cond.tt).before args s = true → L[i]? = some w → w.before args s = true
  | [], _, _, _, h => by cases h
  | x :: L, w, i, hb, h => by
    rw [List.foldr_cons, Cond.before_and, Bool.and_eq_true] at hb
    cases i with
    | zero => cases h; exact hb.1
    | succ i => exact fold_at i hb.2 h
theorem dw_at {g : GP} (G : OkG g) (i : Nat) {w : Jvm.Cond} (h : defaultWords_1[i]? = some w) : w.before #[Value.ref (gb g)] (gS g) = true := fold_at i (nr_leaf G [10] rfl) h
theorem wd_g {g : GP} {w : Jvm.Cond} (hk : (w.onTables && w.keeps) = true) (h : w.before #[Value.ref (gb g)] (gS g) = true) {s : State} {args : Array Value} (hw : WK g s) : w.before args s = true := word_at hw.1 (Or.inl hk) h
theorem named_up {S s : State} (h : S.vm.Alike s.vm) {x : MethodName} {r : MethodId} (hn : S.methodNamed? x = some r) : s.methodNamed? x = some r := by
  have h1 := State.methodNamed?_setVm (s := S) (vm' := s.vm) h x
  rw [hn] at h1
  exact h1
section VO
variable {p : Program} {l : Launch} {e : Env} {R : Room} {s : State} {m : MethodId} {args : Array Value} {below : List Frame} {meth : Method} {c : Code} {H : Heap} {locs : List Loc} {cells slots : Nat}
/-- a virtual call by a name that is declared above: to a method of a class, or to a default of an interface -/
theorem vx_callVO {T : State} {locs : List Loc} {cells slots : Nat} (X : Stand p l e R s m args below meth c T locs cells slots) (hexec : p.tables.exec = Jvm.exec) {own C owner : String} {index : Nat} {x y : MethodName}
    (hown : s.vm.findClass own = some m.cls) (hlink : (Cond.methodLink own index x).before args s = true) (hsame : (Cond.sameMethod x.cls owner x.name x.desc).before args s = true)
    (howner : owner ≠ "java/lang/invoke/MethodHandle" ∧ owner ≠ "java/lang/invoke/VarHandle")
    {r0 mk : MethodId} {r methM : Method} (hn : s.methodNamed? ⟨owner, x.name, x.desc⟩ = some r0) (hrm : s.vm.method? r0 = some r) (hstR : r.isStatic = false) (hsigR : parseMethodDescriptor x.desc = some r.sig)
    (hnamed : s.methodNamed? y = some mk) (hmethM : s.vm.method? mk = some methM) (habM : methM.isAbstract = false)
    {b : Addr} {cellB : Cell} (hselT : selectMethod {} s.vm cellB.cls r0 = .method mk) {kP : Class} (hkP : s.vm.classes[mk.cls]? = some kP) (hor : kP.isInterface = false ∨ (kP.isInterface = true ∧ NearOk s.vm cellB.cls r.name r.desc mk))
    {W : Nat} {Pre : Pt → Array Value → Prop} {Post : Pt → Array Value → Option Value → Pt → Prop} {PostX : Pt → Array Value → Addr → Pt → Prop} (hK : vx_Back l R p e below s args y 3 W Pre Post PostX)
    (hcell : T.heap[b]? = some cellB) (hobj : cellB.vm.isStatics = false)
    {g : JFrame} (hg : g.method = m) (hsize : g.locals.size = c.maxLocals) {argsL rest : List Value} (hlen : ∀ sig, parseMethodDescriptor x.desc = some sig → argsL.length = sig.parameters.length)
    (hstack : g.stack = argsL.reverse ++ .ref b :: rest) (hW : 2 * g.monitorRoom + (rest.map fun v => v.category).sum ≤ W) (hdg : decode c.code g.pc = .ok (.invokevirtual index, 3))
    (hpre : ∀ vm₁, s.WarmedH vm₁ → Pre ⟨T.setVm vm₁, locs, cells, slots⟩ (Value.ref b :: argsL).toArray) :
    (∃ (v : Option Value) (vm₁ : Vm) (B : Pt), s.WarmedH vm₁ ∧ Stand p l e R s m args below meth c B.U B.locs B.cells B.slots ∧ Post ⟨T.setVm vm₁, locs, cells, slots⟩ (Value.ref b :: argsL).toArray v B ∧
      ∀ target, Steps p.tables e below (B.U.setTop { g with pc := g.pc + 3, stack := v.toList ++ rest }) target → Steps p.tables e below (T.setTop g) target) ∨
    (∃ (q : Addr) (vm₁ : Vm) (B : Pt), s.WarmedH vm₁ ∧ Stand p l e R s m args below meth c B.U B.locs B.cells B.slots ∧ PostX ⟨T.setVm vm₁, locs, cells, slots⟩ (Value.ref b :: argsL).toArray q B ∧
      Steps p.tables e below (T.setTop g) ((B.U.setTop { g with stack := rest }).pushFrame (.throwing q))) := by
  have hselP : selectMethod e.platform s.vm cellB.cls r0 = .method mk := by rw [Launch.admits_selectMethod X.admits]; exact hselT
  have hst : ∃ vm', Stand p l e R s m args below meth c (T.setVm vm') locs cells slots ∧ ∀ target, (∀ acts, Steps p.tables e below (doInvoke e ((T.setVm vm').setTop { g with stack := rest }) acts mk (.ref b :: argsL).toArray).1 target) → Steps p.tables e below (T.setTop g) target := by
    rcases hor with h | ⟨h, hnear⟩
    · exact X.invokevirtualUp hexec hown hlink hsame howner hn hrm hstR (a := b) (cell := cellB) hcell (fun z h => by rw [h] at hobj; cases hobj) hselP hmethM habM hkP h (g := g) hg (argsL := argsL) (rest := rest) (hlen _ hsigR) hstack hdg
    · exact X.invokevirtualUpD hexec hown hlink hsame howner hn hrm hstR (a := b) (cell := cellB) hcell (fun z h => by rw [h] at hobj; cases hobj) hselP hmethM habM hkP h hnear (g := g) hg (argsL := argsL) (rest := rest) (hlen _ hsigR) hstack hdg
  obtain ⟨vm₁, X₁, hstep₁⟩ := hst
  rcases hK m meth c ⟨T.setVm vm₁, locs, cells, slots⟩ { g with stack := rest } (.invokevirtual index) mk (Value.ref b :: argsL).toArray X₁ hg hsize hdg hW (X₁.named hnamed) (hpre vm₁ X₁.warmed) with ⟨v, B, X', hpost, hsteps⟩ | ⟨q, B, X', hpost, hsteps⟩
  · exact Or.inl ⟨v, vm₁, B, X₁.warmed, X', hpost, fun target h => hstep₁ _ fun acts => by rw [doInvoke_state]; exact hsteps.trans h⟩
  · exact Or.inr ⟨q, vm₁, B, X₁.warmed, X', hpost, hstep₁ _ fun acts => by rw [doInvoke_state]; exact hsteps⟩
theorem vx_runO {x y : MethodName} {bytes cc : ByteArray} {maxL nL mc ms n index : Nat} {ret : Option FieldType} {ws : List Cond} {rm : Room} {Pc : Array Value → State → Prop} {Qc : Array Value → State → Outcome → State → Prop} {XC : String → Addr → State → State → Prop} {free : Addr → Prop} {Ts : List Cond} {own C owner : String} {b : Addr} {As rest : List Value} {g : JFrame}
    (S : CallFix p m c cc nL s args Ts own) (hM : vx_Met l y ws rm Pc Qc XC mc ms free)
    (bk : rm.cells = mc ∧ rm.slots = ms ∧ rm.frames + 1 ≤ R.frames ∧ 8 + (maxL + 11) + rm.locals ≤ R.locals ∧ (∀ w ∈ ws, ∀ (a' : Array Value) (U : State), s.WarmedH U.vm → w.before a' U = true) ∧ Cond.code y bytes maxL ret ∈ ws)
    (hini : (Cond.initialized y.cls).before args s = true) (hlen : ∀ sig, parseMethodDescriptor x.desc = some sig → n = sig.parameters.length)
    (hlink : (Cond.methodLink own index x).before args s = true) (hsame : (Cond.sameMethod x.cls owner x.name x.desc).before args s = true) (howner : owner ≠ "java/lang/invoke/MethodHandle" ∧ owner ≠ "java/lang/invoke/VarHandle")
    {r0 mk : MethodId} {r methM : Method} (hn0 : s.methodNamed? ⟨owner, x.name, x.desc⟩ = some r0) (hrm : s.vm.method? r0 = some r) (hstR : r.isStatic = false) (hsigR : parseMethodDescriptor x.desc = some r.sig)
    (hnamed : s.methodNamed? y = some mk) (hmethM : s.vm.method? mk = some methM) (habM : methM.isAbstract = false)
    {cB : ClassId} (hclC : s.vm.findClass C = some cB) (hselT : selectMethod {} s.vm cB r0 = .method mk) {kP : Class} (hkP : s.vm.classes[mk.cls]? = some kP) (hor : kP.isInterface = false ∨ (kP.isInterface = true ∧ NearOk s.vm cB r.name r.desc mk))
    (hp : PreV s H C b Pc As)
    (hg : g.method = m) (hn : As.length = n) (hsize : g.locals.size = nL) (hstack : g.stack = As.reverse ++ .ref b :: rest) (hW : 2 * g.monitorRoom + (rest.map fun v => v.category).sum ≤ 8) (hdg : decode cc g.pc = .ok (.invokevirtual index, 3)) (hf : cells + mc ≤ R.cells ∧ slots + ms ≤ R.slots) :
    vx_Run p l e R s m args below meth c H locs cells slots mc ms g rest (Qc (Value.ref b :: As).toArray) XC free := by
  obtain ⟨hrc, hrs, hfr, hlo, hws, hcw⟩ := bk
  have hK : vx_Back l R p e below s args y 3 8 (PreOf R mc ms Pc) (PostOf Qc mc ms free) (vx_Post XC mc ms free) := vx_back (bytes := bytes) (maxL := maxL) (ret := ret) hM hp.1 hrc hrs hfr hlo hws hcw (fun a' U hW => word_at hW (Or.inl (by first | rfl | simp [Cond.onTables, Cond.keeps, Cond.steady])) hini)
  obtain ⟨hx, hb, hml, ho, -⟩ := S
  obtain ⟨-, ⟨cellB, hcB, hoB, hclB⟩, hPc⟩ := hp
  cases hclC.symm.trans hclB
  intro T hT X
  rcases vx_callVO X hx (C := C) (owner := owner) ho hlink hsame howner hn0 hrm hstR hsigR hnamed hmethM habM (cellB := cellB) hselT hkP hor hK (by rw [hT]; exact hcB) hoB hg (hsize.trans hml.symm) (argsL := As) (rest := rest) (fun sig h => hn.trans (hlen sig h)) hstack hW (by rw [hb]; exact hdg)
    (fun vm₁ hW₁ => ⟨hf.1, hf.2, hPc (T.setVm vm₁) hT hW₁⟩) with ⟨v, vm₁, ⟨U', l2, c2, s2⟩, hW₁, X', ⟨g', mk', t, L, e1, e2, hq, h1, hL, h2, h3⟩, st⟩ | ⟨q, vm₁, ⟨U', l2, c2, s2⟩, hW₁, X', ⟨g', mk', t, L, E, ce, e1, e2, hq, hce, hcv, hcl, h1, hL, h2, h3⟩, st⟩
  · dsimp only [Pt.U, Pt.locs, Pt.cells, Pt.slots] at X' e1 e2 h1 h2 h3 st
    subst h1; subst h2; subst h3
    exact Or.inl ⟨v, (T.setVm vm₁).calling g' mk' (Value.ref b :: As).toArray, t, U', L, hT, X', hL, e1, e2, hq, st⟩
  · dsimp only [Pt.U, Pt.locs, Pt.cells, Pt.slots] at X' e1 e2 h1 h2 h3 st hcl
    subst h1; subst h2; subst h3
    exact Or.inr ⟨q, (T.setVm vm₁).calling g' mk' (Value.ref b :: As).toArray, t, U', L, E, ce, hT, X', hL, e1, e2, hq, hce, hcv, vx_cls hW₁ hcl, st⟩
end VO
/-- a method that its class declares -/
def DclX (g : GP) (x : MethodName) : Prop := OkG g → ∀ (s : State) (args : Array Value), WK g s → (∀ w ∈ lw_all, w.before args s = true) → va_Decl s x
theorem dcl_t {g : GP} {x : MethodName} (h : Cond.declares x ∈ lw_tbl) : DclX g x := fun G s args hw _ => Cond.declares_spec (va_Nw.use (A := args) rfl (va_Nw.warmD hw.1 (va_Nw.of rfl (G_tbl G h))))
theorem dcl_c {g : GP} {x : MethodName} {b : ByteArray} {m : Nat} {ret : Option FieldType} (h1 : Cond.instanceMethod x ∈ lw_all) (h2 : Cond.code x b m ret ∈ lw_all) : DclX g x := fun G s args hw ts => va_Decl.of (ts _ h1) (ts _ h2)
theorem lk_all {g : GP} {w : Cond} (h : w ∈ lw_all) : OkG g → w.before #[Value.ref (gb g)] (gS g) = true := fun G => G_tbl G (lw_all_tbl h)
section VP
variable {g : GP} {own : String} {cc : ByteArray} {nL : Nat} {i : MI} {d C N pc : Nat} {ls : List (Nat × Value)} {rest : List Value} {μ : Mem} {Q : OC → Mem → Prop}
/-- to a method of a class that stands below the name's -/
theorem pj_callO {ci nf : Nat} {Cn owner : String} {Tn : u_T} {ty : Nat → FieldType} {fs : List Value} {a : Nat} {x y : MethodName} {b : ByteArray} {L n d1 C1 N1 C2 N2 index : Nat} {r : Option FieldType} {Qc : OC → Mem → Prop} {st : List Value} (As : List Value) (cl : CLk ci Cn Tn nf ty) (md : MDy y b L r n) (hlk : OkG g → (Cond.methodLink own index x).before #[Value.ref (gb g)] (gS g) = true) (hsm : OkG g → (Cond.sameMethod x.cls owner x.name x.desc).before #[Value.ref (gb g)] (gS g) = true) (hdc : DclX g ⟨owner, x.name, x.desc⟩) (hop : (owner ≠ "java/lang/invoke/MethodHandle" ∧ owner ≠ "java/lang/invoke/VarHandle") ∧ (parseMethodDescriptor x.desc).map (fun d => d.parameters.length) = some n) (hsel : Cond.selects Cn ⟨owner, x.name, x.desc⟩ y ∈ lw_all) (h2 : Cond.instanceMethod y ∈ lw_all) (h4 : Cond.initialized y.cls ∈ lw_all) (hdg : decode cc pc = .ok (.invokevirtual index, 3)) (hst : st = As.reverse ++ .ref a :: rest) (hn : As.length = n) (hr8 : (rest.map fun v => v.category).sum ≤ 8) (hm : μ a = some (.inr (ci, fs))) (hM : PM g y (ws_ y b L r) d1 C1 N1 (.ref a :: As) μ Qc) (hd : d1 + 1 ≤ d) (hC : C1 + C2 ≤ C) (hN : N1 + N2 ≤ N)
    (kr : ∀ (v : Option Value) (μ1 : Mem), Qc (.inl v) μ1 → PJ g own cc nL i d C2 N2 (pc + 3) ls (v.toList ++ rest) μ1 Q)
    (kx : ∀ (E9 : String) (q : Nat) (μ1 : Mem), Qc (.inr (E9, q)) μ1 → PX g own cc nL i d C2 N2 pc ls rest E9 q μ1 Q) : PJ g own cc nL i d C N pc ls st μ Q := by
  subst hst
  refine PJ.behind (As := As) (rest0 := rest) (len := 3) (av := (Value.ref a :: As).toArray) hC hN (fun p e R s m args below meth c G E H locs cells slots K K9 B arr hl9 => ?_) kr kx
  have hw := E.2.2.2.2.2.2.2.2.2.1
  have hcl := ((G.K hw).1 ci _ cl.2.1).2.1
  obtain ⟨r0, r1, hn0, hrm, hstR, hsigR⟩ := hdc G s args hw E.2.2.2.2.1
  obtain ⟨mk, methM, hnamed, hmethM, -, habM⟩ := Cond.instanceMethod_spec (E.2.2.2.2.1 _ h2)
  have hlen : ∀ sig, parseMethodDescriptor x.desc = some sig → n = sig.parameters.length := fun sig h => by
    have h9 := hop.2
    rw [h] at h9
    exact (Option.some.inj h9).symm
  have bk : (rmD d1 C1 N1).cells = C1 ∧ (rmD d1 C1 N1).slots = N1 ∧ (rmD d1 C1 N1).frames + 1 ≤ R.frames ∧ 8 + (L + 11) + (rmD d1 C1 N1).locals ≤ R.locals ∧ (∀ w ∈ ws_ y b L r, ∀ (a' : Array Value) (U : State), s.WarmedH U.vm → w.before a' U = true) ∧ Cond.code y b L r ∈ ws_ y b L r :=
    ⟨rfl, rfl, (rm_fits E.2.2.2.2.2.2.2.2.2.2.1 E.2.2.2.2.2.2.2.2.2.2.2 hd md.2.2).1, (rm_fits (C1 := C1) (N1 := N1) E.2.2.2.2.2.2.2.2.2.2.1 E.2.2.2.2.2.2.2.2.2.2.2 hd md.2.2).2, pay_in E.2.2.2.2.1 (lw_meth md.2.1), List.mem_cons_self⟩
  obtain ⟨c2, r2, m2, q1, q2, q3, q4, kP, hkP, hkPi⟩ := Cond.selects_spec (E.2.2.2.2.1 _ hsel)
  cases hcl.symm.trans q1
  cases (State.methodFound?_of_named hn0 hop.1).symm.trans q2
  cases hnamed.symm.trans q3
  exact vx_runO ⟨E.1, E.2.1, E.2.2.1, E.2.2.2.1, E.2.2.2.2.1⟩ (hM G) bk (E.2.2.2.2.1 _ h4) hlen (wd_g rfl (hlk G) hw) (wd_g rfl (hsm G) hw) hop.1 hn0 hrm hstR hsigR hnamed hmethM habM hcl q4 hkP (Or.inl hkPi) ⟨Pc_blind, Sim.recv G hw B.2.2.2.2.1 cl.2.1 hm, Pc_now hw B.2.2.2.2.1 B.2.2.2.2.2⟩ rfl hn hl9.1 rfl (lv_room hr8) hdg (B.room hC hN)
/-- to a default method -/
theorem pj_callD {ci nf : Nat} {Cn owner : String} {Tn : u_T} {ty : Nat → FieldType} {fs : List Value} {a : Nat} {x y : MethodName} {b : ByteArray} {L n d1 C1 N1 C2 N2 index : Nat} {r : Option FieldType} {Qc : OC → Mem → Prop} {st : List Value} (As : List Value) (cl : CLk ci Cn Tn nf ty) (md : MDy y b L r n) (hlk : OkG g → (Cond.methodLink own index x).before #[Value.ref (gb g)] (gS g) = true) (hsm : OkG g → (Cond.sameMethod x.cls owner x.name x.desc).before #[Value.ref (gb g)] (gS g) = true) (hdc : DclX g ⟨owner, x.name, x.desc⟩) (hop : (owner ≠ "java/lang/invoke/MethodHandle" ∧ owner ≠ "java/lang/invoke/VarHandle") ∧ (parseMethodDescriptor x.desc).map (fun d => d.parameters.length) = some n) (hsel : OkG g → (Cond.landsInDefault Cn x y).before #[Value.ref (gb g)] (gS g) = true) (h2 : Cond.instanceMethod y ∈ lw_all) (h4 : Cond.initialized y.cls ∈ lw_all) (hdg : decode cc pc = .ok (.invokevirtual index, 3)) (hst : st = As.reverse ++ .ref a :: rest) (hn : As.length = n) (hr8 : (rest.map fun v => v.category).sum ≤ 8) (hm : μ a = some (.inr (ci, fs))) (hM : PM g y (ws_ y b L r) d1 C1 N1 (.ref a :: As) μ Qc) (hd : d1 + 1 ≤ d) (hC : C1 + C2 ≤ C) (hN : N1 + N2 ≤ N)
    (kr : ∀ (v : Option Value) (μ1 : Mem), Qc (.inl v) μ1 → PJ g own cc nL i d C2 N2 (pc + 3) ls (v.toList ++ rest) μ1 Q)
    (kx : ∀ (E9 : String) (q : Nat) (μ1 : Mem), Qc (.inr (E9, q)) μ1 → PX g own cc nL i d C2 N2 pc ls rest E9 q μ1 Q) : PJ g own cc nL i d C N pc ls st μ Q := by
  subst hst
  refine PJ.behind (As := As) (rest0 := rest) (len := 3) (av := (Value.ref a :: As).toArray) hC hN (fun p e R s m args below meth c G E H locs cells slots K K9 B arr hl9 => ?_) kr kx
  have hw := E.2.2.2.2.2.2.2.2.2.1
  have hcl := ((G.K hw).1 ci _ cl.2.1).2.1
  obtain ⟨r0, r1, hn0, hrm, hstR, hsigR⟩ := hdc G s args hw E.2.2.2.2.1
  obtain ⟨mk, methM, hnamed, hmethM, -, habM⟩ := Cond.instanceMethod_spec (E.2.2.2.2.1 _ h2)
  have hlen : ∀ sig, parseMethodDescriptor x.desc = some sig → n = sig.parameters.length := fun sig h => by
    have h9 := hop.2
    rw [h] at h9
    exact (Option.some.inj h9).symm
  have bk : (rmD d1 C1 N1).cells = C1 ∧ (rmD d1 C1 N1).slots = N1 ∧ (rmD d1 C1 N1).frames + 1 ≤ R.frames ∧ 8 + (L + 11) + (rmD d1 C1 N1).locals ≤ R.locals ∧ (∀ w ∈ ws_ y b L r, ∀ (a' : Array Value) (U : State), s.WarmedH U.vm → w.before a' U = true) ∧ Cond.code y b L r ∈ ws_ y b L r :=
    ⟨rfl, rfl, (rm_fits E.2.2.2.2.2.2.2.2.2.2.1 E.2.2.2.2.2.2.2.2.2.2.2 hd md.2.2).1, (rm_fits (C1 := C1) (N1 := N1) E.2.2.2.2.2.2.2.2.2.2.1 E.2.2.2.2.2.2.2.2.2.2.2 hd md.2.2).2, pay_in E.2.2.2.2.1 (lw_meth md.2.1), List.mem_cons_self⟩
  have al := hw.1.alike
  obtain ⟨c2, r2, m2, rm2, q1, q2, q3, q5, q4, ⟨kP, hkP, hkPi⟩, -, q7⟩ := Cond.landsInDefault_spec (hsel G)
  have q4s : selectMethod {} s.vm c2 r2 = .method m2 := by rw [al.selectMethod]; exact q4
  obtain ⟨cn, ck, r3, -, -, -, hf, hn1⟩ := Cond.sameMethod_found (hsm G)
  cases hf.symm.trans q2
  cases (named_up al hn1).symm.trans hn0
  cases (named_up al q3).symm.trans hnamed
  have q1s : s.vm.findClass Cn = some c2 := by rw [al.findClass]; exact q1
  cases q1s.symm.trans hcl
  have q5s : s.vm.method? r0 = some rm2 := by rw [al.method?]; exact q5
  cases q5s.symm.trans hrm
  obtain ⟨kP2, hkP2, hek⟩ := al.2.2 _ _ hkP
  exact vx_runO ⟨E.1, E.2.1, E.2.2.1, E.2.2.2.1, E.2.2.2.2.1⟩ (hM G) bk (E.2.2.2.2.1 _ h4) hlen (wd_g rfl (hlk G) hw) (wd_g rfl (hsm G) hw) hop.1 hn0 hrm hstR hsigR hnamed hmethM habM hcl q4s hkP2 (Or.inr ⟨by rw [hek]; exact hkPi, q7.alike al⟩) ⟨Pc_blind, Sim.recv G hw B.2.2.2.2.1 cl.2.1 hm, Pc_now hw B.2.2.2.2.1 B.2.2.2.2.2⟩ rfl hn hl9.1 rfl (lv_room hr8) hdg (B.room hC hN)
end VP
