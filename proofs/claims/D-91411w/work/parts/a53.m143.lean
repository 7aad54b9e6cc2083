set_option maxRecDepth 100000
section STC
variable {p : Program} {l : Launch} {e : Env} {R : Room} {s : State} {m : MethodId} {args : Array Value} {below : List Frame} {meth : Method} {c : Code} {T : State} {locs : List Loc} {cells slots : Nat}
theorem st_checkcastNo (X : Stand p l e R s m args below meth c T locs cells slots) (hexec : p.tables.exec = Jvm.exec)
    {own name : String} {index : Nat} (hown : s.vm.findClass own = some m.cls) (hlink : (Cond.classLink own index name).before args s = true)
    {a : Addr} {cell : Cell} {cT : ClassId} {ks : Class} (hcell : T.heap[a]? = some cell) (hobj : cell.vm.isStatics = false) (hks : s.vm.classes[cell.cls]? = some ks) (hcT : s.vm.findClass name = some cT) (hasg : s.vm.assignable cell.cls cT = false)
    {g : JFrame} (hg : g.method = m) {rest : List Value} (hstack : g.stack = .ref a :: rest) (hdg : decode c.code g.pc = .ok (.checkcast index, 3)) :
    ∃ (vm' : Vm) (ks' kt' : Class), s.WarmedH vm' ∧ vm'.classes[cell.cls]? = some ks' ∧ vm'.classes[cT]? = some kt' ∧ Stand p l e R s m args below meth c (T.setVm vm') locs cells slots ∧
      ∀ target, Steps p.tables e below (((T.setVm vm').setTop g).pushFrame (.throwNew "java/lang/ClassCastException" (some (Op.checkcast.message vm' ks' kt')) none)) target → Steps p.tables e below (T.setTop g) target := by
  have hpl : e.platform.magicAccessors = ({} : Platform).magicAccessors := by rw [X.admits.platform]
  obtain ⟨c', hc', hcl⟩ := Cond.classLink_spec hown hlink e.platform hpl
  cases hcT.symm.trans hc'
  obtain ⟨dk, _, _, kt, hd, _, _, _, _, hkt, _, hopen⟩ := hcl.here
  have hcl₀ := X.warmed.classLinks hcl
  have hW' : s.WarmedH (T.vm.noted m.cls index (.cls cT)) := X.warmed.noted hd hopen (State.rightAt_cls hcl)
  obtain ⟨ks', hks', -⟩ := hW'.alike.2.2 _ _ hks
  obtain ⟨kt', hkt', -⟩ := hW'.alike.2.2 _ _ hkt
  refine ⟨_, ks', kt', hW', hks', hkt', X.noted hW', fun target hrest => ?_⟩
  subst hg
  jvm_step X.here [hexec, hdg, checkcast.wp_cold (e := e) (s := T) (f := g) X.here.top hstack (resolveClass_links e.toSetting hcl₀) hcl₀.ready,
    checkcast.wp_ready (e := e) (s := T.setVm (T.vm.noted g.method.cls index (.cls cT))) (f := g) X.here.top hcl₀.ready hstack]
  have h1 : (T.vm.noted g.method.cls index (Resolved.cls cT)).assignable cell.cls cT = false := by rw [hW'.alike.assignable]; exact hasg
  refine ⟨cell, hcell, VmData.noStatics_of hobj, ks', hks', kt', hkt', ?_⟩
  rw [if_neg (by rw [h1]; decide)]
  exact hrest
theorem findClass_full {vm : Vm} {name : String} {c : ClassId} (h : vm.findClass name = some c) : ∃ k, vm.classes[c]? = some k ∧ k.name = name ∧ k.hidden = none ∧ k.loader = none := by
  obtain ⟨hlt, hp, _⟩ := Array.findIdx?_eq_some_iff_getElem.mp h
  refine ⟨vm.classes[c], by simp [hlt], ?_⟩
  simp only [Bool.and_eq_true, beq_iff_eq, Option.isNone_iff_eq_none] at hp
  exact ⟨hp.1.1.1, hp.1.1.2, hp.2⟩
theorem homeOf_in {vm : Vm} {k : Class} (hn : packageOf k.name = "") (hl : k.loader = none) (mr : (vm.modules.all fun m => m.loader.isSome || m.name == "java.base" || !(castPackages_1.any fun p => m.packages.contains p)) = true) : vm.home k = "module java.base of loader 'bootstrap'" ∨ vm.home k = "unnamed module of loader 'bootstrap'" := by
  unfold Vm.home
  have hL : vm.loaderName k.loader = "'bootstrap'" := by rw [hl]; rfl
  rw [hL]
  cases hm : vm.moduleOf k with
  | none => exact Or.inr (by decide)
  | some mi =>
    refine Or.inl ?_
    have hb : mi.name = "java.base" := by
      unfold Vm.moduleOf at hm
      split at hm
      · have := List.find?_some hm
        simpa using this
      · have h1 := List.find?_some hm
        have h2 := List.mem_of_find?_eq_some hm
        simp only [Bool.and_eq_true, beq_iff_eq] at h1
        have h3 := List.all_eq_true.mp mr mi h2
        rw [hn] at h1
        have h4 : (castPackages_1.any fun p => mi.packages.contains p) = true := List.any_eq_true.mpr ⟨"", by decide, h1.2⟩
        rw [h4, h1.1, hl] at h3
        simpa using h3
    show "module " ++ mi.name ++ " of loader " ++ "'bootstrap'" = _
    rw [hb]
    decide
def msgB (t : String) : Bool := !(t == notModelled) && decide ((stringBytes (stringToUtf16 t)).size ≤ 400)
theorem msg_ok {vm : Vm} {ks kt : Class} (h1 : ks.name = "SettlerColony$Wild") (h2 : ks.hidden = none) (h3 : ks.loader = none) (h4 : kt.name = "SettlerColony$Lot") (h5 : kt.hidden = none) (h6 : kt.loader = none) (mr : (vm.modules.all fun m => m.loader.isSome || m.name == "java.base" || !(castPackages_1.any fun p => m.packages.contains p)) = true) : msgB (Op.checkcast.message vm ks kt) = true := by
  have s1 : ks.shown = "SettlerColony$Wild" := by unfold Class.shown; rw [h2, h1]; show dotted "SettlerColony$Wild" = _; decide +kernel
  have s2 : kt.shown = "SettlerColony$Lot" := by unfold Class.shown; rw [h5, h4]; show dotted "SettlerColony$Lot" = _; decide +kernel
  unfold Op.checkcast.message Vm.homes
  rw [s1, s2]
  rcases homeOf_in (vm := vm) (k := ks) (by rw [h1]; decide +kernel) h3 mr with a | a <;> rcases homeOf_in (vm := vm) (k := kt) (by rw [h4]; decide +kernel) h6 mr with b | b <;> (rw [a, b]; split <;> decide +kernel)
end STC
section CCZ
variable {g : GP} {own : String} {cc : ByteArray} {nL : Nat} {i : MI} {d C N pc : Nat} {ls : List (Nat × Value)} {rest : List Value} {μ : Mem} {Q : OC → Mem → Prop}
theorem atM_cast : ∀ w ∈ vx_atM "java/lang/ClassCastException" ["java/lang/RuntimeException", "java/lang/Exception"], w ∈ lw_all ∨ (w ∈ lw_tbl ∧ dcW w = true) := by
  have h : (vx_atM "java/lang/ClassCastException" ["java/lang/RuntimeException", "java/lang/Exception"]).all (fun w => decide (w ∈ lw_tbl) && (goodWord w || dcW w)) = true := by decide +kernel
  intro w hw
  have h1 := List.all_eq_true.mp h w hw
  simp only [Bool.and_eq_true, decide_eq_true_eq, Bool.or_eq_true] at h1
  rcases h1.2 with h2 | h2
  · exact Or.inl (List.mem_filter.mpr ⟨h1.1, h2⟩)
  · exact Or.inr ⟨h1.1, h2⟩
theorem otM_cast : ∀ w ∈ vx_atM "java/lang/ClassCastException" ["java/lang/RuntimeException", "java/lang/Exception"], vx_ot w = true := by decide +kernel
/-- a Wild is no Lot -/
theorem pj_castWild {a index C1 N1 : Nat} {fs : List Value} (mr : modulesRight_1 (gS g) = true) (hdg : decode cc pc = .ok (.checkcast index, 3)) (hlink : Cond.classLink own index "SettlerColony$Lot" ∈ lw_all) (hm : μ a = some (.inr (37, fs))) (hd : 7 ≤ d) (hr8 : (rest.map fun v => v.category).sum ≤ 8) (hC : C1 + 3 ≤ C) (hN : N1 + 410 ≤ N)
    (kk : ∀ q : Nat, PX g own cc nL i d C1 N1 pc ls (.ref a :: rest) "java/lang/ClassCastException" q μ Q) : PJ g own cc nL i d C N pc ls (.ref a :: rest) μ Q := by
  intro G p e R s m args below meth c E9 H locs cells slots K K9 B arr hl9
  have hr := B.room (C1 := 3) (C2 := C1) (N1 := 410) (N2 := N1) (by omega) (by omega)
  have wk := E9.2.2.2.2.2.2.2.2.2.1
  have hfr := E9.2.2.2.2.2.2.2.2.2.2.1
  have hlo := E9.2.2.2.2.2.2.2.2.2.2.2
  have hst : (gL g).stackTraces = false := by
    unfold Launch.stackTraces
    rw [G.1]
    decide
  have i0 : (Cond.initialized Bundle.tN).before #[Value.ref (gb g)] (gS g) = true := G.2.2.1 _ (List.mem_filter.mp q130).1
  have zU := zq_of (n := "UNASSIGNED_STACK") (d9 := Bundle.steD) G wk (G.2.2.1 _ q238) (nr_leaf G [7, 1, 1] (by decide +kernel)) i0
  have zS := zq_of (n := "SUPPRESSED_SENTINEL") (d9 := Bundle.listD) G wk (G.2.2.1 _ q240) (nr_leaf G [7, 1, 0, 0] (by decide +kernel)) i0
  obtain ⟨cell, c1, c2, c3⟩ := Sim.recv G wk B.2.2.2.2.1 ckX4.2.1 hm
  obtain ⟨cW, cL, f1, f2, f3⟩ := (va_Nc.of (nr_leaf G [0, 4, 1, 0, 0, 0, 0] (by decide +kernel)) : va_Nc "SettlerColony$Wild" "SettlerColony$Lot" (gS g)).moved wk.1.alike
  cases c3.symm.trans f1
  obtain ⟨ks, hks, -⟩ := Vm.findClass_spec c3
  intro T hT X
  obtain ⟨vm1, ks1, kt1, hW1, hks1, hkt1, X1, st1⟩ := st_checkcastNo X E9.1 E9.2.2.2.1 (E9.2.2.2.2.1 _ hlink) (by rw [hT]; exact c1) c2 hks f2 f3 (g := F0 m pc arr (.ref a :: rest)) rfl (rest := rest) rfl (by rw [E9.2.1]; exact hdg)
  have al : (gS g).vm.Alike vm1 := (State.WarmedH.trans wk.1 hW1).alike
  obtain ⟨k1, g1, g2, g3, g4⟩ := findClass_full ((hW1.alike.findClass "SettlerColony$Wild" none).trans c3)
  obtain ⟨k2, g5, g6, g7, g8⟩ := findClass_full ((hW1.alike.findClass "SettlerColony$Lot" none).trans f2)
  cases hks1.symm.trans g1
  cases hkt1.symm.trans g5
  have hmods : vm1.modules = (gS g).vm.modules := by rw [al.1]
  have ok := msg_ok (vm := vm1) g2 g3 g4 g6 g7 g8 (by rw [hmods]; exact mr)
  unfold msgB at ok
  simp only [Bool.and_eq_true, Bool.not_eq_true', decide_eq_true_eq] at ok
  have note := vx_vm (l := gL g) (p := p) (e := e) (R := R) (s := s) (m := m) (args := args) (below := below) (meth := meth) (c := c) (locs := locs) (cells := cells) (slots := slots) (pc := pc) (ls := arr) (rest := .ref a :: rest) (Q := vx_MQ below (QcR g Q) (QcX g Q) args s K K9 (gF g)) (cls := "java/lang/ClassCastException") (text := Op.checkcast.message vm1 ks1 kt1) (names := ["java/lang/RuntimeException", "java/lang/Exception"]) (nb := 400) (A := gF g) (H := H) E9.1 hst (by decide +kernel) (by decide +kernel) (by decide) (by decide)
    (fun w hw => (atM_cast w hw).elim (fun z => E9.2.2.2.2.1 w z) (fun z => at_start G wk z.1 z.2 _)) otM_cast zU zS B.2.2.2.2.2 (hl9.1.trans E9.2.2.1.symm) ok.1 ok.2 (by decide) (by rw [hfr]; show 2 + 4 < d; omega) (by rw [hlo]; simp only [List.map_cons, List.sum_cons]; have hc9 : (Value.ref a).category = 1 := rfl; omega) (by decide) hr.1 hr.2 E9.2.2.2.2.2.2.1
    (fun H1 q9 ce h1 h2 h3 h4 h5 h6 => kk q9 G p e R s m args below meth c E9 H1 locs (cells + 3) (slots + 410) K K9 ⟨by have := B.1; omega, B.2.1, by have := B.2.2.1; omega, B.2.2.2.1, Sim.ext B.2.2.2.2.1 h2, h3⟩ arr hl9 ce h4 h5 h6)
  obtain ⟨t, st, q⟩ := note (T.setVm vm1) hT X1
  exact ⟨t, st1 t st, q⟩
end CCZ
