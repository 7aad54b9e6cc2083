set_option maxRecDepth 100000
section STN
variable {p : Program} {l : Launch} {e : Env} {R : Room} {s : State} {m : MethodId} {args : Array Value} {below : List Frame} {meth : Method} {c : Code} {T : State} {locs : List Loc} {cells slots : Nat}
theorem wp_anewarrayNeg {Q : Unit → Pre} {E : CtlPost} {d : Bool} {acts : List Action} {s : State} {f : JFrame} {index : Nat} {comp c : ClassId} {n : Int32} {rest : List Value} {kc : Class} (hs : s.topJava?.isSome) (hr : s.vm.classReady f.method.cls index comp) (hkc : s.vm.classes[comp]? = some kc)
    (hc : (s.vm.classes.findIdx? fun x => match x.kind with | .array component _ => component == comp | _ => false) = some c) (hstack : f.stack = .int n :: rest) (hn : n < 0) :
    wp (Op.anewarray.sem index) Q E e d acts (s.setTop f) ↔ E (.throwNew "java/lang/NegativeArraySizeException" (some (toString n))) acts (s.setTop { f with stack := rest }) := by
  simp only [Op.anewarray.sem, wp_bind', W.resolveClassAt_ready (State.method?_setTop f hs) hr,
    W.arrayClassOf'_ready (s := s.setTop f) (show (s.setTop f).vm.classes[comp]? = some kc from hkc) (show ((s.setTop f).vm.classes.findIdx? _) = some c from hc),
    W.popInt, State.topJava?_setTop' _ hs, Option.some.injEq, exists_eq_left', hstack, List.cons.injEq,
    Value.int.injEq, exists_cons_eq, State.setTop_setTop, W.ite, hn, if_true, W.mark, W.throwNew]
theorem st_anewarrayNeg (X : Stand p l e R s m args below meth c T locs cells slots) (hexec : p.tables.exec = Jvm.exec) {own C : String} {index : Nat}
    (hown : s.vm.findClass own = some m.cls) (hclink : (Cond.classLink own index C).before args s = true) (hover : (Cond.arrayOver (.object C)).before args s = true)
    {g : JFrame} (hg : g.method = m) (hdg : decode c.code g.pc = .ok (.anewarray index, 3)) {n : Int32} {rest : List Value} (hstack : g.stack = .int n :: rest) (hn : n < 0) :
    ∃ vm₁ : Vm, Stand p l e R s m args below meth c (T.setVm vm₁) locs cells slots ∧
      ∀ target, Steps p.tables e below (((T.setVm vm₁).setTop { g with stack := rest }).pushFrame (.throwNew "java/lang/NegativeArraySizeException" (some (toString n)) none)) target → Steps p.tables e below (T.setTop g) target := by
  subst hg
  have hpl : e.platform.magicAccessors = ({} : Platform).magicAccessors := by rw [X.admits.platform]
  obtain ⟨comp, cA, kA, hcomp, hidx, hkA, hkindA, hnameA⟩ := Cond.arrayOver_spec hover
  obtain ⟨kComp, hkComp, -⟩ := Vm.findClass_spec hcomp
  obtain ⟨cc, hfcc, hcl⟩ := Cond.classLink_spec hown hclink e.platform hpl
  cases hcomp.symm.trans hfcc
  obtain ⟨hg₁, hwarm₁, hready₁⟩ := State.classEntry (e := e) X.warmed hcl
  generalize T.vm.noted g.method.cls index (.cls comp) = vm₁ at hg₁ hwarm₁ hready₁
  have hal : s.vm.Alike vm₁ := hwarm₁.alike
  obtain ⟨kComp₁, hkComp₁, -⟩ := hal.2.2 _ _ hkComp
  have hidx₁ : (vm₁.classes.findIdx? fun x => match x.kind with | .array component _ => component == comp | _ => false) = some cA := by
    rw [hal.findIdx?_eqK _ (fun _ => rfl)]; exact hidx
  have X₁ := X.noted hwarm₁
  refine ⟨vm₁, X₁, fun target hrest => ?_⟩
  jvm_step X.here [hexec, hdg, anewarray.wp_cold (e := e) (s := T) (f := g) X.here.top hg₁ hready₁,
    wp_anewarrayNeg (e := e) (s := T.setVm vm₁) (f := g) (kc := kComp₁) X.here.top hready₁ hkComp₁ hidx₁ hstack hn]
  exact hrest
end STN
section NAZ
variable {g : GP} {own : String} {cc : ByteArray} {nL : Nat} {i : MI} {d C N pc : Nat} {ls : List (Nat × Value)} {rest : List Value} {μ : Mem} {Q : OC → Mem → Prop}
theorem Sim.ext {H H1 : Heap} (h : Sim g μ H) (hk : ∀ q : Nat, q < H.size → H1[q]? = H[q]?) : Sim g μ H1 := by
  intro a e ha
  obtain ⟨h1, h2⟩ := h a e ha
  refine ⟨h1, ?_⟩
  have key : ∀ x, H[a]? = some x → H1[a]? = some x := fun x hx => by rw [hk a (Array.getElem?_eq_some_iff.mp hx).1]; exact hx
  cases e with
  | inl x => exact key _ h2
  | inr x =>
    obtain ⟨r, h3, cell, h4, h5⟩ := h2
    exact ⟨r, h3, cell, key _ h4, h5⟩
theorem atM_neg : ∀ w ∈ vx_atM "java/lang/NegativeArraySizeException" ["java/lang/RuntimeException", "java/lang/Exception"], w ∈ lw_all ∨ (w ∈ lw_tbl ∧ dcW w = true) := by
  have h : (vx_atM "java/lang/NegativeArraySizeException" ["java/lang/RuntimeException", "java/lang/Exception"]).all (fun w => decide (w ∈ lw_tbl) && (goodWord w || dcW w)) = true := by decide +kernel
  intro w hw
  have h1 := List.all_eq_true.mp h w hw
  simp only [Bool.and_eq_true, decide_eq_true_eq, Bool.or_eq_true] at h1
  rcases h1.2 with h2 | h2
  · exact Or.inl (List.mem_filter.mpr ⟨h1.1, h2⟩)
  · exact Or.inr ⟨h1.1, h2⟩
theorem otM_neg : ∀ w ∈ vx_atM "java/lang/NegativeArraySizeException" ["java/lang/RuntimeException", "java/lang/Exception"], vx_ot w = true := by decide +kernel
/-- an array of a negative length -/
theorem pj_newqZ {index C1 N1 : Nat} {Cn : String} {x : Int32} (hdg : decode cc pc = .ok (.anewarray index, 3)) (hlink : Cond.classLink own index Cn ∈ lw_all) (hover : Cond.arrayOver (.object Cn) ∈ lw_tbl) (hx : x < 0) (hd : 7 ≤ d) (hr8 : (rest.map fun v => v.category).sum ≤ 8) (hC : C1 + 3 ≤ C) (hN : N1 + 54 ≤ N)
    (kk : ∀ q : Nat, PX g own cc nL i d C1 N1 pc ls rest "java/lang/NegativeArraySizeException" q μ Q) : PJ g own cc nL i d C N pc ls (.int x :: rest) μ Q := by
  intro G p e R s m args below meth c E9 H locs cells slots K K9 B arr hl9
  have hr := B.room (C1 := 3) (C2 := C1) (N1 := 54) (N2 := N1) (by omega) (by omega)
  have wk := E9.2.2.2.2.2.2.2.2.2.1
  have hfr := E9.2.2.2.2.2.2.2.2.2.2.1
  have hlo := E9.2.2.2.2.2.2.2.2.2.2.2
  have hst : (gL g).stackTraces = false := by
    unfold Launch.stackTraces
    rw [G.1]
    decide
  have i0 : (Cond.initialized Bundle.tN).before #[Value.ref (gb g)] (gS g) = true := G.2.2.1 _ (List.mem_filter.mp q130).1
  have zU := zq_of (n := "UNASSIGNED_STACK") (d9 := Bundle.steD) G wk (G.2.2.1 _ q238) (nr_leaf G [7, 1, 1] (by decide +kernel)) i0
  have zS := zq_of (n := "SUPPRESSED_SENTINEL") (d9 := Bundle.listD) G wk (G.2.2.1 _ q240) (nr_leaf G [7, 1, 0, 0] (by decide +kernel)) i0
  have hov : (Cond.arrayOver (.object Cn)).before args s = true := va_AO.use ((va_AO.of (G_tbl G hover)).moved wk.1.alike)
  have note := vx_vm (l := gL g) (p := p) (e := e) (R := R) (s := s) (m := m) (args := args) (below := below) (meth := meth) (c := c) (locs := locs) (cells := cells) (slots := slots) (pc := pc) (ls := arr) (rest := rest) (Q := vx_MQ below (QcR g Q) (QcX g Q) args s K K9 (gF g)) (cls := "java/lang/NegativeArraySizeException") (text := toString x) (names := ["java/lang/RuntimeException", "java/lang/Exception"]) (nb := 44) (A := gF g) (H := H) E9.1 hst (by decide +kernel) (by decide +kernel) (by decide) (by decide)
    (fun w hw => (atM_neg w hw).elim (fun z => E9.2.2.2.2.1 w z) (fun z => at_start G wk z.1 z.2 _)) otM_neg zU zS B.2.2.2.2.2 (hl9.1.trans E9.2.2.1.symm) (negative_text_modelled hx) (negative_text_bytes x) (by decide) (by rw [hfr]; show 2 + 4 < d; omega) (by rw [hlo]; omega) (by decide) hr.1 hr.2 E9.2.2.2.2.2.2.1
    (fun H1 q9 ce h1 h2 h3 h4 h5 h6 => kk q9 G p e R s m args below meth c E9 H1 locs (cells + 3) (slots + 54) K K9 ⟨by have := B.1; omega, B.2.1, by have := B.2.2.1; omega, B.2.2.2.1, Sim.ext B.2.2.2.2.1 h2, h3⟩ arr hl9 ce h4 h5 h6)
  intro T hT X
  obtain ⟨vm1, X1, st1⟩ := st_anewarrayNeg X E9.1 E9.2.2.2.1 (E9.2.2.2.2.1 _ hlink) hov (g := F0 m pc arr (.int x :: rest)) rfl (by rw [E9.2.1]; exact hdg) (rest := rest) rfl hx
  obtain ⟨t, st, q⟩ := note (T.setVm vm1) hT X1
  exact ⟨t, st1 t st, q⟩
end NAZ
