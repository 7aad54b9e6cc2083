/-! ===== BASE 1: one memory, one judgement over the kit's W ===== -/
set_option maxRecDepth 100000
/-- launch, class ids and slots, array classes, the law's start, the script's cell, its length, its ints -/
abbrev GP : Type := Launch × va_G × (Nat → ClassId) × State × Nat × Nat × (Nat → Int32)
abbrev gL (g : GP) : Launch := g.1
abbrev gD (g : GP) : va_G := g.2.1
abbrev gA (g : GP) : Nat → ClassId := g.2.2.1
abbrev gS (g : GP) : State := g.2.2.2.1
abbrev gb (g : GP) : Nat := g.2.2.2.2.1
abbrev gn (g : GP) : Nat := g.2.2.2.2.2.1
abbrev gx (g : GP) : Nat → Int32 := g.2.2.2.2.2.2
abbrev gB (g : GP) : Nat := (gS g).heap.size
/-- what may be written: what was made since the law's start -/
def gF (g : GP) : Nat → Prop := fun q => gB g ≤ q
abbrev tysG (g : GP) : List (ClassId × FieldType) := [(gA g 0, .int), (gA g 1, .long), (gA g 2, .byte), (gA g 3, .boolean), (gA g 4, .float), (gA g 5, .object "java/lang/Object"), (gA g 6, .object "SettlerColony$Person"), (gA g 7, .object "SettlerColony$Expr"), (gA g 8, .array .float)]
/-- what is known of the start -/
def OkG (g : GP) : Prop := (gL g).flags = flags0 ∧ va_K (gD g) vwCl (tysG g) (gS g) ∧ (∀ w ∈ lw_tbl, w.before #[Value.ref (gb g)] (gS g) = true) ∧ gb g < gB g ∧ va_X (gb g) (gn g) (gx g) (gS g) (gS g).heap ∧ (Jvm.Cond.and given_1 narrow_1).before #[Value.ref (gb g)] (gS g) = true ∧ modulesRight_1 (gS g) = true
/-- the tables as at the start, the start's cells as they were -/
def WK (g : GP) (U : State) : Prop := (gS g).WarmedH U.vm ∧ gB g ≤ U.heap.size ∧ ∀ q : Nat, q < gB g → U.heap[q]? = (gS g).heap[q]?
abbrev Mem : Type := Nat → Option va_E
abbrev OC : Type := Option Value ⊕ (String × Nat)
/-- the memory's cells lie in the heap, and were made since the start -/
def Sim (g : GP) (μ : Mem) (H : Heap) : Prop := ∀ (a : Nat) (e : va_E), μ a = some e → gF g a ∧ va_at (gD g) vwCl (a, e) H
def mset (μ : Mem) (a : Nat) (e : va_E) : Mem := fun b => if b = a then some e else μ b
theorem mset_s {μ : Mem} {a : Nat} {e : va_E} : mset μ a e a = some e := if_pos rfl
theorem mset_n {μ : Mem} {a b : Nat} {e : va_E} (h : b ≠ a) : mset μ a e b = μ b := if_neg h
/-- an answer, a throw, at the machine -/
def QcR (g : GP) (Q : OC → Mem → Prop) : Array Value → State → Outcome → State → Prop := fun _ st oc t => (∃ (v : Option Value) (μ : Mem), oc = .returned v ∧ Q (.inl v) μ ∧ Sim g μ t.heap ∧ WK g t) ∧ va_F (gF g) st t
def QcX (g : GP) (Q : OC → Mem → Prop) : String → Addr → State → State → Prop := fun E q st t => (∃ μ : Mem, Q (.inr (E, q)) μ ∧ Sim g μ t.heap ∧ WK g t) ∧ va_F (gF g) st t
/-- the room of a method at depth d -/
abbrev rmD (d C N : Nat) : Room := { frames := d, cells := C, slots := N, locals := 12000 + 100 * d }
/-- a method's contract -/
def PM (g : GP) (y : MethodName) (ws : List Cond) (d C N : Nat) (av : List Value) (μ : Mem) (Q : OC → Mem → Prop) : Prop :=
  OkG g → vx_Met (gL g) y ws (rmD d C N) (va_Pc av (fun U => Sim g μ U.heap ∧ WK g U)) (QcR g Q) (QcX g Q) C N (gF g)
/-- a method's other data: what it answers, its name, its handlers -/
abbrev MI : Type := Option FieldType × String × List (Nat × Nat × Nat × Nat)
def ME (g : GP) (own : String) (cc : ByteArray) (nL : Nat) (i : MI) (d : Nat) (p : Program) (R : Room) (s : State) (m : MethodId) (args : Array Value) (meth : Method) (c : Code) : Prop :=
  p.tables.exec = Jvm.exec ∧ c.code = cc ∧ c.maxLocals = nL ∧ s.vm.findClass own = some m.cls ∧ (∀ w ∈ lw_all, w.before args s = true) ∧ meth.sig.returnType = i.1 ∧ meth.locks = false ∧ meth.name = i.2.1 ∧ c.exceptionTable.toList = tableOf i.2.2 ∧ WK g s ∧ R.frames = d ∧ R.locals = 12000 + 100 * d
def MB (g : GP) (C N : Nat) (μ : Mem) (R : Room) (s : State) (H : Heap) (locs : List Loc) (cells slots K K9 : Nat) : Prop :=
  cells + C ≤ K ∧ K ≤ R.cells ∧ slots + N ≤ K9 ∧ K9 ≤ R.slots ∧ Sim g μ H ∧ va_S (gF g) s.heap H locs
/-- in a method: from pc with these locals, this stack, this memory, with at most C cells and N slots more, an end with Q -/
def PJ (g : GP) (own : String) (cc : ByteArray) (nL : Nat) (i : MI) (d C N pc : Nat) (ls : List (Nat × Value)) (st : List Value) (μ : Mem) (Q : OC → Mem → Prop) : Prop :=
  OkG g → ∀ (p : Program) (e : Env) (R : Room) (s : State) (m : MethodId) (args : Array Value) (below : List Frame) (meth : Method) (c : Code), ME g own cc nL i d p R s m args meth c →
    ∀ (H : Heap) (locs : List Loc) (cells slots K K9 : Nat), MB g C N μ R s H locs cells slots K K9 → ∀ arr : Array Slot, lv_has arr nL ls →
      W p (gL g) e R s m args below meth c H locs cells slots (vx_MQ below (QcR g Q) (QcX g Q) args s K K9 (gF g)) (F0 m pc arr st)
/-- the same with q thrown, of class E -/
def PX (g : GP) (own : String) (cc : ByteArray) (nL : Nat) (i : MI) (d C N pc : Nat) (ls : List (Nat × Value)) (st : List Value) (E : String) (q : Nat) (μ : Mem) (Q : OC → Mem → Prop) : Prop :=
  OkG g → ∀ (p : Program) (e : Env) (R : Room) (s : State) (m : MethodId) (args : Array Value) (below : List Frame) (meth : Method) (c : Code), ME g own cc nL i d p R s m args meth c →
    ∀ (H : Heap) (locs : List Loc) (cells slots K K9 : Nat), MB g C N μ R s H locs cells slots K K9 → ∀ arr : Array Slot, lv_has arr nL ls →
      ∀ ce : Cell, H[q]? = some ce → ce.vm = .none → s.vm.findClass E = some ce.cls →
      vx_W p (gL g) e R s m args below meth c H locs cells slots (vx_MQ below (QcR g Q) (QcX g Q) args s K K9 (gF g)) (F0 m pc arr st) q
theorem WK.moved {g : GP} {s U : State} (h : WK g s) (hvm : s.WarmedH U.vm) (hz : s.heap.size ≤ U.heap.size) (hk : ∀ q : Nat, q < s.heap.size → ¬ gF g q → U.heap[q]? = s.heap[q]?) : WK g U :=
  ⟨State.WarmedH.trans h.1 hvm, Nat.le_trans h.2.1 hz, fun q hq => (hk q (Nat.lt_of_lt_of_le hq h.2.1) (fun z => absurd hq (Nat.not_lt.mpr z))).trans (h.2.2 q hq)⟩
theorem OkG.K {g : GP} (G : OkG g) {s : State} (h : WK g s) : va_K (gD g) vwCl (tysG g) s := va_K.moved h.1.alike G.2.1
theorem gF_of {g : GP} {s : State} (h : WK g s) : ∀ q : Nat, s.heap.size ≤ q → gF g q := fun _ hq => Nat.le_trans h.2.1 hq
theorem Sim.one {g : GP} {μ : Mem} {H : Heap} (h : Sim g μ H) {a : Nat} {e : va_E} (ha : μ a = some e) : va_P (gD g) vwCl [(a, e)] H := by
  intro k q hq
  match k, hq with
  | 0, hq => cases hq; exact (h a e ha).2
theorem Sim.two {g : GP} {μ : Mem} {H : Heap} (h : Sim g μ H) {a b : Nat} {e f : va_E} (ha : μ a = some e) (hb : μ b = some f) : va_P (gD g) vwCl [(a, e), (b, f)] H := by
  intro k q hq
  match k, hq with
  | 0, hq => cases hq; exact (h a e ha).2
  | 1, hq => cases hq; exact (h b f hb).2
/-- all cells of the memory as one of the kit's lists -/
theorem Sim.list {g : GP} {μ : Mem} {H : Heap} (h : Sim g μ H) : ∃ ws : va_W, va_P (gD g) vwCl ws H ∧ va_D (gF g) ws ∧ ∀ (a : Nat) (e : va_E), μ a = some e ↔ ∃ k : Nat, ws[k]? = some (a, e) := by
  refine ⟨(List.range H.size).filterMap (fun a => (μ a).map (fun e => (a, e))), ?_, ⟨?_, ?_⟩, ?_⟩
  · intro k q hq
    obtain ⟨a, -, ha⟩ := List.mem_filterMap.mp (List.mem_of_getElem? hq)
    cases hm : μ a with
    | none => rw [hm] at ha; cases ha
    | some e => rw [hm] at ha; cases ha; exact (h a e hm).2
  · have hp : List.Pairwise (fun x y : Nat × va_E => x.1 < y.1) ((List.range H.size).filterMap (fun a => (μ a).map (fun e => (a, e)))) := by
      refine List.Pairwise.filterMap _ ?_ (List.pairwise_lt_range (n := H.size))
      intro a b hab x hx y hy
      cases hma : μ a with
      | none => rw [hma] at hx; cases hx
      | some e =>
        cases hmb : μ b with
        | none => rw [hmb] at hy; cases hy
        | some f => rw [hma] at hx; rw [hmb] at hy; cases hx; cases hy; exact hab
    intro i j x y hi hj hxy
    obtain ⟨hil, hie⟩ := List.getElem?_eq_some_iff.mp hi
    obtain ⟨hjl, hje⟩ := List.getElem?_eq_some_iff.mp hj
    rcases Nat.lt_trichotomy i j with hlt | heq | hlt
    · have := List.pairwise_iff_getElem.mp hp i j hil hjl hlt
      rw [hie, hje, hxy] at this
      exact absurd this (Nat.lt_irrefl _)
    · exact heq
    · have := List.pairwise_iff_getElem.mp hp j i hjl hil hlt
      rw [hie, hje, hxy] at this
      exact absurd this (Nat.lt_irrefl _)
  · intro k q hq
    obtain ⟨a, -, ha⟩ := List.mem_filterMap.mp (List.mem_of_getElem? hq)
    cases hm : μ a with
    | none => rw [hm] at ha; cases ha
    | some e => rw [hm] at ha; cases ha; exact (h a e hm).1
  · intro a e
    constructor
    · intro hm
      have hlt : a < H.size := ((h a e hm).2).lt
      exact List.getElem?_of_mem (List.mem_filterMap.mpr ⟨a, List.mem_range.mpr hlt, by rw [hm]; rfl⟩)
    · intro ⟨k, hk⟩
      obtain ⟨b, -, hb⟩ := List.mem_filterMap.mp (List.mem_of_getElem? hk)
      cases hm : μ b with
      | none => rw [hm] at hb; cases hb
      | some f => rw [hm] at hb; cases hb; exact hm
/-- one cell written -/
theorem Sim.set {g : GP} {μ : Mem} {H1 : Heap} {ws : va_W} {a k0 : Nat} {e e1 : va_E} (hm : ∀ (b : Nat) (f : va_E), μ b = some f ↔ ∃ k : Nat, ws[k]? = some (b, f)) (h0 : ws[k0]? = some (a, e)) (hP : va_P (gD g) vwCl (ws.set k0 (a, e1)) H1) (hD : va_D (gF g) (ws.set k0 (a, e1))) : Sim g (mset μ a e1) H1 := by
  have hl : k0 < ws.length := (List.getElem?_eq_some_iff.mp h0).1
  have hin : (ws.set k0 (a, e1))[k0]? = some (a, e1) := by rw [List.getElem?_set_self hl]
  intro b f hb
  by_cases hba : b = a
  · subst hba
    rw [mset_s] at hb
    cases hb
    exact ⟨hD.2 _ _ hin, hP _ _ hin⟩
  · rw [mset_n hba] at hb
    obtain ⟨k, hk⟩ := (hm b f).mp hb
    have hne : k0 ≠ k := by
      intro hq
      subst hq
      rw [h0] at hk
      cases hk
      exact hba rfl
    have hk1 : (ws.set k0 (a, e1))[k]? = some (b, f) := by rw [List.getElem?_set_ne hne]; exact hk
    exact ⟨hD.2 _ _ hk1, hP _ _ hk1⟩
/-- one cell made -/
theorem Sim.push {g : GP} {μ : Mem} {H1 : Heap} {ws : va_W} {q : Nat} {e1 : va_E} (hm : ∀ (b : Nat) (f : va_E), μ b = some f ↔ ∃ k : Nat, ws[k]? = some (b, f)) (hP : va_P (gD g) vwCl (ws ++ [(q, e1)]) H1) (hD : va_D (gF g) (ws ++ [(q, e1)])) : Sim g (mset μ q e1) H1 ∧ μ q = none ∧ gF g q := by
  have hin : (ws ++ [(q, e1)])[ws.length]? = some (q, e1) := by simp
  have hup : ∀ (k : Nat) (x : Nat × va_E), ws[k]? = some x → (ws ++ [(q, e1)])[k]? = some x := fun k x hx => by rw [List.getElem?_append_left (List.getElem?_eq_some_iff.mp hx).1]; exact hx
  refine ⟨?_, ?_, hD.2 _ _ hin⟩
  · intro b f hb
    by_cases hbq : b = q
    · subst hbq
      rw [mset_s] at hb
      cases hb
      exact ⟨hD.2 _ _ hin, hP _ _ hin⟩
    · rw [mset_n hbq] at hb
      obtain ⟨k, hk⟩ := (hm b f).mp hb
      exact ⟨hD.2 _ _ (hup _ _ hk), hP _ _ (hup _ _ hk)⟩
  · cases hq : μ q with
    | none => rfl
    | some f =>
      obtain ⟨k, hk⟩ := (hm q f).mp hq
      have h1 := hD.1 k ws.length _ _ (hup _ _ hk) hin rfl
      have h2 := (List.getElem?_eq_some_iff.mp hk).1
      omega
section PJrules
variable {g : GP} {own : String} {cc : ByteArray} {nL : Nat} {i : MI} {d C N pc : Nat} {ls : List (Nat × Value)} {rest : List Value} {μ : Mem} {Q : OC → Mem → Prop}
theorem PJ.pure {pc2 : Nat} {st st2 : List Value} (h : ∀ {p : Program} {l : Launch} {e : Env} {R : Room} {s : State} {m : MethodId} {args : Array Value} {below : List Frame} {meth : Method} {c : Code} {H : Heap} {locs : List Loc} {cells slots : Nat} {Q9 : State → Prop} {arr : Array Slot}, p.tables.exec = Jvm.exec → c.code = cc → lv_has arr nL ls → W p l e R s m args below meth c H locs cells slots Q9 (F0 m pc2 arr st2) → W p l e R s m args below meth c H locs cells slots Q9 (F0 m pc arr st))
    (k : PJ g own cc nL i d C N pc2 ls st2 μ Q) : PJ g own cc nL i d C N pc ls st μ Q :=
  fun G p e R s m args below meth c E H locs cells slots K K9 B arr hl => h E.1 E.2.1 hl (k G p e R s m args below meth c E H locs cells slots K K9 B arr hl)
theorem PJ.widen {st : List Value} {C1 N1 : Nat} (hC : C1 ≤ C) (hN : N1 ≤ N) (k : PJ g own cc nL i d C1 N1 pc ls st μ Q) : PJ g own cc nL i d C N pc ls st μ Q :=
  fun G p e R s m args below meth c E H locs cells slots K K9 B arr hl => k G p e R s m args below meth c E H locs cells slots K K9 ⟨Nat.le_trans (Nat.add_le_add_left hC _) B.1, B.2.1, Nat.le_trans (Nat.add_le_add_left hN _) B.2.2.1, B.2.2.2⟩ arr hl
theorem PJ.sub {st : List Value} {ls1 : List (Nat × Value)} (ks : List Nat) (hp : lv_pick ls ks = ls1) (k : PJ g own cc nL i d C N pc ls1 st μ Q) : PJ g own cc nL i d C N pc ls st μ Q :=
  fun G p e R s m args below meth c E H locs cells slots K K9 B arr hl => k G p e R s m args below meth c E H locs cells slots K K9 B arr (lv_sub hl ks hp)
theorem PJ.post {st : List Value} {Q1 : OC → Mem → Prop} (h : ∀ o μ1, Q1 o μ1 → Q o μ1) (k : PJ g own cc nL i d C N pc ls st μ Q1) : PJ g own cc nL i d C N pc ls st μ Q := by
  intro G p e R s m args below meth c E H locs cells slots K K9 B arr hl T hT X
  obtain ⟨t, a1, o, b1, b2, b3⟩ := k G p e R s m args below meth c E H locs cells slots K K9 B arr hl T hT X
  refine ⟨t, a1, o, b1, b2, ?_⟩
  rcases b3 with ⟨⟨⟨v, μ1, e1, e2, e3⟩, e4⟩, e5⟩ | ⟨q, e1, E9, ce, L, ⟨⟨μ1, f1, f2⟩, f3⟩, f4⟩
  · exact Or.inl ⟨⟨⟨v, μ1, e1, h _ _ e2, e3⟩, e4⟩, e5⟩
  · exact Or.inr ⟨q, e1, E9, ce, L, ⟨⟨μ1, h _ _ f1, f2⟩, f3⟩, f4⟩
theorem pj_iconst {n : Int} {v : Int32} (hdg : decode cc pc = .ok (.iconst n, 1)) (hv : Int32.ofInt n = v) (k : PJ g own cc nL i d C N (pc + 1) ls (.int v :: rest) μ Q) : PJ g own cc nL i d C N pc ls (rest) μ Q := fun G p e R s m args below meth c E H locs cells slots K K9 B arr hl9 => lv_iconst E.1 E.2.1 hdg hv (k G p e R s m args below meth c E H locs cells slots K K9 B arr hl9)
theorem pj_bipush {n : Int} {v : Int32} (hdg : decode cc pc = .ok (.bipush n, 2)) (hv : (Int8.ofInt n).toInt32 = v) (k : PJ g own cc nL i d C N (pc + 2) ls (.int v :: rest) μ Q) : PJ g own cc nL i d C N pc ls (rest) μ Q := fun G p e R s m args below meth c E H locs cells slots K K9 B arr hl9 => lv_bipush E.1 E.2.1 hdg hv (k G p e R s m args below meth c E H locs cells slots K K9 B arr hl9)
theorem pj_sipush {n : Int} {v : Int32} (hdg : decode cc pc = .ok (.sipush n, 3)) (hv : (Int16.ofInt n).toInt32 = v) (k : PJ g own cc nL i d C N (pc + 3) ls (.int v :: rest) μ Q) : PJ g own cc nL i d C N pc ls (rest) μ Q := fun G p e R s m args below meth c E H locs cells slots K K9 B arr hl9 => lv_sipush E.1 E.2.1 hdg hv (k G p e R s m args below meth c E H locs cells slots K K9 B arr hl9)
theorem pj_lconst {n : Fin 2} {v : Int64} (hdg : decode cc pc = .ok (.lconst n, 1)) (hv : Int64.ofNat (n : Nat) = v) (k : PJ g own cc nL i d C N (pc + 1) ls (.long v :: rest) μ Q) : PJ g own cc nL i d C N pc ls (rest) μ Q := fun G p e R s m args below meth c E H locs cells slots K K9 B arr hl9 => lv_lconst E.1 E.2.1 hdg hv (k G p e R s m args below meth c E H locs cells slots K K9 B arr hl9)
theorem pj_iload_n {k : Fin 4} {j : Nat} {x : Int32} (hdg : decode cc pc = .ok (.iload_n k, 1)) (hi : (k : Nat) = j) (k0 : Nat) (hl : ls[k0]? = some (j, (.int x))) (k : PJ g own cc nL i d C N (pc + 1) ls (.int x :: rest) μ Q) : PJ g own cc nL i d C N pc ls (rest) μ Q := fun G p e R s m args below meth c E H locs cells slots K K9 B arr hl9 => lv_iload_n E.1 E.2.1 hdg hi (lv_at hl9 k0 hl) (k G p e R s m args below meth c E H locs cells slots K K9 B arr hl9)
theorem pj_iload {j : Nat} {x : Int32} (hdg : decode cc pc = .ok (.iload j, 2)) (k0 : Nat) (hl : ls[k0]? = some (j, (.int x))) (k : PJ g own cc nL i d C N (pc + 2) ls (.int x :: rest) μ Q) : PJ g own cc nL i d C N pc ls (rest) μ Q := fun G p e R s m args below meth c E H locs cells slots K K9 B arr hl9 => lv_iload E.1 E.2.1 hdg (lv_at hl9 k0 hl) (k G p e R s m args below meth c E H locs cells slots K K9 B arr hl9)
theorem pj_lload_n {k : Fin 4} {j : Nat} {x : Int64} (hdg : decode cc pc = .ok (.lload_n k, 1)) (hi : (k : Nat) = j) (k0 : Nat) (hl : ls[k0]? = some (j, (.long x))) (k : PJ g own cc nL i d C N (pc + 1) ls (.long x :: rest) μ Q) : PJ g own cc nL i d C N pc ls (rest) μ Q := fun G p e R s m args below meth c E H locs cells slots K K9 B arr hl9 => lv_lload_n E.1 E.2.1 hdg hi (lv_at hl9 k0 hl) (k G p e R s m args below meth c E H locs cells slots K K9 B arr hl9)
theorem pj_lload {j : Nat} {x : Int64} (hdg : decode cc pc = .ok (.lload j, 2)) (k0 : Nat) (hl : ls[k0]? = some (j, (.long x))) (k : PJ g own cc nL i d C N (pc + 2) ls (.long x :: rest) μ Q) : PJ g own cc nL i d C N pc ls (rest) μ Q := fun G p e R s m args below meth c E H locs cells slots K K9 B arr hl9 => lv_lload E.1 E.2.1 hdg (lv_at hl9 k0 hl) (k G p e R s m args below meth c E H locs cells slots K K9 B arr hl9)
theorem pj_aload_n {k : Fin 4} {j : Nat} {x : Nat} (hdg : decode cc pc = .ok (.aload_n k, 1)) (hi : (k : Nat) = j) (k0 : Nat) (hl : ls[k0]? = some (j, (.ref x))) (k : PJ g own cc nL i d C N (pc + 1) ls (.ref x :: rest) μ Q) : PJ g own cc nL i d C N pc ls (rest) μ Q := fun G p e R s m args below meth c E H locs cells slots K K9 B arr hl9 => lv_aload_n E.1 E.2.1 hdg hi (lv_at hl9 k0 hl) (k G p e R s m args below meth c E H locs cells slots K K9 B arr hl9)
theorem pj_aload {j : Nat} {x : Nat} (hdg : decode cc pc = .ok (.aload j, 2)) (k0 : Nat) (hl : ls[k0]? = some (j, (.ref x))) (k : PJ g own cc nL i d C N (pc + 2) ls (.ref x :: rest) μ Q) : PJ g own cc nL i d C N pc ls (rest) μ Q := fun G p e R s m args below meth c E H locs cells slots K K9 B arr hl9 => lv_aload E.1 E.2.1 hdg (lv_at hl9 k0 hl) (k G p e R s m args below meth c E H locs cells slots K K9 B arr hl9)
theorem pj_istore_n {k : Fin 4} {j  : Nat} {x : Int32} {lv' : List (Nat × Value)} (hdg : decode cc pc = .ok (.istore_n k, 1)) (hi : (k : Nat) = j) (hn : j < nL) (hl : (j, Value.int x) :: ls.filter (fun q => !(q.1 == j) && !(q.1 + 1 == j && q.2.category == 2)) = lv') (k : PJ g own cc nL i d C N (pc + 1) lv' rest μ Q) : PJ g own cc nL i d C N pc ls (.int x :: rest) μ Q := fun G p e R s m args below meth c E H locs cells slots K K9 B arr hl9 => lv_istore_n E.1 E.2.1 hdg hi hl9 hn hl (fun arr9 hl8 => k G p e R s m args below meth c E H locs cells slots K K9 B arr9 hl8)
theorem pj_istore {j  : Nat} {x : Int32} {lv' : List (Nat × Value)} (hdg : decode cc pc = .ok (.istore j, 2)) (hn : j < nL) (hl : (j, Value.int x) :: ls.filter (fun q => !(q.1 == j) && !(q.1 + 1 == j && q.2.category == 2)) = lv') (k : PJ g own cc nL i d C N (pc + 2) lv' rest μ Q) : PJ g own cc nL i d C N pc ls (.int x :: rest) μ Q := fun G p e R s m args below meth c E H locs cells slots K K9 B arr hl9 => lv_istore E.1 E.2.1 hdg hl9 hn hl (fun arr9 hl8 => k G p e R s m args below meth c E H locs cells slots K K9 B arr9 hl8)
theorem pj_lstore_n {k : Fin 4} {j  : Nat} {x : Int64} {lv' : List (Nat × Value)} (hdg : decode cc pc = .ok (.lstore_n k, 1)) (hi : (k : Nat) = j) (hn : j + 1 < nL) (hl : (j, Value.long x) :: ls.filter (fun q => !(q.1 == j) && (!(q.1 == j + 1) && !(q.1 + 1 == j && q.2.category == 2))) = lv') (k : PJ g own cc nL i d C N (pc + 1) lv' rest μ Q) : PJ g own cc nL i d C N pc ls (.long x :: rest) μ Q := fun G p e R s m args below meth c E H locs cells slots K K9 B arr hl9 => lv_lstore_n E.1 E.2.1 hdg hi hl9 hn hl (fun arr9 hl8 => k G p e R s m args below meth c E H locs cells slots K K9 B arr9 hl8)
theorem pj_lstore {j  : Nat} {x : Int64} {lv' : List (Nat × Value)} (hdg : decode cc pc = .ok (.lstore j, 2)) (hn : j + 1 < nL) (hl : (j, Value.long x) :: ls.filter (fun q => !(q.1 == j) && (!(q.1 == j + 1) && !(q.1 + 1 == j && q.2.category == 2))) = lv') (k : PJ g own cc nL i d C N (pc + 2) lv' rest μ Q) : PJ g own cc nL i d C N pc ls (.long x :: rest) μ Q := fun G p e R s m args below meth c E H locs cells slots K K9 B arr hl9 => lv_lstore E.1 E.2.1 hdg hl9 hn hl (fun arr9 hl8 => k G p e R s m args below meth c E H locs cells slots K K9 B arr9 hl8)
theorem pj_astore_n {k : Fin 4} {j  : Nat} {x : Nat} {lv' : List (Nat × Value)} (hdg : decode cc pc = .ok (.astore_n k, 1)) (hi : (k : Nat) = j) (hn : j < nL) (hl : (j, Value.ref x) :: ls.filter (fun q => !(q.1 == j) && !(q.1 + 1 == j && q.2.category == 2)) = lv') (k : PJ g own cc nL i d C N (pc + 1) lv' rest μ Q) : PJ g own cc nL i d C N pc ls (.ref x :: rest) μ Q := fun G p e R s m args below meth c E H locs cells slots K K9 B arr hl9 => lv_astore_n E.1 E.2.1 hdg hi hl9 hn hl (fun arr9 hl8 => k G p e R s m args below meth c E H locs cells slots K K9 B arr9 hl8)
theorem pj_astore {j  : Nat} {x : Nat} {lv' : List (Nat × Value)} (hdg : decode cc pc = .ok (.astore j, 2)) (hn : j < nL) (hl : (j, Value.ref x) :: ls.filter (fun q => !(q.1 == j) && !(q.1 + 1 == j && q.2.category == 2)) = lv') (k : PJ g own cc nL i d C N (pc + 2) lv' rest μ Q) : PJ g own cc nL i d C N pc ls (.ref x :: rest) μ Q := fun G p e R s m args below meth c E H locs cells slots K K9 B arr hl9 => lv_astore E.1 E.2.1 hdg hl9 hn hl (fun arr9 hl8 => k G p e R s m args below meth c E H locs cells slots K K9 B arr9 hl8)
theorem pj_iinc {j  k : Nat} {n : Int} {x v : Int32} {lv' : List (Nat × Value)} (hdg : decode cc pc = .ok (.iinc j n, 3)) (hk : ls[k]? = some (j, .int x)) (hv : x + Int32.ofInt n = v) (hn : j < nL) (hl : (j, Value.int v) :: ls.filter (fun q => !(q.1 == j) && !(q.1 + 1 == j && q.2.category == 2)) = lv') (k : PJ g own cc nL i d C N (pc + 3) lv' rest μ Q) : PJ g own cc nL i d C N pc ls rest μ Q := fun G p e R s m args below meth c E H locs cells slots K K9 B arr hl9 => lv_iinc E.1 E.2.1 hdg hl9 hk hv hn hl (fun arr9 hl8 => k G p e R s m args below meth c E H locs cells slots K K9 B arr9 hl8)
theorem pj_iadd {x y : Int32} (hdg : decode cc pc = .ok (.iadd, 1)) (k : PJ g own cc nL i d C N (pc + 1) ls (.int (x + y) :: rest) μ Q) : PJ g own cc nL i d C N pc ls (.int y :: .int x :: rest) μ Q := fun G p e R s m args below meth c E H locs cells slots K K9 B arr hl9 => lv_iadd E.1 E.2.1 hdg (k G p e R s m args below meth c E H locs cells slots K K9 B arr hl9)
theorem pj_isub {x y : Int32} (hdg : decode cc pc = .ok (.isub, 1)) (k : PJ g own cc nL i d C N (pc + 1) ls (.int (x - y) :: rest) μ Q) : PJ g own cc nL i d C N pc ls (.int y :: .int x :: rest) μ Q := fun G p e R s m args below meth c E H locs cells slots K K9 B arr hl9 => lv_isub E.1 E.2.1 hdg (k G p e R s m args below meth c E H locs cells slots K K9 B arr hl9)
theorem pj_imul {x y : Int32} (hdg : decode cc pc = .ok (.imul, 1)) (k : PJ g own cc nL i d C N (pc + 1) ls (.int (x * y) :: rest) μ Q) : PJ g own cc nL i d C N pc ls (.int y :: .int x :: rest) μ Q := fun G p e R s m args below meth c E H locs cells slots K K9 B arr hl9 => lv_imul E.1 E.2.1 hdg (k G p e R s m args below meth c E H locs cells slots K K9 B arr hl9)
theorem pj_iand {x y : Int32} (hdg : decode cc pc = .ok (.iand, 1)) (k : PJ g own cc nL i d C N (pc + 1) ls (.int (x &&& y) :: rest) μ Q) : PJ g own cc nL i d C N pc ls (.int y :: .int x :: rest) μ Q := fun G p e R s m args below meth c E H locs cells slots K K9 B arr hl9 => lv_iand E.1 E.2.1 hdg (k G p e R s m args below meth c E H locs cells slots K K9 B arr hl9)
theorem pj_ior {x y : Int32} (hdg : decode cc pc = .ok (.ior, 1)) (k : PJ g own cc nL i d C N (pc + 1) ls (.int (x ||| y) :: rest) μ Q) : PJ g own cc nL i d C N pc ls (.int y :: .int x :: rest) μ Q := fun G p e R s m args below meth c E H locs cells slots K K9 B arr hl9 => lv_ior E.1 E.2.1 hdg (k G p e R s m args below meth c E H locs cells slots K K9 B arr hl9)
theorem pj_ixor {x y : Int32} (hdg : decode cc pc = .ok (.ixor, 1)) (k : PJ g own cc nL i d C N (pc + 1) ls (.int (x ^^^ y) :: rest) μ Q) : PJ g own cc nL i d C N pc ls (.int y :: .int x :: rest) μ Q := fun G p e R s m args below meth c E H locs cells slots K K9 B arr hl9 => lv_ixor E.1 E.2.1 hdg (k G p e R s m args below meth c E H locs cells slots K K9 B arr hl9)
theorem pj_idiv {x y : Int32} (hdg : decode cc pc = .ok (.idiv, 1)) (hne : ¬ y = 0) (k : PJ g own cc nL i d C N (pc + 1) ls (.int (x / y) :: rest) μ Q) : PJ g own cc nL i d C N pc ls (.int y :: .int x :: rest) μ Q := fun G p e R s m args below meth c E H locs cells slots K K9 B arr hl9 => lv_idiv E.1 E.2.1 hdg hne (k G p e R s m args below meth c E H locs cells slots K K9 B arr hl9)
theorem pj_irem {x y : Int32} (hdg : decode cc pc = .ok (.irem, 1)) (hne : ¬ y = 0) (k : PJ g own cc nL i d C N (pc + 1) ls (.int (x - x / y * y) :: rest) μ Q) : PJ g own cc nL i d C N pc ls (.int y :: .int x :: rest) μ Q := fun G p e R s m args below meth c E H locs cells slots K K9 B arr hl9 => lv_irem E.1 E.2.1 hdg hne (k G p e R s m args below meth c E H locs cells slots K K9 B arr hl9)
theorem pj_ineg {x : Int32} (hdg : decode cc pc = .ok (.ineg, 1)) (k : PJ g own cc nL i d C N (pc + 1) ls (.int (-x) :: rest) μ Q) : PJ g own cc nL i d C N pc ls (.int x :: rest) μ Q := fun G p e R s m args below meth c E H locs cells slots K K9 B arr hl9 => lv_ineg E.1 E.2.1 hdg (k G p e R s m args below meth c E H locs cells slots K K9 B arr hl9)
theorem pj_ladd {x y : Int64} (hdg : decode cc pc = .ok (.ladd, 1)) (k : PJ g own cc nL i d C N (pc + 1) ls (.long (x + y) :: rest) μ Q) : PJ g own cc nL i d C N pc ls (.long y :: .long x :: rest) μ Q := fun G p e R s m args below meth c E H locs cells slots K K9 B arr hl9 => lv_ladd E.1 E.2.1 hdg (k G p e R s m args below meth c E H locs cells slots K K9 B arr hl9)
theorem pj_lsub {x y : Int64} (hdg : decode cc pc = .ok (.lsub, 1)) (k : PJ g own cc nL i d C N (pc + 1) ls (.long (x - y) :: rest) μ Q) : PJ g own cc nL i d C N pc ls (.long y :: .long x :: rest) μ Q := fun G p e R s m args below meth c E H locs cells slots K K9 B arr hl9 => lv_lsub E.1 E.2.1 hdg (k G p e R s m args below meth c E H locs cells slots K K9 B arr hl9)
theorem pj_lmul {x y : Int64} (hdg : decode cc pc = .ok (.lmul, 1)) (k : PJ g own cc nL i d C N (pc + 1) ls (.long (x * y) :: rest) μ Q) : PJ g own cc nL i d C N pc ls (.long y :: .long x :: rest) μ Q := fun G p e R s m args below meth c E H locs cells slots K K9 B arr hl9 => lv_lmul E.1 E.2.1 hdg (k G p e R s m args below meth c E H locs cells slots K K9 B arr hl9)
theorem pj_land {x y : Int64} (hdg : decode cc pc = .ok (.land, 1)) (k : PJ g own cc nL i d C N (pc + 1) ls (.long (x &&& y) :: rest) μ Q) : PJ g own cc nL i d C N pc ls (.long y :: .long x :: rest) μ Q := fun G p e R s m args below meth c E H locs cells slots K K9 B arr hl9 => lv_land E.1 E.2.1 hdg (k G p e R s m args below meth c E H locs cells slots K K9 B arr hl9)
theorem pj_lor {x y : Int64} (hdg : decode cc pc = .ok (.lor, 1)) (k : PJ g own cc nL i d C N (pc + 1) ls (.long (x ||| y) :: rest) μ Q) : PJ g own cc nL i d C N pc ls (.long y :: .long x :: rest) μ Q := fun G p e R s m args below meth c E H locs cells slots K K9 B arr hl9 => lv_lor E.1 E.2.1 hdg (k G p e R s m args below meth c E H locs cells slots K K9 B arr hl9)
theorem pj_lxor {x y : Int64} (hdg : decode cc pc = .ok (.lxor, 1)) (k : PJ g own cc nL i d C N (pc + 1) ls (.long (x ^^^ y) :: rest) μ Q) : PJ g own cc nL i d C N pc ls (.long y :: .long x :: rest) μ Q := fun G p e R s m args below meth c E H locs cells slots K K9 B arr hl9 => lv_lxor E.1 E.2.1 hdg (k G p e R s m args below meth c E H locs cells slots K K9 B arr hl9)
theorem pj_ldiv {x y : Int64} (hdg : decode cc pc = .ok (.ldiv, 1)) (hne : ¬ y = 0) (k : PJ g own cc nL i d C N (pc + 1) ls (.long (x / y) :: rest) μ Q) : PJ g own cc nL i d C N pc ls (.long y :: .long x :: rest) μ Q := fun G p e R s m args below meth c E H locs cells slots K K9 B arr hl9 => lv_ldiv E.1 E.2.1 hdg hne (k G p e R s m args below meth c E H locs cells slots K K9 B arr hl9)
theorem pj_lrem {x y : Int64} (hdg : decode cc pc = .ok (.lrem, 1)) (hne : ¬ y = 0) (k : PJ g own cc nL i d C N (pc + 1) ls (.long (x - x / y * y) :: rest) μ Q) : PJ g own cc nL i d C N pc ls (.long y :: .long x :: rest) μ Q := fun G p e R s m args below meth c E H locs cells slots K K9 B arr hl9 => lv_lrem E.1 E.2.1 hdg hne (k G p e R s m args below meth c E H locs cells slots K K9 B arr hl9)
theorem pj_lneg {x : Int64} (hdg : decode cc pc = .ok (.lneg, 1)) (k : PJ g own cc nL i d C N (pc + 1) ls (.long (-x) :: rest) μ Q) : PJ g own cc nL i d C N pc ls (.long x :: rest) μ Q := fun G p e R s m args below meth c E H locs cells slots K K9 B arr hl9 => lv_lneg E.1 E.2.1 hdg (k G p e R s m args below meth c E H locs cells slots K K9 B arr hl9)
theorem pj_ishl {x y : Int32} (hdg : decode cc pc = .ok (.ishl, 1)) (k : PJ g own cc nL i d C N (pc + 1) ls (.int (x <<< (y &&& 31)) :: rest) μ Q) : PJ g own cc nL i d C N pc ls (.int y :: .int x :: rest) μ Q := fun G p e R s m args below meth c E H locs cells slots K K9 B arr hl9 => lv_ishl E.1 E.2.1 hdg (k G p e R s m args below meth c E H locs cells slots K K9 B arr hl9)
theorem pj_ishr {x y : Int32} (hdg : decode cc pc = .ok (.ishr, 1)) (k : PJ g own cc nL i d C N (pc + 1) ls (.int (x >>> (y &&& 31)) :: rest) μ Q) : PJ g own cc nL i d C N pc ls (.int y :: .int x :: rest) μ Q := fun G p e R s m args below meth c E H locs cells slots K K9 B arr hl9 => lv_ishr E.1 E.2.1 hdg (k G p e R s m args below meth c E H locs cells slots K K9 B arr hl9)
theorem pj_i2l {x : Int32} {v : Int64} (hdg : decode cc pc = .ok (.i2l, 1)) (hv : x.toInt64 = v) (k : PJ g own cc nL i d C N (pc + 1) ls (.long v :: rest) μ Q) : PJ g own cc nL i d C N pc ls (.int x :: rest) μ Q := fun G p e R s m args below meth c E H locs cells slots K K9 B arr hl9 => lv_i2l E.1 E.2.1 hdg hv (k G p e R s m args below meth c E H locs cells slots K K9 B arr hl9)
theorem pj_l2i {x : Int64} {v : Int32} (hdg : decode cc pc = .ok (.l2i, 1)) (hv : x.toInt32 = v) (k : PJ g own cc nL i d C N (pc + 1) ls (.int v :: rest) μ Q) : PJ g own cc nL i d C N pc ls (.long x :: rest) μ Q := fun G p e R s m args below meth c E H locs cells slots K K9 B arr hl9 => lv_l2i E.1 E.2.1 hdg hv (k G p e R s m args below meth c E H locs cells slots K K9 B arr hl9)
theorem pj_i2b {x : Int32} {v : Int32} (hdg : decode cc pc = .ok (.i2b, 1)) (hv : x.toInt8.toInt32 = v) (k : PJ g own cc nL i d C N (pc + 1) ls (.int v :: rest) μ Q) : PJ g own cc nL i d C N pc ls (.int x :: rest) μ Q := fun G p e R s m args below meth c E H locs cells slots K K9 B arr hl9 => lv_i2b E.1 E.2.1 hdg hv (k G p e R s m args below meth c E H locs cells slots K K9 B arr hl9)
theorem pj_i2s {x : Int32} {v : Int32} (hdg : decode cc pc = .ok (.i2s, 1)) (hv : x.toInt16.toInt32 = v) (k : PJ g own cc nL i d C N (pc + 1) ls (.int v :: rest) μ Q) : PJ g own cc nL i d C N pc ls (.int x :: rest) μ Q := fun G p e R s m args below meth c E H locs cells slots K K9 B arr hl9 => lv_i2s E.1 E.2.1 hdg hv (k G p e R s m args below meth c E H locs cells slots K K9 B arr hl9)
theorem pj_i2c {x : Int32} {v : Int32} (hdg : decode cc pc = .ok (.i2c, 1)) (hv : (x.toUInt32 % 65536).toInt32 = v) (k : PJ g own cc nL i d C N (pc + 1) ls (.int v :: rest) μ Q) : PJ g own cc nL i d C N pc ls (.int x :: rest) μ Q := fun G p e R s m args below meth c E H locs cells slots K K9 B arr hl9 => lv_i2c E.1 E.2.1 hdg hv (k G p e R s m args below meth c E H locs cells slots K K9 B arr hl9)
theorem pj_iushr {x y v : Int32} (hdg : decode cc pc = .ok (.iushr, 1)) (hv : (x.toUInt32 >>> (y.toUInt32 &&& Int32.toUInt32 31)).toInt32 = v) (k : PJ g own cc nL i d C N (pc + 1) ls (.int v :: rest) μ Q) : PJ g own cc nL i d C N pc ls (.int y :: .int x :: rest) μ Q := fun G p e R s m args below meth c E H locs cells slots K K9 B arr hl9 => lv_iushr E.1 E.2.1 hdg hv (k G p e R s m args below meth c E H locs cells slots K K9 B arr hl9)
theorem pj_dup {va : Value} (hdg : decode cc pc = .ok (.dup, 1)) (hva : va.category = 1) (k : PJ g own cc nL i d C N (pc + 1) ls (va :: va :: rest) μ Q) : PJ g own cc nL i d C N pc ls (va :: rest) μ Q := fun G p e R s m args below meth c E H locs cells slots K K9 B arr hl9 => lv_dup E.1 E.2.1 hdg hva (k G p e R s m args below meth c E H locs cells slots K K9 B arr hl9)
theorem pj_pop {va : Value} (hdg : decode cc pc = .ok (.pop, 1)) (hva : va.category = 1) (k : PJ g own cc nL i d C N (pc + 1) ls (rest) μ Q) : PJ g own cc nL i d C N pc ls (va :: rest) μ Q := fun G p e R s m args below meth c E H locs cells slots K K9 B arr hl9 => lv_pop E.1 E.2.1 hdg hva (k G p e R s m args below meth c E H locs cells slots K K9 B arr hl9)
theorem pj_dup_x1 {va vb : Value} (hdg : decode cc pc = .ok (.dup_x1, 1)) (hva : va.category = 1) (hvb : vb.category = 1) (k : PJ g own cc nL i d C N (pc + 1) ls (va :: vb :: va :: rest) μ Q) : PJ g own cc nL i d C N pc ls (va :: vb :: rest) μ Q := fun G p e R s m args below meth c E H locs cells slots K K9 B arr hl9 => lv_dup_x1 E.1 E.2.1 hdg hva hvb (k G p e R s m args below meth c E H locs cells slots K K9 B arr hl9)
theorem pj_dup2_11 {va vb : Value} (hdg : decode cc pc = .ok (.dup2, 1)) (hva : va.category = 1) (hvb : vb.category = 1) (k : PJ g own cc nL i d C N (pc + 1) ls (va :: vb :: va :: vb :: rest) μ Q) : PJ g own cc nL i d C N pc ls (va :: vb :: rest) μ Q := fun G p e R s m args below meth c E H locs cells slots K K9 B arr hl9 => lv_dup2_11 E.1 E.2.1 hdg hva hvb (k G p e R s m args below meth c E H locs cells slots K K9 B arr hl9)
theorem pj_dup2_2 {va : Value} (hdg : decode cc pc = .ok (.dup2, 1)) (hva : va.category = 2) (k : PJ g own cc nL i d C N (pc + 1) ls (va :: va :: rest) μ Q) : PJ g own cc nL i d C N pc ls (va :: rest) μ Q := fun G p e R s m args below meth c E H locs cells slots K K9 B arr hl9 => lv_dup2_2 E.1 E.2.1 hdg hva (k G p e R s m args below meth c E H locs cells slots K K9 B arr hl9)
theorem pj_pop2_2 {va : Value} (hdg : decode cc pc = .ok (.pop2, 1)) (hva : va.category = 2) (k : PJ g own cc nL i d C N (pc + 1) ls (rest) μ Q) : PJ g own cc nL i d C N pc ls (va :: rest) μ Q := fun G p e R s m args below meth c E H locs cells slots K K9 B arr hl9 => lv_pop2_2 E.1 E.2.1 hdg hva (k G p e R s m args below meth c E H locs cells slots K K9 B arr hl9)
theorem pj_if_eq {x : Int32} {off : Int} {tgt : Nat} (hdg : decode cc pc = .ok (.ifCond .eq off, 3)) (ht : (pc : Int) + off = (tgt : Int)) (kt : x = 0 → PJ g own cc nL i d C N tgt ls rest μ Q) (kf : ¬ x = 0 → PJ g own cc nL i d C N (pc + 3) ls rest μ Q) : PJ g own cc nL i d C N pc ls (.int x :: rest) μ Q := fun G p e R s m args below meth c E H locs cells slots K K9 B arr hl9 => lv_if_eq E.1 E.2.1 hdg ht (fun z9 => kt z9 G p e R s m args below meth c E H locs cells slots K K9 B arr hl9) (fun z9 => kf z9 G p e R s m args below meth c E H locs cells slots K K9 B arr hl9)
theorem pj_icmp_eq {x y : Int32} {off : Int} {tgt : Nat} (hdg : decode cc pc = .ok (.if_icmp .eq off, 3)) (ht : (pc : Int) + off = (tgt : Int)) (kt : x = y → PJ g own cc nL i d C N tgt ls rest μ Q) (kf : ¬ x = y → PJ g own cc nL i d C N (pc + 3) ls rest μ Q) : PJ g own cc nL i d C N pc ls (.int y :: .int x :: rest) μ Q := fun G p e R s m args below meth c E H locs cells slots K K9 B arr hl9 => lv_icmp_eq E.1 E.2.1 hdg ht (fun z9 => kt z9 G p e R s m args below meth c E H locs cells slots K K9 B arr hl9) (fun z9 => kf z9 G p e R s m args below meth c E H locs cells slots K K9 B arr hl9)
theorem pj_if_ne {x : Int32} {off : Int} {tgt : Nat} (hdg : decode cc pc = .ok (.ifCond .ne off, 3)) (ht : (pc : Int) + off = (tgt : Int)) (kt : ¬ x = 0 → PJ g own cc nL i d C N tgt ls rest μ Q) (kf : x = 0 → PJ g own cc nL i d C N (pc + 3) ls rest μ Q) : PJ g own cc nL i d C N pc ls (.int x :: rest) μ Q := fun G p e R s m args below meth c E H locs cells slots K K9 B arr hl9 => lv_if_ne E.1 E.2.1 hdg ht (fun z9 => kt z9 G p e R s m args below meth c E H locs cells slots K K9 B arr hl9) (fun z9 => kf z9 G p e R s m args below meth c E H locs cells slots K K9 B arr hl9)
theorem pj_icmp_ne {x y : Int32} {off : Int} {tgt : Nat} (hdg : decode cc pc = .ok (.if_icmp .ne off, 3)) (ht : (pc : Int) + off = (tgt : Int)) (kt : ¬ x = y → PJ g own cc nL i d C N tgt ls rest μ Q) (kf : x = y → PJ g own cc nL i d C N (pc + 3) ls rest μ Q) : PJ g own cc nL i d C N pc ls (.int y :: .int x :: rest) μ Q := fun G p e R s m args below meth c E H locs cells slots K K9 B arr hl9 => lv_icmp_ne E.1 E.2.1 hdg ht (fun z9 => kt z9 G p e R s m args below meth c E H locs cells slots K K9 B arr hl9) (fun z9 => kf z9 G p e R s m args below meth c E H locs cells slots K K9 B arr hl9)
theorem pj_if_lt {x : Int32} {off : Int} {tgt : Nat} (hdg : decode cc pc = .ok (.ifCond .lt off, 3)) (ht : (pc : Int) + off = (tgt : Int)) (kt : x < 0 → PJ g own cc nL i d C N tgt ls rest μ Q) (kf : ¬ x < 0 → PJ g own cc nL i d C N (pc + 3) ls rest μ Q) : PJ g own cc nL i d C N pc ls (.int x :: rest) μ Q := fun G p e R s m args below meth c E H locs cells slots K K9 B arr hl9 => lv_if_lt E.1 E.2.1 hdg ht (fun z9 => kt z9 G p e R s m args below meth c E H locs cells slots K K9 B arr hl9) (fun z9 => kf z9 G p e R s m args below meth c E H locs cells slots K K9 B arr hl9)
theorem pj_icmp_lt {x y : Int32} {off : Int} {tgt : Nat} (hdg : decode cc pc = .ok (.if_icmp .lt off, 3)) (ht : (pc : Int) + off = (tgt : Int)) (kt : x < y → PJ g own cc nL i d C N tgt ls rest μ Q) (kf : ¬ x < y → PJ g own cc nL i d C N (pc + 3) ls rest μ Q) : PJ g own cc nL i d C N pc ls (.int y :: .int x :: rest) μ Q := fun G p e R s m args below meth c E H locs cells slots K K9 B arr hl9 => lv_icmp_lt E.1 E.2.1 hdg ht (fun z9 => kt z9 G p e R s m args below meth c E H locs cells slots K K9 B arr hl9) (fun z9 => kf z9 G p e R s m args below meth c E H locs cells slots K K9 B arr hl9)
theorem pj_if_ge {x : Int32} {off : Int} {tgt : Nat} (hdg : decode cc pc = .ok (.ifCond .ge off, 3)) (ht : (pc : Int) + off = (tgt : Int)) (kt : 0 ≤ x → PJ g own cc nL i d C N tgt ls rest μ Q) (kf : ¬ 0 ≤ x → PJ g own cc nL i d C N (pc + 3) ls rest μ Q) : PJ g own cc nL i d C N pc ls (.int x :: rest) μ Q := fun G p e R s m args below meth c E H locs cells slots K K9 B arr hl9 => lv_if_ge E.1 E.2.1 hdg ht (fun z9 => kt z9 G p e R s m args below meth c E H locs cells slots K K9 B arr hl9) (fun z9 => kf z9 G p e R s m args below meth c E H locs cells slots K K9 B arr hl9)
theorem pj_icmp_ge {x y : Int32} {off : Int} {tgt : Nat} (hdg : decode cc pc = .ok (.if_icmp .ge off, 3)) (ht : (pc : Int) + off = (tgt : Int)) (kt : y ≤ x → PJ g own cc nL i d C N tgt ls rest μ Q) (kf : ¬ y ≤ x → PJ g own cc nL i d C N (pc + 3) ls rest μ Q) : PJ g own cc nL i d C N pc ls (.int y :: .int x :: rest) μ Q := fun G p e R s m args below meth c E H locs cells slots K K9 B arr hl9 => lv_icmp_ge E.1 E.2.1 hdg ht (fun z9 => kt z9 G p e R s m args below meth c E H locs cells slots K K9 B arr hl9) (fun z9 => kf z9 G p e R s m args below meth c E H locs cells slots K K9 B arr hl9)
theorem pj_if_gt {x : Int32} {off : Int} {tgt : Nat} (hdg : decode cc pc = .ok (.ifCond .gt off, 3)) (ht : (pc : Int) + off = (tgt : Int)) (kt : 0 < x → PJ g own cc nL i d C N tgt ls rest μ Q) (kf : ¬ 0 < x → PJ g own cc nL i d C N (pc + 3) ls rest μ Q) : PJ g own cc nL i d C N pc ls (.int x :: rest) μ Q := fun G p e R s m args below meth c E H locs cells slots K K9 B arr hl9 => lv_if_gt E.1 E.2.1 hdg ht (fun z9 => kt z9 G p e R s m args below meth c E H locs cells slots K K9 B arr hl9) (fun z9 => kf z9 G p e R s m args below meth c E H locs cells slots K K9 B arr hl9)
theorem pj_icmp_gt {x y : Int32} {off : Int} {tgt : Nat} (hdg : decode cc pc = .ok (.if_icmp .gt off, 3)) (ht : (pc : Int) + off = (tgt : Int)) (kt : y < x → PJ g own cc nL i d C N tgt ls rest μ Q) (kf : ¬ y < x → PJ g own cc nL i d C N (pc + 3) ls rest μ Q) : PJ g own cc nL i d C N pc ls (.int y :: .int x :: rest) μ Q := fun G p e R s m args below meth c E H locs cells slots K K9 B arr hl9 => lv_icmp_gt E.1 E.2.1 hdg ht (fun z9 => kt z9 G p e R s m args below meth c E H locs cells slots K K9 B arr hl9) (fun z9 => kf z9 G p e R s m args below meth c E H locs cells slots K K9 B arr hl9)
theorem pj_if_le {x : Int32} {off : Int} {tgt : Nat} (hdg : decode cc pc = .ok (.ifCond .le off, 3)) (ht : (pc : Int) + off = (tgt : Int)) (kt : x ≤ 0 → PJ g own cc nL i d C N tgt ls rest μ Q) (kf : ¬ x ≤ 0 → PJ g own cc nL i d C N (pc + 3) ls rest μ Q) : PJ g own cc nL i d C N pc ls (.int x :: rest) μ Q := fun G p e R s m args below meth c E H locs cells slots K K9 B arr hl9 => lv_if_le E.1 E.2.1 hdg ht (fun z9 => kt z9 G p e R s m args below meth c E H locs cells slots K K9 B arr hl9) (fun z9 => kf z9 G p e R s m args below meth c E H locs cells slots K K9 B arr hl9)
theorem pj_icmp_le {x y : Int32} {off : Int} {tgt : Nat} (hdg : decode cc pc = .ok (.if_icmp .le off, 3)) (ht : (pc : Int) + off = (tgt : Int)) (kt : x ≤ y → PJ g own cc nL i d C N tgt ls rest μ Q) (kf : ¬ x ≤ y → PJ g own cc nL i d C N (pc + 3) ls rest μ Q) : PJ g own cc nL i d C N pc ls (.int y :: .int x :: rest) μ Q := fun G p e R s m args below meth c E H locs cells slots K K9 B arr hl9 => lv_icmp_le E.1 E.2.1 hdg ht (fun z9 => kt z9 G p e R s m args below meth c E H locs cells slots K K9 B arr hl9) (fun z9 => kf z9 G p e R s m args below meth c E H locs cells slots K K9 B arr hl9)
theorem pj_goto {off : Int} {tgt : Nat} (hdg : decode cc pc = .ok (.goto off, 3)) (ht : (pc : Int) + off = (tgt : Int)) (k : PJ g own cc nL i d C N tgt ls rest μ Q) : PJ g own cc nL i d C N pc ls rest μ Q := fun G p e R s m args below meth c E H locs cells slots K K9 B arr hl9 => lv_goto E.1 E.2.1 hdg ht (k G p e R s m args below meth c E H locs cells slots K K9 B arr hl9)
theorem pj_fconst0 (hdg : decode cc pc = .ok (.fconst 0, 1)) (k : PJ g own cc nL i d C N (pc + 1) ls (.float FP.fconst0 :: rest) μ Q) : PJ g own cc nL i d C N pc ls (rest) μ Q := fun G p e R s m args below meth c E H locs cells slots K K9 B arr hl9 => lv_fconst0 E.1 E.2.1 hdg (k G p e R s m args below meth c E H locs cells slots K K9 B arr hl9)
theorem pj_fconst1 (hdg : decode cc pc = .ok (.fconst 1, 1)) (k : PJ g own cc nL i d C N (pc + 1) ls (.float FP.fconst1 :: rest) μ Q) : PJ g own cc nL i d C N pc ls (rest) μ Q := fun G p e R s m args below meth c E H locs cells slots K K9 B arr hl9 => lv_fconst1 E.1 E.2.1 hdg (k G p e R s m args below meth c E H locs cells slots K K9 B arr hl9)
theorem pj_fconst2 (hdg : decode cc pc = .ok (.fconst 2, 1)) (k : PJ g own cc nL i d C N (pc + 1) ls (.float FP.fconst2 :: rest) μ Q) : PJ g own cc nL i d C N pc ls (rest) μ Q := fun G p e R s m args below meth c E H locs cells slots K K9 B arr hl9 => lv_fconst2 E.1 E.2.1 hdg (k G p e R s m args below meth c E H locs cells slots K K9 B arr hl9)
theorem pj_fload_n {k : Fin 4} {j : Nat} {x : UInt32} (hdg : decode cc pc = .ok (.fload_n k, 1)) (hi : (k : Nat) = j) (k0 : Nat) (hl : ls[k0]? = some (j, (.float x))) (k : PJ g own cc nL i d C N (pc + 1) ls (.float x :: rest) μ Q) : PJ g own cc nL i d C N pc ls (rest) μ Q := fun G p e R s m args below meth c E H locs cells slots K K9 B arr hl9 => lv_fload_n E.1 E.2.1 hdg hi (lv_at hl9 k0 hl) (k G p e R s m args below meth c E H locs cells slots K K9 B arr hl9)
theorem pj_fload {j : Nat} {x : UInt32} (hdg : decode cc pc = .ok (.fload j, 2)) (k0 : Nat) (hl : ls[k0]? = some (j, (.float x))) (k : PJ g own cc nL i d C N (pc + 2) ls (.float x :: rest) μ Q) : PJ g own cc nL i d C N pc ls (rest) μ Q := fun G p e R s m args below meth c E H locs cells slots K K9 B arr hl9 => lv_fload E.1 E.2.1 hdg (lv_at hl9 k0 hl) (k G p e R s m args below meth c E H locs cells slots K K9 B arr hl9)
theorem pj_fadd {x y : UInt32} (hdg : decode cc pc = .ok (.fadd, 1)) (hne : vf_n32 (FP.fadd x y)) (k : PJ g own cc nL i d C N (pc + 1) ls (.float (FP.fadd x y) :: rest) μ Q) : PJ g own cc nL i d C N pc ls (.float y :: .float x :: rest) μ Q := fun G p e R s m args below meth c E H locs cells slots K K9 B arr hl9 => lv_fadd E.1 E.2.1 hdg hne (k G p e R s m args below meth c E H locs cells slots K K9 B arr hl9)
theorem pj_fdiv {x y : UInt32} (hdg : decode cc pc = .ok (.fdiv, 1)) (hne : vf_n32 (FP.fdiv x y)) (k : PJ g own cc nL i d C N (pc + 1) ls (.float (FP.fdiv x y) :: rest) μ Q) : PJ g own cc nL i d C N pc ls (.float y :: .float x :: rest) μ Q := fun G p e R s m args below meth c E H locs cells slots K K9 B arr hl9 => lv_fdiv E.1 E.2.1 hdg hne (k G p e R s m args below meth c E H locs cells slots K K9 B arr hl9)
theorem pj_fcmp {x y : UInt32} {op : CmpOp} (hdg : decode cc pc = .ok (.fcmp op, 1)) (k : PJ g own cc nL i d C N (pc + 1) ls (.int (Op.cmpValue (FP.fcmp x y) op) :: rest) μ Q) : PJ g own cc nL i d C N pc ls (.float y :: .float x :: rest) μ Q := fun G p e R s m args below meth c E H locs cells slots K K9 B arr hl9 => lv_fcmp E.1 E.2.1 hdg (k G p e R s m args below meth c E H locs cells slots K K9 B arr hl9)
theorem pj_i2f {x : Int32} (hdg : decode cc pc = .ok (.i2f, 1)) (k : PJ g own cc nL i d C N (pc + 1) ls (.float (FP.i2f x) :: rest) μ Q) : PJ g own cc nL i d C N pc ls (.int x :: rest) μ Q := fun G p e R s m args below meth c E H locs cells slots K K9 B arr hl9 => lv_i2f E.1 E.2.1 hdg (k G p e R s m args below meth c E H locs cells slots K K9 B arr hl9)
theorem pj_f2i {x : UInt32} (hdg : decode cc pc = .ok (.f2i, 1)) (k : PJ g own cc nL i d C N (pc + 1) ls (.int (FP.f2i x) :: rest) μ Q) : PJ g own cc nL i d C N pc ls (.float x :: rest) μ Q := fun G p e R s m args below meth c E H locs cells slots K K9 B arr hl9 => lv_f2i E.1 E.2.1 hdg (k G p e R s m args below meth c E H locs cells slots K K9 B arr hl9)
theorem pj_fstore_n {k : Fin 4} {j  : Nat} {x : UInt32} {lv' : List (Nat × Value)} (hdg : decode cc pc = .ok (.fstore_n k, 1)) (hi : (k : Nat) = j) (hn : j < nL) (hl : (j, Value.float x) :: ls.filter (fun q => !(q.1 == j) && !(q.1 + 1 == j && q.2.category == 2)) = lv') (k : PJ g own cc nL i d C N (pc + 1) lv' rest μ Q) : PJ g own cc nL i d C N pc ls (.float x :: rest) μ Q := fun G p e R s m args below meth c E H locs cells slots K K9 B arr hl9 => lv_fstore_n E.1 E.2.1 hdg hi hl9 hn hl (fun arr9 hl8 => k G p e R s m args below meth c E H locs cells slots K K9 B arr9 hl8)
theorem pj_fstore {j  : Nat} {x : UInt32} {lv' : List (Nat × Value)} (hdg : decode cc pc = .ok (.fstore j, 2)) (hn : j < nL) (hl : (j, Value.float x) :: ls.filter (fun q => !(q.1 == j) && !(q.1 + 1 == j && q.2.category == 2)) = lv') (k : PJ g own cc nL i d C N (pc + 2) lv' rest μ Q) : PJ g own cc nL i d C N pc ls (.float x :: rest) μ Q := fun G p e R s m args below meth c E H locs cells slots K K9 B arr hl9 => lv_fstore E.1 E.2.1 hdg hl9 hn hl (fun arr9 hl8 => k G p e R s m args below meth c E H locs cells slots K K9 B arr9 hl8)
theorem pj_lookup {dflt : Int} {ps : Array (Int × Int)} {len : Nat} {x : Int32} {off : Int} {tgt : Nat} (hdg : decode cc pc = .ok (.lookupswitch dflt ps, len)) (hp : (ps.toList.zip (ps.toList.drop 1)).all (fun (a, next) => a.1 < next.1) = true) (ho : Op.lookupswitch.offset ps.toList dflt x.toInt = off) (ht : (pc : Int) + off = (tgt : Int)) (k : PJ g own cc nL i d C N tgt ls rest μ Q) : PJ g own cc nL i d C N pc ls (.int x :: rest) μ Q := fun G p e R s m args below meth c E H locs cells slots K K9 B arr hl9 => lv_lookup E.1 E.2.1 hdg hp ho ht (k G p e R s m args below meth c E H locs cells slots K K9 B arr hl9)
theorem pj_tableOut {dflt lo hi : Int} {offs : Array Int} {len : Nat} {x : Int32} {tgt : Nat} (hdg : decode cc pc = .ok (.tableswitch dflt lo hi offs, len)) (h : x.toInt < lo ∨ hi < x.toInt) (ht : (pc : Int) + dflt = (tgt : Int)) (k : PJ g own cc nL i d C N tgt ls rest μ Q) : PJ g own cc nL i d C N pc ls (.int x :: rest) μ Q := fun G p e R s m args below meth c E H locs cells slots K K9 B arr hl9 => lv_tableOut E.1 E.2.1 hdg h ht (k G p e R s m args below meth c E H locs cells slots K K9 B arr hl9)
theorem pj_tableIn {dflt lo hi : Int} {offs : Array Int} {len : Nat} {x : Int32} {off : Int} {tgt : Nat} (hdg : decode cc pc = .ok (.tableswitch dflt lo hi offs, len)) (h1 : ¬ x.toInt < lo) (h2 : ¬ hi < x.toInt) (ho : offs[(x.toInt - lo).toNat]? = some off) (ht : (pc : Int) + off = (tgt : Int)) (k : PJ g own cc nL i d C N tgt ls rest μ Q) : PJ g own cc nL i d C N pc ls (.int x :: rest) μ Q := fun G p e R s m args below meth c E H locs cells slots K K9 B arr hl9 => lv_tableIn E.1 E.2.1 hdg h1 h2 ho ht (k G p e R s m args below meth c E H locs cells slots K K9 B arr hl9)
theorem pj_ifnonnull {x : Nat} {off : Int} {tgt : Nat} (hdg : decode cc pc = .ok (.ifnonnull off, 3)) (ht : (pc : Int) + off = (tgt : Int)) (k : PJ g own cc nL i d C N tgt ls rest μ Q) : PJ g own cc nL i d C N pc ls (.ref x :: rest) μ Q := fun G p e R s m args below meth c E H locs cells slots K K9 B arr hl9 => lv_ifnonnull E.1 E.2.1 hdg ht (k G p e R s m args below meth c E H locs cells slots K K9 B arr hl9)
theorem pj_ifnull {x : Nat} {off : Int} (hdg : decode cc pc = .ok (.ifnull off, 3)) (k : PJ g own cc nL i d C N (pc + 3) ls rest μ Q) : PJ g own cc nL i d C N pc ls (.ref x :: rest) μ Q := fun G p e R s m args below meth c E H locs cells slots K K9 B arr hl9 => lv_ifnull E.1 E.2.1 hdg (k G p e R s m args below meth c E H locs cells slots K K9 B arr hl9)
theorem pj_null (hdg : decode cc pc = .ok (.aconst_null, 1)) (k : PJ g own cc nL i d C N (pc + 1) ls (.null :: rest) μ Q) : PJ g own cc nL i d C N pc ls rest μ Q := fun G p e R s m args below meth c E H locs cells slots K K9 B arr hl9 => lv_null E.1 E.2.1 hdg (k G p e R s m args below meth c E H locs cells slots K K9 B arr hl9)
theorem pj_ifnullN {off : Int} {tgt : Nat} (hdg : decode cc pc = .ok (.ifnull off, 3)) (ht : (pc : Int) + off = (tgt : Int)) (k : PJ g own cc nL i d C N tgt ls rest μ Q) : PJ g own cc nL i d C N pc ls (.null :: rest) μ Q := fun G p e R s m args below meth c E H locs cells slots K K9 B arr hl9 => lv_ifnullN E.1 E.2.1 hdg ht (k G p e R s m args below meth c E H locs cells slots K K9 B arr hl9)
theorem pj_ifnonnullN {off : Int} (hdg : decode cc pc = .ok (.ifnonnull off, 3)) (k : PJ g own cc nL i d C N (pc + 3) ls rest μ Q) : PJ g own cc nL i d C N pc ls (.null :: rest) μ Q := fun G p e R s m args below meth c E H locs cells slots K K9 B arr hl9 => lv_ifnonnullN E.1 E.2.1 hdg (k G p e R s m args below meth c E H locs cells slots K K9 B arr hl9)
theorem pj_aload_nN {k : Fin 4} {j : Nat} (hdg : decode cc pc = .ok (.aload_n k, 1)) (hi : (k : Nat) = j) (k0 : Nat) (hl : ls[k0]? = some (j, (.null))) (k : PJ g own cc nL i d C N (pc + 1) ls (.null :: rest) μ Q) : PJ g own cc nL i d C N pc ls (rest) μ Q := fun G p e R s m args below meth c E H locs cells slots K K9 B arr hl9 => lv_aload_nN E.1 E.2.1 hdg hi (lv_at hl9 k0 hl) (k G p e R s m args below meth c E H locs cells slots K K9 B arr hl9)
theorem pj_aloadN {j : Nat} (hdg : decode cc pc = .ok (.aload j, 2)) (k0 : Nat) (hl : ls[k0]? = some (j, (.null))) (k : PJ g own cc nL i d C N (pc + 2) ls (.null :: rest) μ Q) : PJ g own cc nL i d C N pc ls (rest) μ Q := fun G p e R s m args below meth c E H locs cells slots K K9 B arr hl9 => lv_aloadN E.1 E.2.1 hdg (lv_at hl9 k0 hl) (k G p e R s m args below meth c E H locs cells slots K K9 B arr hl9)
theorem pj_astore_nN {k : Fin 4} {j  : Nat} {lv' : List (Nat × Value)} (hdg : decode cc pc = .ok (.astore_n k, 1)) (hi : (k : Nat) = j) (hn : j < nL) (hl : (j, Value.null) :: ls.filter (fun q => !(q.1 == j) && !(q.1 + 1 == j && q.2.category == 2)) = lv') (k : PJ g own cc nL i d C N (pc + 1) lv' rest μ Q) : PJ g own cc nL i d C N pc ls (.null :: rest) μ Q := fun G p e R s m args below meth c E H locs cells slots K K9 B arr hl9 => lv_astore_nN E.1 E.2.1 hdg hi hl9 hn hl (fun arr9 hl8 => k G p e R s m args below meth c E H locs cells slots K K9 B arr9 hl8)
theorem pj_astoreN {j  : Nat} {lv' : List (Nat × Value)} (hdg : decode cc pc = .ok (.astore j, 2)) (hn : j < nL) (hl : (j, Value.null) :: ls.filter (fun q => !(q.1 == j) && !(q.1 + 1 == j && q.2.category == 2)) = lv') (k : PJ g own cc nL i d C N (pc + 2) lv' rest μ Q) : PJ g own cc nL i d C N pc ls (.null :: rest) μ Q := fun G p e R s m args below meth c E H locs cells slots K K9 B arr hl9 => lv_astoreN E.1 E.2.1 hdg hl9 hn hl (fun arr9 hl8 => k G p e R s m args below meth c E H locs cells slots K K9 B arr9 hl8)
theorem pj_acmp_eq {rx ry : Option Nat} {off : Int} {tgt : Nat} (hdg : decode cc pc = .ok (.if_acmp .eq off, 3)) (ht : (pc : Int) + off = (tgt : Int)) (kt : rx = ry → PJ g own cc nL i d C N tgt ls rest μ Q) (kf : ¬ rx = ry → PJ g own cc nL i d C N (pc + 3) ls rest μ Q) : PJ g own cc nL i d C N pc ls (va_rf ry :: va_rf rx :: rest) μ Q := fun G p e R s m args below meth c E H locs cells slots K K9 B arr hl9 => lv_acmp_eq E.1 E.2.1 hdg ht (fun z9 => kt z9 G p e R s m args below meth c E H locs cells slots K K9 B arr hl9) (fun z9 => kf z9 G p e R s m args below meth c E H locs cells slots K K9 B arr hl9)
theorem pj_acmp_ne {rx ry : Option Nat} {off : Int} {tgt : Nat} (hdg : decode cc pc = .ok (.if_acmp .ne off, 3)) (ht : (pc : Int) + off = (tgt : Int)) (kt : ¬ rx = ry → PJ g own cc nL i d C N tgt ls rest μ Q) (kf : rx = ry → PJ g own cc nL i d C N (pc + 3) ls rest μ Q) : PJ g own cc nL i d C N pc ls (va_rf ry :: va_rf rx :: rest) μ Q := fun G p e R s m args below meth c E H locs cells slots K K9 B arr hl9 => lv_acmp_ne E.1 E.2.1 hdg ht (fun z9 => kt z9 G p e R s m args below meth c E H locs cells slots K K9 B arr hl9) (fun z9 => kf z9 G p e R s m args below meth c E H locs cells slots K K9 B arr hl9)
theorem pj_lcmp {x y : Int64} (hdg : decode cc pc = .ok (.lcmp, 1)) (k : PJ g own cc nL i d C N (pc + 1) ls (.int (lg_cmp x y) :: rest) μ Q) : PJ g own cc nL i d C N pc ls (.long y :: .long x :: rest) μ Q := fun G p e R s m args below meth c E H locs cells slots K K9 B arr hl9 => W.lcmp E.1 E.2.1 hdg (k G p e R s m args below meth c E H locs cells slots K K9 B arr hl9)

/-- a class of the list: its words, its row, its field types, its names apart -/
def CLk (ci : Nat) (Cn : String) (Tn : u_T) (n : Nat) (ty : Nat → FieldType) : Prop := (∀ w ∈ u_ws Cn Tn n, w ∈ lw_all) ∧ vwCl[ci]? = some (Cn, Tn, n) ∧ (∀ k, k < n → parseFieldDescriptor (Tn k).2.2.1 = some (ty k)) ∧ ∀ a, a < n → ∀ b, b < n → a ≠ b → (Tn a).2.1 ≠ (Tn b).2.1
theorem G_tbl {g : GP} (G : OkG g) {w : Cond} (hw : w ∈ lw_tbl) : w.before #[Value.ref (gb g)] (gS g) = true := G.2.2.1 w hw
theorem WK.F {g : GP} {s t : State} {H : Heap} {locs : List Loc} (h : WK g s) (hS : va_S (gF g) s.heap H locs) (ht : t.heap = H) (hW : s.WarmedH t.vm) : WK g t :=
  h.moved hW (by rw [ht]; exact hS.1) (fun q h1 h2 => by rw [ht]; exact hS.2.1 q h1 h2)
theorem MB.c {g : GP} {C N : Nat} {μ : Mem} {R : Room} {s : State} {H : Heap} {locs : List Loc} {cells slots K K9 : Nat} (B : MB g C N μ R s H locs cells slots K K9) : cells ≤ K := Nat.le_trans (Nat.le_add_right _ _) B.1
theorem MB.n {g : GP} {C N : Nat} {μ : Mem} {R : Room} {s : State} {H : Heap} {locs : List Loc} {cells slots K K9 : Nat} (B : MB g C N μ R s H locs cells slots K K9) : slots ≤ K9 := Nat.le_trans (Nat.le_add_right _ _) B.2.2.1
theorem MB.mem {g : GP} {C N : Nat} {μ μ1 : Mem} {R : Room} {s : State} {H H1 : Heap} {locs locs1 : List Loc} {cells slots K K9 : Nat} (B : MB g C N μ R s H locs cells slots K K9) (h1 : Sim g μ1 H1) (h2 : va_S (gF g) s.heap H1 locs1) : MB g C N μ1 R s H1 locs1 cells slots K K9 := ⟨B.1, B.2.1, B.2.2.1, B.2.2.2.1, h1, h2⟩
theorem MB.made {g : GP} {C N C1 N1 x : Nat} {μ μ1 : Mem} {R : Room} {s : State} {H H1 : Heap} {locs locs1 : List Loc} {cells slots K K9 : Nat} (B : MB g C N μ R s H locs cells slots K K9) (hC : C1 + 1 ≤ C) (hN : N1 + x ≤ N) (h1 : Sim g μ1 H1) (h2 : va_S (gF g) s.heap H1 locs1) : MB g C1 N1 μ1 R s H1 locs1 (cells + 1) (slots + x) K K9 := by
  obtain ⟨b1, b2, b3, b4, -, -⟩ := B
  exact ⟨by omega, b2, by omega, b4, h1, h2⟩
theorem MB.call {g : GP} {C N C1 N1 C2 N2 : Nat} {μ μ1 : Mem} {R : Room} {s : State} {H H1 : Heap} {locs locs1 : List Loc} {cells slots K K9 : Nat} (B : MB g C N μ R s H locs cells slots K K9) (hC : C1 + C2 ≤ C) (hN : N1 + N2 ≤ N) (h1 : Sim g μ1 H1) (h2 : va_S (gF g) s.heap H1 locs1) : MB g C2 N2 μ1 R s H1 locs1 (cells + C1) (slots + N1) K K9 := by
  obtain ⟨b1, b2, b3, b4, -, -⟩ := B
  exact ⟨by omega, b2, by omega, b4, h1, h2⟩
theorem MB.room {g : GP} {C N C1 N1 C2 N2 : Nat} {μ : Mem} {R : Room} {s : State} {H : Heap} {locs : List Loc} {cells slots K K9 : Nat} (B : MB g C N μ R s H locs cells slots K K9) (hC : C1 + C2 ≤ C) (hN : N1 + N2 ≤ N) : cells + C1 ≤ R.cells ∧ slots + N1 ≤ R.slots := by
  obtain ⟨b1, b2, b3, b4, -, -⟩ := B
  exact ⟨by omega, by omega⟩


theorem pj_getf {ci n index a : Nat} {Cn : String} {Tn : u_T} {ty : Nat → FieldType} (cl : CLk ci Cn Tn n ty) (k : Nat) {fs : List Value} {v : Value} (hlink : Cond.fieldLink own index (Tn k).1 (Tn k).2.1 (Tn k).2.2.1 ∈ lw_all) (hdg : decode cc pc = .ok (.getfield index, 3)) (hk : k < n) (hm : μ a = some (.inr (ci, fs))) (hv : fs[k]? = some v) (kk : PJ g own cc nL i d C N (pc + 3) ls (v :: rest) μ Q) : PJ g own cc nL i d C N pc ls (.ref a :: rest) μ Q :=
  fun G p e R s m args below meth c E H locs cells slots K K9 B arr hl9 => va_get E.1 E.2.1 E.2.2.2.2.1 cl.1 E.2.2.2.1 (G.K E.2.2.2.2.2.2.2.2.2.1) (Sim.one B.2.2.2.2.1 hm) 0 rfl cl.2.1 k hk (E.2.2.2.2.1 _ hlink) (fun _ h => h) hv hdg (kk G p e R s m args below meth c E H locs cells slots K K9 B arr hl9)
theorem pj_getfS {ci n index a : Nat} {Cn ref : String} {Tn : u_T} {ty : Nat → FieldType} (cl : CLk ci Cn Tn n ty) (k : Nat) {fs : List Value} {v : Value} (hlink : Cond.fieldLink own index ref (Tn k).2.1 (Tn k).2.2.1 ∈ lw_all) (hsame : Cond.sameField ref (Tn k).1 (Tn k).2.1 (Tn k).2.2.1 ∈ lw_all) (hdg : decode cc pc = .ok (.getfield index, 3)) (hk : k < n) (hm : μ a = some (.inr (ci, fs))) (hv : fs[k]? = some v) (kk : PJ g own cc nL i d C N (pc + 3) ls (v :: rest) μ Q) : PJ g own cc nL i d C N pc ls (.ref a :: rest) μ Q :=
  fun G p e R s m args below meth c E H locs cells slots K K9 B arr hl9 => va_get E.1 E.2.1 E.2.2.2.2.1 cl.1 E.2.2.2.1 (G.K E.2.2.2.2.2.2.2.2.2.1) (Sim.one B.2.2.2.2.1 hm) 0 rfl cl.2.1 k hk (E.2.2.2.2.1 _ hlink) (fun x h => u_same (E.2.2.2.2.1 _ hsame) x h) hv hdg (kk G p e R s m args below meth c E H locs cells slots K K9 B arr hl9)
theorem pj_getfN {ci n index a : Nat} {Cn host : String} {Tn : u_T} {ty : Nat → FieldType} (cl : CLk ci Cn Tn n ty) (k : Nat) {fs : List Value} {v : Value} (hlink : Cond.fieldLinkNest own index (Tn k).1 (Tn k).2.1 (Tn k).2.2.1 host ∈ lw_tbl) (hdg : decode cc pc = .ok (.getfield index, 3)) (hk : k < n) (hm : μ a = some (.inr (ci, fs))) (hv : fs[k]? = some v) (kk : PJ g own cc nL i d C N (pc + 3) ls (v :: rest) μ Q) : PJ g own cc nL i d C N pc ls (.ref a :: rest) μ Q :=
  fun G p e R s m args below meth c E H locs cells slots K K9 B arr hl9 => va_getN E.1 E.2.1 E.2.2.2.2.1 cl.1 E.2.2.2.1 (G.K E.2.2.2.2.2.2.2.2.2.1) (Sim.one B.2.2.2.2.1 hm) 0 rfl cl.2.1 k hk (va_Nw.use rfl (va_Nw.warmF E.2.2.2.2.2.2.2.2.2.1.1 (va_Nw.of rfl (G_tbl G hlink)))) (fun _ h => h) hv hdg (kk G p e R s m args below meth c E H locs cells slots K K9 B arr hl9)

theorem pj_putf {ci n index a : Nat} {Cn : String} {Tn : u_T} {ty : Nat → FieldType} (cl : CLk ci Cn Tn n ty) (k : Nat) {fs : List Value} {v : Value} (hlink : Cond.fieldLink own index (Tn k).1 (Tn k).2.1 (Tn k).2.2.1 ∈ lw_all) (hdg : decode cc pc = .ok (.putfield index, 3)) (hk : k < n) (hfin : (Tn k).2.2.2 = false) (hm : μ a = some (.inr (ci, fs))) (hn : narrow (ty k) v = v) (hfit : fits (ty k) v = true) (hl : k < fs.length) (kk : PJ g own cc nL i d C N (pc + 3) ls rest (mset μ a (.inr (ci, fs.set k v))) Q) : PJ g own cc nL i d C N pc ls (v :: .ref a :: rest) μ Q := by
  intro G p e R s m args below meth c E H locs cells slots K K9 B arr hl9
  obtain ⟨ws, hP, hD, hmm⟩ := Sim.list B.2.2.2.2.1
  obtain ⟨q0, hq0⟩ := (hmm _ _).mp hm
  exact va_put E.1 E.2.1 E.2.2.2.2.1 cl.1 ty cl.2.2.1 cl.2.2.2 E.2.2.2.1 (G.K E.2.2.2.2.2.2.2.2.2.1) hP hD B.2.2.2.2.2 q0 hq0 cl.2.1 k hk (E.2.2.2.2.1 _ hlink) (fun _ h => h) hfin (cl.2.2.1 k hk) hn hfit hl hdg (fun H1 locs1 hP1 hD1 hS1 => kk G p e R s m args below meth c E H1 locs1 cells slots K K9 (B.mem (Sim.set hmm hq0 hP1 hD1) hS1) arr hl9)

theorem pj_putfF {ci n index a : Nat} {Cn : String} {Tn : u_T} {ty : Nat → FieldType} (cl : CLk ci Cn Tn n ty) (k : Nat) {fs : List Value} {v : Value} (hlink : Cond.fieldLink own index (Tn k).1 (Tn k).2.1 (Tn k).2.2.1 ∈ lw_all) (hdg : decode cc pc = .ok (.putfield index, 3)) (hk : k < n) (hfin : (Tn k).2.2.2 = true) (hin2 : i.2.1 = "<init>") (hdecl : (Tn k).1 = own) (hm : μ a = some (.inr (ci, fs))) (hn : narrow (ty k) v = v) (hfit : fits (ty k) v = true) (hl : k < fs.length) (kk : PJ g own cc nL i d C N (pc + 3) ls rest (mset μ a (.inr (ci, fs.set k v))) Q) : PJ g own cc nL i d C N pc ls (v :: .ref a :: rest) μ Q := by
  intro G p e R s m args below meth c E H locs cells slots K K9 B arr hl9
  obtain ⟨ws, hP, hD, hmm⟩ := Sim.list B.2.2.2.2.1
  obtain ⟨q0, hq0⟩ := (hmm _ _).mp hm
  exact va_putF E.1 E.2.1 E.2.2.2.2.1 cl.1 ty cl.2.2.1 cl.2.2.2 E.2.2.2.1 (G.K E.2.2.2.2.2.2.2.2.2.1) hP hD B.2.2.2.2.2 q0 hq0 cl.2.1 k hk (E.2.2.2.2.1 _ hlink) (fun _ h => h) hfin (E.2.2.2.2.2.2.2.1.trans hin2) hdecl (cl.2.2.1 k hk) hn hfit hl hdg (fun H1 locs1 hP1 hD1 hS1 => kk G p e R s m args below meth c E H1 locs1 cells slots K K9 (B.mem (Sim.set hmm hq0 hP1 hD1) hS1) arr hl9)

theorem pj_putfN {ci n index a : Nat} {Cn host : String} {Tn : u_T} {ty : Nat → FieldType} (cl : CLk ci Cn Tn n ty) (k : Nat) {fs : List Value} {v : Value} (hlink : Cond.fieldLinkNest own index (Tn k).1 (Tn k).2.1 (Tn k).2.2.1 host ∈ lw_tbl) (hdg : decode cc pc = .ok (.putfield index, 3)) (hk : k < n) (hfin : (Tn k).2.2.2 = false) (hm : μ a = some (.inr (ci, fs))) (hn : narrow (ty k) v = v) (hfit : fits (ty k) v = true) (hl : k < fs.length) (kk : PJ g own cc nL i d C N (pc + 3) ls rest (mset μ a (.inr (ci, fs.set k v))) Q) : PJ g own cc nL i d C N pc ls (v :: .ref a :: rest) μ Q := by
  intro G p e R s m args below meth c E H locs cells slots K K9 B arr hl9
  obtain ⟨ws, hP, hD, hmm⟩ := Sim.list B.2.2.2.2.1
  obtain ⟨q0, hq0⟩ := (hmm _ _).mp hm
  exact va_putN E.1 E.2.1 E.2.2.2.2.1 cl.1 ty cl.2.2.1 cl.2.2.2 E.2.2.2.1 (G.K E.2.2.2.2.2.2.2.2.2.1) hP hD B.2.2.2.2.2 q0 hq0 cl.2.1 k hk (va_Nw.use rfl (va_Nw.warmF E.2.2.2.2.2.2.2.2.2.1.1 (va_Nw.of rfl (G_tbl G hlink)))) (fun _ h => h) hfin (cl.2.2.1 k hk) hn hfit hl hdg (fun H1 locs1 hP1 hD1 hS1 => kk G p e R s m args below meth c E H1 locs1 cells slots K K9 (B.mem (Sim.set hmm hq0 hP1 hD1) hS1) arr hl9)

theorem pj_iald {a n : Nat} {f : Nat → Int32} {j : Int32} (hdg : decode cc pc = .ok (.iaload, 1)) (hm : μ a = some (.inl (gA g 0, n, .inl f))) (hin : vp_in j n) (kk : PJ g own cc nL i d C N (pc + 1) ls (.int (f j.toNatClampNeg) :: rest) μ Q) : PJ g own cc nL i d C N pc ls (.int j :: .ref a :: rest) μ Q :=
  fun G p e R s m args below meth c E H locs cells slots K K9 B arr hl9 => va_iald E.1 E.2.1 (G.K E.2.2.2.2.2.2.2.2.2.1) (Sim.one B.2.2.2.2.1 hm) 0 0 rfl rfl hin hdg (kk G p e R s m args below meth c E H locs cells slots K K9 B arr hl9)
theorem pj_bald {a n : Nat} {f : Nat → Int32} {j : Int32} (hdg : decode cc pc = .ok (.baload, 1)) (hm : μ a = some (.inl (gA g 2, n, .inl f))) (hin : vp_in j n) (kk : PJ g own cc nL i d C N (pc + 1) ls (.int (f j.toNatClampNeg) :: rest) μ Q) : PJ g own cc nL i d C N pc ls (.int j :: .ref a :: rest) μ Q :=
  fun G p e R s m args below meth c E H locs cells slots K K9 B arr hl9 => va_bald E.1 E.2.1 (G.K E.2.2.2.2.2.2.2.2.2.1) (Sim.one B.2.2.2.2.1 hm) 0 2 rfl rfl hin hdg (kk G p e R s m args below meth c E H locs cells slots K K9 B arr hl9)
theorem pj_zald {a n : Nat} {f : Nat → Int32} {j : Int32} (hdg : decode cc pc = .ok (.baload, 1)) (hm : μ a = some (.inl (gA g 3, n, .inl f))) (hin : vp_in j n) (kk : PJ g own cc nL i d C N (pc + 1) ls (.int (f j.toNatClampNeg) :: rest) μ Q) : PJ g own cc nL i d C N pc ls (.int j :: .ref a :: rest) μ Q :=
  fun G p e R s m args below meth c E H locs cells slots K K9 B arr hl9 => va_zald E.1 E.2.1 (G.K E.2.2.2.2.2.2.2.2.2.1) (Sim.one B.2.2.2.2.1 hm) 0 3 rfl rfl hin hdg (kk G p e R s m args below meth c E H locs cells slots K K9 B arr hl9)
theorem pj_lald {a n : Nat} {f : Nat → Int64} {j : Int32} (hdg : decode cc pc = .ok (.laload, 1)) (hm : μ a = some (.inl (gA g 1, n, .inr (.inl f)))) (hin : vp_in j n) (kk : PJ g own cc nL i d C N (pc + 1) ls (.long (f j.toNatClampNeg) :: rest) μ Q) : PJ g own cc nL i d C N pc ls (.int j :: .ref a :: rest) μ Q :=
  fun G p e R s m args below meth c E H locs cells slots K K9 B arr hl9 => va_lald E.1 E.2.1 (G.K E.2.2.2.2.2.2.2.2.2.1) (Sim.one B.2.2.2.2.1 hm) 0 1 rfl rfl hin hdg (kk G p e R s m args below meth c E H locs cells slots K K9 B arr hl9)
theorem pj_fald {a n : Nat} {f : Nat → UInt32} {j : Int32} (hdg : decode cc pc = .ok (.faload, 1)) (hm : μ a = some (.inl (gA g 4, n, .inr (.inr (.inl f))))) (hin : vp_in j n) (kk : PJ g own cc nL i d C N (pc + 1) ls (.float (f j.toNatClampNeg) :: rest) μ Q) : PJ g own cc nL i d C N pc ls (.int j :: .ref a :: rest) μ Q :=
  fun G p e R s m args below meth c E H locs cells slots K K9 B arr hl9 => va_fald E.1 E.2.1 (G.K E.2.2.2.2.2.2.2.2.2.1) (Sim.one B.2.2.2.2.1 hm) 0 4 rfl rfl hin hdg (kk G p e R s m args below meth c E H locs cells slots K K9 B arr hl9)
theorem pj_aldO {a n : Nat} {f : Nat → Option Nat} {j : Int32} (hdg : decode cc pc = .ok (.aaload, 1)) (hm : μ a = some (.inl (gA g 5, n, .inr (.inr (.inr (.inr f)))))) (hin : vp_in j n) (kk : PJ g own cc nL i d C N (pc + 1) ls (va_rf (f j.toNatClampNeg) :: rest) μ Q) : PJ g own cc nL i d C N pc ls (.int j :: .ref a :: rest) μ Q :=
  fun G p e R s m args below meth c E H locs cells slots K K9 B arr hl9 => va_aldq E.1 E.2.1 (G.K E.2.2.2.2.2.2.2.2.2.1) (Sim.one B.2.2.2.2.1 hm) 0 5 rfl rfl hin hdg (kk G p e R s m args below meth c E H locs cells slots K K9 B arr hl9)
theorem pj_aldP {a n : Nat} {f : Nat → Option Nat} {j : Int32} (hdg : decode cc pc = .ok (.aaload, 1)) (hm : μ a = some (.inl (gA g 6, n, .inr (.inr (.inr (.inr f)))))) (hin : vp_in j n) (kk : PJ g own cc nL i d C N (pc + 1) ls (va_rf (f j.toNatClampNeg) :: rest) μ Q) : PJ g own cc nL i d C N pc ls (.int j :: .ref a :: rest) μ Q :=
  fun G p e R s m args below meth c E H locs cells slots K K9 B arr hl9 => va_aldq E.1 E.2.1 (G.K E.2.2.2.2.2.2.2.2.2.1) (Sim.one B.2.2.2.2.1 hm) 0 6 rfl rfl hin hdg (kk G p e R s m args below meth c E H locs cells slots K K9 B arr hl9)
theorem pj_aldE {a n : Nat} {f : Nat → Option Nat} {j : Int32} (hdg : decode cc pc = .ok (.aaload, 1)) (hm : μ a = some (.inl (gA g 7, n, .inr (.inr (.inr (.inr f)))))) (hin : vp_in j n) (kk : PJ g own cc nL i d C N (pc + 1) ls (va_rf (f j.toNatClampNeg) :: rest) μ Q) : PJ g own cc nL i d C N pc ls (.int j :: .ref a :: rest) μ Q :=
  fun G p e R s m args below meth c E H locs cells slots K K9 B arr hl9 => va_aldq E.1 E.2.1 (G.K E.2.2.2.2.2.2.2.2.2.1) (Sim.one B.2.2.2.2.1 hm) 0 7 rfl rfl hin hdg (kk G p e R s m args below meth c E H locs cells slots K K9 B arr hl9)
theorem pj_iast {a n : Nat} {f : Nat → Int32} {j : Int32} {x : Int32} (hdg : decode cc pc = .ok (.iastore, 1)) (hm : μ a = some (.inl (gA g 0, n, .inl f))) (hin : vp_in j n) (kk : PJ g own cc nL i d C N (pc + 1) ls rest (mset μ a (.inl (gA g 0, n, .inl (upd f j.toNatClampNeg x)))) Q) : PJ g own cc nL i d C N pc ls (.int x :: .int j :: .ref a :: rest) μ Q := by
  intro G p e R s m args below meth c E H locs cells slots K K9 B arr hl9
  obtain ⟨ws, hP, hD, hmm⟩ := Sim.list B.2.2.2.2.1
  obtain ⟨q0, hq0⟩ := (hmm _ _).mp hm
  exact va_iast E.1 E.2.1 (G.K E.2.2.2.2.2.2.2.2.2.1) hP hD B.2.2.2.2.2 q0 0 hq0 rfl hin hdg (fun H1 locs1 hP1 hD1 hS1 => kk G p e R s m args below meth c E H1 locs1 cells slots K K9 (B.mem (Sim.set hmm hq0 hP1 hD1) hS1) arr hl9)
theorem pj_bast {a n : Nat} {f : Nat → Int32} {j : Int32} {x : Int32} (hdg : decode cc pc = .ok (.bastore, 1)) (hm : μ a = some (.inl (gA g 2, n, .inl f))) (hin : vp_in j n) (kk : PJ g own cc nL i d C N (pc + 1) ls rest (mset μ a (.inl (gA g 2, n, .inl (upd f j.toNatClampNeg (vp_nar .byte x))))) Q) : PJ g own cc nL i d C N pc ls (.int x :: .int j :: .ref a :: rest) μ Q := by
  intro G p e R s m args below meth c E H locs cells slots K K9 B arr hl9
  obtain ⟨ws, hP, hD, hmm⟩ := Sim.list B.2.2.2.2.1
  obtain ⟨q0, hq0⟩ := (hmm _ _).mp hm
  exact va_bast E.1 E.2.1 (G.K E.2.2.2.2.2.2.2.2.2.1) hP hD B.2.2.2.2.2 q0 2 hq0 rfl hin hdg (fun H1 locs1 hP1 hD1 hS1 => kk G p e R s m args below meth c E H1 locs1 cells slots K K9 (B.mem (Sim.set hmm hq0 hP1 hD1) hS1) arr hl9)
theorem pj_zast {a n : Nat} {f : Nat → Int32} {j : Int32} {x : Int32} (hdg : decode cc pc = .ok (.bastore, 1)) (hm : μ a = some (.inl (gA g 3, n, .inl f))) (hin : vp_in j n) (kk : PJ g own cc nL i d C N (pc + 1) ls rest (mset μ a (.inl (gA g 3, n, .inl (upd f j.toNatClampNeg (vp_nar .boolean x))))) Q) : PJ g own cc nL i d C N pc ls (.int x :: .int j :: .ref a :: rest) μ Q := by
  intro G p e R s m args below meth c E H locs cells slots K K9 B arr hl9
  obtain ⟨ws, hP, hD, hmm⟩ := Sim.list B.2.2.2.2.1
  obtain ⟨q0, hq0⟩ := (hmm _ _).mp hm
  exact va_zast E.1 E.2.1 (G.K E.2.2.2.2.2.2.2.2.2.1) hP hD B.2.2.2.2.2 q0 3 hq0 rfl hin hdg (fun H1 locs1 hP1 hD1 hS1 => kk G p e R s m args below meth c E H1 locs1 cells slots K K9 (B.mem (Sim.set hmm hq0 hP1 hD1) hS1) arr hl9)
theorem pj_last {a n : Nat} {f : Nat → Int64} {j : Int32} {x : Int64} (hdg : decode cc pc = .ok (.lastore, 1)) (hm : μ a = some (.inl (gA g 1, n, .inr (.inl f)))) (hin : vp_in j n) (kk : PJ g own cc nL i d C N (pc + 1) ls rest (mset μ a (.inl (gA g 1, n, .inr (.inl (vp_updL f j.toNatClampNeg x))))) Q) : PJ g own cc nL i d C N pc ls (.long x :: .int j :: .ref a :: rest) μ Q := by
  intro G p e R s m args below meth c E H locs cells slots K K9 B arr hl9
  obtain ⟨ws, hP, hD, hmm⟩ := Sim.list B.2.2.2.2.1
  obtain ⟨q0, hq0⟩ := (hmm _ _).mp hm
  exact va_last E.1 E.2.1 (G.K E.2.2.2.2.2.2.2.2.2.1) hP hD B.2.2.2.2.2 q0 1 hq0 rfl hin hdg (fun H1 locs1 hP1 hD1 hS1 => kk G p e R s m args below meth c E H1 locs1 cells slots K K9 (B.mem (Sim.set hmm hq0 hP1 hD1) hS1) arr hl9)
theorem pj_fast {a n : Nat} {f : Nat → UInt32} {j : Int32} {x : UInt32} (hdg : decode cc pc = .ok (.fastore, 1)) (hm : μ a = some (.inl (gA g 4, n, .inr (.inr (.inl f))))) (hin : vp_in j n) (kk : PJ g own cc nL i d C N (pc + 1) ls rest (mset μ a (.inl (gA g 4, n, .inr (.inr (.inl (vf_upd f j.toNatClampNeg x)))))) Q) : PJ g own cc nL i d C N pc ls (.float x :: .int j :: .ref a :: rest) μ Q := by
  intro G p e R s m args below meth c E H locs cells slots K K9 B arr hl9
  obtain ⟨ws, hP, hD, hmm⟩ := Sim.list B.2.2.2.2.1
  obtain ⟨q0, hq0⟩ := (hmm _ _).mp hm
  exact va_fast E.1 E.2.1 (G.K E.2.2.2.2.2.2.2.2.2.1) hP hD B.2.2.2.2.2 q0 4 hq0 rfl hin hdg (fun H1 locs1 hP1 hD1 hS1 => kk G p e R s m args below meth c E H1 locs1 cells slots K K9 (B.mem (Sim.set hmm hq0 hP1 hD1) hS1) arr hl9)
theorem pj_alen {a : Nat} {x : vp_A} {v : Int32} (t0 : Nat) {cA : ClassId} {ty : FieldType} (hdg : decode cc pc = .ok (.arraylength, 1)) (hm : μ a = some (.inl (cA, x))) (ht : (tysG g)[t0]? = some (cA, ty)) (hv : Int32.ofNat x.1 = v) (kk : PJ g own cc nL i d C N (pc + 1) ls (.int v :: rest) μ Q) : PJ g own cc nL i d C N pc ls (.ref a :: rest) μ Q :=
  fun G p e R s m args below meth c E H locs cells slots K K9 B arr hl9 => va_alen E.1 E.2.1 (G.K E.2.2.2.2.2.2.2.2.2.1) (Sim.one B.2.2.2.2.1 hm) 0 t0 rfl ht hv hdg (kk G p e R s m args below meth c E H locs cells slots K K9 B arr hl9)
/-- the script's own array -/
theorem pj_sld {j : Int32} (hdg : decode cc pc = .ok (.iaload, 1)) (hin : vp_in j (gn g)) (kk : PJ g own cc nL i d C N (pc + 1) ls (.int (gx g j.toNatClampNeg) :: rest) μ Q) : PJ g own cc nL i d C N pc ls (.int j :: .ref (gb g) :: rest) μ Q :=
  fun G p e R s m args below meth c E H locs cells slots K K9 B arr hl9 => va_sld E.1 E.2.1 (va_X.moved E.2.2.2.2.2.2.2.2.2.1.1.alike (G.2.2.2.2.1.kept (E.2.2.2.2.2.2.2.2.2.1.2.2 _ G.2.2.2.1))) (Nat.lt_of_lt_of_le G.2.2.2.1 E.2.2.2.2.2.2.2.2.2.1.2.1) (Nat.not_le.mpr G.2.2.2.1) B.2.2.2.2.2 hin hdg (kk G p e R s m args below meth c E H locs cells slots K K9 B arr hl9)
theorem pj_slen (hdg : decode cc pc = .ok (.arraylength, 1)) (kk : PJ g own cc nL i d C N (pc + 1) ls (.int (Int32.ofNat (gn g)) :: rest) μ Q) : PJ g own cc nL i d C N pc ls (.ref (gb g) :: rest) μ Q :=
  fun G p e R s m args below meth c E H locs cells slots K K9 B arr hl9 => va_slen E.1 E.2.1 (va_X.moved E.2.2.2.2.2.2.2.2.2.1.1.alike (G.2.2.2.2.1.kept (E.2.2.2.2.2.2.2.2.2.1.2.2 _ G.2.2.2.1))) (Nat.lt_of_lt_of_le G.2.2.2.1 E.2.2.2.2.2.2.2.2.2.1.2.1) (Nat.not_le.mpr G.2.2.2.1) B.2.2.2.2.2 hdg (kk G p e R s m args below meth c E H locs cells slots K K9 B arr hl9)


theorem pj_new {ci n index C1 N1 : Nat} {Cn : String} {Tn : u_T} {ty : Nat → FieldType} (cl : CLk ci Cn Tn n ty) (hlink : Cond.classLink own index Cn ∈ lw_all) (hinst : Cond.instantiable Cn n ∈ lw_all) (hini : Cond.initialized Cn ∈ lw_all) (hdg : decode cc pc = .ok (.new index, 3)) (fs : List Value) (hfs : ∀ j, j < n → defaultValue (ty j) = vp_V fs j) (hC : C1 + 1 ≤ C) (hN : N1 + n ≤ N) (kk : ∀ q : Nat, μ q = none → gF g q → PJ g own cc nL i d C1 N1 (pc + 3) ls (.ref q :: rest) (mset μ q (.inr (ci, fs))) Q) : PJ g own cc nL i d C N pc ls rest μ Q := by
  intro G p e R s m args below meth c E H locs cells slots K K9 B arr hl9
  obtain ⟨ws, hP, hD, hmm⟩ := Sim.list B.2.2.2.2.1
  have hr := B.room (C1 := 1) (C2 := C1) (N1 := n) (N2 := N1) (by omega) (by omega)
  refine va_new E.1 E.2.1 E.2.2.2.2.1 cl.1 ty cl.2.2.1 E.2.2.2.1 (E.2.2.2.2.1 _ hlink) (E.2.2.2.2.1 _ hinst) (E.2.2.2.2.1 _ hini) (G.K E.2.2.2.2.2.2.2.2.2.1) hP hD B.2.2.2.2.2 (gF_of E.2.2.2.2.2.2.2.2.2.1) cl.2.1 hfs hr.1 hr.2 hdg (fun q H1 hP1 hD1 hS1 => ?_)
  obtain ⟨k1, k2, k3⟩ := Sim.push hmm hP1 hD1
  exact kk q k2 k3 G p e R s m args below meth c E H1 locs (cells + 1) (slots + n) K K9 (B.made hC hN k1 hS1) arr hl9
theorem va_RA.inj {U : State} {c1 c2 : ClassId} {ty : FieldType} (h1 : va_RA U c1 ty) (h2 : va_RA U c2 ty) : c1 = c2 := by
  cases ty with
  | object Cn => exact Option.some.inj (h1.choose_spec.choose_spec.2.2.2.symm.trans h2.choose_spec.choose_spec.2.2.2)
  | _ => exact Option.some.inj (Eq.trans (Eq.symm h1) h2)
theorem pj_newa {atype : ArrayType} {ty : FieldType} {t0 N9 C1 N1 : Nat} {cA : ClassId} {x : Int32} {a0 : vp_A} (hdg : decode cc pc = .ok (.newarray atype, 2)) (harr : Cond.arrayClass (newarray.typeOf atype) ∈ lw_all) (hty : newarray.typeOf atype = ty) (ht : (tysG g)[t0]? = some (cA, ty)) (ha : ∀ cA : ClassId, vp_cell cA a0 = arrV cA N9 (fun _ => defaultValue ty)) (hn : ¬ x < 0) (hx : x.toNatClampNeg = N9) (hb9 : N9 * componentBytes ty ≤ 536870912) (hC : C1 + 1 ≤ C) (hN : N1 + N9 ≤ N) (kk : ∀ q : Nat, μ q = none → gF g q → PJ g own cc nL i d C1 N1 (pc + 2) ls (.ref q :: rest) (mset μ q (.inl (cA, a0))) Q) : PJ g own cc nL i d C N pc ls (.int x :: rest) μ Q := by
  intro G p e R s m args below meth c E H locs cells slots K K9 B arr hl9
  obtain ⟨ws, hP, hD, hmm⟩ := Sim.list B.2.2.2.2.1
  have hr := B.room (C1 := 1) (C2 := C1) (N1 := N9) (N2 := N1) (by omega) (by omega)
  have hK := G.K E.2.2.2.2.2.2.2.2.2.1
  refine va_newa (atype := atype) (ty := ty) (a0 := a0) E.1 E.2.1 (E.2.2.2.2.1 _ harr) hty hK hP hD B.2.2.2.2.2 (gF_of E.2.2.2.2.2.2.2.2.2.1) ha hn hx hb9 hr.1 hr.2 hdg (fun q cB H1 hK1 hP1 hD1 hS1 => ?_)
  have hcc : cB = cA := va_RA.inj (hK1.2 (tysG g).length (cB, ty) (by simp)).2 (hK.2 t0 _ ht).2
  subst hcc
  obtain ⟨k1, k2, k3⟩ := Sim.push hmm hP1 hD1
  exact kk q k2 k3 G p e R s m args below meth c E H1 locs (cells + 1) (slots + N9) K K9 (B.made hC hN k1 hS1) arr hl9
theorem pj_newq {index t0 N9 C1 N1 : Nat} {Cn : String} {cA : ClassId} {x : Int32} (hdg : decode cc pc = .ok (.anewarray index, 3)) (hlink : Cond.classLink own index Cn ∈ lw_all) (hover : Cond.arrayOver (.object Cn) ∈ lw_tbl) (ht : (tysG g)[t0]? = some (cA, .object Cn)) (hn : ¬ x < 0) (hx : x.toNatClampNeg = N9) (hb9 : N9 * 4 ≤ 536870912) (hC : C1 + 1 ≤ C) (hN : N1 + N9 ≤ N) (kk : ∀ q : Nat, μ q = none → gF g q → PJ g own cc nL i d C1 N1 (pc + 3) ls (.ref q :: rest) (mset μ q (.inl (cA, N9, .inr (.inr (.inr (.inr (fun _ => none))))))) Q) : PJ g own cc nL i d C N pc ls (.int x :: rest) μ Q := by
  intro G p e R s m args below meth c E H locs cells slots K K9 B arr hl9
  obtain ⟨ws, hP, hD, hmm⟩ := Sim.list B.2.2.2.2.1
  have hr := B.room (C1 := 1) (C2 := C1) (N1 := N9) (N2 := N1) (by omega) (by omega)
  have hK := G.K E.2.2.2.2.2.2.2.2.2.1
  refine va_newq E.1 E.2.1 E.2.2.2.1 (E.2.2.2.2.1 _ hlink) ((va_AO.of (G_tbl G hover)).moved E.2.2.2.2.2.2.2.2.2.1.1.alike) hK hP hD B.2.2.2.2.2 (gF_of E.2.2.2.2.2.2.2.2.2.1) hn hx hb9 hr.1 hr.2 hdg (fun q cB H1 hK1 hP1 hD1 hS1 => ?_)
  have hcc : cB = cA := va_RA.inj (hK1.2 (tysG g).length (cB, .object Cn) (by simp)).2 (hK.2 t0 _ ht).2
  subst hcc
  obtain ⟨k1, k2, k3⟩ := Sim.push hmm hP1 hD1
  exact kk q k2 k3 G p e R s m args below meth c E H1 locs (cells + 1) (slots + N9) K K9 (B.made hC hN k1 hS1) arr hl9


theorem Sim.recv {g : GP} (G : OkG g) {s : State} (hw : WK g s) {μ : Mem} {H : Heap} (h : Sim g μ H) {a ci : Nat} {q : vw_C} {fs : List Value} (hc : vwCl[ci]? = some q) (hm : μ a = some (.inr (ci, fs))) : ∃ cell : Cell, H[a]? = some cell ∧ cell.vm.isStatics = false ∧ s.vm.findClass q.1 = some cell.cls := va_recv (G.K hw) (Sim.one h hm) hc (q0 := 0) rfl
theorem pj_castY {ci n index a : Nat} {Cn nm : String} {Tn : u_T} {ty : Nat → FieldType} (cl : CLk ci Cn Tn n ty) {fs : List Value} (hlink : Cond.classLink own index nm ∈ lw_all) (hc : Cond.castable Cn nm ∈ lw_tbl) (hdg : decode cc pc = .ok (.checkcast index, 3)) (hm : μ a = some (.inr (ci, fs))) (kk : PJ g own cc nL i d C N (pc + 3) ls (.ref a :: rest) μ Q) : PJ g own cc nL i d C N pc ls (.ref a :: rest) μ Q :=
  fun G p e R s m args below meth c E H locs cells slots K K9 B arr hl9 => va_castY E.1 E.2.1 E.2.2.2.1 (E.2.2.2.2.1 _ hlink) (va_Nw.warmC E.2.2.2.2.2.2.2.2.2.1.1 (va_Nw.of rfl (G_tbl G hc))) (Sim.recv G E.2.2.2.2.2.2.2.2.2.1 B.2.2.2.2.1 cl.2.1 hm) hdg (kk G p e R s m args below meth c E H locs cells slots K K9 B arr hl9)
theorem pj_castS {ci n index a : Nat} {Cn : String} {Tn : u_T} {ty : Nat → FieldType} (cl : CLk ci Cn Tn n ty) {fs : List Value} (hlink : Cond.classLink own index Cn ∈ lw_all) (hdg : decode cc pc = .ok (.checkcast index, 3)) (hm : μ a = some (.inr (ci, fs))) (kk : PJ g own cc nL i d C N (pc + 3) ls (.ref a :: rest) μ Q) : PJ g own cc nL i d C N pc ls (.ref a :: rest) μ Q :=
  fun G p e R s m args below meth c E H locs cells slots K K9 B arr hl9 => va_castS E.1 E.2.1 E.2.2.2.1 (E.2.2.2.2.1 _ hlink) ((G.K E.2.2.2.2.2.2.2.2.2.1).1 ci _ cl.2.1).2 (Sim.recv G E.2.2.2.2.2.2.2.2.2.1 B.2.2.2.2.1 cl.2.1 hm) hdg (kk G p e R s m args below meth c E H locs cells slots K K9 B arr hl9)
theorem pj_instY {ci n index a : Nat} {Cn nm : String} {Tn : u_T} {ty : Nat → FieldType} (cl : CLk ci Cn Tn n ty) {fs : List Value} (hlink : Cond.classLink own index nm ∈ lw_all) (hc : Cond.castable Cn nm ∈ lw_tbl) (hdg : decode cc pc = .ok (.instanceof index, 3)) (hm : μ a = some (.inr (ci, fs))) (kk : PJ g own cc nL i d C N (pc + 3) ls (.int 1 :: rest) μ Q) : PJ g own cc nL i d C N pc ls (.ref a :: rest) μ Q :=
  fun G p e R s m args below meth c E H locs cells slots K K9 B arr hl9 => va_instY E.1 E.2.1 E.2.2.2.1 (E.2.2.2.2.1 _ hlink) (va_Nw.warmC E.2.2.2.2.2.2.2.2.2.1.1 (va_Nw.of rfl (G_tbl G hc))) (Sim.recv G E.2.2.2.2.2.2.2.2.2.1 B.2.2.2.2.1 cl.2.1 hm) hdg (kk G p e R s m args below meth c E H locs cells slots K K9 B arr hl9)
theorem pj_instS {ci n index a : Nat} {Cn : String} {Tn : u_T} {ty : Nat → FieldType} (cl : CLk ci Cn Tn n ty) {fs : List Value} (hlink : Cond.classLink own index Cn ∈ lw_all) (hdg : decode cc pc = .ok (.instanceof index, 3)) (hm : μ a = some (.inr (ci, fs))) (kk : PJ g own cc nL i d C N (pc + 3) ls (.int 1 :: rest) μ Q) : PJ g own cc nL i d C N pc ls (.ref a :: rest) μ Q :=
  fun G p e R s m args below meth c E H locs cells slots K K9 B arr hl9 => va_instS E.1 E.2.1 E.2.2.2.1 (E.2.2.2.2.1 _ hlink) ((G.K E.2.2.2.2.2.2.2.2.2.1).1 ci _ cl.2.1).2 (Sim.recv G E.2.2.2.2.2.2.2.2.2.1 B.2.2.2.2.1 cl.2.1 hm) hdg (kk G p e R s m args below meth c E H locs cells slots K K9 B arr hl9)
theorem pj_instNo {ci n index a : Nat} {Cn nm : String} {Tn : u_T} {ty : Nat → FieldType} (cl : CLk ci Cn Tn n ty) {fs : List Value} (hlink : Cond.classLink own index nm ∈ lw_all) (hc : OkG g → va_Nc Cn nm (gS g)) (hdg : decode cc pc = .ok (.instanceof index, 3)) (hm : μ a = some (.inr (ci, fs))) (kk : PJ g own cc nL i d C N (pc + 3) ls (.int 0 :: rest) μ Q) : PJ g own cc nL i d C N pc ls (.ref a :: rest) μ Q :=
  fun G p e R s m args below meth c E H locs cells slots K K9 B arr hl9 => va_instNo E.1 E.2.1 E.2.2.2.1 (E.2.2.2.2.1 _ hlink) ((hc G).moved E.2.2.2.2.2.2.2.2.2.1.1.alike) (Sim.recv G E.2.2.2.2.2.2.2.2.2.1 B.2.2.2.2.1 cl.2.1 hm) hdg (kk G p e R s m args below meth c E H locs cells slots K K9 B arr hl9)
theorem pj_castN {index : Nat} (hdg : decode cc pc = .ok (.checkcast index, 3)) (kk : PJ g own cc nL i d C N (pc + 3) ls (.null :: rest) μ Q) : PJ g own cc nL i d C N pc ls (.null :: rest) μ Q :=
  fun G p e R s m args below meth c E H locs cells slots K K9 B arr hl9 => lv_castN E.1 E.2.1 hdg (kk G p e R s m args below meth c E H locs cells slots K K9 B arr hl9)
theorem pj_instN {index : Nat} (hdg : decode cc pc = .ok (.instanceof index, 3)) (kk : PJ g own cc nL i d C N (pc + 3) ls (.int 0 :: rest) μ Q) : PJ g own cc nL i d C N pc ls (.null :: rest) μ Q :=
  fun G p e R s m args below meth c E H locs cells slots K K9 B arr hl9 => lv_instN E.1 E.2.1 hdg (kk G p e R s m args below meth c E H locs cells slots K K9 B arr hl9)
theorem pj_ldc {index : Nat} {v : Int32} (hc : Cond.constant own index v ∈ lw_all) (hdg : decode cc pc = .ok (.ldc index, 2)) (kk : PJ g own cc nL i d C N (pc + 2) ls (.int v :: rest) μ Q) : PJ g own cc nL i d C N pc ls rest μ Q :=
  fun G p e R s m args below meth c E H locs cells slots K K9 B arr hl9 => lv_ldc E.1 E.2.1 E.2.2.2.1 (E.2.2.2.2.1 _ hc) hdg (kk G p e R s m args below meth c E H locs cells slots K K9 B arr hl9)
/-- Object.<init> -/
theorem pj_objInit {a idx : Nat} (h1 : Cond.methodLink own idx objectInit ∈ lw_all) (h2 : Cond.instanceMethod objectInit ∈ lw_all) (h3 : Cond.code objectInit ⟨#[0xb1]⟩ 1 none ∈ lw_all) (hdg : decode cc pc = .ok (.invokespecial idx, 3)) (hd : 1 ≤ d) (hr : (rest.map fun v => v.category).sum ≤ 1000) (kk : PJ g own cc nL i d C N (pc + 3) ls rest μ Q) : PJ g own cc nL i d C N pc ls (.ref a :: rest) μ Q := by
  intro G p e R s m args below meth c E H locs cells slots K K9 B arr hl9
  exact W.objInit E.1 E.2.1 E.2.2.2.1 (E.2.2.2.2.1 _ h1) (E.2.2.2.2.1 _ h2) (E.2.2.2.2.1 _ h3) rfl (by rw [E.2.2.1]; exact hl9.1) rfl hdg (by rw [E.2.2.2.2.2.2.2.2.2.2.1]; exact hd) (by rw [E.2.2.2.2.2.2.2.2.2.2.2]; show 2 * (F0 m pc arr rest).monitorRoom + _ + _ ≤ _; simp only [JFrame.monitorRoom]; omega) (kk G p e R s m args below meth c E H locs cells slots K K9 B arr hl9)

theorem pj_iret {v : Int32} (hdg : decode cc pc = .ok (.ireturn, 1)) (hi : i.1 = some .int) (hQ : Q (.inl (some (.int v))) μ) : PJ g own cc nL i d C N pc ls [.int v] μ Q :=
  fun G p e R s m args below meth c E H locs cells slots K K9 B arr hl9 => W.widen B.c B.n (vx_ret (W.iret (hlocks := E.2.2.2.2.2.2.1) E.1 E.2.1 (E.2.2.2.2.2.1.trans hi) (fun t ht hW => ⟨⟨_, μ, rfl, hQ, by rw [ht]; exact B.2.2.2.2.1, WK.F E.2.2.2.2.2.2.2.2.2.1 B.2.2.2.2.2 ht hW⟩, va_S.F B.2.2.2.2.2 ht⟩) B.2.2.2.2.2.2.2 hdg))
theorem pj_lret {v : Int64} (hdg : decode cc pc = .ok (.lreturn, 1)) (hi : i.1 = some .long) (hQ : Q (.inl (some (.long v))) μ) : PJ g own cc nL i d C N pc ls [.long v] μ Q :=
  fun G p e R s m args below meth c E H locs cells slots K K9 B arr hl9 => W.widen B.c B.n (vx_ret (W.lret (hlocks := E.2.2.2.2.2.2.1) E.1 E.2.1 (E.2.2.2.2.2.1.trans hi) (fun t ht hW => ⟨⟨_, μ, rfl, hQ, by rw [ht]; exact B.2.2.2.2.1, WK.F E.2.2.2.2.2.2.2.2.2.1 B.2.2.2.2.2 ht hW⟩, va_S.F B.2.2.2.2.2 ht⟩) B.2.2.2.2.2.2.2 hdg))
theorem pj_fret {v : UInt32} (hdg : decode cc pc = .ok (.freturn, 1)) (hi : i.1 = some .float) (hQ : Q (.inl (some (.float v))) μ) : PJ g own cc nL i d C N pc ls [.float v] μ Q :=
  fun G p e R s m args below meth c E H locs cells slots K K9 B arr hl9 => W.widen B.c B.n (vx_ret (W.fret (hlocks := E.2.2.2.2.2.2.1) E.1 E.2.1 (E.2.2.2.2.2.1.trans hi) (fun t ht hW => ⟨⟨_, μ, rfl, hQ, by rw [ht]; exact B.2.2.2.2.1, WK.F E.2.2.2.2.2.2.2.2.2.1 B.2.2.2.2.2 ht hW⟩, va_S.F B.2.2.2.2.2 ht⟩) B.2.2.2.2.2.2.2 hdg))

theorem pj_zret {v : Int32} (ty : FieldType) (hdg : decode cc pc = .ok (.ireturn, 1)) (hi : i.1 = some ty) (hn : narrow ty (.int v) = .int v) (hQ : Q (.inl (some (.int v))) μ) : PJ g own cc nL i d C N pc ls [.int v] μ Q :=
  fun G p e R s m args below meth c E H locs cells slots K K9 B arr hl9 => W.widen B.c B.n (vx_ret (W.zret (hlocks := E.2.2.2.2.2.2.1) E.1 E.2.1 (E.2.2.2.2.2.1.trans hi) hn (fun t ht hW => ⟨⟨_, μ, rfl, hQ, by rw [ht]; exact B.2.2.2.2.1, WK.F E.2.2.2.2.2.2.2.2.2.1 B.2.2.2.2.2 ht hW⟩, va_S.F B.2.2.2.2.2 ht⟩) B.2.2.2.2.2.2.2 hdg))
theorem pj_aret {v : Value} {rt : FieldType} (hdg : decode cc pc = .ok (.areturn, 1)) (hi : i.1 = some rt) (hrt : (∃ n, rt = .object n) ∨ ∃ t, rt = .array t) (hv : v = .null ∨ ∃ a, v = .ref a) (hQ : Q (.inl (some v)) μ) : PJ g own cc nL i d C N pc ls [v] μ Q :=
  fun G p e R s m args below meth c E H locs cells slots K K9 B arr hl9 => W.widen B.c B.n (vx_ret (W.aret (hlocks := E.2.2.2.2.2.2.1) E.1 E.2.1 (E.2.2.2.2.2.1.trans hi) hrt hv (fun t ht hW => ⟨⟨_, μ, rfl, hQ, by rw [ht]; exact B.2.2.2.2.1, WK.F E.2.2.2.2.2.2.2.2.2.1 B.2.2.2.2.2 ht hW⟩, va_S.F B.2.2.2.2.2 ht⟩) B.2.2.2.2.2.2.2 hdg))
theorem pj_vret (hdg : decode cc pc = .ok (.return_, 1)) (hi : i.1 = none) (hQ : Q (.inl none) μ) : PJ g own cc nL i d C N pc ls [] μ Q :=
  fun G p e R s m args below meth c E H locs cells slots K K9 B arr hl9 => W.widen B.c B.n (vx_ret (W.vret (hlocks := E.2.2.2.2.2.2.1) E.1 E.2.1 (E.2.2.2.2.2.1.trans hi) (fun t ht hW => ⟨⟨_, μ, rfl, hQ, by rw [ht]; exact B.2.2.2.2.1, WK.F E.2.2.2.2.2.2.2.2.2.1 B.2.2.2.2.2 ht hW⟩, va_S.F B.2.2.2.2.2 ht⟩) B.2.2.2.2.2.2.2 hdg))


/-- behind a call -/
theorem PJ.behind {st0 : List Value} {As rest0 : List Value} {len C1 N1 C2 N2 : Nat} {Qc : OC → Mem → Prop} (hC : C1 + C2 ≤ C) (hN : N1 + N2 ≤ N) {av : Array Value}
    (run : ∀ (p : Program) (e : Env) (R : Room) (s : State) (m : MethodId) (args : Array Value) (below : List Frame) (meth : Method) (c : Code), OkG g → ME g own cc nL i d p R s m args meth c → ∀ (H : Heap) (locs : List Loc) (cells slots K K9 : Nat), MB g C N μ R s H locs cells slots K K9 → ∀ arr : Array Slot, lv_has arr nL ls → vx_Run p (gL g) e R s m args below meth c H locs cells slots C1 N1 (F0 m pc arr st0) rest (QcR g Qc av) (QcX g Qc) (gF g))
    (kr : ∀ (v : Option Value) (μ1 : Mem), Qc (.inl v) μ1 → PJ g own cc nL i d C2 N2 (pc + 3) ls (v.toList ++ rest) μ1 Q)
    (kx : ∀ (E9 : String) (q : Nat) (μ1 : Mem), Qc (.inr (E9, q)) μ1 → PX g own cc nL i d C2 N2 pc ls rest E9 q μ1 Q) : PJ g own cc nL i d C N pc ls st0 μ Q := by
  intro G p e R s m args below meth c E H locs cells slots K K9 B arr hl9 T hT X
  rcases run p e R s m args below meth c G E H locs cells slots K K9 B arr hl9 T hT X with ⟨v, st₀, t, T', L, h0, X', hL, e1, e2, ⟨⟨v9, μ1, hv, hq, hsim, hwk⟩, hF⟩, st⟩ | ⟨q, st₀, t, T', L, E9, ce, h0, X', hL, e1, e2, ⟨⟨μ1, hq, hsim, hwk⟩, hF⟩, hce, hcv, hcl, st⟩
  · cases hv
    obtain ⟨k1, k2, k3⟩ := vx_keep h0 e1 B.2.2.2.2.2 (fun _ _ h => h) (fun _ h => h) hL hF
    obtain ⟨t2, a1, b1⟩ := kr v μ1 hq G p e R s m args below meth c E T'.heap (locs ++ L) (cells + C1) (slots + N1) K K9 (B.call hC hN (by rw [e1]; exact hsim) k3) arr hl9 T' rfl X'
    exact ⟨t2, st t2 a1, b1⟩
  · obtain ⟨k1, k2, k3⟩ := vx_keep h0 e1 B.2.2.2.2.2 (fun _ _ h => h) (fun _ h => h) hL hF
    obtain ⟨t2, a1, b1⟩ := kx E9 q μ1 hq G p e R s m args below meth c E T'.heap (locs ++ L) (cells + C1) (slots + N1) K K9 (B.call hC hN (by rw [e1]; exact hsim) k3) arr hl9 ce (by rw [e1]; exact hce) hcv hcl T' rfl X'
    exact ⟨t2, st.trans a1, b1⟩
theorem Pc_blind {av : List Value} : FrameBlind (va_Pc av (fun U => Sim g μ U.heap ∧ WK g U)) := fun _ _ _ _ q => q
theorem Pc_now {av : List Value} {s : State} {H : Heap} {locs : List Loc} (hw : WK g s) (hs : Sim g μ H) (hS : va_S (gF g) s.heap H locs) : ∀ U : State, U.heap = H → s.WarmedH U.vm → va_Pc av (fun U => Sim g μ U.heap ∧ WK g U) av.toArray U := fun U hU hW => ⟨rfl, by rw [hU]; exact hs, WK.F hw hS hU hW⟩
/-- what is asked of a callee beside its contract -/
def MDy (y : MethodName) (b : ByteArray) (L : Nat) (r : Option FieldType) (n : Nat) : Prop := (y.cls ≠ "java/lang/invoke/MethodHandle" ∧ y.cls ≠ "java/lang/invoke/VarHandle" ∧ (parseMethodDescriptor y.desc).map (fun d => d.parameters.length) = some n) ∧ Cond.code y b L r ∈ lw_all ∧ L ≤ 80
theorem rm_fits {R : Room} {d1 L C1 N1 : Nat} (hf : R.frames = d) (hl : R.locals = 12000 + 100 * d) (hd : d1 + 1 ≤ d) (hL : L ≤ 80) : (rmD d1 C1 N1).frames + 1 ≤ R.frames ∧ 8 + (L + 11) + (rmD d1 C1 N1).locals ≤ R.locals := by
  rw [hf, hl]
  exact ⟨hd, by show 8 + (L + 11) + (12000 + 100 * d1) ≤ 12000 + 100 * d; omega⟩
theorem pj_callS {y : MethodName} {b : ByteArray} {L n d1 C1 N1 C2 N2 index : Nat} {r : Option FieldType} {Qc : OC → Mem → Prop} {st : List Value} (As : List Value) (md : MDy y b L r n) (h1 : Cond.methodLink own index y ∈ lw_all) (h2 : Cond.static y ∈ lw_all) (h3 : Cond.initialized y.cls ∈ lw_all) (hdg : decode cc pc = .ok (.invokestatic index, 3)) (hst : st = As.reverse ++ rest) (hn : As.length = n) (hr8 : (rest.map fun v => v.category).sum ≤ 8) (hM : PM g y (ws_ y b L r) d1 C1 N1 As μ Qc) (hd : d1 + 1 ≤ d) (hC : C1 + C2 ≤ C) (hN : N1 + N2 ≤ N)
    (kr : ∀ (v : Option Value) (μ1 : Mem), Qc (.inl v) μ1 → PJ g own cc nL i d C2 N2 (pc + 3) ls (v.toList ++ rest) μ1 Q)
    (kx : ∀ (E9 : String) (q : Nat) (μ1 : Mem), Qc (.inr (E9, q)) μ1 → PX g own cc nL i d C2 N2 pc ls rest E9 q μ1 Q) : PJ g own cc nL i d C N pc ls st μ Q := by
  subst hst
  refine PJ.behind (As := As) (rest0 := rest) (len := 3) (av := As.toArray) hC hN (fun p e R s m args below meth c G E H locs cells slots K K9 B arr hl9 => ?_) kr kx
  exact vx_runS ⟨E.1, E.2.1, E.2.2.1, E.2.2.2.1, E.2.2.2.2.1⟩ (hM G) (va_cwS n E.2.2.2.2.1 (lw_S h1 h2 h3 md.2.1) rfl rfl rfl md.1 (rm_fits E.2.2.2.2.2.2.2.2.2.2.1 E.2.2.2.2.2.2.2.2.2.2.2 hd md.2.2)) ⟨Pc_blind, Pc_now E.2.2.2.2.2.2.2.2.2.1 B.2.2.2.2.1 B.2.2.2.2.2⟩ rfl hn hl9.1 rfl (lv_room hr8) hdg (B.room hC hN)
theorem pj_callV {ci nf : Nat} {Cn : String} {Tn : u_T} {ty : Nat → FieldType} {fs : List Value} {a : Nat} {y : MethodName} {b : ByteArray} {L n d1 C1 N1 C2 N2 index : Nat} {r : Option FieldType} {Qc : OC → Mem → Prop} {st : List Value} (As : List Value) (cl : CLk ci Cn Tn nf ty) (md : MDy y b L r n) (hy : y.cls = Cn) (h1 : Cond.methodLink own index y ∈ lw_all) (h2 : Cond.instanceMethod y ∈ lw_all) (h3 : Cond.selects Cn y y ∈ lw_all) (h4 : Cond.initialized Cn ∈ lw_all) (hdg : decode cc pc = .ok (.invokevirtual index, 3)) (hst : st = As.reverse ++ .ref a :: rest) (hn : As.length = n) (hr8 : (rest.map fun v => v.category).sum ≤ 8) (hm : μ a = some (.inr (ci, fs))) (hM : PM g y (ws_ y b L r) d1 C1 N1 (.ref a :: As) μ Qc) (hd : d1 + 1 ≤ d) (hC : C1 + C2 ≤ C) (hN : N1 + N2 ≤ N)
    (kr : ∀ (v : Option Value) (μ1 : Mem), Qc (.inl v) μ1 → PJ g own cc nL i d C2 N2 (pc + 3) ls (v.toList ++ rest) μ1 Q)
    (kx : ∀ (E9 : String) (q : Nat) (μ1 : Mem), Qc (.inr (E9, q)) μ1 → PX g own cc nL i d C2 N2 pc ls rest E9 q μ1 Q) : PJ g own cc nL i d C N pc ls st μ Q := by
  subst hst
  refine PJ.behind (As := As) (rest0 := rest) (len := 3) (av := (Value.ref a :: As).toArray) hC hN (fun p e R s m args below meth c G E H locs cells slots K K9 B arr hl9 => ?_) kr kx
  exact vx_runV ⟨E.1, E.2.1, E.2.2.1, E.2.2.2.1, E.2.2.2.2.1⟩ (hM G) (cwV n E.2.2.2.2.1 (lw_V h1 h2 h3 h4 md.2.1) rfl rfl rfl ⟨hy, md.1⟩ (rm_fits E.2.2.2.2.2.2.2.2.2.2.1 E.2.2.2.2.2.2.2.2.2.2.2 hd md.2.2)) ⟨Pc_blind, Sim.recv G E.2.2.2.2.2.2.2.2.2.1 B.2.2.2.2.1 cl.2.1 hm, Pc_now E.2.2.2.2.2.2.2.2.2.1 B.2.2.2.2.1 B.2.2.2.2.2⟩ rfl hn hl9.1 rfl (lv_room hr8) hdg (B.room hC hN)
theorem pj_callI {a : Nat} {y : MethodName} {b : ByteArray} {L n d1 C1 N1 C2 N2 index : Nat} {Qc : OC → Mem → Prop} {st : List Value} (As : List Value) (md : MDy y b L none n) (hy : y.name = "<init>") (h1 : Cond.methodLink own index y ∈ lw_all) (h2 : Cond.instanceMethod y ∈ lw_all) (h3 : Cond.initialized y.cls ∈ lw_all) (hdg : decode cc pc = .ok (.invokespecial index, 3)) (hst : st = As.reverse ++ .ref a :: rest) (hn : As.length = n) (hr8 : (rest.map fun v => v.category).sum ≤ 8) (hM : PM g y (ws_ y b L none) d1 C1 N1 (.ref a :: As) μ Qc) (hd : d1 + 1 ≤ d) (hC : C1 + C2 ≤ C) (hN : N1 + N2 ≤ N)
    (kr : ∀ (v : Option Value) (μ1 : Mem), Qc (.inl v) μ1 → PJ g own cc nL i d C2 N2 (pc + 3) ls (v.toList ++ rest) μ1 Q)
    (kx : ∀ (E9 : String) (q : Nat) (μ1 : Mem), Qc (.inr (E9, q)) μ1 → PX g own cc nL i d C2 N2 pc ls rest E9 q μ1 Q) : PJ g own cc nL i d C N pc ls st μ Q := by
  subst hst
  refine PJ.behind (As := As) (rest0 := rest) (len := 3) (av := (Value.ref a :: As).toArray) hC hN (fun p e R s m args below meth c G E H locs cells slots K K9 B arr hl9 => ?_) kr kx
  exact vx_runI ⟨E.1, E.2.1, E.2.2.1, E.2.2.2.1, E.2.2.2.2.1⟩ (hM G) (cwI n E.2.2.2.2.1 (lw_meth md.2.1) rfl rfl rfl (E.2.2.2.2.1 _ h3) (E.2.2.2.2.1 _ h1) (E.2.2.2.2.1 _ h2) hy md.1 (rm_fits E.2.2.2.2.2.2.2.2.2.2.1 E.2.2.2.2.2.2.2.2.2.2.2 hd md.2.2)) ⟨Pc_blind, Pc_now E.2.2.2.2.2.2.2.2.2.1 B.2.2.2.2.1 B.2.2.2.2.2⟩ rfl hn hl9.1 rfl (lv_room hr8) hdg (B.room hC hN)
end PJrules
/-- a method out of its body -/
theorem PM.of {g : GP} {y : MethodName} {cc : ByteArray} {nL d C N : Nat} {ret : Option FieldType} {av : List Value} {μ : Mem} {Q : OC → Mem → Prop} (hy : plainName y.cls = true) (hlen : (lg_sl av).length ≤ nL)
    (k : PJ g y.cls cc nL (ret, y.name, []) d C N 0 (lv_args 0 av) [] μ Q) : PM g y (ws_ y cc nL ret) d C N av μ Q := by
  intro G
  refine vx_ofW hy rfl ?_
  intro p e s m args below meth c s₁ B hml htab hv
  obtain ⟨rfl, hsim, hwk⟩ := hv
  have hts := atoms_spec (ws := ws_ y cc nL ret) B.pre
  rw [lg_entry_eq]
  refine k G p e _ s m _ below meth c ⟨B.exec, B.bytes, hml, findClass_of_methodNamed B.named, fun w h => hts w (List.mem_cons_of_mem _ h), B.returns, B.notSynchronized, (name_of_methodNamed B.named B.method).1, ?_, hwk, rfl, rfl⟩ s.heap [] 0 0 C N ⟨by omega, Nat.le_refl _, by omega, Nat.le_refl _, hsim, va_S.rf⟩ _ (lv_entry av hlen)
  cases hq : c.exceptionTable.toList with
  | nil => rfl
  | cons x l => exact (htab x (by rw [hq]; exact List.mem_cons_self)).elim
theorem PM.post {g : GP} {y : MethodName} {ws : List Cond} {d C N : Nat} {av : List Value} {μ : Mem} {Q Q1 : OC → Mem → Prop} (h : ∀ o μ1, Q1 o μ1 → Q o μ1) (k : PM g y ws d C N av μ Q1) : PM g y ws d C N av μ Q := by
  intro G p e a1 a2 a3 s m args below hf ha hp hk
  obtain ⟨n, o, w1, w2, w3, w4⟩ := k G p e a1 a2 a3 s m args below hf ha hp hk
  refine ⟨n, o, w1, w2, w3, ?_⟩
  rcases w4 with ⟨⟨⟨v, μ1, e1, e2, e3⟩, e4⟩, e5⟩ | ⟨q, e1, E9, ce, L, ⟨⟨μ1, f1, f2⟩, f3⟩, f4⟩
  · exact Or.inl ⟨⟨⟨v, μ1, e1, h _ _ e2, e3⟩, e4⟩, e5⟩
  · exact Or.inr ⟨q, e1, E9, ce, L, ⟨⟨μ1, h _ _ f1, f2⟩, f3⟩, f4⟩


section PXrules
variable {g : GP} {own : String} {cc : ByteArray} {nL : Nat} {i : MI} {d C N pc : Nat} {ls : List (Nat × Value)} {rest : List Value} {μ : Mem} {Q : OC → Mem → Prop}
/-- the rows of this method's table don't take it here -/
def PassX (g : GP) (own : String) (i : MI) (pc : Nat) (E9 : String) (l : List ExceptionTableEntry) : Prop := ∀ z ∈ l, covers z pc = false ∨ (z.catchType ≠ 0 ∧ ∃ nm : String, Cond.classLink own z.catchType nm ∈ lw_all ∧ (OkG g → va_Nc E9 nm (gS g)))
theorem px_out {q : Nat} {E9 : String} (hp : PassX g own i pc E9 (tableOf i.2.2)) (hQ : Q (.inr (E9, q)) μ) : PX g own cc nL i d C N pc ls rest E9 q μ Q := by
  intro G p e R s m args below meth c E H locs cells slots K K9 B arr hl9 ce hce hcv hcl
  refine vx_outP E.2.2.2.1 E.2.2.2.2.2.2.1 ?_ hce hcv hcl (fun t ht hW => ⟨⟨μ, hQ, by rw [ht]; exact B.2.2.2.2.1, WK.F E.2.2.2.2.2.2.2.2.2.1 B.2.2.2.2.2 ht hW⟩, va_S.F B.2.2.2.2.2 ht⟩) B.2.2.2.2.2.2.2 B.c B.n
  rw [E.2.2.2.2.2.2.2.2.1]
  intro z hz
  rcases hp z hz with h | ⟨h0, nm, h1, h2⟩
  · exact Or.inl h
  · exact Or.inr ⟨h0, nm, E.2.2.2.2.1 _ h1, (h2 G).moved E.2.2.2.2.2.2.2.2.2.1.1.alike⟩
theorem px_out0 {q : Nat} {E9 : String} (hi : i.2.2 = []) (hQ : Q (.inr (E9, q)) μ) : PX g own cc nL i d C N pc ls rest E9 q μ Q :=
  px_out (by rw [hi]; intro z hz; cases hz) hQ
theorem px_catch {q : Nat} {E9 name : String} (pre : List ExceptionTableEntry) (x : ExceptionTableEntry) (suf : List ExceptionTableEntry) (hs : tableOf i.2.2 = pre ++ x :: suf) (hp : PassX g own i pc E9 pre) (hx : covers x pc = true) (h0 : x.catchType ≠ 0) (hlink : Cond.classLink own x.catchType name ∈ lw_all) (hcast : Cond.castable E9 name ∈ lw_tbl) (kk : PJ g own cc nL i d C N x.handlerPc ls [.ref q] μ Q) : PX g own cc nL i d C N pc ls rest E9 q μ Q := by
  intro G p e R s m args below meth c E H locs cells slots K K9 B arr hl9 ce hce hcv hcl
  refine vx_catch E.2.2.2.1 pre x suf (by rw [E.2.2.2.2.2.2.2.2.1]; exact hs) ?_ hx h0 (E.2.2.2.2.1 _ hlink) (va_Nw.use rfl (va_Nw.warmC E.2.2.2.2.2.2.2.2.2.1.1 (va_Nw.of rfl (G_tbl G hcast)))) hce hcv hcl (kk G p e R s m args below meth c E H locs cells slots K K9 B arr hl9)
  intro z hz
  rcases hp z hz with h | ⟨h0, nm, h1, h2⟩
  · exact Or.inl h
  · exact Or.inr ⟨h0, nm, E.2.2.2.2.1 _ h1, (h2 G).moved E.2.2.2.2.2.2.2.2.2.1.1.alike⟩
theorem px_any {q : Nat} {E9 : String} (pre : List ExceptionTableEntry) (x : ExceptionTableEntry) (suf : List ExceptionTableEntry) (hs : tableOf i.2.2 = pre ++ x :: suf) (hp : PassX g own i pc E9 pre) (hx : covers x pc = true) (h0 : x.catchType = 0) (kk : PJ g own cc nL i d C N x.handlerPc ls [.ref q] μ Q) : PX g own cc nL i d C N pc ls rest E9 q μ Q := by
  intro G p e R s m args below meth c E H locs cells slots K K9 B arr hl9 ce hce hcv hcl T hT X
  have hpl : e.platform.magicAccessors = ({} : Platform).magicAccessors := by rw [X.admits.platform]
  obtain ⟨vm', X', st⟩ := X.thenCaughtThrough q (g := F0 m pc arr rest) rfl (Steps.refl _) (by rw [hT]; exact hce) (by rw [hcv]; rfl) (by obtain ⟨k9, h9, -⟩ := Vm.findClass_spec hcl; exact ⟨k9, h9⟩) pre x suf (by rw [E.2.2.2.2.2.2.2.2.1]; exact hs)
    (fun z hz => by
      rcases hp z hz with h | ⟨hz0, nm, hl1, hn1⟩
      · exact Or.inl h
      · obtain ⟨c6, hc6, hcl6⟩ := Cond.classLink_spec E.2.2.2.1 (E.2.2.2.2.1 _ hl1) e.platform hpl
        obtain ⟨a8, b8, h1, h2, h3⟩ := (hn1 G).moved E.2.2.2.2.2.2.2.2.2.1.1.alike
        cases Option.some.inj (h1.symm.trans hcl)
        cases Option.some.inj (h2.symm.trans hc6)
        exact Or.inr ⟨hz0, _, hcl6, h3⟩) hx (Or.inl h0)
  obtain ⟨t, a1, b1⟩ := kk G p e R s m args below meth c E H locs cells slots K K9 B arr hl9 (T.setVm vm') hT X'
  exact ⟨t, st.trans a1, b1⟩
theorem pj_athrow {ci n q : Nat} {Cn : String} {Tn : u_T} {ty : Nat → FieldType} (cl : CLk ci Cn Tn n ty) {fs : List Value} (hdg : decode cc pc = .ok (.athrow, 1)) (hm : μ q = some (.inr (ci, fs))) (kk : PX g own cc nL i d C N pc ls rest Cn q μ Q) : PJ g own cc nL i d C N pc ls (.ref q :: rest) μ Q := by
  intro G p e R s m args below meth c E H locs cells slots K K9 B arr hl9
  obtain ⟨r, h1, cell, g1, g2, g3, -⟩ := (B.2.2.2.2.1 q _ hm).2
  have hr : r = (Cn, Tn, n) := Option.some.inj (h1.symm.trans cl.2.1)
  subst hr
  exact vx_athrow E.1 E.2.1 hdg (kk G p e R s m args below meth c E H locs cells slots K K9 B arr hl9 cell g1 g3 (by rw [g2]; exact ((G.K E.2.2.2.2.2.2.2.2.2.1).1 ci _ cl.2.1).2.1))
/-- rethrown: the class by its name alone -/
theorem PX.widen {q : Nat} {E9 : String} {C1 N1 : Nat} (hC : C1 ≤ C) (hN : N1 ≤ N) (k : PX g own cc nL i d C1 N1 pc ls rest E9 q μ Q) : PX g own cc nL i d C N pc ls rest E9 q μ Q :=
  fun G p e R s m args below meth c E H locs cells slots K K9 B arr hl => k G p e R s m args below meth c E H locs cells slots K K9 ⟨Nat.le_trans (Nat.add_le_add_left hC _) B.1, B.2.1, Nat.le_trans (Nat.add_le_add_left hN _) B.2.2.1, B.2.2.2⟩ arr hl
/-- calls of nest mates' private methods, of methods with handlers -/
theorem pj_callVN {ci nf : Nat} {Cn host : String} {Tn : u_T} {ty : Nat → FieldType} {fs : List Value} {a : Nat} {y : MethodName} {b : ByteArray} {L n d1 C1 N1 C2 N2 index : Nat} {r : Option FieldType} {Qc : OC → Mem → Prop} {st : List Value} (As : List Value) (cl : CLk ci Cn Tn nf ty) (md : MDy y b L r n) (h1 : Cond.methodLinkNest own index y host ∈ lw_tbl) (h2 : Cond.instanceMethod y ∈ lw_all) (h3 : Cond.selects Cn y y ∈ lw_all) (h4 : Cond.initialized y.cls ∈ lw_all) (hdg : decode cc pc = .ok (.invokevirtual index, 3)) (hst : st = As.reverse ++ .ref a :: rest) (hn : As.length = n) (hr8 : (rest.map fun v => v.category).sum ≤ 8) (hm : μ a = some (.inr (ci, fs))) (hM : PM g y (ws_ y b L r) d1 C1 N1 (.ref a :: As) μ Qc) (hd : d1 + 1 ≤ d) (hC : C1 + C2 ≤ C) (hN : N1 + N2 ≤ N)
    (kr : ∀ (v : Option Value) (μ1 : Mem), Qc (.inl v) μ1 → PJ g own cc nL i d C2 N2 (pc + 3) ls (v.toList ++ rest) μ1 Q)
    (kx : ∀ (E9 : String) (q : Nat) (μ1 : Mem), Qc (.inr (E9, q)) μ1 → PX g own cc nL i d C2 N2 pc ls rest E9 q μ1 Q) : PJ g own cc nL i d C N pc ls st μ Q := by
  subst hst
  refine PJ.behind (As := As) (rest0 := rest) (len := 3) (av := (Value.ref a :: As).toArray) hC hN (fun p e R s m args below meth c G E H locs cells slots K K9 B arr hl9 => ?_) kr kx
  exact vx_runVN ⟨E.1, E.2.1, E.2.2.1, E.2.2.2.1, E.2.2.2.2.1⟩ (hM G) ⟨va_cnB n E.2.2.2.2.1 (lw_meth md.2.1) rfl rfl rfl (va_Nw.warmM E.2.2.2.2.2.2.2.2.2.1.1 (va_Nw.of rfl (G_tbl G h1))) (E.2.2.2.2.1 _ h4) md.1 (rm_fits E.2.2.2.2.2.2.2.2.2.2.1 E.2.2.2.2.2.2.2.2.2.2.2 hd md.2.2), E.2.2.2.2.1 _ h2, E.2.2.2.2.1 _ h3⟩ ⟨Pc_blind, Sim.recv G E.2.2.2.2.2.2.2.2.2.1 B.2.2.2.2.1 cl.2.1 hm, Pc_now E.2.2.2.2.2.2.2.2.2.1 B.2.2.2.2.1 B.2.2.2.2.2⟩ rfl hn hl9.1 rfl (lv_room hr8) hdg (B.room hC hN)
theorem pj_callSN {host : String} {y : MethodName} {b : ByteArray} {L n d1 C1 N1 C2 N2 index : Nat} {r : Option FieldType} {Qc : OC → Mem → Prop} {st : List Value} (As : List Value) (md : MDy y b L r n) (h1 : Cond.methodLinkNest own index y host ∈ lw_tbl) (h2 : Cond.static y ∈ lw_all) (h4 : Cond.initialized y.cls ∈ lw_all) (hdg : decode cc pc = .ok (.invokestatic index, 3)) (hst : st = As.reverse ++ rest) (hn : As.length = n) (hr8 : (rest.map fun v => v.category).sum ≤ 8) (hM : PM g y (ws_ y b L r) d1 C1 N1 As μ Qc) (hd : d1 + 1 ≤ d) (hC : C1 + C2 ≤ C) (hN : N1 + N2 ≤ N)
    (kr : ∀ (v : Option Value) (μ1 : Mem), Qc (.inl v) μ1 → PJ g own cc nL i d C2 N2 (pc + 3) ls (v.toList ++ rest) μ1 Q)
    (kx : ∀ (E9 : String) (q : Nat) (μ1 : Mem), Qc (.inr (E9, q)) μ1 → PX g own cc nL i d C2 N2 pc ls rest E9 q μ1 Q) : PJ g own cc nL i d C N pc ls st μ Q := by
  subst hst
  refine PJ.behind (As := As) (rest0 := rest) (len := 3) (av := As.toArray) hC hN (fun p e R s m args below meth c G E H locs cells slots K K9 B arr hl9 => ?_) kr kx
  exact vx_runSN ⟨E.1, E.2.1, E.2.2.1, E.2.2.2.1, E.2.2.2.2.1⟩ (hM G) ⟨va_cnB n E.2.2.2.2.1 (lw_meth md.2.1) rfl rfl rfl (va_Nw.warmM E.2.2.2.2.2.2.2.2.2.1.1 (va_Nw.of rfl (G_tbl G h1))) (E.2.2.2.2.1 _ h4) md.1 (rm_fits E.2.2.2.2.2.2.2.2.2.2.1 E.2.2.2.2.2.2.2.2.2.2.2 hd md.2.2), E.2.2.2.2.1 _ h2, trivial⟩ ⟨Pc_blind, Pc_now E.2.2.2.2.2.2.2.2.2.1 B.2.2.2.2.1 B.2.2.2.2.2⟩ rfl hn hl9.1 rfl (lv_room hr8) hdg (B.room hC hN)
theorem pj_callIN {host : String} {a : Nat} {y : MethodName} {b : ByteArray} {L n d1 C1 N1 C2 N2 index : Nat} {Qc : OC → Mem → Prop} {st : List Value} (As : List Value) (md : MDy y b L none n) (hy : y.name = "<init>") (h1 : Cond.methodLinkNest own index y host ∈ lw_tbl) (h2 : Cond.instanceMethod y ∈ lw_all) (h4 : Cond.initialized y.cls ∈ lw_all) (hdg : decode cc pc = .ok (.invokespecial index, 3)) (hst : st = As.reverse ++ .ref a :: rest) (hn : As.length = n) (hr8 : (rest.map fun v => v.category).sum ≤ 8) (hM : PM g y (ws_ y b L none) d1 C1 N1 (.ref a :: As) μ Qc) (hd : d1 + 1 ≤ d) (hC : C1 + C2 ≤ C) (hN : N1 + N2 ≤ N)
    (kr : ∀ (v : Option Value) (μ1 : Mem), Qc (.inl v) μ1 → PJ g own cc nL i d C2 N2 (pc + 3) ls (v.toList ++ rest) μ1 Q)
    (kx : ∀ (E9 : String) (q : Nat) (μ1 : Mem), Qc (.inr (E9, q)) μ1 → PX g own cc nL i d C2 N2 pc ls rest E9 q μ1 Q) : PJ g own cc nL i d C N pc ls st μ Q := by
  subst hst
  refine PJ.behind (As := As) (rest0 := rest) (len := 3) (av := (Value.ref a :: As).toArray) hC hN (fun p e R s m args below meth c G E H locs cells slots K K9 B arr hl9 => ?_) kr kx
  exact vx_runIN ⟨E.1, E.2.1, E.2.2.1, E.2.2.2.1, E.2.2.2.2.1⟩ (hM G) ⟨va_cnB n E.2.2.2.2.1 (lw_meth md.2.1) rfl rfl rfl (va_Nw.warmM E.2.2.2.2.2.2.2.2.2.1.1 (va_Nw.of rfl (G_tbl G h1))) (E.2.2.2.2.1 _ h4) md.1 (rm_fits E.2.2.2.2.2.2.2.2.2.2.1 E.2.2.2.2.2.2.2.2.2.2.2 hd md.2.2), hy, E.2.2.2.2.1 _ h2⟩ ⟨Pc_blind, Pc_now E.2.2.2.2.2.2.2.2.2.1 B.2.2.2.2.1 B.2.2.2.2.2⟩ rfl hn hl9.1 rfl (lv_room hr8) hdg (B.room hC hN)
def MDz (y : MethodName) (b : ByteArray) (L : Nat) (r : Option FieldType) (hh : List (Nat × Nat × Nat × Nat)) (n : Nat) : Prop := (y.cls ≠ "java/lang/invoke/MethodHandle" ∧ y.cls ≠ "java/lang/invoke/VarHandle" ∧ (parseMethodDescriptor y.desc).map (fun d => d.parameters.length) = some n) ∧ Cond.codeWith y b L r hh ∈ lw_all ∧ L ≤ 80
theorem pj_callSH {y : MethodName} {b : ByteArray} {L n d1 C1 N1 C2 N2 index : Nat} {r : Option FieldType} {hh : List (Nat × Nat × Nat × Nat)} {Qc : OC → Mem → Prop} {st : List Value} (As : List Value) (md : MDz y b L r hh n) (h1 : Cond.methodLink own index y ∈ lw_all) (h2 : Cond.static y ∈ lw_all) (h3 : Cond.initialized y.cls ∈ lw_all) (hdg : decode cc pc = .ok (.invokestatic index, 3)) (hst : st = As.reverse ++ rest) (hn : As.length = n) (hr8 : (rest.map fun v => v.category).sum ≤ 8) (hM : PM g y (wsW_ y b L r hh) d1 C1 N1 As μ Qc) (hd : d1 + 1 ≤ d) (hC : C1 + C2 ≤ C) (hN : N1 + N2 ≤ N)
    (kr : ∀ (v : Option Value) (μ1 : Mem), Qc (.inl v) μ1 → PJ g own cc nL i d C2 N2 (pc + 3) ls (v.toList ++ rest) μ1 Q)
    (kx : ∀ (E9 : String) (q : Nat) (μ1 : Mem), Qc (.inr (E9, q)) μ1 → PX g own cc nL i d C2 N2 pc ls rest E9 q μ1 Q) : PJ g own cc nL i d C N pc ls st μ Q := by
  subst hst
  refine PJ.behind (As := As) (rest0 := rest) (len := 3) (av := As.toArray) hC hN (fun p e R s m args below meth c G E H locs cells slots K K9 B arr hl9 => ?_) kr kx
  exact vx_runSX ⟨E.1, E.2.1, E.2.2.1, E.2.2.2.1, E.2.2.2.2.1⟩ (hM G) (vx_cwSW n E.2.2.2.2.1 (lw_SW h1 h2 h3 md.2.1) rfl rfl rfl md.1 (rm_fits E.2.2.2.2.2.2.2.2.2.2.1 E.2.2.2.2.2.2.2.2.2.2.2 hd md.2.2)) ⟨Pc_blind, Pc_now E.2.2.2.2.2.2.2.2.2.1 B.2.2.2.2.1 B.2.2.2.2.2⟩ rfl hn hl9.1 rfl (lv_room hr8) hdg (B.room hC hN)
theorem pj_callVH {ci nf : Nat} {Cn : String} {Tn : u_T} {ty : Nat → FieldType} {fs : List Value} {a : Nat} {y : MethodName} {b : ByteArray} {L n d1 C1 N1 C2 N2 index : Nat} {r : Option FieldType} {hh : List (Nat × Nat × Nat × Nat)} {Qc : OC → Mem → Prop} {st : List Value} (As : List Value) (cl : CLk ci Cn Tn nf ty) (md : MDz y b L r hh n) (hy : y.cls = Cn) (h1 : Cond.methodLink own index y ∈ lw_all) (h2 : Cond.instanceMethod y ∈ lw_all) (h3 : Cond.selects Cn y y ∈ lw_all) (h4 : Cond.initialized Cn ∈ lw_all) (hdg : decode cc pc = .ok (.invokevirtual index, 3)) (hst : st = As.reverse ++ .ref a :: rest) (hn : As.length = n) (hr8 : (rest.map fun v => v.category).sum ≤ 8) (hm : μ a = some (.inr (ci, fs))) (hM : PM g y (wsW_ y b L r hh) d1 C1 N1 (.ref a :: As) μ Qc) (hd : d1 + 1 ≤ d) (hC : C1 + C2 ≤ C) (hN : N1 + N2 ≤ N)
    (kr : ∀ (v : Option Value) (μ1 : Mem), Qc (.inl v) μ1 → PJ g own cc nL i d C2 N2 (pc + 3) ls (v.toList ++ rest) μ1 Q)
    (kx : ∀ (E9 : String) (q : Nat) (μ1 : Mem), Qc (.inr (E9, q)) μ1 → PX g own cc nL i d C2 N2 pc ls rest E9 q μ1 Q) : PJ g own cc nL i d C N pc ls st μ Q := by
  subst hst
  refine PJ.behind (As := As) (rest0 := rest) (len := 3) (av := (Value.ref a :: As).toArray) hC hN (fun p e R s m args below meth c G E H locs cells slots K K9 B arr hl9 => ?_) kr kx
  exact vx_runVX ⟨E.1, E.2.1, E.2.2.1, E.2.2.2.1, E.2.2.2.2.1⟩ (hM G) (vx_cwVW n E.2.2.2.2.1 (lw_VW h1 h2 h3 h4 md.2.1) rfl rfl rfl ⟨hy, md.1⟩ (rm_fits E.2.2.2.2.2.2.2.2.2.2.1 E.2.2.2.2.2.2.2.2.2.2.2 hd md.2.2)) ⟨Pc_blind, Sim.recv G E.2.2.2.2.2.2.2.2.2.1 B.2.2.2.2.1 cl.2.1 hm, Pc_now E.2.2.2.2.2.2.2.2.2.1 B.2.2.2.2.1 B.2.2.2.2.2⟩ rfl hn hl9.1 rfl (lv_room hr8) hdg (B.room hC hN)
end PXrules
/-- a method with handlers out of its body -/
theorem PM.ofH {g : GP} {y : MethodName} {cc : ByteArray} {nL d C N : Nat} {ret : Option FieldType} {hh : List (Nat × Nat × Nat × Nat)} {av : List Value} {μ : Mem} {Q : OC → Mem → Prop} (hy : plainName y.cls = true) (hlen : (lg_sl av).length ≤ nL)
    (k : PJ g y.cls cc nL (ret, y.name, hh) d C N 0 (lv_args 0 av) [] μ Q) : PM g y (wsW_ y cc nL ret hh) d C N av μ Q := by
  intro G
  refine vx_ofWH (hw := rfl) hy ?_
  intro p e s m args below meth c s₁ B hml hv
  obtain ⟨rfl, hsim, hwk⟩ := hv
  have hts := atoms_spec (ws := wsW_ y cc nL ret hh) B.pre
  rw [lg_entry_eq]
  exact k G p e _ s m _ below meth c ⟨B.exec, B.bytes, hml, findClass_of_methodNamed B.named, fun w h => hts w (List.mem_cons_of_mem _ h), B.returns, B.notSynchronized, (name_of_methodNamed B.named B.method).1, vx_table (x := y) B (hts _ List.mem_cons_self), hwk, rfl, rfl⟩ s.heap [] 0 0 C N ⟨by omega, Nat.le_refl _, by omega, Nat.le_refl _, hsim, va_S.rf⟩ _ (lv_entry av hlen)

