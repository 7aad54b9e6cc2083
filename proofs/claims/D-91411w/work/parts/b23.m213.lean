set_option maxRecDepth 100000
/-- cells made since μ: n of them, the j-th at ad j, with what it holds -/
def Bl (μ : Mem) (n : Nat) (ad : Nat → Nat) (ce : Nat → va_E) (M : Mem) : Prop :=
  (∀ j, j < n → μ (ad j) = none ∧ M (ad j) = some (ce j)) ∧ (∀ i j, i < n → j < n → ad i = ad j → i = j) ∧ ∀ a, (∀ j, j < n → ad j ≠ a) → M a = μ a
def uN {α : Type} (f : Nat → α) (n : Nat) (v : α) : Nat → α := fun j => if j = n then v else f j
theorem uN_eq {α : Type} {f : Nat → α} {n : Nat} {v : α} : uN f n v n = v := if_pos rfl
theorem uN_ne {α : Type} {f : Nat → α} {n j : Nat} {v : α} (h : j ≠ n) : uN f n v j = f j := if_neg h
section BLL
variable {μ M : Mem} {n : Nat} {ad : Nat → Nat} {ce : Nat → va_E}
theorem Bl.rf : Bl μ 0 ad ce μ := ⟨fun j hj => absurd hj (Nat.not_lt_zero _), fun i j hi => absurd hi (Nat.not_lt_zero _), fun a _ => rfl⟩
theorem Bl.get (h : Bl μ n ad ce M) {j : Nat} (hj : j < n) : M (ad j) = some (ce j) := (h.1 j hj).2
theorem Bl.getq (h : Bl μ n ad ce M) {j q : Nat} {c : va_E} (hj : j < n) (hq : ad j = q) (hc : ce j = c) : M q = some c := by
  rw [← hq, ← hc]
  exact h.get hj
theorem Bl.fr (h : Bl μ n ad ce M) {q : Nat} (hq : M q = none) : μ q = none ∧ ∀ j, j < n → ad j ≠ q := by
  have h1 : ∀ j, j < n → ad j ≠ q := fun j hj e => by
    have := h.get hj
    rw [e, hq] at this
    cases this
  exact ⟨(h.2.2 q h1).symm.trans hq, h1⟩
theorem Bl.up (h : Bl μ n ad ce M) {a : Nat} {x : va_E} (ha : μ a = some x) : M a = some x := by
  rw [h.2.2 a (fun j hj e => by rw [← e, (h.1 j hj).1] at ha; cases ha)]
  exact ha
theorem Bl.ne (h : Bl μ n ad ce M) {i j p q : Nat} (hi : i < n) (hj : j < n) (hp : ad i = p) (hq : ad j = q) (hn : i ≠ j) : p ≠ q := fun e => hn (h.2.1 i j hi hj (by rw [hp, hq]; exact e))
theorem Bl.new (h : Bl μ n ad ce M) {q : Nat} {x : va_E} (hq : M q = none) : Bl μ (n + 1) (uN ad n q) (uN ce n x) (mset M q x) := by
  obtain ⟨f1, f2⟩ := h.fr hq
  refine ⟨fun j hj => ?_, fun i j hi hj e => ?_, fun a ha => ?_⟩
  · by_cases e : j = n
    · subst e
      rw [uN_eq, uN_eq, mset_s]
      exact ⟨f1, rfl⟩
    · rw [uN_ne e, uN_ne e, mset_n (f2 j (by omega))]
      exact h.1 j (by omega)
  · by_cases ei : i = n
    · by_cases ej : j = n
      · omega
      · subst ei
        rw [uN_eq, uN_ne ej] at e
        exact absurd e.symm (f2 j (by omega))
    · by_cases ej : j = n
      · subst ej
        rw [uN_eq, uN_ne ei] at e
        exact absurd e (f2 i (by omega))
      · rw [uN_ne ei, uN_ne ej] at e
        exact h.2.1 i j (by omega) (by omega) e
  · have hn : q ≠ a := by
      have := ha n (by omega)
      rw [uN_eq] at this
      exact this
    rw [mset_n (Ne.symm hn)]
    exact h.2.2 a (fun j hj => by
      have := ha j (by omega)
      rw [uN_ne (by omega)] at this
      exact this)
theorem Bl.put (h : Bl μ n ad ce M) {j q : Nat} {x : va_E} (hj : j < n) (hq : ad j = q) : Bl μ n ad (uN ce j x) (mset M q x) := by
  subst hq
  refine ⟨fun i hi => ⟨(h.1 i hi).1, ?_⟩, h.2.1, fun a ha => ?_⟩
  · by_cases e : i = j
    · subst e
      rw [uN_eq, mset_s]
    · rw [uN_ne e, mset_n (fun z => e (h.2.1 i j hi hj z))]
      exact h.get hi
  · rw [mset_n (Ne.symm (ha j hj))]
    exact h.2.2 a ha
theorem Bl.cg {ad1 : Nat → Nat} {ce1 : Nat → va_E} (h : Bl μ n ad ce M) (ha : ∀ j, j < n → ad1 j = ad j) (hc : ∀ j, j < n → ce1 j = ce j) : Bl μ n ad1 ce1 M := by
  refine ⟨fun j hj => ?_, fun i j hi hj e => ?_, fun a hn => h.2.2 a (fun j hj => by rw [← ha j hj]; exact hn j hj)⟩
  · rw [ha j hj, hc j hj]
    exact h.1 j hj
  · rw [ha i hi, ha j hj] at e
    exact h.2.1 i j hi hj e
/-- a cell's field filled by a constructor that makes one cell more -/
theorem Bl.new2 (h : Bl μ n ad ce M) {q r : Nat} {x y z : va_E} (hq : M q = none) (hr : mset M q x r = none) (hrq : r ≠ q) : Bl μ (n + 2) (uN (uN ad n q) (n + 1) r) (uN (uN (uN ce n x) (n + 1) y) n z) (mset (mset (mset M q x) r y) q z) :=
  ((h.new hq).new hr).put (j := n) (by omega) (by rw [uN_ne (by omega), uN_eq])
end BLL
section BLK
variable {g : GP} {own : String} {cc : ByteArray} {nL : Nat} {i : MI} {d C N pc : Nat} {ls : List (Nat × Value)} {rest st : List Value} {μ μ0 : Mem} {Q : OC → Mem → Prop}
theorem blk {n : Nat} {ad : Nat → Nat} {ce : Nat → va_E} (h : Bl μ0 n ad ce μ) (k : ∀ M : Mem, Bl μ0 n ad ce M → PJ g own cc nL i d C N pc ls st M Q) : PJ g own cc nL i d C N pc ls st μ Q := k μ h
theorem ao_mv {u U : State} {A : Array Value} (hvm : u.vm.Alike U.vm) (h : (Cond.arrayOver (.array .float)).before #[Value.ref (gb g)] u = true) : (Cond.arrayOver (.array .float)).before A U = true := by
  obtain ⟨comp, c, k, h1, h2, h3, h4, h5⟩ := arrayOverA_spec h
  obtain ⟨k', hk', he⟩ := hvm.2.2 _ _ h3
  have hi : (U.vm.classes.findIdx? fun (x : Class) => match x.kind with | .array component _ => component == comp | _ => false) = some c := by
    rw [hvm.findIdx?_eq _ (fun _ => rfl)]
    exact h2
  have hkind : k'.kind = .array comp (.array .float) := by rw [he]; exact h4
  have f1 : U.vm.findClass (FieldType.array .float).toString = some comp := by rw [hvm.findClass]; exact h1
  have f2 : U.vm.findClass ("[" ++ (FieldType.array .float).toString) = some c := by rw [hvm.findClass]; exact h5
  unfold Cond.before Cond.holds
  simp only [Cond.value]
  rw [f1, Option.bind_some]
  refine (congrArg (fun o : Option Nat => (o.bind (fun c => (U.vm.classes[c]?).map fun (k : Class) => match k.kind with | .array _ ty => decide (ty = FieldType.array .float) && decide (U.vm.findClass ("[" ++ (FieldType.array .float).toString) = some c) | _ => false) == some true)) hi).trans ?_
  simp [hk', hkind, f2]
/-- an array of rows of floats -/
theorem pj_newA {index N9 C1 N1 : Nat} {x : Int32} (hdg : decode cc pc = .ok (.anewarray index, 3)) (hlink : Cond.classLink own index "[F" ∈ lw_all) (hn : ¬ x < 0) (hx : x.toNatClampNeg = N9) (hb9 : N9 * 4 ≤ 536870912) (hC : C1 + 1 ≤ C) (hN : N1 + N9 ≤ N) (kk : ∀ q : Nat, μ q = none → gF g q → PJ g own cc nL i d C1 N1 (pc + 3) ls (.ref q :: rest) (mset μ q (.inl (gA g 8, N9, .inr (.inr (.inr (.inr (fun _ => none))))))) Q) : PJ g own cc nL i d C N pc ls (.int x :: rest) μ Q := by
  intro G p e R s m9 args below meth c E9 H locs cells slots K K9 B arr hl9
  obtain ⟨ws, hP, hD, hmm⟩ := Sim.list B.2.2.2.2.1
  have hr := B.room (C1 := 1) (C2 := C1) (N1 := N9) (N2 := N1) (by omega) (by omega)
  have wk := E9.2.2.2.2.2.2.2.2.2.1
  have hK := G.K wk
  have hS := B.2.2.2.2.2
  subst hx
  refine W.anewA (t := .float) E9.1 E9.2.1 E9.2.2.2.1 (E9.2.2.2.2.1 _ hlink) (ao_mv wk.1.alike (G_tbl G q611)) rfl hdg rfl hn hb9 hr.1 hr.2 fun cA kA comp f1 f2 f3 f4 => ?_
  have r8 : s.vm.findClass ("[" ++ (FieldType.array .float).toString) = some (gA g 8) := (hK.2 8 (gA g 8, .array .float) rfl).2
  have hc : cA = gA g 8 := Option.some.inj (f1.symm.trans r8)
  rw [hc]
  generalize hH1 : H.push ({ cls := gA g 8, slots := Array.replicate x.toNatClampNeg .null, vm := .none } : Cell) = H1
  have z1 : H1.size = H.size + 1 := by rw [← hH1, Array.size_push]
  have e1 : H1[H.size]? = some (arrV (gA g 8) x.toNatClampNeg (fun _ => .null)) := by rw [← hH1, Array.getElem?_push_size, ← arrV_new]
  have o1 : ∀ q : Nat, q < H.size → H1[q]? = H[q]? := fun q hq => by rw [← hH1, Array.getElem?_push, if_neg (Nat.ne_of_lt hq)]
  have hk : ∀ (k : Nat) (x : Nat × va_E), ws[k]? = some x → H1[x.1]? = H[x.1]? := fun k x hx => o1 x.1 ((hP k x hx).lt)
  have hP1 : va_P (gD g) vwCl (ws ++ [(H.size, (.inl (gA g 8, x.toNatClampNeg, .inr (.inr (.inr (.inr (fun _ => none))))) : va_E))]) H1 := (hP.kept hk).app (fun k y hy => by
    have hz : k < 1 := (List.getElem?_eq_some_iff.mp hy).1
    rw [show k = 0 by omega] at hy
    cases hy
    show H1[H.size]? = some (vp_cell _ _)
    rw [vp_cell_q]
    exact e1)
  have hD1 : va_D (gF g) (ws ++ [(H.size, (.inl (gA g 8, x.toNatClampNeg, .inr (.inr (.inr (.inr (fun _ => none))))) : va_E))]) := hD.push hP rfl (gF_of wk _ hS.1)
  obtain ⟨k1, k2, k3⟩ := Sim.push hmm hP1 hD1
  exact kk H.size k2 k3 G p e R s m9 args below meth c E9 H1 locs (cells + 1) (slots + x.toNatClampNeg) K K9 (B.made hC hN k1 ⟨Nat.le_trans hS.1 (by omega), fun x h1 h2 => (o1 x (Nat.lt_of_lt_of_le h1 hS.1)).trans (hS.2.1 x h1 h2), hS.2.2⟩) arr hl9
end BLK
set_option maxHeartbeats 600000 in
theorem k_X7_init {g : GP} {μ : Mem} {d : Nat} (hd : 1 ≤ d) {q : Nat} (hm : μ q = some (.inr (34, [.null, .null]))) : PM g yX7_init (ws_ yX7_init cX7_init 1 none) d 2 8 [.ref q] μ (WQ none (fun M => ∃ r m, μ r = none ∧ (mset (mset μ r (.inl (gA g 8, 4, .inr (.inr (.inr (.inr (fun _ => none))))))) q (.inr (34, [.ref r, .null]))) m = none ∧ r ≠ q ∧ m ≠ q ∧ M = mset (mset (mset (mset μ r (.inl (gA g 8, 4, .inr (.inr (.inr (.inr (fun _ => none))))))) q (.inr (34, [.ref r, .null]))) m (.inl (gA g 0, 4, .inl (fun _ => 0)))) q (.inr (34, [.ref r, .ref m])))) := by
  refine PM.of (by decide +kernel) (Nat.le_of_ble_eq_true rfl) ?_
  refine PJ.ok (fun G => ?_)
  show PJ g _ _ _ _ d 2 8 0 [(0, .ref q)] [] _ _
  refine pl_aload_n (pc := 0) dX7_init_0 rfl rfl ?_
  refine pj_objInit (pc := 1) q609 q187 q188 dX7_init_1 (by omega) (by decide) ?_
  refine pl_aload_n (pc := 4) dX7_init_4 rfl rfl ?_
  refine pl_iconst (pc := 5) (v := 4) dX7_init_5 (by rfl) ?_
  refine pj_newA (pc := 6) (C1 := 1) (N1 := 4) (N9 := 4) dX7_init_6 q610 (by decide) (by decide) (by decide) (by omega) (by omega) (fun q_6 hn_6 gq_6 => ?_)
  have h6 : q ≠ q_6 := fun z => by rw [← z, hm] at hn_6; cases hn_6
  refine pj_putfF (pc := 9) ckX7 0 q612 dX7_init_9 (by decide) rfl rfl rfl ((mset_n h6).trans hm) rfl rfl (Nat.le_of_ble_eq_true rfl) ?_
  refine pl_aload_n (pc := 12) dX7_init_12 rfl rfl ?_
  refine pl_iconst (pc := 13) (v := 4) dX7_init_13 (by rfl) ?_
  refine pj_newa (pc := 14) (C1 := 0) (N1 := 0) (t0 := 0) (a0 := (4, .inl (fun _ => 0))) dX7_init_14 q572 rfl rfl (fun _ => rfl) (by decide) (by decide) (by decide) (by omega) (by omega) (fun q_14 hn_14 gq_14 => ?_)
  have h14 : q ≠ q_14 := fun z => by rw [← z, mset_s] at hn_14; cases hn_14
  have h146 : q_14 ≠ q_6 := fun z => by rw [z, mset_n (Ne.symm h6), mset_s] at hn_14; cases hn_14
  refine pj_putfF (pc := 16) ckX7 1 q613 dX7_init_16 (by decide) rfl rfl rfl ((mset_n h14).trans mset_s) rfl rfl (Nat.le_of_ble_eq_true rfl) ?_
  refine pj_vret (pc := 19) dX7_init_19 rfl ?_
  exact ⟨rfl, q_6, q_14, hn_6, hn_14, Ne.symm h6, Ne.symm h14, rfl⟩
set_option maxHeartbeats 600000 in
theorem k_J2_init_4 {g : GP} {μ : Mem} {d : Nat} (hd : 4 ≤ d) {q : Nat} {m9 : Int32} (hm : μ q = some (.inr (2, [.int m9, .null, .int 0]))) : PM g yJ2_init (ws_ yJ2_init cJ2_init 2 none) d 1 4 [.ref q, .int (nI 4)] μ (WQ none (fun M => ∃ e9, μ e9 = none ∧ e9 ≠ q ∧ M = mset (mset μ e9 (lstA g 4 (fun _ => none))) q (.inr (2, [.int (nI 0), .ref e9, .int 0])))) := by
  refine PM.of (by decide +kernel) (Nat.le_of_ble_eq_true rfl) ?_
  refine PJ.ok (fun G => ?_)
  show PJ g _ _ _ _ d 1 4 0 [(0, .ref q), (1, .int (nI 4))] [] _ _
  refine pl_aload_n (pc := 0) dJ2_init_0 rfl rfl ?_
  refine pl_callIv (pc := 1) (As := []) (C1 := 0) (N1 := 0) (C2 := 1) (N2 := 4) mdJ1_init rfl q200 q201 q128 dJ2_init_1 rfl rfl (Nat.le_of_ble_eq_true rfl) (k_J1_init (d := d - 1) (by omega) hm) (by omega) (by omega) (by omega) ?_
  refine pl_iload_n (pc := 4) dJ2_init_4 rfl rfl ?_
  refine pj_if_le (pc := 5) (tgt := 19) dJ2_init_5 (by decide) (fun h => absurd h (by decide)) (fun _ => ?_)
  refine pl_aload_n (pc := 8) dJ2_init_8 rfl rfl ?_
  refine pl_iload_n (pc := 9) dJ2_init_9 rfl rfl ?_
  refine pj_newq (pc := 10) (C1 := 0) (N1 := 0) (t0 := 5) (N9 := 4) dJ2_init_10 q207 q208 rfl (by decide) (by decide) (by decide) (by omega) (by omega) (fun q_10 hn_10 gq_10 => ?_)
  have hne : q ≠ q_10 := fun z => by rw [← z, mset_s] at hn_10; cases hn_10
  refine pj_putf (pc := 13) ckJ2 1 q550 dJ2_init_13 (by decide) rfl ((mset_n hne).trans mset_s) rfl rfl (Nat.le_of_ble_eq_true rfl) ?_
  refine pj_goto (pc := 16) (tgt := 60) dJ2_init_16 (by decide) ?_
  refine pj_vret (pc := 60) dJ2_init_60 rfl ?_
  exact ⟨rfl, q_10, by rw [mset_n (Ne.symm hne)] at hn_10; exact hn_10, Ne.symm hne, by rw [mset_c hne, mset_m]; rfl⟩
set_option maxHeartbeats 600000 in
theorem k_J2_init_8 {g : GP} {μ : Mem} {d : Nat} (hd : 4 ≤ d) {q : Nat} {m9 : Int32} (hm : μ q = some (.inr (2, [.int m9, .null, .int 0]))) : PM g yJ2_init (ws_ yJ2_init cJ2_init 2 none) d 1 8 [.ref q, .int (nI 8)] μ (WQ none (fun M => ∃ e9, μ e9 = none ∧ e9 ≠ q ∧ M = mset (mset μ e9 (lstA g 8 (fun _ => none))) q (.inr (2, [.int (nI 0), .ref e9, .int 0])))) := by
  refine PM.of (by decide +kernel) (Nat.le_of_ble_eq_true rfl) ?_
  refine PJ.ok (fun G => ?_)
  show PJ g _ _ _ _ d 1 8 0 [(0, .ref q), (1, .int (nI 8))] [] _ _
  refine pl_aload_n (pc := 0) dJ2_init_0 rfl rfl ?_
  refine pl_callIv (pc := 1) (As := []) (C1 := 0) (N1 := 0) (C2 := 1) (N2 := 8) mdJ1_init rfl q200 q201 q128 dJ2_init_1 rfl rfl (Nat.le_of_ble_eq_true rfl) (k_J1_init (d := d - 1) (by omega) hm) (by omega) (by omega) (by omega) ?_
  refine pl_iload_n (pc := 4) dJ2_init_4 rfl rfl ?_
  refine pj_if_le (pc := 5) (tgt := 19) dJ2_init_5 (by decide) (fun h => absurd h (by decide)) (fun _ => ?_)
  refine pl_aload_n (pc := 8) dJ2_init_8 rfl rfl ?_
  refine pl_iload_n (pc := 9) dJ2_init_9 rfl rfl ?_
  refine pj_newq (pc := 10) (C1 := 0) (N1 := 0) (t0 := 5) (N9 := 8) dJ2_init_10 q207 q208 rfl (by decide) (by decide) (by decide) (by omega) (by omega) (fun q_10 hn_10 gq_10 => ?_)
  have hne : q ≠ q_10 := fun z => by rw [← z, mset_s] at hn_10; cases hn_10
  refine pj_putf (pc := 13) ckJ2 1 q550 dJ2_init_13 (by decide) rfl ((mset_n hne).trans mset_s) rfl rfl (Nat.le_of_ble_eq_true rfl) ?_
  refine pj_goto (pc := 16) (tgt := 60) dJ2_init_16 (by decide) ?_
  refine pj_vret (pc := 60) dJ2_init_60 rfl ?_
  exact ⟨rfl, q_10, by rw [mset_n (Ne.symm hne)] at hn_10; exact hn_10, Ne.symm hne, by rw [mset_c hne, mset_m]; rfl⟩
set_option maxHeartbeats 600000 in
theorem k_J2_init_96 {g : GP} {μ : Mem} {d : Nat} (hd : 4 ≤ d) {q : Nat} {m9 : Int32} (hm : μ q = some (.inr (2, [.int m9, .null, .int 0]))) : PM g yJ2_init (ws_ yJ2_init cJ2_init 2 none) d 1 96 [.ref q, .int (nI 96)] μ (WQ none (fun M => ∃ e9, μ e9 = none ∧ e9 ≠ q ∧ M = mset (mset μ e9 (lstA g 96 (fun _ => none))) q (.inr (2, [.int (nI 0), .ref e9, .int 0])))) := by
  refine PM.of (by decide +kernel) (Nat.le_of_ble_eq_true rfl) ?_
  refine PJ.ok (fun G => ?_)
  show PJ g _ _ _ _ d 1 96 0 [(0, .ref q), (1, .int (nI 96))] [] _ _
  refine pl_aload_n (pc := 0) dJ2_init_0 rfl rfl ?_
  refine pl_callIv (pc := 1) (As := []) (C1 := 0) (N1 := 0) (C2 := 1) (N2 := 96) mdJ1_init rfl q200 q201 q128 dJ2_init_1 rfl rfl (Nat.le_of_ble_eq_true rfl) (k_J1_init (d := d - 1) (by omega) hm) (by omega) (by omega) (by omega) ?_
  refine pl_iload_n (pc := 4) dJ2_init_4 rfl rfl ?_
  refine pj_if_le (pc := 5) (tgt := 19) dJ2_init_5 (by decide) (fun h => absurd h (by decide)) (fun _ => ?_)
  refine pl_aload_n (pc := 8) dJ2_init_8 rfl rfl ?_
  refine pl_iload_n (pc := 9) dJ2_init_9 rfl rfl ?_
  refine pj_newq (pc := 10) (C1 := 0) (N1 := 0) (t0 := 5) (N9 := 96) dJ2_init_10 q207 q208 rfl (by decide) (by decide) (by decide) (by omega) (by omega) (fun q_10 hn_10 gq_10 => ?_)
  have hne : q ≠ q_10 := fun z => by rw [← z, mset_s] at hn_10; cases hn_10
  refine pj_putf (pc := 13) ckJ2 1 q550 dJ2_init_13 (by decide) rfl ((mset_n hne).trans mset_s) rfl rfl (Nat.le_of_ble_eq_true rfl) ?_
  refine pj_goto (pc := 16) (tgt := 60) dJ2_init_16 (by decide) ?_
  refine pj_vret (pc := 60) dJ2_init_60 rfl ?_
  exact ⟨rfl, q_10, by rw [mset_n (Ne.symm hne)] at hn_10; exact hn_10, Ne.symm hne, by rw [mset_c hne, mset_m]; rfl⟩
