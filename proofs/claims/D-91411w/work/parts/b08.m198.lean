set_option maxRecDepth 100000
/-! ===== what a text's codes compute ===== -/
abbrev Fb4 : Type := Int32 → Int32 → Int32 → Int32 → Bool
def stpL (wk so pe gr : Int32) (c : Cd) (st : List Int32) : Option (List Int32) :=
  if c.1 = 0 then some (c.2 :: st)
  else if c.1 = 15 then some (tolW wk so pe gr c.2 :: st)
  else if c.1 = 11 then (match st with
    | a :: s => some ((nI 1 - a) :: s)
    | [] => none)
  else if c.1 = 8 then (match st with
    | b :: a :: x :: s => some ((if x = nI 1 then a else b) :: s)
    | _ => none)
  else (match st with
    | b :: a :: s => some (workedV (nI c.1) a b :: s)
    | _ => none)
def runL (wk so pe gr : Int32) : List Cd → List Int32 → Option (List Int32)
  | [], st => some st
  | c :: L, st => (stpL wk so pe gr c st).bind (runL wk so pe gr L)
theorem runL_app {wk so pe gr : Int32} : ∀ (L1 L2 : List Cd) (st : List Int32), runL wk so pe gr (L1 ++ L2) st = (runL wk so pe gr L1 st).bind (runL wk so pe gr L2)
  | [], L2, st => rfl
  | c :: L1, L2, st => by
    show (stpL wk so pe gr c st).bind (runL wk so pe gr (L1 ++ L2)) = ((stpL wk so pe gr c st).bind (runL wk so pe gr L1)).bind (runL wk so pe gr L2)
    cases stpL wk so pe gr c st with
    | none => rfl
    | some s => exact runL_app L1 L2 s
def DenE (L : List Cd) (f : Fn4) : Prop := (∀ c ∈ L, c.1 < 16) ∧ ∀ (wk so pe gr : Int32) (st : List Int32), runL wk so pe gr L st = some (f wk so pe gr :: st)
def DenT (L : List Cd) (t : Fb4) : Prop := (∀ c ∈ L, c.1 < 16) ∧ ∀ (wk so pe gr : Int32) (st : List Int32), runL wk so pe gr L st = some (bI (t wk so pe gr) :: st)
theorem st_num {wk so pe gr v : Int32} {st : List Int32} : stpL wk so pe gr (0, v) st = some (v :: st) := rfl
theorem st_told {wk so pe gr v : Int32} {st : List Int32} : stpL wk so pe gr (15, v) st = some (tolW wk so pe gr v :: st) := rfl
theorem st_not {wk so pe gr v a : Int32} {st : List Int32} : stpL wk so pe gr (11, v) (a :: st) = some ((nI 1 - a) :: st) := rfl
theorem st_if {wk so pe gr v a b x : Int32} {st : List Int32} : stpL wk so pe gr (8, v) (b :: a :: x :: st) = some ((if x = nI 1 then a else b) :: st) := rfl
theorem st_op {wk so pe gr v a b : Int32} {k : Nat} {st : List Int32} (h0 : k ≠ 0) (h1 : k ≠ 15) (h2 : k ≠ 11) (h3 : k ≠ 8) : stpL wk so pe gr (k, v) (b :: a :: st) = some (workedV (nI k) a b :: st) := by
  unfold stpL
  rw [if_neg (show ¬ ((k, v) : Cd).1 = 0 from h0), if_neg (show ¬ ((k, v) : Cd).1 = 15 from h1), if_neg (show ¬ ((k, v) : Cd).1 = 11 from h2), if_neg (show ¬ ((k, v) : Cd).1 = 8 from h3)]
theorem run_one {wk so pe gr : Int32} {c : Cd} {st s1 : List Int32} (h : stpL wk so pe gr c st = some s1) : runL wk so pe gr [c] st = some s1 := by
  show (stpL wk so pe gr c st).bind (runL wk so pe gr []) = _
  rw [h]
  rfl
theorem in_snoc {L : List Cd} {c : Cd} (h : ∀ x ∈ L, x.1 < 16) (hc : c.1 < 16) : ∀ x ∈ L ++ [c], x.1 < 16 := fun x hx => by
  rcases List.mem_append.mp hx with z | z
  · exact h x z
  · rw [List.mem_singleton.mp z]; exact hc
theorem in_app {L1 L2 : List Cd} (h1 : ∀ x ∈ L1, x.1 < 16) (h2 : ∀ x ∈ L2, x.1 < 16) : ∀ x ∈ L1 ++ L2, x.1 < 16 := fun x hx => (List.mem_append.mp hx).elim (h1 x) (h2 x)
theorem DenE.num (v : Int32) : DenE [(0, v)] (fun _ _ _ _ => v) := ⟨fun c hc => by rw [List.mem_singleton.mp hc]; exact (show (0 : Nat) < 16 by decide), fun _ _ _ _ _ => rfl⟩
theorem DenE.told (v : Int32) : DenE [(15, v)] (fun wk so pe gr => tolW wk so pe gr v) := ⟨fun c hc => by rw [List.mem_singleton.mp hc]; exact (show (15 : Nat) < 16 by decide), fun _ _ _ _ _ => rfl⟩
theorem DenE.op {L1 L2 : List Cd} {f1 f2 : Fn4} {k : Nat} {v : Int32} (h1 : DenE L1 f1) (h2 : DenE L2 f2) (hk : k < 16) (k0 : k ≠ 0) (k1 : k ≠ 15) (k2 : k ≠ 11) (k3 : k ≠ 8) : DenE (L1 ++ (L2 ++ [(k, v)])) (fun w x y z => workedV (nI k) (f1 w x y z) (f2 w x y z)) := by
  refine ⟨in_app h1.1 (in_snoc h2.1 hk), fun wk so pe gr st => ?_⟩
  rw [runL_app, h1.2]
  show runL wk so pe gr (L2 ++ [(k, v)]) _ = _
  rw [runL_app, h2.2]
  exact run_one (st_op k0 k1 k2 k3)
theorem DenE.cg {L : List Cd} {f f1 : Fn4} (h : DenE L f) (e : ∀ w x y z, f w x y z = f1 w x y z) : DenE L f1 := ⟨h.1, fun wk so pe gr st => by rw [h.2, e]⟩
theorem DenT.cg {L : List Cd} {f f1 : Fb4} (h : DenT L f) (e : ∀ w x y z, f w x y z = f1 w x y z) : DenT L f1 := ⟨h.1, fun wk so pe gr st => by rw [h.2, e]⟩
theorem bI_not : ∀ b : Bool, nI 1 - bI b = bI (!b) := by decide
theorem bI_and : ∀ b c : Bool, bI b &&& bI c = bI (b && c) := by decide
theorem bI_or : ∀ b c : Bool, bI b ||| bI c = bI (b || c) := by decide
theorem DenT.neg {L : List Cd} {t : Fb4} {v : Int32} (h : DenT L t) : DenT (L ++ [(11, v)]) (fun w x y z => !(t w x y z)) := by
  refine ⟨in_snoc h.1 (show (11 : Nat) < 16 by decide), fun wk so pe gr st => ?_⟩
  rw [runL_app, h.2]
  show runL wk so pe gr [(11, v)] (bI (t wk so pe gr) :: st) = _
  exact run_one (st_not.trans (by rw [bI_not]))
theorem wV_and {a b : Int32} : workedV (nI 9) a b = a &&& b := by unfold workedV; rw [if_neg (by decide), if_neg (by decide), if_neg (by decide), if_neg (by decide), if_neg (by decide), if_neg (by decide), if_neg (by decide), if_neg (by decide), if_pos rfl]
theorem wV_or {a b : Int32} : workedV (nI 10) a b = a ||| b := by unfold workedV; rw [if_neg (by decide), if_neg (by decide), if_neg (by decide), if_neg (by decide), if_neg (by decide), if_neg (by decide), if_neg (by decide), if_neg (by decide), if_neg (by decide), if_pos rfl]
theorem DenT.and {L1 L2 : List Cd} {t1 t2 : Fb4} {v : Int32} (h1 : DenT L1 t1) (h2 : DenT L2 t2) : DenT (L1 ++ (L2 ++ [(9, v)])) (fun w x y z => t1 w x y z && t2 w x y z) := by
  refine ⟨in_app h1.1 (in_snoc h2.1 (show (9 : Nat) < 16 by decide)), fun wk so pe gr st => ?_⟩
  rw [runL_app, h1.2]
  show runL wk so pe gr (L2 ++ [(9, v)]) _ = _
  rw [runL_app, h2.2]
  show runL wk so pe gr [(9, v)] (bI (t2 wk so pe gr) :: bI (t1 wk so pe gr) :: st) = _
  exact run_one ((st_op (k := 9) (by decide) (by decide) (by decide) (by decide)).trans (by rw [wV_and, bI_and]))
theorem DenT.or {L1 L2 : List Cd} {t1 t2 : Fb4} {v : Int32} (h1 : DenT L1 t1) (h2 : DenT L2 t2) : DenT (L1 ++ (L2 ++ [(10, v)])) (fun w x y z => t1 w x y z || t2 w x y z) := by
  refine ⟨in_app h1.1 (in_snoc h2.1 (show (10 : Nat) < 16 by decide)), fun wk so pe gr st => ?_⟩
  rw [runL_app, h1.2]
  show runL wk so pe gr (L2 ++ [(10, v)]) _ = _
  rw [runL_app, h2.2]
  show runL wk so pe gr [(10, v)] (bI (t2 wk so pe gr) :: bI (t1 wk so pe gr) :: st) = _
  exact run_one ((st_op (k := 10) (by decide) (by decide) (by decide) (by decide)).trans (by rw [wV_or, bI_or]))
theorem DenT.of {L1 L2 : List Cd} {f1 f2 : Fn4} {t : Fb4} {k : Nat} {v : Int32} (h1 : DenE L1 f1) (h2 : DenE L2 f2) (hk : k < 16) (k0 : k ≠ 0) (k1 : k ≠ 15) (k2 : k ≠ 11) (k3 : k ≠ 8) (e : ∀ w x y z, workedV (nI k) (f1 w x y z) (f2 w x y z) = bI (t w x y z)) : DenT (L1 ++ (L2 ++ [(k, v)])) t := by
  have h := DenE.op (v := v) h1 h2 hk k0 k1 k2 k3
  exact ⟨h.1, fun wk so pe gr st => (h.2 wk so pe gr st).trans (by show some (workedV (nI k) (f1 wk so pe gr) (f2 wk so pe gr) :: st) = _; rw [e])⟩
theorem DenE.ite {L L1 L2 : List Cd} {t : Fb4} {f1 f2 : Fn4} {v : Int32} (h : DenT L t) (h1 : DenE L1 f1) (h2 : DenE L2 f2) : DenE (L ++ (L1 ++ (L2 ++ [(8, v)]))) (fun w x y z => if t w x y z = true then f1 w x y z else f2 w x y z) := by
  refine ⟨in_app h.1 (in_app h1.1 (in_snoc h2.1 (show (8 : Nat) < 16 by decide))), fun wk so pe gr st => ?_⟩
  rw [runL_app, h.2]
  show runL wk so pe gr (L1 ++ (L2 ++ [(8, v)])) _ = _
  rw [runL_app, h1.2]
  show runL wk so pe gr (L2 ++ [(8, v)]) _ = _
  rw [runL_app, h2.2]
  show runL wk so pe gr [(8, v)] (f2 wk so pe gr :: f1 wk so pe gr :: bI (t wk so pe gr) :: st) = _
  refine run_one (st_if.trans ?_)
  show some ((if bI (t wk so pe gr) = nI 1 then f1 wk so pe gr else f2 wk so pe gr) :: st) = some ((if t wk so pe gr = true then f1 wk so pe gr else f2 wk so pe gr) :: st)
  cases t wk so pe gr
  · rw [if_neg (show ¬ bI false = nI 1 by decide), if_neg (by decide)]
  · rw [if_pos (show bI true = nI 1 by decide), if_pos rfl]
/-! ===== and how the model runs them ===== -/
def RepP (pile : Nat → Int32) : Nat → List Int32 → Prop
  | top, [] => top = 0
  | top, v :: s => ∃ t, top = t + 1 ∧ pile t = v ∧ RepP pile t s
theorem RepP.up {pile : Nat → Int32} {j : Nat} {v : Int32} : ∀ (s : List Int32) (t : Nat), t ≤ j → RepP pile t s → RepP (upd pile j v) t s
  | [], _, _, h => h
  | a :: s, t, hj, ⟨t1, e1, e2, e3⟩ => ⟨t1, e1, by show (if t1 = j then v else pile t1) = a; rw [if_neg (by omega)]; exact e2, RepP.up s t1 (by omega) e3⟩
theorem RepP.push {pile : Nat → Int32} {s : List Int32} {t : Nat} {v : Int32} (h : RepP pile t s) : RepP (upd pile t v) (t + 1) (v :: s) := ⟨t, rfl, by show (if t = t then v else pile t) = v; rw [if_pos rfl], h.up _ _ (Nat.le_refl _)⟩
theorem vs_step {σ : MS} {wk so pe gr : Int32} {k top : Nat} {pile : Nat → Int32} {c : Cd} {st s1 : List Int32} (hc : cd σ k = nI c.1) (hm : nm σ k = c.2) (h16 : c.1 < 16) (h : stpL wk so pe gr c st = some s1) (hr : RepP pile top st) (ht : top < 400) : ∃ top1 pile1, vstep σ wk so pe gr k top pile = some (top1, pile1) ∧ RepP pile1 top1 s1 ∧ top1 ≤ top + 1 := by
  have hne : ∀ j, j < 100 → c.1 ≠ j → ¬ nI c.1 = nI j := fun j hj z e => z ((nI_eq (by omega) (by omega)).mp e)
  unfold stpL at h
  unfold vstep
  rw [hc, hm]
  by_cases c0 : c.1 = 0
  · rw [if_pos c0] at h
    cases h
    rw [c0, if_pos (show nI 0 = (0 : Int32) from rfl), if_pos ht]
    exact ⟨_, _, rfl, hr.push, Nat.le_refl _⟩
  · rw [if_neg c0] at h
    rw [if_neg (show ¬ nI c.1 = (0 : Int32) from hne 0 (by decide) c0)]
    by_cases c15 : c.1 = 15
    · rw [if_pos c15] at h
      cases h
      rw [c15, if_pos rfl, if_pos ht]
      exact ⟨_, _, rfl, hr.push, Nat.le_refl _⟩
    · rw [if_neg c15] at h
      rw [if_neg (hne 15 (by decide) c15)]
      by_cases c11 : c.1 = 11
      · rw [if_pos c11] at h
        rcases st with _ | ⟨a, s⟩
        · cases h
        · cases h
          obtain ⟨t, rfl, e1, e2⟩ := hr
          rw [c11, if_pos rfl, if_pos (by omega)]
          refine ⟨_, _, rfl, ?_, by omega⟩
          rw [show t + 1 - 1 = t from rfl, e1]
          exact e2.push
      · rw [if_neg c11] at h
        rw [if_neg (hne 11 (by decide) c11)]
        by_cases c8 : c.1 = 8
        · rw [if_pos c8] at h
          rcases st with _ | ⟨b, _ | ⟨a, _ | ⟨x, s⟩⟩⟩
          · cases h
          · cases h
          · cases h
          · cases h
            obtain ⟨t2, rfl, e1, t1, rfl, e2, t, rfl, e3, e4⟩ := hr
            rw [c8, if_pos rfl, if_pos (by omega)]
            refine ⟨_, _, rfl, ?_, by omega⟩
            rw [show t + 1 + 1 + 1 - 2 - 1 = t by omega, show t + 1 + 1 + 1 - 2 + 1 = t + 1 + 1 by omega, show t + 1 + 1 + 1 - 2 = t + 1 by omega, e1, e2, e3]
            exact e4.push
        · rw [if_neg c8] at h
          rw [if_neg (hne 8 (by decide) c8)]
          rcases st with _ | ⟨b, _ | ⟨a, s⟩⟩
          · cases h
          · cases h
          · cases h
            obtain ⟨t1, rfl, e1, t, rfl, e2, e3⟩ := hr
            rw [if_pos (by omega)]
            refine ⟨_, _, rfl, ?_, by omega⟩
            rw [show t + 1 + 1 - 1 - 1 = t by omega, show t + 1 + 1 - 1 = t + 1 by omega, e1, e2]
            exact e3.push
theorem vrun_run {σ : MS} {wk so pe gr : Int32} : ∀ (L : List Cd) (k top m : Nat) (pile : Nat → Int32) (st st1 : List Int32), runL wk so pe gr L st = some st1 → (∀ c ∈ L, c.1 < 16) → (∀ i, i < L.length → cd σ (k + i) = nI (L.getD i (0, 0)).1 ∧ nm σ (k + i) = (L.getD i (0, 0)).2) → RepP pile top st → top + L.length ≤ 400 → k + L.length ≤ 4800 → ∃ top1 pile1, RepP pile1 top1 st1 ∧ vrun σ wk so pe gr (L.length + m) k top pile = vrun σ wk so pe gr m (k + L.length) top1 pile1
  | [], k, top, m, pile, st, st1, h, _, _, hr, _, _ => by
    cases h
    exact ⟨top, pile, hr, by rw [show ([] : List Cd).length + m = m from Nat.zero_add m]; rfl⟩
  | c :: L, k, top, m, pile, st, st1, h, hc, hm, hr, ht, hk => by
    have h : (stpL wk so pe gr c st).bind (runL wk so pe gr L) = some st1 := h
    have hlen : (c :: L).length = L.length + 1 := rfl
    rw [hlen] at ht hk
    obtain ⟨s1, h1, h2⟩ := Option.bind_eq_some_iff.mp h
    obtain ⟨m1, m2⟩ := hm 0 (by rw [hlen]; omega)
    have m1 : cd σ k = nI c.1 := m1
    have m2 : nm σ k = c.2 := m2
    have c16 := hc c (List.mem_cons_self)
    obtain ⟨t1, p1, v1, r1, u1⟩ := vs_step m1 m2 c16 h1 hr (by omega)
    obtain ⟨t2, p2, r2, e2⟩ := vrun_run L (k + 1) t1 m p1 s1 st1 h2 (fun x hx => hc x (List.mem_cons_of_mem _ hx)) (fun i hi => by
      have := hm (i + 1) (by rw [hlen]; omega)
      rw [show k + 1 + i = k + (i + 1) by omega]
      exact this) r1 (by omega) (by omega)
    refine ⟨t2, p2, r2, ?_⟩
    rw [hlen, show L.length + 1 + m = (L.length + m) + 1 by omega, show k + (L.length + 1) = k + 1 + L.length by omega, ← e2]
    show (if k < 4800 then (if cd σ k = nI 16 then some (pile 0, pile) else (vstep σ wk so pe gr k top pile).bind fun q => vrun σ wk so pe gr (L.length + m) (k + 1) q.1 q.2) else none) = _
    rw [if_pos (by omega), if_neg (by rw [m1]; exact fun z => absurd ((nI_eq (by omega) (by omega)).mp z) (by omega)), v1]
    rfl
/-- a law's codes for a name, run -/
theorem DenE.vrun {σ : MS} {L : List Cd} {f : Fn4} {k : Nat} (h : DenE L f) (hk : k + L.length < 4800) (hl : L.length < 400) (hm : ∀ i, i < (L ++ [(16, nI 0)]).length → cd σ (k + i) = nI ((L ++ [(16, nI 0)]).getD i (0, 0)).1 ∧ nm σ (k + i) = ((L ++ [(16, nI 0)]).getD i (0, 0)).2) (wk so pe gr : Int32) (pile : Nat → Int32) : ∃ p1, vrun σ wk so pe gr 4800 k 0 pile = some (f wk so pe gr, p1) := by
  have hlen : (L ++ [((16, nI 0) : Cd)]).length = L.length + 1 := by simp
  obtain ⟨t1, p1, r1, e1⟩ := vrun_run (σ := σ) L k 0 (4800 - L.length) pile [] _ (h.2 wk so pe gr []) h.1 (fun i hi => by
    have := hm i (by omega)
    rw [getD_app hi] at this
    exact this) rfl (by omega) (by omega)
  obtain ⟨t, rfl, e2, e3⟩ := r1
  have e3 : t = 0 := e3
  subst e3
  refine ⟨p1, ?_⟩
  rw [show L.length + (4800 - L.length) = 4800 by omega] at e1
  rw [e1]
  have h16 := (hm L.length (by omega)).1
  rw [show (L ++ [((16, nI 0) : Cd)]).getD L.length (0, 0) = (16, nI 0) by rw [show L.length = L.length + 0 from rfl, getD_app2]; rfl] at h16
  obtain ⟨m, hm9⟩ : ∃ m, 4800 - L.length = m + 1 := ⟨4800 - L.length - 1, by omega⟩
  rw [hm9]
  show (if k + L.length < 4800 then (if cd σ (k + L.length) = nI 16 then some (p1 0, p1) else _) else none) = _
  rw [if_pos hk, if_pos h16, e2]
