set_option maxRecDepth 100000
theorem zq_of {g : GP} (G : OkG g) {s : State} (wk : WK g s) {n d9 : String} (h1 : (Cond.laysStatic Bundle.tN n d9).before #[Value.ref (gb g)] (gS g) = true) (h2 : (Cond.isRef (.static Bundle.tN n d9)).before #[Value.ref (gb g)] (gS g) = true) (h3 : (Cond.initialized Bundle.tN).before #[Value.ref (gb g)] (gS g) = true) : vx_Zq Bundle.tN n d9 (gF g) s s.heap :=
  vx_Zq.moved wk.1.alike (vx_Zq.kept (vx_Zqof h1 h3 h2 (fun a ha => Nat.not_le.mpr ha)) (fun a ha _ => wk.2.2 a ha))
/-- words that hold at the start and are told by what is never changed -/
def dcW (w : Cond) : Bool := match w with | .declares _ => true | .castable _ _ => true | _ => false
theorem at_start {g : GP} (G : OkG g) {s : State} (wk : WK g s) {w : Cond} (hw : w ∈ lw_tbl) (hk : dcW w = true) (args : Array Value) : w.before args s = true := by
  have h := G.2.2.1 w hw
  have hk2 : (∃ x, w = .declares x) ∨ ∃ a b, w = .castable a b := by
    unfold dcW at hk
    split at hk
    · exact Or.inl ⟨_, rfl⟩
    · exact Or.inr ⟨_, _, rfl⟩
    · cases hk
  have h2 : w.before #[Value.ref (gb g)] ((gS g).setVm s.vm) = true := by
    rcases hk2 with ⟨x, e⟩ | ⟨a, b, e⟩ <;> subst e
    · rw [Cond.declares_setVm wk.1.alike]; exact h
    · rw [Cond.castable_setVm wk.1.alike]; exact h
  exact va_tabs (c := w) (by rcases hk2 with ⟨x, e⟩ | ⟨a, b, e⟩ <;> (subst e; rfl)) (u := (gS g).setVm s.vm) (U := s) rfl h2
section MK
variable {g : GP} {own : String} {cc : ByteArray} {nL : Nat} {i : MI} {d C N pc : Nat} {ls : List (Nat × Value)} {rest : List Value} {μ : Mem} {Q : OC → Mem → Prop}
theorem pj_make0 {ci ik ic C1 N1 : Nat} {E : String} {Tn : u_T} {ty : Nat → FieldType} (names : List String) (cl : CLk ci E Tn 0 ty) (hcls : Bundle.fit E = true) (hnames : ∀ n ∈ names, Bundle.fit n = true) (hk : Cond.classLink own ik E ∈ lw_all) (hini : Cond.initialized E ∈ lw_all) (hat : ∀ w ∈ vx_at0 own ic E names, w ∈ lw_all ∨ (w ∈ lw_tbl ∧ dcW w = true)) (hgood : ∀ w ∈ Cond.classLink own ik E :: Cond.initialized E :: vx_at0 own ic E names, vx_ot w = true)
    (d0 : decode cc pc = .ok (.new ik, 3)) (d3 : decode cc (pc + 3) = .ok (.dup, 1)) (d4 : decode cc (pc + 4) = .ok (.invokespecial ic, 3)) (hd : names.length + 3 < d) (hn5 : names.length ≤ 5) (hr8 : (rest.map fun v => v.category).sum ≤ 8) (hC : C1 + 1 ≤ C) (hN : N1 + 6 ≤ N) (kk : ∀ q : Nat, μ q = none → gF g q → PJ g own cc nL i d C1 N1 (pc + 7) ls (.ref q :: rest) (mset μ q (.inr (ci, []))) Q) : PJ g own cc nL i d C N pc ls rest μ Q := by
  intro G p e R s m args below meth c E9 H locs cells slots K K9 B arr hl9
  obtain ⟨ws, hP, hD, hmm⟩ := Sim.list B.2.2.2.2.1
  have hr := B.room (C1 := 1) (C2 := C1) (N1 := 6) (N2 := N1) (by omega) (by omega)
  have wk := E9.2.2.2.2.2.2.2.2.2.1
  have hfr := E9.2.2.2.2.2.2.2.2.2.2.1
  have hlo := E9.2.2.2.2.2.2.2.2.2.2.2
  have hst : (gL g).stackTraces = false := by
    unfold Launch.stackTraces
    rw [G.1]
    decide
  have i0 : (Cond.initialized Bundle.tN).before #[Value.ref (gb g)] (gS g) = true := G.2.2.1 _ (List.mem_filter.mp q130).1
  have zU := zq_of (n := "UNASSIGNED_STACK") (d9 := Bundle.steD) G wk (G.2.2.1 _ q238) (nr_leaf G [7, 1, 1] (by decide +kernel)) i0
  have zS := zq_of (n := "SUPPRESSED_SENTINEL") (d9 := Bundle.listD) G wk (G.2.2.1 _ q240) (nr_leaf G [7, 1, 0, 0] (by decide +kernel)) i0
  refine vx_make0 E9.1 E9.2.1 hst E9.2.2.2.1 hcls hnames (E9.2.2.2.2.1 _ hk) (E9.2.2.2.2.1 _ hini) (fun w hw => (hat w hw).elim (fun z => E9.2.2.2.2.1 w z) (fun z => at_start G wk z.1 z.2 _)) hgood zU zS B.2.2.2.2.2 (hl9.1.trans E9.2.2.1.symm) d0 d3 d4 (G.K wk) hP hD (gF_of wk) cl.2.1 (by rw [hfr]; exact hd) (by rw [hlo]; omega) hr.1 hr.2 (fun q H1 hP1 hD1 hS1 => ?_)
  obtain ⟨k1, k2, k3⟩ := Sim.push hmm hP1 hD1
  exact kk q k2 k3 G p e R s m args below meth c E9 H1 locs (cells + 1) (slots + 6) K K9 (B.made hC hN k1 hS1) arr hl9
end MK
theorem at0_E6 : ∀ w ∈ vx_at0 "SettlerColony" 67 "java/lang/IllegalArgumentException" ["java/lang/RuntimeException", "java/lang/Exception"], w ∈ lw_all ∨ (w ∈ lw_tbl ∧ dcW w = true) := by
  have h : (vx_at0 "SettlerColony" 67 "java/lang/IllegalArgumentException" ["java/lang/RuntimeException", "java/lang/Exception"]).all (fun w => decide (w ∈ lw_tbl) && (goodWord w || dcW w)) = true := by decide +kernel
  intro w hw
  have h1 := List.all_eq_true.mp h w hw
  simp only [Bool.and_eq_true, decide_eq_true_eq, Bool.or_eq_true] at h1
  rcases h1.2 with h2 | h2
  · exact Or.inl (List.mem_filter.mpr ⟨h1.1, h2⟩)
  · exact Or.inr ⟨h1.1, h2⟩
theorem ot0_E6 : ∀ w ∈ Cond.classLink "SettlerColony" 65 "java/lang/IllegalArgumentException" :: Cond.initialized "java/lang/IllegalArgumentException" :: vx_at0 "SettlerColony" 67 "java/lang/IllegalArgumentException" ["java/lang/RuntimeException", "java/lang/Exception"], vx_ot w = true := by decide +kernel
theorem at0_E23 : ∀ w ∈ vx_at0 "SettlerColony" 70 "java/lang/IllegalStateException" ["java/lang/RuntimeException", "java/lang/Exception"], w ∈ lw_all ∨ (w ∈ lw_tbl ∧ dcW w = true) := by
  have h : (vx_at0 "SettlerColony" 70 "java/lang/IllegalStateException" ["java/lang/RuntimeException", "java/lang/Exception"]).all (fun w => decide (w ∈ lw_tbl) && (goodWord w || dcW w)) = true := by decide +kernel
  intro w hw
  have h1 := List.all_eq_true.mp h w hw
  simp only [Bool.and_eq_true, decide_eq_true_eq, Bool.or_eq_true] at h1
  rcases h1.2 with h2 | h2
  · exact Or.inl (List.mem_filter.mpr ⟨h1.1, h2⟩)
  · exact Or.inr ⟨h1.1, h2⟩
theorem ot0_E23 : ∀ w ∈ Cond.classLink "SettlerColony" 68 "java/lang/IllegalStateException" :: Cond.initialized "java/lang/IllegalStateException" :: vx_at0 "SettlerColony" 70 "java/lang/IllegalStateException" ["java/lang/RuntimeException", "java/lang/Exception"], vx_ot w = true := by decide +kernel
theorem at0_E20 : ∀ w ∈ vx_at0 "SettlerColony" 73 "java/lang/IndexOutOfBoundsException" ["java/lang/RuntimeException", "java/lang/Exception"], w ∈ lw_all ∨ (w ∈ lw_tbl ∧ dcW w = true) := by
  have h : (vx_at0 "SettlerColony" 73 "java/lang/IndexOutOfBoundsException" ["java/lang/RuntimeException", "java/lang/Exception"]).all (fun w => decide (w ∈ lw_tbl) && (goodWord w || dcW w)) = true := by decide +kernel
  intro w hw
  have h1 := List.all_eq_true.mp h w hw
  simp only [Bool.and_eq_true, decide_eq_true_eq, Bool.or_eq_true] at h1
  rcases h1.2 with h2 | h2
  · exact Or.inl (List.mem_filter.mpr ⟨h1.1, h2⟩)
  · exact Or.inr ⟨h1.1, h2⟩
theorem ot0_E20 : ∀ w ∈ Cond.classLink "SettlerColony" 71 "java/lang/IndexOutOfBoundsException" :: Cond.initialized "java/lang/IndexOutOfBoundsException" :: vx_at0 "SettlerColony" 73 "java/lang/IndexOutOfBoundsException" ["java/lang/RuntimeException", "java/lang/Exception"], vx_ot w = true := by decide +kernel
