set_option maxRecDepth 100000
/-- the arrays of a law's codes are not the class's own -/
def OkD (t : Nat × Nat × Nat) : Prop := t.1 = 0 → t.2.1 ≠ 8 ∧ t.2.1 ≠ 9 ∧ t.2.1 ≠ 10 ∧ t.2.1 ≠ 11
theorem OkD.it {p : Prop} [Decidable p] {a b : Nat × Nat × Nat} (h : OkD a) (k : OkD b) : OkD (if p then a else b) := by
  by_cases c : p
  · rw [if_pos c]; exact h
  · rw [if_neg c]; exact k
theorem OkD.a {x y : Nat} (h : x ≠ 8 ∧ x ≠ 9 ∧ x ≠ 10 ∧ x ≠ 11) : OkD (0, x, y) := fun _ => h
theorem OkD.o {c x y : Nat} (h : c ≠ 0) : OkD (c, x, y) := fun z => absurd z h
theorem TXd_ok {w k i j : Nat} : OkD (TX w k i j) := by
  match k with
  | 0 => exact (OkD.it (OkD.o (by decide)) (OkD.it (OkD.o (by decide)) (OkD.it (OkD.a (by decide)) (OkD.it (OkD.o (by decide)) (OkD.it (OkD.o (by decide)) (OkD.it (OkD.o (by decide)) (OkD.it (OkD.o (by decide)) (OkD.it (OkD.o (by decide)) (OkD.o (by decide))))))))))
  | 1 => exact (OkD.it (OkD.a (by decide)) (OkD.it (OkD.a (by decide)) (OkD.it (OkD.a (by decide)) (OkD.it (OkD.a (by decide)) (OkD.it (OkD.it (OkD.a (by decide)) (OkD.o (by decide))) (OkD.it (OkD.it (OkD.a (by decide)) (OkD.o (by decide))) (OkD.it (OkD.a (by decide)) (OkD.it (OkD.a (by decide)) (OkD.it (OkD.it (OkD.a (by decide)) (OkD.o (by decide))) (OkD.it (OkD.o (by decide)) (OkD.it (OkD.o (by decide)) (OkD.it (OkD.o (by decide)) (OkD.o (by decide))))))))))))))
  | 2 => exact (OkD.o (by decide))
  | 3 => exact (OkD.o (by decide))
  | 4 => exact (OkD.o (by decide))
  | 5 => exact (OkD.o (by decide))
  | 6 => exact (OkD.o (by decide))
  | 7 => exact (OkD.o (by decide))
  | 8 => exact (OkD.o (by decide))
  | 9 => exact (OkD.o (by decide))
  | 10 => exact (OkD.o (by decide))
  | 11 => exact (OkD.o (by decide))
  | 12 => exact (OkD.o (by decide))
  | 13 => exact (OkD.a (by decide))
  | 14 => exact (OkD.o (by decide))
  | 15 => exact (OkD.a (by decide))
  | 16 => exact (OkD.o (by decide))
  | 17 => exact (OkD.a (by decide))
  | 18 => exact (OkD.o (by decide))
  | 19 => exact (OkD.a (by decide))
  | 20 => exact (OkD.o (by decide))
  | 21 => exact (OkD.a (by decide))
  | 22 => exact (OkD.a (by decide))
  | 23 => exact (OkD.a (by decide))
  | 24 => exact (OkD.a (by decide))
  | 25 => exact (OkD.a (by decide))
  | 26 => exact (OkD.o (by decide))
  | 27 => exact (OkD.a (by decide))
  | 28 => exact (OkD.a (by decide))
  | 29 => exact (OkD.o (by decide))
  | 30 => exact (OkD.o (by decide))
  | 31 => exact (OkD.a (by decide))
  | 32 => exact (OkD.o (by decide))
  | 33 => exact (OkD.o (by decide))
  | 34 => exact (OkD.it (OkD.a (by decide)) (OkD.it (OkD.a (by decide)) (OkD.it (OkD.a (by decide)) (OkD.it (OkD.a (by decide)) (OkD.o (by decide))))))
  | 35 => exact (OkD.it (OkD.o (by decide)) (OkD.it (OkD.it (OkD.a (by decide)) (OkD.o (by decide))) (OkD.it (OkD.a (by decide)) (OkD.it (OkD.a (by decide)) (OkD.it (OkD.a (by decide)) (OkD.it (OkD.o (by decide)) (OkD.it (OkD.o (by decide)) (OkD.it (OkD.a (by decide)) (OkD.it (OkD.a (by decide)) (OkD.it (OkD.a (by decide)) (OkD.o (by decide))))))))))))
  | 36 => exact (OkD.it (OkD.a (by decide)) (OkD.it (OkD.a (by decide)) (OkD.it (OkD.a (by decide)) (OkD.o (by decide)))))
  | 37 => exact (OkD.o (by decide))
  | 38 => exact (OkD.it (OkD.a (by decide)) (OkD.it (OkD.o (by decide)) (OkD.it (OkD.o (by decide)) (OkD.it (OkD.o (by decide)) (OkD.it (OkD.it (OkD.a (by decide)) (OkD.o (by decide))) (OkD.it (OkD.it (OkD.a (by decide)) (OkD.o (by decide))) (OkD.it (OkD.o (by decide)) (OkD.o (by decide)))))))))
  | 39 => exact (OkD.it (OkD.a (by decide)) (OkD.o (by decide)))
  | 40 => exact (OkD.it (OkD.a (by decide)) (OkD.it (OkD.o (by decide)) (OkD.it (OkD.a (by decide)) (OkD.it (OkD.a (by decide)) (OkD.o (by decide))))))
  | 41 => exact (OkD.a (by decide))
  | 42 => exact (OkD.a (by decide))
  | 43 => exact (OkD.a (by decide))
  | 44 => exact (OkD.a (by decide))
  | 45 => exact (OkD.o (by decide))
  | 46 => exact (OkD.o (by decide))
  | 47 => exact (OkD.a (by decide))
  | k9 + 48 => exact (OkD.o (by decide))
theorem VX_law {w : Nat} {S : Nat → Nat → Nat} {b : XS} {σ σ1 : MS} {e : XE} (hz : SzX w S) (hr : ∀ j, mapR j → row σ1 j = row σ j) (ha : ∀ a, a ≠ 1 → a ≠ 2 → a ≠ 13 → a ≠ 14 → a ≠ 8 → a ≠ 9 → a ≠ 10 → a ≠ 11 → σ1.2.1 a = σ.2.1 a) (hf : ∀ x, x = 9 ∨ x = 13 ∨ x = 29 ∨ x = 28 ∨ x = 31 ∨ x = 23 ∨ x = 24 ∨ x = 7 → σ1.1 x = σ.1 x) : VX w S b σ1 e = VX w S b σ e := by
  funext k w' i j
  simp only [VX]
  by_cases hc : w' = wkX w k ∧ i < iNX S w k ∧ j < jNX k
  · rw [if_pos hc, if_pos hc]
    have hi := invX_k (w := w) (i := i) (j := j) (k := k)
    have hd := TXd_ok (w := w) (i := i) (j := j) (k := k)
    simp only [vaX]
    by_cases h0 : (TX w k i j).1 = 0
    · rw [if_pos h0, if_pos h0]
      by_cases h1 : (TX w k i j).2.1 = 1
      · have := hr _ (TXr_ok hz hc.2.1 hc.2.2 h0 h1)
        rw [h1]
        exact this
      · obtain ⟨d1, d2, d3, d4⟩ := hd h0
        rw [ha _ h1 (hi.1 h0).1 (hi.1 h0).2.1 (hi.1 h0).2.2 d1 d2 d3 d4]
    · rw [if_neg h0, if_neg h0]
      by_cases h1 : (TX w k i j).1 = 1
      · rw [if_pos h1, if_pos h1, hf _ (hi.2 h1)]
      · rw [if_neg h1, if_neg h1]
  · rw [if_neg hc, if_neg hc]
section RI
variable {g : GP} {P : Nat → Prop} {F : Mem} {A : XA} {τ : XT} {dn : XD} {ν : XS} {μ M im : Mem}
/-- many fresh cells that never change -/
theorem RX.imm (h : RX g P F A τ dn ν μ) (hm : ∀ a e, μ a = some e → M a = some e) (hi : ∀ a e, im a = some e → M a = some e ∧ μ a = none) : RX g P F A (imU (tIm τ) im, τ.2) dn ν M := by
  obtain ⟨h1, h2, h3, h4, h5, h6, h7⟩ := h
  have hn : ∀ a x, tIm τ a = some x → imU (tIm τ) im a = some x := imU_l
  have hno : ∀ a e, μ a = some e → im a = none := fun a e z => by
    cases hx : im a with
    | none => rfl
    | some y => rw [(hi a y hx).2] at z; cases z
  refine ⟨fun k w i hl => hm _ _ (h1 k w i hl), h2, fun k w i hl => ⟨(h3 _ _ _ hl).1, imU_no (h3 _ _ _ hl).2 (hno _ _ (h1 k w i hl))⟩, fun a x hf => hm _ _ (h4 _ _ hf), fun a x hf => ?_, fun a ha => ⟨(h6 a ha).1, ?_⟩, ?_⟩
  · rcases imU_some hf with z | ⟨-, z⟩
    · exact hm _ _ (h5 _ _ z)
    · exact (hi _ _ z).1
  · obtain ⟨x, hx⟩ := Option.ne_none_iff_exists'.mp (h6 a ha).1
    exact imU_no (h6 a ha).2 (hno _ _ (h4 _ _ hx))
  · exact ⟨fun w s hw hs => (h7.1 w s hw hs).mono hn, fun w hw => ⟨hn _ _ (h7.2.1 w hw).1, hn _ _ (h7.2.1 w hw).2.1, (h7.2.1 w hw).2.2⟩, fun l hl => (h7.2.2.1 l hl).mono hn, ⟨fun k hk => (h7.2.2.2.1 k hk).mono hn, h7.2.2.2.2⟩⟩
def A50 (A : XA) (n q : Nat) : XA := fun k w i => if k = 50 ∧ w = 0 ∧ i = n then q else A k w i
theorem A50_ne {n q k w i : Nat} (h : ¬ (k = 50 ∧ w = 0 ∧ i = n)) : A50 A n q k w i = A k w i := if_neg h
theorem A50_eq {n q : Nat} : A50 A n q 50 0 n = q := if_pos ⟨rfl, rfl, rfl⟩
def dnU (dn : XD) (n : Nat) (x : (Nat → Option Fn4) × Int32) : XD := fun l => if l = n then x else dn l
/-- where the next law's text is -/
theorem RX.txt (h : RX g P F A τ dn ν M) {n q : Nat} {x : (Nat → Option Fn4) × Int32} (hn : ν.2.1 8 0 ≤ n) (h2 : ν.2.1 2 0 ≤ 96 ∧ ν.2.1 2 1 ≤ 96) (h8 : ν.2.1 8 1 ≤ ν.2.1 8 0) (hO : ∀ j, j < ν.2.1 12 0 → tN (ν.1 13 0 0 j) < ν.2.1 4 0) (hQ : ∀ j, j < ν.2.1 14 0 → tN (ν.1 15 0 0 j) < ν.2.1 4 0) : RX g P F (A50 A n q) τ (dnU dn n x) ν M := by
  obtain ⟨h1, hinj, h3, h4, h5, h6, h7⟩ := h
  have kb : ∀ k w i, LvX ν.2.1 k w i → k < 48 := fun k w i hl => by
    have := hl.1
    unfold wNX at this
    split at this
    · omega
    · split at this <;> omega
  have ea : ∀ k w i, LvX ν.2.1 k w i → A50 A n q k w i = A k w i := fun k w i hl => A50_ne (fun z => by have := kb _ _ _ hl; omega)
  have ag : ∀ k w i, (LvX ν.2.1 k w i ∨ (k = 48 ∧ w < 2 ∧ i = 0) ∨ (k = 49 ∧ w < 2 ∧ i = 0) ∨ (k = 50 ∧ w = 0 ∧ i < ν.2.1 8 0) ∨ (k = 51 ∧ w = 0 ∧ i < ν.2.1 16 0) ∨ (k = 32 ∨ k = 25)) → A50 A n q k w i = A k w i := fun k w i hl => by
    rcases hl with z | z | z | z | z | z
    · exact ea _ _ _ z
    · exact A50_ne (by omega)
    · exact A50_ne (by omega)
    · exact A50_ne (by omega)
    · exact A50_ne (by omega)
    · exact A50_ne (by omega)
  have ec : ∀ k w i, LvX ν.2.1 k w i → celX g (A50 A n q) τ ν k w i = celX g A τ ν k w i := fun k w i hl => by
    by_cases c : (k = 4 ∧ w = 0) ∨ (k = 5 ∧ w = 0)
    · exact celX_ag (kl := 6) (wl := 0) (A1 := A50 A n q) (τ1 := τ) (ν1 := ν) (by decide) (fun k9 w9 i9 h9 _ => ag _ _ _ h9) (fun _ _ _ _ => rfl) rfl (fun _ _ _ => rfl) rfl (fun _ _ _ => ⟨rfl, rfl⟩) h2 h8 hO hQ k w i hl (by omega) (by omega)
    · exact celX_ag (kl := 4) (wl := 0) (A1 := A50 A n q) (τ1 := τ) (ν1 := ν) (by decide) (fun k9 w9 i9 h9 _ => ag _ _ _ h9) (fun _ _ _ _ => rfl) rfl (fun _ _ _ => rfl) rfl (fun _ _ _ => ⟨rfl, rfl⟩) h2 h8 hO hQ k w i hl (by omega) (by omega)
  refine ⟨fun k w i hl => by rw [ea _ _ _ hl, ec _ _ _ hl]; exact h1 _ _ _ hl, fun k w i k' w' i' hl hl' he => hinj _ _ _ _ _ _ hl hl' (by rw [ea _ _ _ hl, ea _ _ _ hl'] at he; exact he), fun k w i hl => by rw [ea _ _ _ hl]; exact h3 _ _ _ hl, h4, h5, h6, ?_⟩
  obtain ⟨i1, i2, i3, i4, i5⟩ := h7
  refine ⟨i1, fun w hw => ?_, fun l hl => ?_, fun k hk => ?_, i5⟩
  · rw [A50_ne (by omega), A50_ne (by omega), A50_ne (by omega)]
    exact i2 w hw
  · have : dnU dn n x l = dn l := if_neg (by omega)
    rw [A50_ne (by omega), this]
    exact i3 l hl
  · rw [A50_ne (by omega)]
    exact i4 k hk
end RI
/-! ===== what is told by laws: kept by all but law ===== -/
def LwK (σ : MS) (nl : Nat) : Prop := ∀ l, l < nl → ∃ (Al : LA) (fb : Bool), LawM l Al fb σ ∧ ∀ k, k < 8 → ∀ LE, Al k = some LE → ∃ L f, LE = L ++ [(16, nI 0)] ∧ DenE L f
/-- the same law -/
def LwS (σ σ1 : MS) (l : Nat) : Prop := (∀ j, 400 * l ≤ j → j < 400 * l + 400 → σ1.2.1 8 j = σ.2.1 8 j ∧ σ1.2.1 9 j = σ.2.1 9 j) ∧ (∀ k, k < 8 → σ1.2.1 10 (8 * l + k) = σ.2.1 10 (8 * l + k)) ∧ σ1.2.1 11 l = σ.2.1 11 l
theorem LawM.cg {l : Nat} {Al : LA} {fb : Bool} {σ σ1 : MS} (h : LawM l Al fb σ) (k : LwS σ σ1 l) : LawM l Al fb σ1 := by
  refine ⟨fun j hj => ⟨fun e => (k.2.1 j hj).trans ((h.1 j hj).1 e), fun LE e => ?_⟩, k.2.2.trans h.2⟩
  obtain ⟨m, a, b, c⟩ := (h.1 j hj).2 LE e
  refine ⟨m, (k.2.1 j hj).trans a, b, fun i hi => ?_⟩
  obtain ⟨e1, e2⟩ := k.1 (400 * l + m + i) (by omega) (by omega)
  exact ⟨e1.trans (c i hi).1, e2.trans (c i hi).2⟩
theorem LwK.cg {σ σ1 : MS} {nl : Nat} (h : LwK σ nl) (k : ∀ l, l < nl → LwS σ σ1 l) : LwK σ1 nl := fun l hl => by
  obtain ⟨Al, fb, h1, h2⟩ := h l hl
  exact ⟨Al, fb, h1.cg (k l hl), h2⟩
theorem SamL.S {l l2 : Nat} {σ σ1 : MS} (h : SamL l2 σ σ1) (hl : l ≠ l2) : LwS σ σ1 l := ⟨fun j h1 h2 => h.2.2.1 j (by omega), fun k hk => h.2.2.2.1 _ (by omega), h.2.2.2.2.1 l hl⟩
theorem LwS.same {σ σ1 : MS} {l : Nat} (h8 : σ1.2.1 8 = σ.2.1 8) (h9 : σ1.2.1 9 = σ.2.1 9) (h10 : σ1.2.1 10 = σ.2.1 10) (h11 : σ1.2.1 11 = σ.2.1 11) : LwS σ σ1 l := ⟨fun j _ _ => ⟨congrFun h8 j, congrFun h9 j⟩, fun k _ => congrFun h10 _, congrFun h11 l⟩
/-- what a law tells of a name can be run -/
theorem LawM.run {l : Nat} {Al : LA} {fb : Bool} {σ : MS} (hl : l < 12) (h : LawM l Al fb σ) {k : Nat} (hk : k < 8) {L : List Cd} {f : Fn4} (e : Al k = some (L ++ [(16, nI 0)])) (hd : DenE L f) : ∃ m, σ.2.1 10 (8 * l + k) = nI m ∧ m < 300 ∧ ∀ wk so pe gr pile, ∃ p1, vrun σ wk so pe gr 4800 (400 * l + m) 0 pile = some (f wk so pe gr, p1) := by
  obtain ⟨m, a, b, c⟩ := (h.1 k hk).2 _ e
  have hlen : (L ++ [((16, nI 0) : Cd)]).length = L.length + 1 := by simp
  rw [hlen] at b
  exact ⟨m, a, by omega, fun wk so pe gr pile => hd.vrun (by omega) (by omega) (fun i hi => c i hi) wk so pe gr pile⟩
theorem LwK.wc {σ : MS} {nl : Nat} (hL : nl ≤ 12) (h : LwK σ nl) : Wc σ nl := fun l hl name hname h0 => by
  obtain ⟨Al, fb, h1, h2⟩ := h l hl
  cases e : Al name with
  | none =>
    rw [(h1.1 name hname).1 e] at h0
    exact absurd h0 (by decide)
  | some LE =>
    obtain ⟨L, f, rfl, hd⟩ := h2 name hname LE e
    obtain ⟨m, a, b, c⟩ := h1.run (by omega) hname e hd
    refine ⟨m, a, by omega, fun wk so pe gr pile => ?_⟩
    obtain ⟨p1, e1⟩ := c wk so pe gr pile
    exact ⟨_, e1⟩
/-- two memories that tell the same laws -/
def LwT (σ σ1 : MS) (nl : Nat) : Prop := ∀ l, l < nl → ∃ (Al : LA) (fb : Bool), LawM l Al fb σ ∧ LawM l Al fb σ1 ∧ ∀ k, k < 8 → ∀ LE, Al k = some LE → ∃ L f, LE = L ++ [(16, nI 0)] ∧ DenE L f
theorem LwK.T {σ σ1 : MS} {nl : Nat} (h : LwK σ nl) (k : ∀ l, l < nl → LwS σ σ1 l) : LwT σ σ1 nl := fun l hl => by
  obtain ⟨Al, fb, h1, h2⟩ := h l hl
  exact ⟨Al, fb, h1, h1.cg (k l hl), h2⟩
theorem LwT.K {σ σ1 : MS} {nl : Nat} (h : LwT σ σ1 nl) : LwK σ1 nl := fun l hl => by
  obtain ⟨Al, fb, h1, h2, h3⟩ := h l hl
  exact ⟨Al, fb, h2, h3⟩
theorem DnX.law {σ σ1 : MS} {nl : Nat} {dn : XD} (hL : nl ≤ 12) (hd : DnX σ nl dn) (hk : LwT σ σ1 nl) : DnX σ1 nl dn := fun l hl => by
  obtain ⟨d1, d2⟩ := hd l hl
  obtain ⟨Al, fb, h1, h1', h2⟩ := hk l hl
  refine ⟨d1.trans (h1.2.trans h1'.2.symm), fun k hk8 => ?_⟩
  cases e : Al k with
  | none =>
    rcases d2 k hk8 with ⟨e1, e2⟩ | ⟨φ, ca, e1, e2, e3, e4⟩
    · exact Or.inl ⟨e1, by rw [(h1'.1 k hk8).1 e]; decide⟩
    · have := (h1.1 k hk8).1 e
      rw [e2] at this
      have h9 := nI_pos' (n := ca) (by omega)
      rw [this] at h9
      exact absurd h9 (by decide)
  | some LE =>
    obtain ⟨L, f, rfl, hden⟩ := h2 k hk8 LE e
    obtain ⟨m, a, b, c⟩ := h1.run (by omega) hk8 e hden
    obtain ⟨m2, a2, b2, c2⟩ := h1'.run (by omega) hk8 e hden
    rcases d2 k hk8 with ⟨e1, e2⟩ | ⟨φ, ca, e1, e2, e3, e4⟩
    · rw [a] at e2
      exact absurd e2 (Int32.not_lt.mpr (nI_pos' (by omega)))
    · have em : m = ca := (nI_eq (by omega) (by omega)).mp (a.symm.trans e2)
      subst em
      refine Or.inr ⟨φ, m2, e1, a2, by omega, fun wk so pe gr pile => ?_⟩
      obtain ⟨p1, z1⟩ := e4 wk so pe gr pile
      obtain ⟨p2, z2⟩ := c wk so pe gr pile
      obtain ⟨p3, z3⟩ := c2 wk so pe gr pile
      have e9 : f wk so pe gr = φ wk so pe gr := congrArg Prod.fst (Option.some.inj (z2.symm.trans z1))
      rw [e9] at z3
      exact ⟨p3, z3⟩
/-- a Text as it was read, for good -/
theorem TxS.fin {g : GP} {μ im M : Mem} {rd q e9 : Nat} {Al : LA} {fb : Bool} {f9 : Nat → Option Nat} (l : TxS g μ im M rd q e9 Al fb f9) : ∃ x : (Nat → Option Fn4) × Int32, TxC g (mset (mset im q (txO e9 (bI fb))) e9 (exA g f9)) q x ∧ x.2 = bI fb ∧ ∀ k, k < 8 → (x.1 k = none ∧ Al k = none) ∨ ∃ φ L, x.1 k = some φ ∧ Al k = some (L ++ [(16, nI 0)]) ∧ DenE L φ := by
  obtain ⟨l1, l2, ⟨n1, n2, n3⟩, l4, ⟨i1, i2⟩, l6⟩ := l
  have ch : ∀ k, ∃ o : Option Fn4, k < 8 → (o = none ∧ Al k = none ∧ f9 k = none) ∨ ∃ φ L r h, h ≤ 300 ∧ o = some φ ∧ Al k = some (L ++ [(16, nI 0)]) ∧ f9 k = some r ∧ (EcX g im h).1 r φ ∧ DenE L φ := fun k => by
    by_cases hk : k < 8
    · rcases l6 k hk with ⟨a, b⟩ | ⟨L, r, h, a, b, c, φ, d1, d2⟩
      · exact ⟨none, fun _ => Or.inl ⟨rfl, a, b⟩⟩
      · exact ⟨some φ, fun _ => Or.inr ⟨φ, L, r, h, a, rfl, b, c, d1, d2⟩⟩
    · exact ⟨none, fun z => absurd z hk⟩
  obtain ⟨o, ho⟩ := Classical.skolem.mp ch
  have up : ∀ a e, im a = some e → mset (mset im q (txO e9 (bI fb))) e9 (exA g f9) a = some e := fun a e z => by
    rw [mset_n (fun w => by rw [w, i2] at z; cases z), mset_n (fun w => by rw [w, i1] at z; cases z)]
    exact z
  refine ⟨(o, bI fb), ⟨e9, f9, (mset_n n3).trans mset_s, mset_s, fun k hk => ?_⟩, rfl, fun k hk => ?_⟩
  · rcases ho k hk with ⟨a, b, c⟩ | ⟨φ, L, r, h, a, b, c, d, e, f⟩
    · exact Or.inl ⟨a, c⟩
    · exact Or.inr ⟨φ, r, h, a, b, d, (EcX.mono up h).1 _ _ e⟩
  · rcases ho k hk with ⟨a, b, c⟩ | ⟨φ, L, r, h, a, b, c, d, e, f⟩
    · exact Or.inl ⟨a, b⟩
    · exact Or.inr ⟨φ, L, b, c, f⟩
theorem DnX.new {σ σ1 : MS} {n : Nat} {dn : XD} {x : (Nat → Option Fn4) × Int32} {Al : LA} {fb : Bool} (hn : n < 12) (hd : DnX σ1 n dn) (hm : LawM n Al fb σ1) (hx : x.2 = bI fb) (ht : ∀ k, k < 8 → (x.1 k = none ∧ Al k = none) ∨ ∃ φ L, x.1 k = some φ ∧ Al k = some (L ++ [(16, nI 0)]) ∧ DenE L φ) : DnX σ1 (n + 1) (dnU dn n x) := fun l hl => by
  by_cases e : l = n
  · subst e
    have ed : dnU dn l x l = x := if_pos rfl
    rw [ed]
    refine ⟨hx.trans hm.2.symm, fun k hk => ?_⟩
    rcases ht k hk with ⟨a, b⟩ | ⟨φ, L, a, b, c⟩
    · exact Or.inl ⟨a, by rw [(hm.1 k hk).1 b]; decide⟩
    · obtain ⟨m, z1, z2, z3⟩ := hm.run hn hk b c
      exact Or.inr ⟨φ, m, a, z1, by omega, z3⟩
  · have ed : dnU dn n x l = dn l := if_neg e
    rw [ed]
    exact hd l (by omega)
theorem LwK.new {σ1 : MS} {n : Nat} {Al : LA} {fb : Bool} (h : LwK σ1 n) (hm : LawM n Al fb σ1) (ht : ∀ k, k < 8 → Al k = none ∨ ∃ φ L, Al k = some (L ++ [(16, nI 0)]) ∧ DenE L φ) : LwK σ1 (n + 1) := fun l hl => by
  by_cases e : l = n
  · subst e
    refine ⟨Al, fb, hm, fun k hk LE e1 => ?_⟩
    rcases ht k hk with z | ⟨φ, L, z1, z2⟩
    · rw [z] at e1; cases e1
    · rw [z1] at e1
      cases e1
      exact ⟨L, φ, rfl, z2⟩
  · exact h l (by omega)
/-! ===== one more law ===== -/
def lawE (e : XE) (n : Nat) : XE := uE (uE (uE (uE e 4 n (-1)) 5 n (-1)) 6 n (-1)) 15 n (nI 0)
theorem lawE_o {e : XE} {n a x : Nat} (h : ¬ ((a = 4 ∨ a = 5 ∨ a = 6 ∨ a = 15) ∧ x = n)) : lawE e n a x = e a x := by
  unfold lawE
  rw [uE_ne (fun z => h ⟨Or.inr (Or.inr (Or.inr z.1)), z.2⟩), uE_ne (fun z => h ⟨Or.inr (Or.inr (Or.inl z.1)), z.2⟩), uE_ne (fun z => h ⟨Or.inr (Or.inl z.1), z.2⟩), uE_ne (fun z => h ⟨Or.inl z.1, z.2⟩)]
theorem lawE_4 {e : XE} {n : Nat} : lawE e n 4 n = -1 := by
  unfold lawE
  rw [uE_ne (by omega), uE_ne (by omega), uE_ne (by omega), uE_eq]
theorem lawE_5 {e : XE} {n : Nat} : lawE e n 5 n = -1 := by
  unfold lawE
  rw [uE_ne (by omega), uE_ne (by omega), uE_eq]
theorem lawE_6 {e : XE} {n : Nat} : lawE e n 6 n = -1 := by
  unfold lawE
  rw [uE_ne (by omega), uE_eq]
theorem lawE_15 {e : XE} {n : Nat} : lawE e n 15 n = nI 0 := by
  unfold lawE
  rw [uE_eq]
theorem lawE_vx {S : Nat → Nat → Nat} {b : XS} {σ : MS} {e : XE} {n : Nat} (hz : SzX 0 S) (hn : S 8 0 ≤ n) : VX 0 S b σ (lawE e n) = VX 0 S b σ e := by
  have no : ¬ n < iNX S 0 38 := iN_o38 (Or.inl rfl) hn
  unfold lawE
  rw [VX_oE (k0 := 38) (i0 := n) (j0 := 7) hz rfl no, VX_oE (k0 := 38) (i0 := n) (j0 := 4) hz rfl no, VX_oE (k0 := 38) (i0 := n) (j0 := 3) hz rfl no, VX_oE (k0 := 38) (i0 := n) (j0 := 2) hz rfl no]
def b39 (b : XS) (n : Nat) : XS := ((fun k' w' i' => if k' = 39 ∧ w' = 0 ∧ i' = n then fun _ => 0 else b.1 k' w' i'), b.2)
theorem SzX.n8 {S : Nat → Nat → Nat} {n : Nat} (hz : SzX 0 S) (hn : n ≤ 12) : SzX 0 (SnX S 8 0 n) := by
  obtain ⟨z1, z2, z3, z4, z5, z6, z7, z8⟩ := hz
  refine ⟨z1, ?_, ?_, by rw [SnX_eq]; exact hn, ?_, ?_, ?_, Nat.le_refl _, fun z => absurd z (by decide)⟩
  · rw [SnX_ne (by omega)]; exact z2
  · rw [SnX_ne (by omega)]; exact z3
  · rw [SnX_ne (by omega)]; exact z5
  · rw [SnX_ne (by omega)]; exact z6
  · rw [SnX_ne (by omega)]; exact z7
theorem ex_rx {g : GP} {P : Nat → Prop} {F : Mem} {A : XA} {τ : XT} {dn : XD} {ν : XS} {M : Mem} (h : RX g P F A τ dn ν M) : ∃ τ9, RX g P F A τ9 dn ν M := ⟨τ, h⟩
set_option maxHeartbeats 1000000 in
theorem law_sx {g : GP} {P : Nat → Prop} {F : Mem} {A : XA} {S : Nat → Nat → Nat} {b : XS} {σ σ1 : MS} {e : XE} {μ M im : Mem} {q ql qv q2 m1 n : Nat} {mc1 : Int32} {x : (Nat → Option Fn4) × Int32} (h : SX g P F A 0 S b σ e μ) (hn : n = S 8 0) (hn9 : n < 12)
  (hm : ∀ a y, μ a = some y → M a = some y) (hi : ∀ a y, im a = some y → M a = some y ∧ μ a = none) (hx : TxC g im q x) (hl0 : μ ql = none) (hli : im ql = none) (hlM : M ql = some (.inr (14, [.ref q, .int 0, .int (-1), .int (-1), .int (-1), .int 0, .int 0, .int 0, .ref qv]))) (hv0 : μ qv = none) (hvi : im qv = none) (hvM : M qv = some (intX g 3 100 (fun _ => 0))) (hlv : ql ≠ qv)
  (r0 : row σ (1568 + 6 * n + 0) = nI 0) (r1 : row σ (1568 + 6 * n + 1) = nI 0) (r2 : row σ (1568 + 6 * n + 2) = nI 0) (rv : ∀ j, j < 100 → σ.2.1 12 (100 * n + j) = nI 0)
  (hq2 : q2 = A 9 0 0 ∨ M q2 = none) (hm1 : n + 1 ≤ m1 ∧ m1 < 1000) (or : OrX 0 S b σ e)
  (hr : ∀ j, mapR j → row σ1 j = row σ j) (ha : ∀ a, a ≠ 1 → a ≠ 2 → a ≠ 13 → a ≠ 14 → a ≠ 8 → a ≠ 9 → a ≠ 10 → a ≠ 11 → σ1.2.1 a = σ.2.1 a) (hf : ∀ x, x = 9 ∨ x = 13 ∨ x = 29 ∨ x = 28 ∨ x = 31 ∨ x = 23 ∨ x = 24 ∨ x = 7 → σ1.1 x = σ.1 x) (hls : σ1.2.2 = σ.2.2)
  (hd1 : ∀ dn, DnX σ n dn → DnX σ1 (n + 1) (dnU dn n x)) :
  SX g P F (A2X (A50 A n q) 8 38 39 0 n ql qv q2) 0 (SnX S 8 0 (n + 1)) (b39 b n) σ1 (lawE e n) (mset (mset M q2 (lstA g m1 (fun j => if j < n then (if j < n then some (A 38 0 j) else none) else if j = n then some ql else none))) (A 8 0 0) (lstO mc1 q2 (n + 1))) := by
  have hz := h.hz
  have hz1 : SzX 0 (SnX S 8 0 (n + 1)) := hz.n8 (by omega)
  have hi1 : n < SnX S 8 0 (n + 1) 8 0 := by rw [SnX_eq]; omega
  have eS : SnX S 8 0 (n + 1) = S1X S 8 0 := by rw [hn]; rfl
  obtain ⟨τ, dn, fl, hR, -, hfl, hd⟩ := h
  have hmn : ∀ a, M a = none → μ a = none := fun a z => by
    cases hc : μ a with
    | none => rfl
    | some y => rw [hm a y hc] at z; cases z
  obtain ⟨Mx, hMx⟩ : ∃ Mx : Mem, Mx = fun a => if a = ql ∨ a = qv then none else M a := ⟨_, rfl⟩
  have mx1 : ∀ a, ¬ (a = ql ∨ a = qv) → Mx a = M a := fun a z => by rw [hMx]; exact if_neg z
  have mx0 : ∀ a, (a = ql ∨ a = qv) → Mx a = none := fun a z => by rw [hMx]; exact if_pos z
  have R1 := hR.imm (M := Mx) (im := im) (fun a y z => by rw [mx1 a (fun w => by rcases w with w | w <;> (rw [w] at z; first | (rw [hl0] at z; cases z) | (rw [hv0] at z; cases z)))]; exact hm a y z) (fun a y z => ⟨by rw [mx1 a (fun w => by rcases w with w | w <;> (rw [w] at z; first | (rw [hli] at z; cases z) | (rw [hvi] at z; cases z)))]; exact (hi a y z).1, (hi a y z).2⟩)
  have R2 := R1.txt (n := n) (q := q) (x := x) (show S 8 0 ≤ n by omega) (S2_le hz) or.1 or.2.1 or.2.2
  have R3 := R2.own (q := qv) (c := intX g 3 100 (fun _ => 0)) (mx0 _ (Or.inr rfl))
  have R4 := R3.own (q := ql) (c := .inr (14, [.ref q, .int 0, .int (-1), .int (-1), .int (-1), .int 0, .int 0, .int 0, .ref qv])) (by rw [mset_n hlv]; exact mx0 _ (Or.inl rfl))
  have eM : mset (mset Mx qv (intX g 3 100 (fun _ => 0))) ql (.inr (14, [.ref q, .int 0, .int (-1), .int (-1), .int (-1), .int 0, .int 0, .int 0, .ref qv])) = M := by
    funext a
    by_cases c : a = ql
    · rw [c, mset_s, hlM]
    · rw [mset_n c]
      by_cases c2 : a = qv
      · rw [c2, mset_s, hvM]
      · rw [mset_n c2, mx1 a (fun w => w.elim c c2)]
  rw [eM] at R4
  have Fv : F qv = none := by
    cases hc : F qv with
    | none => rfl
    | some y => have := hR.2.2.2.1 _ _ hc; rw [hv0] at this; cases this
  have Fl : F ql = none := by
    cases hc : F ql with
    | none => rfl
    | some y => have := hR.2.2.2.1 _ _ hc; rw [hl0] at this; cases this
  have Fl2 : mset F qv (intX g 3 100 (fun _ => 0)) ql = none := (mset_n hlv).trans Fl
  have hlw : lwO (VX 0 (S1X S 8 0) (b39 b n) σ1 (lawE e n) 38 0 (S 8 0)) q qv = .inr (14, [.ref q, .int 0, .int (-1), .int (-1), .int (-1), .int 0, .int 0, .int 0, .ref qv]) := by
    rw [← eS, ← hn]
    unfold lwO
    rw [V38_1 hz1 hi1, V38_2 hz1 hi1, V38_3 hz1 hi1, V38_4 hz1 hi1, V38_5 hz1 hi1, V38_6 hz1 hi1, V38_7 hz1 hi1, lawE_4, lawE_5, lawE_6, lawE_15, if_pos rfl, if_pos rfl, hr _ (by unfold mapR; omega), hr _ (by unfold mapR; omega), hr _ (by unfold mapR; omega), r0, r1, r2]
    rfl
  have hvo : VX 0 (S1X S 8 0) (b39 b n) σ1 (lawE e n) 39 0 (S 8 0) = fun _ => 0 := by
    rw [← eS, ← hn]
    funext j
    by_cases hj : j < 100
    · rw [V39 hz1 hi1 hj, if_pos rfl, ha 12 (by decide) (by decide) (by decide) (by decide) (by decide) (by decide) (by decide) (by decide), rv j hj]
      rfl
    · simp only [VX]
      rw [if_neg (fun z => hj z.2.2)]
      show (if 39 = 39 ∧ 0 = 0 ∧ n = n then fun _ => 0 else b.1 39 0 n : Nat → Int32) j = 0
      rw [if_pos ⟨rfl, rfl, rfl⟩]
  have R5 := RX.addQ (k := 8) (ko := 38) (kq := 39) (w := 0) (q := ql) (qv := qv) (q2 := q2) (m1 := m1) (mc1 := mc1) (P := P) (F := F) (r := VX 0 (S1X S 8 0) (b39 b n) σ1 (lawE e n) 38 0 (S 8 0)) (rv := VX 0 (S1X S 8 0) (b39 b n) σ1 (lawE e n) 39 0 (S 8 0)) R4 (Or.inr ⟨rfl, rfl, rfl⟩) (fun a y z => own_keep Fl2 a y (own_keep Fv a y z)) (fun _ z => Or.inl (Or.inl z)) (fun a z => (hR.2.2.2.2.2.1 a z).1) (by decide) (Or.inr rfl) Fl ?_ (Or.inl (Or.inr rfl)) Fv ?_ hlv (fun _ _ => ?_) (fun _ z => by cases z) ?_ (show S 8 0 + 1 ≤ m1 ∧ m1 < 1000 by rw [← hn]; exact hm1) (S2_le hz) or.1 or.2.1 or.2.2
  · have R6 := R5.cgI (f := VX 0 (S1X S 8 0) (b39 b n) σ1 (lawE e n)) (fun k' w' i' hlvx => ?_)
    · obtain ⟨τ9, R7⟩ := ex_rx R6
      refine ⟨τ9, dnU dn n x, fl, ?_, hz1, ?_, ?_⟩
      · subst hn
        rw [← eS] at R7
        have em : dataX g (A2X (A50 A (S 8 0) q) 8 38 39 0 (S 8 0) ql qv q2) 8 0 m1 ((S 8 0) + 1) (VX 0 S b σ e (8 + 1) 0 0) = lstA g m1 (fun j => if j < (S 8 0) then (if j < (S 8 0) then some (A 38 0 j) else none) else if j = (S 8 0) then some ql else none) := by
          unfold dataX lstA
          have ef : (fun j => if j < (S 8 0) + 1 then some (elX (A2X (A50 A (S 8 0) q) 8 38 39 0 (S 8 0) ql qv q2) 8 0 (VX 0 S b σ e (8 + 1) 0 0) j) else none) = (fun j => if j < (S 8 0) then (if j < (S 8 0) then some (A 38 0 j) else none) else if j = (S 8 0) then some ql else none) := by
            funext j
            have ee : elX (A2X (A50 A (S 8 0) q) 8 38 39 0 (S 8 0) ql qv q2) 8 0 (VX 0 S b σ e (8 + 1) 0 0) j = A2X (A50 A (S 8 0) q) 8 38 39 0 (S 8 0) ql qv q2 38 0 j := rfl
            rw [ee]
            by_cases h1 : j < (S 8 0)
            · rw [if_pos (by omega), if_pos h1, if_pos h1]
              unfold A2X
              rw [if_neg (by omega), if_neg (by omega), if_neg (by omega), A50_ne (by omega)]
            · by_cases h2 : j = (S 8 0)
              · rw [if_pos (by omega), if_neg h1, if_pos h2]
                unfold A2X
                rw [if_pos ⟨rfl, rfl, h2⟩]
              · rw [if_neg (by omega), if_neg h1, if_neg h2]
          rw [ef]
        rw [← em, hls]
        exact R7
      · rw [eS]
        exact (hfl.cg (ha 5 (by decide) (by decide) (by decide) (by decide) (by decide) (by decide) (by decide) (by decide)) (ha 6 (by decide) (by decide) (by decide) (by decide) (by decide) (by decide) (by decide) (by decide))).s1 (by omega)
      · rw [SnX_eq]
        exact hd1 dn (by rw [hn]; exact hd)
    · show VX 0 (S1X S 8 0) (b39 b n) σ1 (lawE e n) k' w' i' = (if k' = 38 ∧ w' = 0 ∧ i' = S 8 0 then VX 0 (S1X S 8 0) (b39 b n) σ1 (lawE e n) 38 0 (S 8 0) else if k' = 39 ∧ w' = 0 ∧ i' = S 8 0 then VX 0 (S1X S 8 0) (b39 b n) σ1 (lawE e n) 39 0 (S 8 0) else VX 0 S b σ e k' w' i')
      by_cases c : k' = 38 ∧ w' = 0 ∧ i' = S 8 0
      · rw [if_pos c, c.1, c.2.1, c.2.2]
      · rw [if_neg c]
        by_cases c2 : k' = 39 ∧ w' = 0 ∧ i' = S 8 0
        · rw [if_pos c2, c2.1, c2.2.1, c2.2.2]
        · rw [if_neg c2]
          have hn2 : ¬ ((k' = 38 ∨ k' = 39) ∧ w' = 0 ∧ i' = S 8 0) := fun z => z.1.elim (fun y => c ⟨y, z.2⟩) (fun y => c2 ⟨y, z.2⟩)
          rw [VX_S1 (k := 8) (ko := 38) (kq := 39) (Or.inr (Or.inr (Or.inr ⟨rfl, rfl, rfl⟩))) hn2, VX_b (b := b) (show (b39 b n).1 k' w' i' = b.1 k' w' i' from if_neg (by rw [hn]; exact c2)), lawE_vx hz (by omega), VX_law hz hr ha hf]
  · rw [if_neg (by decide)]
    show M ql = some (lwO _ (A50 A n q 50 0 (S 8 0)) qv)
    have hlw2 := hlw
    rw [← hn] at hlw2
    rw [← hn, A50_eq, hlM, hlw2]
  · rw [if_neg (by decide), hvM, hvo]
  · show TxC g (imU (tIm τ) im) (A50 A n q 50 0 (S 8 0)) (dnU dn n x (S 8 0))
    rw [← hn, A50_eq, show dnU dn n x n = x from if_pos rfl]
    have hno : ∀ a y, im a = some y → tIm τ a = none := fun a y z => by
      cases hc : tIm τ a with
      | none => rfl
      | some y2 => have := hR.2.2.2.2.1 _ _ hc; rw [(hi a y z).2] at this; cases this
    exact hx.mono (fun a y z => (imU_r (hno a y z)).trans z)
  · rcases hq2 with z | z
    · exact Or.inl (by rw [z]; exact (A50_ne (fun z9 => absurd z9.1 (by decide))).symm)
    · exact Or.inr z
