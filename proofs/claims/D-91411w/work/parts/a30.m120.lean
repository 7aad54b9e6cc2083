set_option maxRecDepth 100000
/-- where things are, with a new one at q, its own array at qv and the list's elements at q2 -/
def A2X (A : XA) (k ko kq w n q qv q2 : Nat) : XA := fun k' w' i' => if k' = ko ∧ w' = w ∧ i' = n then q else if k' = kq ∧ w' = w ∧ i' = n then qv else if k' = k + 1 ∧ w' = w ∧ i' = 0 then q2 else A k' w' i'
def N2X (ν : XS) (k ko kq w : Nat) (r rv : Nat → Int32) : XS := ((fun k' w' i' => if k' = ko ∧ w' = w ∧ i' = ν.2.1 k w then r else if k' = kq ∧ w' = w ∧ i' = ν.2.1 k w then rv else ν.1 k' w' i'), S1X ν.2.1 k w, ν.2.2)
theorem celX_ls {g : GP} {A : XA} {τ : XT} {ν : XS} {k w : Nat} (hk : k = 4 ∨ k = 6 ∨ k = 8 ∨ k = 10 ∨ k = 12 ∨ k = 14 ∨ k = 16) : celX g A τ ν k w 0 = lsX A τ k w (ν.2.1 k w) := by rcases hk with e | e | e | e | e | e | e <;> (subst e; rfl)
theorem celX_ld {g : GP} {A : XA} {τ : XT} {ν : XS} {k w : Nat} (hk : k = 4 ∨ k = 6 ∨ k = 8 ∨ k = 10 ∨ k = 12 ∨ k = 14 ∨ k = 16) : celX g A τ ν (k + 1) w 0 = ldX g A τ k w (ν.2.1 k w) (ν.1 (k + 1) w 0) := by rcases hk with e | e | e | e | e | e | e <;> (subst e; rfl)
theorem celX_36 {g : GP} {A : XA} {τ : XT} {ν : XS} {w i : Nat} : celX g A τ ν 36 w i = paO (ν.1 36 w i) (A 37 w i) := rfl
theorem celX_37 {g : GP} {A : XA} {τ : XT} {ν : XS} {w i : Nat} : celX g A τ ν 37 w i = intX g 0 12 (ν.1 37 w i) := rfl
theorem celX_38 {g : GP} {A : XA} {τ : XT} {ν : XS} {w i : Nat} : celX g A τ ν 38 w i = lwO (ν.1 38 w i) (A 50 0 i) (A 39 w i) := rfl
theorem celX_39 {g : GP} {A : XA} {τ : XT} {ν : XS} {w i : Nat} : celX g A τ ν 39 w i = intX g 3 100 (ν.1 39 w i) := rfl
section AQ
variable {g : GP} {P P1 : Nat → Prop} {F F1 : Mem} {A : XA} {τ : XT} {dn : XD} {ν : XS} {M : Mem} {k ko kq w q qv q2 m1 : Nat} {mc1 : Int32} {r rv : Nat → Int32}
set_option maxHeartbeats 1000000 in
/-- an object with an array of its own is added to a list: parties (6, 36, 37) or laws (8, 38, 39) -/
theorem RX.addQ (h : RX g P1 F1 A τ dn ν M) (hk : (k = 6 ∧ ko = 36 ∧ kq = 37) ∨ (k = 8 ∧ ko = 38 ∧ kq = 39)) (hF1 : ∀ a e, F a = some e → F1 a = some e) (hP : ∀ a, P a → P1 a) (hPF : ∀ a, P a → F a ≠ none) (hw : w < 2)
  (hq : P1 q) (hqF : F q = none) (hqM : M q = some (if k = 6 then paO r qv else lwO r (A 50 0 (ν.2.1 k w)) qv)) (hv : P1 qv) (hvF : F qv = none) (hvM : M qv = some (if k = 6 then intX g 0 12 rv else intX g 3 100 rv)) (hqv : q ≠ qv) (htx : k = 8 → w = 0 → TxC g (tIm τ) (A 50 0 (ν.2.1 k w)) (dn (ν.2.1 k w))) (h81 : k = 8 → w = 1 → ν.2.1 8 1 < ν.2.1 8 0) (hq2 : q2 = A (k + 1) w 0 ∨ M q2 = none) (hm : ν.2.1 k w + 1 ≤ m1 ∧ m1 < 1000)
  (h2 : ν.2.1 2 0 ≤ 96 ∧ ν.2.1 2 1 ≤ 96) (h8 : ν.2.1 8 1 ≤ ν.2.1 8 0) (hO : ∀ j, j < ν.2.1 12 0 → tN (ν.1 13 0 0 j) < ν.2.1 4 0) (hQ : ∀ j, j < ν.2.1 14 0 → tN (ν.1 15 0 0 j) < ν.2.1 4 0) :
  RX g P F (A2X A k ko kq w (ν.2.1 k w) q qv q2) (T1X τ k w m1 mc1) dn (N2X ν k ko kq w r rv) (mset (mset M q2 (dataX g (A2X A k ko kq w (ν.2.1 k w) q qv q2) k w m1 (ν.2.1 k w + 1) (ν.1 (k + 1) w 0))) (A k w 0) (.inr (2, [.int mc1, .ref q2, .int (nI (ν.2.1 k w + 1))]))) := by
  have cN : ∀ S : Nat → Nat → Nat, cNX S ko w = S k w := fun S => by rcases hk with ⟨e1, e2, e3⟩ | ⟨e1, e2, e3⟩ <;> (subst e1; subst e2; simp [cNX])
  have cV : ∀ S : Nat → Nat → Nat, cNX S kq w = S k w := fun S => by rcases hk with ⟨e1, e2, e3⟩ | ⟨e1, e2, e3⟩ <;> (subst e1; subst e3; simp [cNX])
  have kb : 6 ≤ k ∧ k ≤ 8 ∧ 36 ≤ ko ∧ ko ≤ 38 ∧ kq = ko + 1 := by rcases hk with ⟨e1, e2, e3⟩ | ⟨e1, e2, e3⟩ <;> (subst e1; subst e2; subst e3; decide)
  have kk : k = 4 ∨ k = 6 ∨ k = 8 ∨ k = 10 ∨ k = 12 ∨ k = 14 ∨ k = 16 := hk.elim (fun z => Or.inr (Or.inl z.1)) (fun z => Or.inr (Or.inr (Or.inl z.1)))
  have hlk : LvX ν.2.1 k w 0 := by rcases hk with ⟨e1, e2, e3⟩ | ⟨e1, e2, e3⟩ <;> (subst e1; exact ⟨by simp [wNX]; omega, by simp [cNX], fun z => by cases z⟩)
  have hld : LvX ν.2.1 (k + 1) w 0 := by rcases hk with ⟨e1, e2, e3⟩ | ⟨e1, e2, e3⟩ <;> (subst e1; exact ⟨by simp [wNX]; omega, by simp [cNX], fun z => by cases z⟩)
  have hnol : ¬ LvX ν.2.1 ko w (ν.2.1 k w) := fun z => by have := z.2.1; rw [cN] at this; omega
  have hnov : ¬ LvX ν.2.1 kq w (ν.2.1 k w) := fun z => by have := z.2.1; rw [cV] at this; omega
  have newi : ∀ k' w' i', LvX (S1X ν.2.1 k w) k' w' i' → LvX ν.2.1 k' w' i' ∨ ((k' = ko ∨ k' = kq) ∧ w' = w ∧ i' = ν.2.1 k w) := fun k' w' i' hl => by
    obtain ⟨l1, l2, l3⟩ := hl
    by_cases e : (k' = ko ∨ k' = kq) ∧ w' = w
    · obtain ⟨e0, e1⟩ := e
      subst e1
      have cNk : ∀ S : Nat → Nat → Nat, cNX S k' w' = S k w' := fun S => by rcases e0 with e0 | e0 <;> subst e0 <;> first | exact cN S | exact cV S
      have l4 : i' < S1X ν.2.1 k w' k w' := by have l5 := l2; rw [cNk] at l5; exact l5
      unfold S1X at l4
      rw [if_pos ⟨rfl, rfl⟩] at l4
      rcases Nat.lt_or_ge i' (ν.2.1 k w') with z | z
      · exact Or.inl ⟨l1, by rw [cNk]; exact z, fun z9 => by omega⟩
      · exact Or.inr ⟨e0, rfl, by omega⟩
    · refine Or.inl ⟨l1, ?_, fun z => ?_⟩
      · have sx : ∀ x, (x = 4 ∧ k' = 35) ∨ (x = 6 ∧ (k' = 36 ∨ k' = 37)) ∨ (x = 8 ∧ (k' = 38 ∨ k' = 39)) ∨ (x = 10 ∧ k' = 40) → S1X ν.2.1 k w x w' = ν.2.1 x w' := fun x hx => by
          unfold S1X
          rw [if_neg (by omega)]
        unfold cNX at l2 ⊢
        by_cases e34 : k' = 34
        · rw [if_pos e34] at l2 ⊢; exact l2
        · rw [if_neg e34] at l2 ⊢
          by_cases e35 : k' = 35
          · rw [if_pos e35] at l2 ⊢; rw [sx 4 (by omega)] at l2; exact l2
          · rw [if_neg e35] at l2 ⊢
            by_cases e36 : k' = 36 ∨ k' = 37
            · rw [if_pos e36] at l2 ⊢; rw [sx 6 (by omega)] at l2; exact l2
            · rw [if_neg e36] at l2 ⊢
              by_cases e38 : k' = 38 ∨ k' = 39
              · rw [if_pos e38] at l2 ⊢; rw [sx 8 (by omega)] at l2; exact l2
              · rw [if_neg e38] at l2 ⊢
                by_cases e40 : k' = 40
                · rw [if_pos e40] at l2 ⊢; rw [sx 10 (by omega)] at l2; exact l2
                · rw [if_neg e40] at l2 ⊢; exact l2
      · have := l3 z
        unfold S1X at this
        rw [if_neg (by omega)] at this
        exact this
  have a1old : ∀ k' w' i', LvX ν.2.1 k' w' i' → ¬ (k' = k + 1 ∧ w' = w ∧ i' = 0) → A2X A k ko kq w (ν.2.1 k w) q qv q2 k' w' i' = A k' w' i' := fun k' w' i' hl hn => by
    unfold A2X
    rw [if_neg (fun z => hnol (by obtain ⟨z1, z2, z3⟩ := z; subst z1; subst z2; rw [z3] at hl; exact hl)), if_neg (fun z => hnov (by obtain ⟨z1, z2, z3⟩ := z; subst z1; subst z2; rw [z3] at hl; exact hl)), if_neg hn]
  have a1d : A2X A k ko kq w (ν.2.1 k w) q qv q2 (k + 1) w 0 = q2 := by
    unfold A2X
    rw [if_neg (by omega), if_neg (by omega), if_pos ⟨rfl, rfl, rfl⟩]
  have a1n : A2X A k ko kq w (ν.2.1 k w) q qv q2 ko w (ν.2.1 k w) = q := by
    unfold A2X
    rw [if_pos ⟨rfl, rfl, rfl⟩]
  have a1v : A2X A k ko kq w (ν.2.1 k w) q qv q2 kq w (ν.2.1 k w) = qv := by
    unfold A2X
    rw [if_neg (by omega), if_pos ⟨rfl, rfl, rfl⟩]
  obtain ⟨h1, hinj, h3, h4, h5, h6, h7⟩ := id h
  have hF1q : F1 q ≠ none := (h6 q hq).1
  have nq : ∀ k' w' i', LvX ν.2.1 k' w' i' → A k' w' i' ≠ q := fun k' w' i' hl z => hF1q (by rw [← z]; exact (h3 _ _ _ hl).1)
  have q2n : ∀ k' w' i', LvX ν.2.1 k' w' i' → ¬ (k' = k + 1 ∧ w' = w ∧ i' = 0) → A k' w' i' ≠ q2 := fun k' w' i' hl hn z => by
    rcases hq2 with e | e
    · rw [e] at z
      exact hn (hinj _ _ _ _ _ _ hl hld z)
    · rw [← z, h1 _ _ _ hl] at e
      cases e
  have hF1v : F1 qv ≠ none := (h6 qv hv).1
  have nv : ∀ k' w' i', LvX ν.2.1 k' w' i' → A k' w' i' ≠ qv := fun k' w' i' hl z => hF1v (by rw [← z]; exact (h3 _ _ _ hl).1)
  have nvq : qv ≠ q2 := fun z => by
    rcases hq2 with e | e
    · exact nv _ _ _ hld (e.symm.trans z.symm)
    · rw [← z, hvM] at e
      cases e
  have nqq : q ≠ q2 := fun z => by
    rcases hq2 with e | e
    · exact nq _ _ _ hld (e.symm.trans z.symm)
    · rw [← z, hqM] at e
      cases e
  have keepM : ∀ a e, (∀ k' w' i', LvX ν.2.1 k' w' i' → A k' w' i' ≠ a) → M a = some e → mset (mset M q2 (dataX g (A2X A k ko kq w (ν.2.1 k w) q qv q2) k w m1 (ν.2.1 k w + 1) (ν.1 (k + 1) w 0))) (A k w 0) (.inr (2, [.int mc1, .ref q2, .int (nI (ν.2.1 k w + 1))])) a = some e := fun a e ha hM => by
    rw [mset_n (Ne.symm (ha _ _ _ hlk)), mset_n (fun z => ?_)]
    · exact hM
    · rcases hq2 with e2 | e2
      · exact ha _ _ _ hld (e2.symm.trans z.symm)
      · rw [← z, hM] at e2
        cases e2
  refine RX.more h hF1 hP hPF (k + 1) w (fun k' w' i' hl => ?_) (fun k' w' i' hl => ?_) (fun k' w' i' hl => ?_) (fun k' w' i' x y z hl hl' hn hn' he => ?_) (fun a e hf => ?_) rfl (fun a e hf => ?_) ?_
  · rcases newi _ _ _ hl with z | ⟨z1 | z1, z2, z3⟩
    · exact Or.inl z
    · subst z1; subst z2; subst z3
      rw [a1n]
      exact Or.inr ⟨hq, hqF⟩
    · subst z2; subst z3
      rw [z1, a1v]
      exact Or.inr ⟨hv, hvF⟩
  · rcases newi _ _ _ hl with z | ⟨z1 | z1, z2, z3⟩
    · by_cases e1 : k' = k ∧ w' = w
      · obtain ⟨rfl, rfl⟩ := e1
        have i0 : i' = 0 := by
          have l2 := z.2.1
          unfold cNX at l2
          rw [if_neg (by omega), if_neg (by omega), if_neg (by omega), if_neg (by omega), if_neg (by omega), if_neg (by omega)] at l2
          omega
        subst i0
        rw [a1old _ _ _ z (by omega), mset_s]
        have es := celX_ls (g := g) (A := A2X A k' ko kq w' (ν.2.1 k' w') q qv q2) (τ := T1X τ k' w' m1 mc1) (ν := N2X ν k' ko kq w' r rv) (k := k') (w := w') kk
        rw [show (N2X ν k' ko kq w' r rv).2.1 = S1X ν.2.1 k' w' from rfl] at es
        rw [es]
        unfold lsX
        rw [a1d]
        simp [T1X, S1X, tMc, tCp]
      · by_cases e2 : k' = k + 1 ∧ w' = w
        · obtain ⟨rfl, rfl⟩ := e2
          have i0 : i' = 0 := by
            have l2 := z.2.1
            unfold cNX at l2
            rw [if_neg (by omega), if_neg (by omega), if_neg (by omega), if_neg (by omega), if_neg (by omega), if_neg (by omega)] at l2
            omega
          subst i0
          rw [a1d, mset_n (Ne.symm (q2n _ _ _ hlk (by omega))), mset_s]
          have es := celX_ld (g := g) (A := A2X A k ko kq w' (ν.2.1 k w') q qv q2) (τ := T1X τ k w' m1 mc1) (ν := N2X ν k ko kq w' r rv) (k := k) (w := w') kk
          rw [show (N2X ν k ko kq w' r rv).2.1 = S1X ν.2.1 k w' from rfl] at es
          rw [es]
          have er : (N2X ν k ko kq w' r rv).1 (k + 1) w' 0 = ν.1 (k + 1) w' 0 := (if_neg (by omega)).trans (if_neg (by omega))
          rw [er]
          unfold ldX dataX
          simp [T1X, S1X, tMc, tCp]
        · rw [a1old _ _ _ z (by omega), mset_n (fun y => e1 (by have := hinj _ _ _ _ _ _ z hlk y; exact ⟨this.1, this.2.1⟩)), mset_n (q2n _ _ _ z (by omega)), h1 _ _ _ z]
          refine congrArg some (celX_ag (A := A) (τ := τ) (ν := ν) (kl := k) (wl := w) (A1 := A2X A k ko kq w (ν.2.1 k w) q qv q2) (τ1 := T1X τ k w m1 mc1) (ν1 := N2X ν k ko kq w r rv) kk (fun k9 w9 i9 h9 n9 => ?_) (fun k9 w9 i9 h9 => ?_) rfl (fun x y hxy => ?_) rfl (fun x y hxy => ⟨?_, ?_⟩) h2 h8 hO hQ k' w' i' z e1 e2).symm
          · unfold A2X
            rw [if_neg (fun y => ?_), if_neg (fun y => ?_), if_neg (fun y => n9 ⟨y.1, y.2.1⟩)]
            · obtain ⟨y1, y2, y3⟩ := y
              subst y1; subst y2; subst y3
              rcases h9 with h9 | h9 | h9 | h9 | h9 | h9
              · exact hnov h9
              all_goals omega
            · obtain ⟨y1, y2, y3⟩ := y
              subst y1; subst y2; subst y3
              rcases h9 with h9 | h9 | h9 | h9 | h9 | h9
              · exact hnol h9
              all_goals omega
          · refine (if_neg (fun y => ?_)).trans (if_neg (fun y => ?_))
            · obtain ⟨y1, y2, y3⟩ := y
              subst y1; subst y2; subst y3
              exact hnol h9
            · obtain ⟨y1, y2, y3⟩ := y
              subst y1; subst y2; subst y3
              exact hnov h9
          · exact if_neg hxy
          · exact if_neg hxy
          · exact if_neg hxy
    · subst z1; subst z2; subst z3
      rw [a1n, mset_n (Ne.symm (nq _ _ _ hlk)), mset_n nqq, hqM]
      have er : (N2X ν k k' kq w' r rv).1 k' w' (ν.2.1 k w') = r := if_pos ⟨rfl, rfl, rfl⟩
      rcases hk with ⟨e1, e2, e3⟩ | ⟨e1, e2, e3⟩
      · subst e1; subst e2; subst e3
        rw [if_pos rfl]
        rw [celX_36, er, a1v]
      · subst e1; subst e2; subst e3
        rw [if_neg (by decide)]
        rw [celX_38, er, a1v]
        unfold A2X
        rw [if_neg (by omega), if_neg (by omega), if_neg (by omega)]
    · subst z2; subst z3
      rw [z1, a1v, mset_n (Ne.symm (nv _ _ _ hlk)), mset_n nvq, hvM]
      have er : (N2X ν k ko kq w' r rv).1 kq w' (ν.2.1 k w') = rv := (if_neg (by omega)).trans (if_pos ⟨rfl, rfl, rfl⟩)
      rcases hk with ⟨e1, e2, e3⟩ | ⟨e1, e2, e3⟩
      · subst e1; subst e2; subst e3
        rw [if_pos rfl]
        rw [celX_37, er]
      · subst e1; subst e2; subst e3
        rw [if_neg (by decide)]
        rw [celX_39, er]
  · by_cases e : k' = k + 1 ∧ w' = w ∧ i' = 0
    · obtain ⟨rfl, rfl, rfl⟩ := e
      rw [a1d]
      rcases hq2 with e2 | e2
      · exact Or.inl e2
      · exact Or.inr ⟨e2, rfl, rfl, rfl⟩
    · exact Or.inl (a1old _ _ _ hl e)
  · have e1 := (newi _ _ _ hl).resolve_left hn
    have e2 := (newi _ _ _ hl').resolve_left hn'
    obtain ⟨e1, f1, f2⟩ := e1
    obtain ⟨e2, f3, f4⟩ := e2
    subst f1; subst f3
    subst f2; subst f4
    refine ⟨?_, rfl, rfl⟩
    rcases e1 with e1 | e1 <;> rcases e2 with e2 | e2
    · exact e1.trans e2.symm
    · rw [e1, e2, a1n, a1v] at he
      exact absurd he hqv
    · rw [e1, e2, a1n, a1v] at he
      exact absurd he.symm hqv
    · exact e1.trans e2.symm
  · exact keepM a e (fun k' w' i' hl z => by have := (h3 _ _ _ hl).1; rw [z, hF1 _ _ hf] at this; cases this) (h4 _ _ (hF1 _ _ hf))
  · exact keepM a e (fun k' w' i' hl z => by have := (h3 _ _ _ hl).2; rw [z, hf] at this; cases this) (h5 _ _ hf)
  · obtain ⟨i1, i2, i3, i4, i5⟩ := h7
    have eA : ∀ k' w' i', k' ≠ ko → k' ≠ kq → k' ≠ k + 1 → A2X A k ko kq w (ν.2.1 k w) q qv q2 k' w' i' = A k' w' i' := fun k' w' i' n1 n2 n3 => by
      unfold A2X
      rw [if_neg (fun z => n1 z.1), if_neg (fun z => n2 z.1), if_neg (fun z => n3 z.1)]
    refine ⟨fun w' s hw' hs => ?_, fun w' hw' => ?_, fun l hl => ?_, fun x hx => ?_, fun x y hx50 => ?_⟩
    · rw [show (N2X ν k ko kq w r rv).1 34 w' s = ν.1 34 w' s from (if_neg (by omega)).trans (if_neg (by omega))]
      exact i1 w' s hw' hs
    · rw [eA 48 w' 0 (by omega) (by omega) (by omega), eA 49 w' 0 (by omega) (by omega) (by omega), eA 0 0 0 (by omega) (by omega) (by omega)]
      refine ⟨(i2 w' hw').1, (i2 w' hw').2.1, (i2 w' hw').2.2.trans ?_⟩
      show ν.2.1 59 0 = S1X ν.2.1 k w 59 0
      unfold S1X
      rw [if_neg (by omega)]
    · rw [eA 50 0 l (by omega) (by omega) (by omega)]
      have hl9 : l < S1X ν.2.1 k w 8 0 := hl
      unfold S1X at hl9
      by_cases e : 8 = k ∧ 0 = w
      · rw [if_pos e] at hl9
        obtain ⟨e1, e2⟩ := e
        subst e1; subst e2
        rcases Nat.lt_or_ge l (ν.2.1 8 0) with z | z
        · exact i3 l z
        · have : l = ν.2.1 8 0 := by omega
          subst this
          exact htx rfl rfl
      · rw [if_neg e] at hl9
        exact i3 l hl9
    · rw [eA 51 0 x (by omega) (by omega) (by omega), show (N2X ν k ko kq w r rv).1 17 0 0 = ν.1 17 0 0 from (if_neg (by omega)).trans (if_neg (by omega))]
      exact i4 x (by have : x < S1X ν.2.1 k w 16 0 := hx; unfold S1X at this; rw [if_neg (by omega)] at this; exact this)
    · show S1X ν.2.1 k w x y ≤ (if x = k ∧ y = w then m1 else tCp τ x y) ∧ 1 ≤ (if x = k ∧ y = w then m1 else tCp τ x y) ∧ (if x = k ∧ y = w then m1 else tCp τ x y) < 1000
      unfold S1X
      by_cases e : x = k ∧ y = w
      · rw [if_pos e, if_pos e]; exact ⟨hm.1, Nat.le_trans (Nat.le_add_left 1 _) hm.1, hm.2⟩
      · rw [if_neg e, if_neg e]; exact i5 x y hx50
end AQ
