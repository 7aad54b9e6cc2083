set_option maxRecDepth 100000
theorem ao_arr {A : Array Value} {U : State} (h : (Cond.arrayOver (.array .float)).before A U = true) : ∃ (comp c : ClassId) (k : Class), U.vm.findClass (FieldType.array .float).toString = some comp ∧ U.vm.classes[c]? = some k ∧ k.kind = .array comp (.array .float) ∧ U.vm.findClass ("[" ++ (FieldType.array .float).toString) = some c := by
  have h2 : (Cond.arrayOver (.array .float)).holds A U none U [] = true := h
  simp only [Cond.holds, Cond.value, beq_iff_eq] at h2
  cases hc : U.vm.findClass (FieldType.array .float).toString with
  | none => rw [hc] at h2; simp at h2
  | some comp =>
    rw [hc] at h2
    simp only [Option.bind_some, Option.bind_eq_some_iff, Option.map_eq_some_iff] at h2
    obtain ⟨c, hi, k, hk, hb⟩ := h2
    obtain ⟨hlt, hp, -⟩ := Array.findIdx?_eq_some_iff_getElem.mp hi
    have hkk : U.vm.classes[c] = k := (Array.getElem?_eq_some_iff.mp hk).2
    rw [hkk] at hp
    cases hkind : k.kind with
    | array component ty =>
      rw [hkind] at hb hp
      simp at hb hp
      exact ⟨comp, c, k, rfl, hk, by rw [hkind, hp, hb.1], hb.2⟩
    | _ => rw [hkind] at hb; simp at hb
theorem asg_self (v : Vm) (c : ClassId) : v.assignable c c = true := by
  show (c == c || _) = true
  rw [beq_self_eq_true, Bool.true_or]
section AA
variable {g : GP} {own : String} {cc : ByteArray} {nL : Nat} {i : MI} {d C N pc : Nat} {ls : List (Nat × Value)} {rest : List Value} {μ : Mem} {Q : OC → Mem → Prop}
/-- a row of floats into the row of rows -/
theorem pj_astA {a v n m : Nat} {fl : Nat → UInt32} {f : Nat → Option Nat} {j : Int32} (hdg : decode cc pc = .ok (.aastore, 1)) (hm : μ a = some (.inl (gA g 8, n, .inr (.inr (.inr (.inr f)))))) (hv : μ v = some (.inl (gA g 4, m, .inr (.inr (.inl fl))))) (hin : vp_in j n) (kk : PJ g own cc nL i d C N (pc + 1) ls rest (mset μ a (.inl (gA g 8, n, .inr (.inr (.inr (.inr (va_up f j.toNatClampNeg (some v)))))))) Q) : PJ g own cc nL i d C N pc ls (.ref v :: .int j :: .ref a :: rest) μ Q := by
  intro G p e R s m9 args below meth c E9 H locs cells slots K K9 B arr hl9
  obtain ⟨ws, hP, hD, hmm⟩ := Sim.list B.2.2.2.2.1
  obtain ⟨q0, hq0⟩ := (hmm _ _).mp hm
  obtain ⟨qk, hqk⟩ := (hmm _ _).mp hv
  have hK := G.K E9.2.2.2.2.2.2.2.2.2.1
  have al := E9.2.2.2.2.2.2.2.2.2.1.1.alike
  have hlt : j.toNatClampNeg < n := Nat.not_le.mp fun q => hin (Or.inr q)
  have h0 : ¬ j < 0 := fun q => hin (Or.inl q)
  obtain ⟨comp, c0, k0, o1, o2, o3, o4⟩ := ao_arr (G_tbl G q611)
  obtain ⟨k1, hk1, he1⟩ := al.2.2 _ _ o2
  have o1' : s.vm.findClass (FieldType.array .float).toString = some comp := by rw [al.findClass]; exact o1
  have o4' : s.vm.findClass ("[" ++ (FieldType.array .float).toString) = some c0 := by rw [al.findClass]; exact o4
  have r8 : s.vm.findClass ("[" ++ (FieldType.array .float).toString) = some (gA g 8) := (hK.2 8 (gA g 8, .array .float) rfl).2
  have r4 : s.vm.findClass ("[" ++ FieldType.float.toString) = some (gA g 4) := (hK.2 4 (gA g 4, .float) rfl).2
  have e8 : c0 = gA g 8 := Option.some.inj (o4'.symm.trans r8)
  have e4 : comp = gA g 4 := Option.some.inj (o1'.symm.trans r4)
  subst e4
  rw [e8] at hk1
  obtain ⟨kE, hkE, -⟩ := Vm.findClass_spec r4
  refine W.aast E9.1 E9.2.1 (hP q0 _ hq0) (fun q h => by cases h) (fun h => by cases h) hk1 (by rw [he1]; exact o3) rfl hkE ⟨h0, by show _ < (arrV _ _ _).slots.size; rw [arrV_size]; exact hlt⟩ (hP qk _ hqk) (fun q h => by cases h) hkE (asg_self s.vm (gA g 4)) rfl rfl hdg fun H1 e1 z oq => ?_
  refine kk G p e R s m9 args below meth c E9 H1 _ cells slots K K9 (B.mem (Sim.set hmm hq0 (hP.set hD hq0 ?_ oq) (hD.set hq0)) (B.2.2.2.2.2.put z oq (hD.2 q0 _ hq0))) arr hl9
  show H1[a]? = some (vp_cell _ _)
  rw [e1]
  rw [vp_cell_q, vp_cell_q, arrV_store]
  congr 2
  funext q
  by_cases hq : q = j.toNatClampNeg
  · subst hq
    simp [updV, va_up, va_rf]
  · simp [updV, va_up, hq]
theorem pl_astA {a v n m k : Nat} {fl : Nat → UInt32} {f : Nat → Option Nat} (hdg : decode cc pc = .ok (.aastore, 1)) (hm : μ a = some (.inl (gA g 8, n, .inr (.inr (.inr (.inr f)))))) (hv : μ v = some (.inl (gA g 4, m, .inr (.inr (.inl fl))))) (hk : k < n) (hn : n < 2147483648) (kk : PJ g own cc nL i d C N (pc + 1) ls rest (mset μ a (.inl (gA g 8, n, .inr (.inr (.inr (.inr (va_up f k (some v)))))))) Q) : PJ g own cc nL i d C N pc ls (.ref v :: .int (nI k) :: .ref a :: rest) μ Q := pj_astA hdg hm hv (vp_in_nI hk hn) (by rw [nI_clamp (Nat.lt_trans hk hn)]; exact kk)
end AA
section RFl
variable {g : GP} {P : Nat → Prop} {F : Mem} {A : XA} {τ : XT} {dn : XD} {ν : XS} {M : Mem}
theorem LvX.k32 {S : Nat → Nat → Nat} {z : Nat} (hz : z < 4) (hS : S 32 z = 1) : LvX S 32 0 z := ⟨by simp [wNX], by simp [cNX]; omega, fun _ => hS⟩
/-- a row of floats changes -/
theorem RX.fl (h : RX g P F A τ dn ν M) {z : Nat} {f : Nat → UInt32} (hl : LvX ν.2.1 32 0 z) : RX g P F A τ dn (ν.1, ν.2.1, ν.2.2.1, fun y => if y = z then f else ν.2.2.2 y) (mset M (A 32 0 z) (flA g f)) := by
  obtain ⟨h1, h2, h3, h4, h5, h6, h7⟩ := h
  refine ⟨fun k' w' i' hl' => ?_, h2, h3, fun a e hf => ?_, fun a e hf => ?_, h6, h7⟩
  · have hl' : LvX ν.2.1 k' w' i' := hl'
    by_cases e : k' = 32 ∧ w' = 0 ∧ i' = z
    · obtain ⟨rfl, rfl, rfl⟩ := e
      rw [mset_s]
      simp [celX, shX]
    · rw [mset_n (fun y => e (h2 _ _ _ _ _ _ hl' hl y)), h1 _ _ _ hl']
      by_cases hk : k' = 32
      · subst hk
        have w0 : w' = 0 := by have := hl'.1; simp [wNX] at this; exact this
        have e2 : ¬ i' = z := fun y => e ⟨rfl, w0, y⟩
        simp [celX, shX, e2]
      · unfold celX
        congr 1
        unfold shX
        split <;> first | rfl | exact absurd rfl hk
  · rw [mset_n (fun y => by rw [y, (h3 _ _ _ hl).1] at hf; cases hf)]
    exact h4 _ _ hf
  · rw [mset_n (fun y => by rw [y, (h3 _ _ _ hl).2] at hf; cases hf)]
    exact h5 _ _ hf
end RFl
theorem VX_5 {w : Nat} {S : Nat → Nat → Nat} {b : XS} {σ : MS} {e : XE} {x : Nat} {v : Int32} (hz : SzX w S) : VX w S b (wA σ 5 x v) e = VX w S b σ e := by
  funext k w' i j
  simp only [VX]
  by_cases hc : w' = wkX w k ∧ i < iNX S w k ∧ j < jNX k
  · rw [if_pos hc, if_pos hc, vaA_ne (fun z => ?_)]
    have h1 := invX_ok hz hc.2.1 hc.2.2 (by rw [z]; exact (by decide : (0 : Nat) < 3))
    rw [z] at h1
    have h2 : invX (0, 5, x) = (47, 0, x) := rfl
    rw [h2] at h1
    cases h1
    have h3 : (17 : Nat) = 5 := congrArg (fun t : Nat × Nat × Nat => t.2.1) z
    exact absurd h3 (by decide)
  · rw [if_neg hc, if_neg hc]
/-- one more told rain -/
def rnS (σ : MS) (z m : Nat) (v : Int32) : MS := wA (wA σ 5 (1000 * z + m) v) 6 z (nI (m + 1))
def rnOk (v : Int32) (x : UInt32) : Prop := (v = -1 ∧ x = 2143289344) ∨ ∃ n, n ≤ 500 ∧ v = nI n ∧ x = FP.i2f (nI n)
theorem rnS_6 {σ : MS} {z m y : Nat} {v : Int32} : (rnS σ z m v).2.1 6 y = if y = z then nI (m + 1) else σ.2.1 6 y := rfl
theorem rnS_5 {σ : MS} {z m x : Nat} {v : Int32} : (rnS σ z m v).2.1 5 x = if x = 1000 * z + m then v else σ.2.1 5 x := rfl
section RS
variable {g : GP} {P : Nat → Prop} {F : Mem} {A : XA} {w : Nat} {S : Nat → Nat → Nat} {b : XS} {σ : MS} {e : XE} {M : Mem}
theorem SX.r29 (h : SX g P F A w S b σ e M) : M (A 29 0 0) = some (.inr (34, [.ref (A 30 0 0), .ref (A 31 0 0)])) := by
  obtain ⟨τ, dn, fl, hR, -⟩ := h
  exact hR.gt (k := 29) (w := 0) (i := 0) (LvX.one (by decide) Nat.zero_lt_one)
theorem SX.r30 (h : SX g P F A w S b σ e M) : M (A 30 0 0) = some (.inl (gA g 8, 4, .inr (.inr (.inr (.inr (fun y => if S 32 y = 1 then some (A 32 0 y) else none)))))) := by
  obtain ⟨τ, dn, fl, hR, -⟩ := h
  exact hR.gt (k := 30) (w := 0) (i := 0) (LvX.one (by decide) Nat.zero_lt_one)
theorem SX.r32 (h : SX g P F A w S b σ e M) {z : Nat} (hz : z < 4) (hS : S 32 z = 1) : (∃ f, M (A 32 0 z) = some (flA g f)) ∧ A 29 0 0 ≠ A 32 0 z ∧ A 31 0 0 ≠ A 32 0 z := by
  obtain ⟨τ, dn, fl, hR, -⟩ := h
  have hl : LvX S 32 0 z := LvX.k32 hz hS
  refine ⟨⟨fl z, hR.gt (k := 32) (w := 0) (i := z) hl⟩, fun y => ?_, fun y => ?_⟩
  · have := (hR.2.1 29 0 0 32 0 z (LvX.one (by decide) Nat.zero_lt_one) hl y).1
    omega
  · have := (hR.2.1 31 0 0 32 0 z (LvX.one (by decide) Nat.zero_lt_one) hl y).1
    omega
theorem SX.rainPut (h : SX g P F A w S b σ e M) {z m : Nat} {v : Int32} {x : UInt32} {fl0 : Nat → UInt32} (hz : z < 4) (hS : S 32 z = 1) (hm : σ.2.1 6 z = nI m) (hm9 : m < 1000) (hv : rnOk v x) (hr : ∀ z, z < 4 → ∃ r, r ≤ 1000 ∧ σ.2.1 6 z = nI r) (hfl : M (A 32 0 z) = some (flA g fl0)) : SX g P F A w S b (rnS σ z m v) e (mset (mset M (A 32 0 z) (flA g (vf_upd fl0 m x))) (A 31 0 0) (.inl (gA g 0, 4, .inl (upd (VX w S b σ e 31 0 0) z (nI (m + 1)))))) := by
  obtain ⟨τ, dn, fl, hR, hz9, hf, hd⟩ := h
  have hl : LvX S 32 0 z := LvX.k32 hz hS
  have hc : M (A 32 0 z) = some (flA g (fl z)) := hR.gt (k := 32) (w := 0) (i := z) hl
  have e0 : fl0 = fl z := by
    rw [hfl] at hc
    have e1 := Option.some.inj hc
    simpa [flA] using e1
  subst e0
  have hR2 := hR.fl (z := z) (f := vf_upd (fl z) m x) hl
  have hR3 := hR2.put (k := 31) (w := 0) (i := 0) (j := z) (v := nI (m + 1)) (LvX.one (by decide) Nat.zero_lt_one) (by decide) (by decide)
  refine ⟨τ, dn, fun y => if y = z then vf_upd (fl z) m x else fl y, ?_, hz9, ?_, hd.cg rfl rfl rfl rfl⟩
  · have ev : VX w S b (rnS σ z m v) e = (sI (VX w S b σ e, S, σ.2.2, fun y => if y = z then vf_upd (fl z) m x else fl y) 31 0 0 z (nI (m + 1))).1 := by
      have e1 := VX_A (b := b) (σ := wA σ 5 (1000 * z + m) v) (e := e) (k := 31) (i := 0) (j := z) (a := 6) (x := z) (v := nI (m + 1)) (y := (S, σ.2.2, fun y => if y = z then vf_upd (fl z) m x else fl y)) hz9 (iN_31 hz9) (show z < 4 from hz) rfl
      rw [VX_5 hz9] at e1
      exact e1
    rw [ev]
    exact hR3
  · intro y hy
    by_cases e9 : y = z
    · subst e9
      refine ⟨Or.inl hS, fun j hj => ?_⟩
      rw [rnS_6, if_pos rfl, tN_nI (by omega)] at hj
      rw [rnS_5]
      dsimp only
      rw [if_pos rfl]
      by_cases ej : j = m
      · subst ej
        rw [if_pos rfl, show vf_upd (fl y) j x j = x from if_pos rfl]
        exact hv
      · rw [if_neg (by omega), show vf_upd (fl y) m x j = fl y j from if_neg ej]
        exact (hf y hy).2 j (by rw [hm, tN_nI (by omega)]; omega)
    · refine ⟨by rw [rnS_6, if_neg e9]; exact (hf y hy).1, fun j hj => ?_⟩
      rw [rnS_6, if_neg e9] at hj
      obtain ⟨r, hr9, er⟩ := hr y hy
      have hj2 := hj
      rw [er, tN_nI (by omega)] at hj2
      rw [rnS_5, if_neg (by omega)]
      dsimp only
      rw [if_neg e9]
      exact (hf y hy).2 j hj
def AzX (A : XA) (z q : Nat) : XA := fun k w i => if k = 32 ∧ w = 0 ∧ i = z then q else A k w i
theorem celX_32 {A A1 : XA} {τ : XT} {V : Nat → Nat → Nat → Nat → Int32} {S S1 : Nat → Nat → Nat} {L : Nat → Int64} {f f1 : Nat → Nat → UInt32} {k w i : Nat} (hA : ∀ k w i, k ≠ 32 → A1 k w i = A k w i) (hS : ∀ x y, x ≠ 32 → S1 x y = S x y) (h30 : k ≠ 30) (hf : k = 32 → f1 i = f i) : celX g A1 τ (V, S1, L, f1) k w i = celX g A τ (V, S, L, f) k w i := by
  show shX g A1 τ S1 L (f1 i) k w i (V k w i) = shX g A τ S L (f i) k w i (V k w i)
  by_cases h32 : k = 32
  · rw [hf h32]
    subst h32
    rfl
  · unfold shX
    split <;> first
      | exact absurd rfl h30
      | exact absurd rfl h32
      | (simp (disch := decide) only [coO, woO, lsX, ldX, elX, rnO, slW, hA, hS]; done)
      | rfl
theorem SzX.ne32 {z n : Nat} (hz : SzX w S) : SzX w (SnX S 32 z n) := by
  obtain ⟨z1, z2, z3, z4, z5, z6, z7, z8⟩ := hz
  refine ⟨z1, ?_, ?_, ?_, ?_, ?_, ?_, ?_⟩
  · rw [SnX_ne (by omega)]; exact z2
  · rw [SnX_ne (by omega)]; exact z3
  · rw [SnX_ne (by omega)]; exact z4
  · rw [SnX_ne (by omega)]; exact z5
  · rw [SnX_ne (by omega)]; exact z6
  · rw [SnX_ne (by omega)]; exact z7
  · exact ⟨by rw [SnX_ne (by omega), SnX_ne (by omega)]; exact z8.1, fun e9 => by rw [SnX_ne (by omega)]; exact z8.2 e9⟩
theorem SX.rainNew (h : SX g P F A w S b σ e M) {z q : Nat} (hz : z < 4) (hS : ¬ S 32 z = 1) (hq : M q = none) : SX g P F (AzX A z q) w (SnX S 32 z 1) b σ e (mset (mset M q (flA g (fun _ => 0))) (A 30 0 0) (rwA g (AzX A z q) (SnX S 32 z 1))) := by
  obtain ⟨τ, dn, fl, hR, hz9, hf, hd⟩ := h
  have hO := hR.own (c := flA g (fun _ => 0)) hq
  have hFq : F q = none := by
    cases hf9 : F q with
    | none => rfl
    | some x => rw [hR.f hf9] at hq; cases hq
  have hIq : tIm τ q = none := by
    cases hf9 : tIm τ q with
    | none => rfl
    | some x => rw [hR.im hf9] at hq; cases hq
  have hc6 : σ.2.1 6 z = nI 0 := (hf z hz).1.resolve_left hS
  have eA : ∀ k w' i, ¬ (k = 32 ∧ w' = 0 ∧ i = z) → AzX A z q k w' i = A k w' i := fun _ _ _ h => if_neg h
  have eA2 : ∀ k w' i, k ≠ 32 → AzX A z q k w' i = A k w' i := fun _ _ _ h => if_neg (fun t => h t.1)
  have eS : ∀ x y, x ≠ 32 → SnX S 32 z 1 x y = S x y := fun _ _ h => SnX_ne (fun t => h t.1)
  have eV : VX w (SnX S 32 z 1) b σ e = VX w S b σ e := VX_sz (fun x hx y => SnX_ne (by omega))
  have l30 : LvX S 30 0 0 := LvX.one (by decide) Nat.zero_lt_one
  have hLv : ∀ k w' i, LvX (SnX S 32 z 1) k w' i → LvX S k w' i ∨ (k = 32 ∧ w' = 0 ∧ i = z) := fun k w' i hl => by
    obtain ⟨l1, l2, l3⟩ := hl
    have l2' : i < cNX S k w' := by
      unfold cNX at l2 ⊢
      rw [eS 4 _ (by decide), eS 6 _ (by decide), eS 8 _ (by decide), eS 10 _ (by decide)] at l2
      exact l2
    by_cases c : k = 32 ∧ i = z
    · refine Or.inr ⟨c.1, ?_, c.2⟩
      obtain ⟨rfl, -⟩ := c
      simp [wNX] at l1
      exact l1
    · refine Or.inl ⟨l1, l2', fun y => ?_⟩
      have := l3 y
      rw [SnX_ne (fun t => c ⟨y, t.2⟩)] at this
      exact this
  have nq : ∀ k w' i, LvX S k w' i → A k w' i ≠ q := fun k w' i hl t => by
    have := hR.1 _ _ _ hl
    rw [t, hq] at this
    cases this
  refine ⟨τ, dn, fun y => if y = z then (fun _ => 0) else fl y, ?_, hz9.ne32, fun y hy => ?_, by rw [eS 8 w (by decide)]; exact hd⟩
  · rw [eV]
    refine RX.more hO (own_keep hFq) (fun _ t => Or.inl t) (fun a ha => (hR.2.2.2.2.2.1 a ha).1) 0 0 (fun k w' i hl => ?_) (fun k w' i hl => ?_) (fun k w' i hl => ?_) (fun k w' i k2 w2 i2 hl hl2 hn hn2 _ => ?_) (fun a x ha => ?_) rfl (fun a x ha => ?_) ?_
    · rcases hLv _ _ _ hl with t | ⟨rfl, rfl, rfl⟩
      · exact Or.inl t
      · rw [show AzX A i q 32 0 i = q from if_pos ⟨rfl, rfl, rfl⟩]
        exact Or.inr ⟨Or.inr rfl, hFq⟩
    · rcases hLv _ _ _ hl with t | ⟨rfl, rfl, rfl⟩
      · have hne : ¬ (k = 32 ∧ w' = 0 ∧ i = z) := fun y => by
          obtain ⟨rfl, -, rfl⟩ := y
          exact hS (t.2.2 rfl)
        rw [eA _ _ _ hne]
        by_cases k30 : k = 30
        · subst k30
          have w0 : w' = 0 := by have := t.1; simp [wNX] at this; exact this
          have i0 : i = 0 := by have := t.2.1; simp [cNX] at this; exact this
          subst w0
          subst i0
          rw [mset_s]
          rfl
        · rw [mset_n (fun y => k30 (hR.2.1 _ _ _ _ _ _ t l30 y).1), mset_n (nq _ _ _ t), hR.1 _ _ _ t]
          refine congrArg some (celX_32 eA2 eS k30 (fun y => ?_)).symm
          subst y
          have w0 : w' = 0 := by have := t.1; simp [wNX] at this; exact this
          exact if_neg (fun y => hne ⟨rfl, w0, y⟩)
      · rw [show AzX A i q 32 0 i = q from if_pos ⟨rfl, rfl, rfl⟩, mset_n (Ne.symm (nq _ _ _ l30)), mset_s]
        simp [celX, shX]
    · exact Or.inl (eA _ _ _ (fun y => by
        obtain ⟨rfl, -, rfl⟩ := y
        exact hS (hl.2.2 rfl)))
    · obtain ⟨a1, a2, a3⟩ := (hLv _ _ _ hl).resolve_left hn
      obtain ⟨b1, b2, b3⟩ := (hLv _ _ _ hl2).resolve_left hn2
      exact ⟨a1.trans b1.symm, a2.trans b2.symm, a3.trans b3.symm⟩
    · rw [mset_n (fun y => by rw [y, (hR.2.2.1 _ _ _ l30).1] at ha; cases ha), mset_n (fun y => by rw [y, hFq] at ha; cases ha)]
      exact hR.f ha
    · rw [mset_n (fun y => by rw [y, (hR.2.2.1 _ _ _ l30).2] at ha; cases ha), mset_n (fun y => by rw [y, hIq] at ha; cases ha)]
      exact hR.im ha
    · obtain ⟨i1, i2, i3, i4, i5⟩ := hR.2.2.2.2.2.2
      refine ⟨i1, fun w' hw' => ?_, fun l hl => ?_, fun x hx => ?_, fun x y hx => ?_⟩
      · rw [eA2 48 w' 0 (by decide), eA2 49 w' 0 (by decide), eA2 0 0 0 (by decide)]
        exact ⟨(i2 w' hw').1, (i2 w' hw').2.1, (i2 w' hw').2.2.trans (eS 59 0 (by decide)).symm⟩
      · rw [eA2 50 0 l (by decide)]
        exact i3 l (show l < S 8 0 from by rw [← eS 8 0 (by decide)]; exact hl)
      · rw [eA2 51 0 x (by decide)]
        exact i4 x (show x < S 16 0 from by rw [← eS 16 0 (by decide)]; exact hx)
      · show SnX S 32 z 1 x y ≤ tCp τ x y ∧ _
        unfold SnX
        by_cases c : x = 32 ∧ y = z
        · rw [if_pos c]
          exact ⟨(i5 x y hx).2.1, (i5 x y hx).2⟩
        · rw [if_neg c]
          exact i5 x y hx
  · by_cases e9 : y = z
    · subst e9
      exact ⟨Or.inl SnX_eq, fun j hj => by rw [hc6, tN_nI (by decide)] at hj; omega⟩
    · refine ⟨by rw [SnX_ne (fun t => e9 t.2)]; exact (hf y hy).1, fun j hj => ?_⟩
      dsimp only
      rw [if_neg e9]
      exact (hf y hy).2 j hj
end RS
