set_option maxRecDepth 100000
theorem lst_keep {g : GP} {m n : Nat} {f : Nat → Option Nat} {p : Nat} (hf : ∀ j, n ≤ j → f j = none) : va_up f n (some p) = fun j => if j < n then f j else if j = n then some p else none := by
  funext j
  unfold va_up
  by_cases h : j = n
  · subst h
    simp
  · rw [if_neg h]
    by_cases h1 : j < n
    · rw [if_pos h1]
    · rw [if_neg h1, if_neg h, hf j (by omega)]
theorem lst_grow {g : GP} {n : Nat} {f : Nat → Option Nat} {p : Nat} : va_up (va_cpy f (fun _ => none) 0 0 n) n (some p) = fun j => if j < n then f j else if j = n then some p else none := by
  funext j
  unfold va_up
  by_cases h : j = n
  · subst h
    simp
  · rw [if_neg h]
    by_cases h1 : j < n
    · rw [if_pos h1, pk_cpy_in (by omega) (by omega)]
      exact congrArg f (by omega)
    · rw [if_neg h1, if_neg h, pk_cpy_out (Or.inr (by omega))]
section AL
variable {g : GP} {own : String} {cc : ByteArray} {nL : Nat} {i : MI} {d C N pc : Nat} {ls : List (Nat × Value)} {rest : List Value} {μ : Mem} {Q : OC → Mem → Prop}
/-- ArrayList.add, whether it grows or not -/
theorem pl_add {a e n m p ci index C1 N1 : Nat} {f : Nat → Option Nat} {mc : Int32} {vs : List Value} {r : vw_C} (h1 : Cond.methodLink own index (⟨"java/util/ArrayList", "add", "(Ljava/lang/Object;)Z"⟩ : MethodName) ∈ lw_all) (hdg : decode cc pc = .ok (.invokevirtual index, 3)) (hd : 8 ≤ d) (hl : LstC g μ a e n m f mc) (hn : n ≤ 100) (hm : 1 ≤ m ∧ m < 1000) (hf : ∀ j, n ≤ j → f j = none) (hel : ∀ i, i < n → ∀ y, f i = some y → ElO μ "java/lang/Object" y) (hv : μ p = some (.inr (ci, vs))) (hc : vwCl[ci]? = some r) (hca : Cond.castable r.1 "java/lang/Object" ∈ lw_tbl) (hpa : p ≠ a) (hea : ∀ i, i < n → ∀ y, f i = some y → y ≠ a) (hr8 : (rest.map fun v => v.category).sum ≤ 8) (hC : C1 + 1 ≤ C) (hN : N1 + 151 ≤ N)
    (kk : ∀ (q2 m1 : Nat) (mc1 : Int32), (q2 = e ∨ μ q2 = none) → n + 1 ≤ m1 → m1 < 1000 → PJ g own cc nL i d C1 N1 (pc + 3) ls (.int (nI 1) :: rest) (mset (mset μ q2 (lstA g m1 (fun j => if j < n then f j else if j = n then some p else none))) a (lstO mc1 q2 (n + 1))) Q) : PJ g own cc nL i d C N pc ls (.ref p :: .ref a :: rest) μ Q := by
  by_cases hnm : n < m
  · refine PJ.widen (C1 := C1) (N1 := N1) (by omega) (by omega) ?_
    refine pl_callVd (As := [.ref p]) (C1 := 0) (N1 := 0) (C2 := C1) (N2 := N1) ckJ2 mdJ2_add rfl h1 q633 q634 q129 hdg rfl rfl hr8 hl.1 (k_J2_add (d := d - 1) (by omega) hl hv hc hca hnm hpa) (by omega) (by omega) (by omega) ?_
    rw [lst_keep (g := g) (m := m) hf, mset_c hl.ne]
    exact kk e m (mc + nI 1) (Or.inl rfl) hnm hm.2
  · have e1 : m = n := by have := hl.2.2.1; omega
    subst e1
    have hg : grN m ≤ 151 := by unfold grN; split <;> omega
    have hg2 : m + 1 ≤ grN m := by unfold grN; split <;> omega
    refine pj_callV (As := [.ref p]) (C1 := 1) (N1 := grN m) (C2 := C1) (N2 := N1) ckJ2 mdJ2_add rfl h1 q633 q634 q129 hdg rfl rfl hr8 hl.1 (k_J2_addg (d := d - 1) (by omega) hl hm.1 (by omega) hel hv hc hca hpa hea) (by omega) (by omega) (by omega) (fun v M hq => ?_) (fun E9 q M hq => ?_)
    · obtain ⟨q, e2, hq0, -, rfl⟩ := hq
      cases e2
      have hqa : a ≠ q := fun z => by rw [← z, hl.1] at hq0; cases hq0
      rw [lst_grow (g := g), mset_c hqa]
      exact kk q (grN m) (mc + nI 1) (Or.inr hq0) hg2 (by omega)
    · obtain ⟨q1, e2, -⟩ := hq
      cases e2
end AL
section OU
variable {w : Nat} {S : Nat → Nat → Nat} {b : XS} {σ : MS} {e : XE} {a x k0 i0 j0 : Nat} {v : Int32}
/-- what is written at a place of nothing that is there -/
theorem VX_oA (hz : SzX w S) (hk : invX (0, a, x) = (k0, i0, j0)) (hi0 : ¬ i0 < iNX S w k0) : VX w S b (wA σ a x v) e = VX w S b σ e := by
  funext k w' i j
  simp only [VX]
  by_cases hc : w' = wkX w k ∧ i < iNX S w k ∧ j < jNX k
  · rw [if_pos hc, if_pos hc, vaA_ne (fun z => ?_)]
    have h1 := invX_ok hz hc.2.1 hc.2.2 (by rw [z]; exact (by decide : (0 : Nat) < 3))
    rw [z, hk] at h1
    cases h1
    exact hi0 hc.2.1
  · rw [if_neg hc, if_neg hc]
theorem VX_oE (hz : SzX w S) (hk : invX (2, a, x) = (k0, i0, j0)) (hi0 : ¬ i0 < iNX S w k0) : VX w S b σ (uE e a x v) = VX w S b σ e := by
  funext k w' i j
  simp only [VX]
  by_cases hc : w' = wkX w k ∧ i < iNX S w k ∧ j < jNX k
  · rw [if_pos hc, if_pos hc, vaE_ne (fun z => ?_)]
    have h1 := invX_ok hz hc.2.1 hc.2.2 (by rw [z]; exact (by decide : (2 : Nat) < 3))
    rw [z, hk] at h1
    cases h1
    exact hi0 hc.2.1
  · rw [if_neg hc, if_neg hc]
theorem iN_o35 {n : Nat} (h : S 4 w ≤ n) : ¬ n < iNX S w 35 := by
  unfold iNX
  rw [if_neg (by decide)]
  split
  · show ¬ n < S 4 w
    omega
  · omega
theorem iN_o40 {n : Nat} (h : S 10 w ≤ n) : ¬ n < iNX S w 40 := by
  unfold iNX
  rw [if_neg (by decide)]
  split
  · show ¬ n < S 10 w
    omega
  · omega
theorem iN_o36 {n k : Nat} (hk : k = 36 ∨ k = 37) (h : S 6 w ≤ n) : ¬ n < iNX S w k := by
  rcases hk with rfl | rfl <;> (unfold iNX; rw [if_neg (by decide)]; split <;> (first | (show ¬ n < S 6 w; omega) | omega))
theorem iN_o38 {n k : Nat} (hk : k = 38 ∨ k = 39) (h : S 8 w ≤ n) : ¬ n < iNX S w k := by
  rcases hk with rfl | rfl <;> (unfold iNX; rw [if_neg (by decide)]; split <;> (first | (show ¬ n < S 8 w; omega) | omega))
theorem S1X_ne {k w1 y z : Nat} (h : ¬ (y = k ∧ z = w1)) : S1X S k w1 y z = S y z := if_neg h
theorem S1X_eq {k w1 : Nat} : S1X S k w1 k w1 = S k w1 + 1 := if_pos ⟨rfl, rfl⟩
/-- a list one longer: all else is seen as before -/
theorem VX_S1 {k ko kq : Nat} (hk : (k = 4 ∧ ko = 35 ∧ kq = 35) ∨ (k = 10 ∧ ko = 40 ∧ kq = 40) ∨ (k = 6 ∧ ko = 36 ∧ kq = 37) ∨ (k = 8 ∧ ko = 38 ∧ kq = 39)) {k' w' i' : Nat} (hn : ¬ ((k' = ko ∨ k' = kq) ∧ w' = w ∧ i' = S k w)) : VX w (S1X S k w) b σ e k' w' i' = VX w S b σ e k' w' i' := by
  have key : w' = wkX w k' → (i' < iNX (S1X S k w) w k' ↔ i' < iNX S w k') := by
    intro hw
    by_cases c : 27 ≤ k' ∧ k' ≤ 32
    · unfold iNX
      rw [if_pos c, if_pos c]
      have : cNX (S1X S k w) k' 0 = cNX S k' 0 := by
        unfold cNX
        rw [if_neg (by omega), if_neg (by omega), if_neg (by omega), if_neg (by omega), if_neg (by omega), if_neg (show ¬ k' = 34 by omega), if_neg (show ¬ k' = 35 by omega), if_neg (show ¬ (k' = 36 ∨ k' = 37) by omega), if_neg (show ¬ (k' = 38 ∨ k' = 39) by omega), if_neg (show ¬ k' = 40 by omega)]
      rw [this]
    · have hw2 : w' = w := by rw [hw]; exact if_neg c
      unfold iNX
      rw [if_neg c, if_neg c]
      by_cases c2 : w < wNX k'
      · rw [if_pos c2, if_pos c2]
        have hi : (k' = ko ∨ k' = kq) → i' ≠ S k w := fun z y => hn ⟨z, hw2, y⟩
        unfold cNX
        have s4 : S1X S k w 4 w = if k = 4 then S 4 w + 1 else S 4 w := by
          by_cases z : k = 4
          · subst z; rw [if_pos rfl, S1X_eq]
          · rw [if_neg z, S1X_ne (fun y => z y.1.symm)]
        have s6 : S1X S k w 6 w = if k = 6 then S 6 w + 1 else S 6 w := by
          by_cases z : k = 6
          · subst z; rw [if_pos rfl, S1X_eq]
          · rw [if_neg z, S1X_ne (fun y => z y.1.symm)]
        have s8 : S1X S k w 8 w = if k = 8 then S 8 w + 1 else S 8 w := by
          by_cases z : k = 8
          · subst z; rw [if_pos rfl, S1X_eq]
          · rw [if_neg z, S1X_ne (fun y => z y.1.symm)]
        have s10 : S1X S k w 10 w = if k = 10 then S 10 w + 1 else S 10 w := by
          by_cases z : k = 10
          · subst z; rw [if_pos rfl, S1X_eq]
          · rw [if_neg z, S1X_ne (fun y => z y.1.symm)]
        rw [s4, s6, s8, s10]
        rcases hk with ⟨z1, z2, z3⟩ | ⟨z1, z2, z3⟩ | ⟨z1, z2, z3⟩ | ⟨z1, z2, z3⟩ <;> (subst z1; subst z2; subst z3; simp; repeat' split) <;> first | omega | (have := hi (by omega); omega) | (simp; done)
      · rw [if_neg c2, if_neg c2]
  funext j
  simp only [VX]
  by_cases hc : w' = wkX w k'
  · by_cases h2 : i' < iNX S w k' ∧ j < jNX k'
    · rw [if_pos ⟨hc, (key hc).mpr h2.1, h2.2⟩, if_pos ⟨hc, h2.1, h2.2⟩]
    · rw [if_neg (fun z => h2 ⟨(key hc).mp z.2.1, z.2.2⟩), if_neg (fun z => h2 z.2)]
  · rw [if_neg (fun z => hc z.1), if_neg (fun z => hc z.1)]
theorem LvX.s1 {k ko kq k' w' i' : Nat} (hk : (k = 4 ∧ ko = 35 ∧ kq = 35) ∨ (k = 10 ∧ ko = 40 ∧ kq = 40) ∨ (k = 6 ∧ ko = 36 ∧ kq = 37) ∨ (k = 8 ∧ ko = 38 ∧ kq = 39)) (h : LvX (S1X S k w) k' w' i') (hn : ¬ ((k' = ko ∨ k' = kq) ∧ w' = w ∧ i' = S k w)) : LvX S k' w' i' := by
  obtain ⟨h1, h2, h3⟩ := h
  refine ⟨h1, ?_, fun z => by have := h3 z; rw [S1X_ne (by omega)] at this; exact this⟩
  by_cases hw : w' = w
  · subst hw
    have s4 : S1X S k w' 4 w' = if k = 4 then S 4 w' + 1 else S 4 w' := by
      by_cases z : k = 4
      · subst z; rw [if_pos rfl, S1X_eq]
      · rw [if_neg z, S1X_ne (fun y => z y.1.symm)]
    have s6 : S1X S k w' 6 w' = if k = 6 then S 6 w' + 1 else S 6 w' := by
      by_cases z : k = 6
      · subst z; rw [if_pos rfl, S1X_eq]
      · rw [if_neg z, S1X_ne (fun y => z y.1.symm)]
    have s8 : S1X S k w' 8 w' = if k = 8 then S 8 w' + 1 else S 8 w' := by
      by_cases z : k = 8
      · subst z; rw [if_pos rfl, S1X_eq]
      · rw [if_neg z, S1X_ne (fun y => z y.1.symm)]
    have s10 : S1X S k w' 10 w' = if k = 10 then S 10 w' + 1 else S 10 w' := by
      by_cases z : k = 10
      · subst z; rw [if_pos rfl, S1X_eq]
      · rw [if_neg z, S1X_ne (fun y => z y.1.symm)]
    have hi : (k' = ko ∨ k' = kq) → i' ≠ S k w' := fun z y => hn ⟨z, rfl, y⟩
    unfold cNX at h2 ⊢
    rw [s4, s6, s8, s10] at h2
    rcases hk with ⟨z1, z2, z3⟩ | ⟨z1, z2, z3⟩ | ⟨z1, z2, z3⟩ | ⟨z1, z2, z3⟩ <;> (subst z1; subst z2; subst z3; simp at h2; revert h2; repeat' split) <;> intro h2 <;> first | omega | (have := hi (by omega); omega)
  · unfold cNX at h2 ⊢
    rw [S1X_ne (fun z => hw z.2), S1X_ne (fun z => hw z.2), S1X_ne (fun z => hw z.2), S1X_ne (fun z => hw z.2)] at h2
    exact h2
theorem VX_b {b1 : XS} {k' w' i' : Nat} (hb : b1.1 k' w' i' = b.1 k' w' i') : VX w S b1 σ e k' w' i' = VX w S b σ e k' w' i' := by
  funext j
  simp only [VX, vaX, hb]
theorem VX_cgE {e1 : XE} (hz : SzX w S) (he : ∀ k i j, i < iNX S w k → j < jNX k → (TX w k i j).1 = 2 → e1 (TX w k i j).2.1 (TX w k i j).2.2 = e (TX w k i j).2.1 (TX w k i j).2.2) : VX w S b σ e1 = VX w S b σ e := by
  funext k w' i j
  simp only [VX]
  by_cases hc : w' = wkX w k ∧ i < iNX S w k ∧ j < jNX k
  · rw [if_pos hc, if_pos hc]
    simp only [vaX]
    by_cases h2 : (TX w k i j).1 = 2
    · rw [he k i j hc.2.1 hc.2.2 h2]
    · rw [if_neg h2, if_neg h2]
  · rw [if_neg hc, if_neg hc]
theorem FlX.s1 {k w1 : Nat} {fl : Nat → Nat → UInt32} (h : FlX S σ fl) (hk : k ≠ 32) : FlX (S1X S k w1) σ fl := by
  intro z hz
  rw [S1X_ne (fun y => hk y.1.symm)]
  exact h z hz
end OU
section SA
variable {g : GP} {P P1 : Nat → Prop} {F F1 : Mem} {A : XA} {w : Nat} {S : Nat → Nat → Nat} {b b1 : XS} {σ σ1 : MS} {e e1 : XE} {M : Mem} {k ko kq q qv q2 m1 : Nat} {mc1 : Int32} {r rv : Nat → Int32}
/-- a fresh object, kept apart -/
theorem SX.own {c : va_E} (h : SX g P F A w S b σ e M) (hq : M q = none) : SX g (fun a => P a ∨ a = q) (mset F q c) A w S b σ e (mset M q c) ∧ F q = none := by
  obtain ⟨τ, dn, fl, hR, z⟩ := h
  refine ⟨⟨τ, dn, fl, hR.own hq, z⟩, ?_⟩
  cases hf : F q with
  | none => rfl
  | some x => rw [hR.f hf] at hq; cases hq
theorem SX.pf (h : SX g P F A w S b σ e M) : ∀ a, P a → F a ≠ none := by
  obtain ⟨τ, dn, fl, hR, z⟩ := h
  exact fun a ha => (hR.2.2.2.2.2.1 a ha).1
/-- what orders and asks tell are persons that are there -/
def OrX (w : Nat) (S : Nat → Nat → Nat) (b : XS) (σ : MS) (e : XE) : Prop := S 8 1 ≤ S 8 0 ∧ (∀ j, j < S 12 0 → tN (VX w S b σ e 13 0 0 j) < S 4 0) ∧ ∀ j, j < S 14 0 → tN (VX w S b σ e 15 0 0 j) < S 4 0
theorem S2_le {w : Nat} {S : Nat → Nat → Nat} (hz : SzX w S) : S 2 0 ≤ 96 ∧ S 2 1 ≤ 96 := ⟨by rw [hz.2.2.2.2.2.1]; omega, by rw [hz.2.2.2.2.2.2.1]; omega⟩
theorem SX.add1 (h : SX g P1 F1 A w S b σ e M) (hk : (k = 4 ∧ ko = 35) ∨ (k = 10 ∧ ko = 40)) (hF1 : ∀ a e, F a = some e → F1 a = some e) (hP : ∀ a, P a → P1 a) (hPF : ∀ a, P a → F a ≠ none) (hq : P1 q) (hqF : F q = none) (hqM : M q = some (if k = 4 then pO (VX w (S1X S k w) b σ1 e1 ko w (S k w)) else biO (VX w (S1X S k w) b σ1 e1 ko w (S k w)))) (hcg : VX w S b σ1 e1 = VX w S b σ e) (ha : ∀ a, a = 5 ∨ a = 6 ∨ a = 8 ∨ a = 9 ∨ a = 10 ∨ a = 11 → σ1.2.1 a = σ.2.1 a) (hl : σ1.2.2 = σ.2.2) (hq2 : q2 = A (k + 1) w 0 ∨ M q2 = none) (hm : S k w + 1 ≤ m1 ∧ m1 < 1000) (hz1 : SzX w (S1X S k w)) (or : OrX w S b σ e) :
  SX g P F (A1X A k ko w (S k w) q q2) w (S1X S k w) b σ1 e1 (mset (mset M q2 (lstA g m1 (fun j => if j < S k w then (if j < S k w then some (A ko w j) else none) else if j = S k w then some q else none))) (A k w 0) (lstO mc1 q2 (S k w + 1))) := by
  obtain ⟨τ, dn, fl, hR, hz, hf, hd⟩ := h
  have hR2 := RX.addO (mc1 := mc1) (r := VX w (S1X S k w) b σ1 e1 ko w (S k w)) hR hk hF1 hP hPF hz.1 hq hqF hqM hq2 hm (S2_le hz) or.1 or.2.1 or.2.2
  have hR3 := hR2.cgI (f := VX w (S1X S k w) b σ1 e1) (fun k' w' i' _ => ?_)
  · refine ⟨T1X τ k w m1 mc1, dn, fl, ?_, hz1, ?_, ?_⟩
    · have em : dataX g (A1X A k ko w (S k w) q q2) k w m1 (S k w + 1) (VX w S b σ e (k + 1) w 0) = lstA g m1 (fun j => if j < S k w then (if j < S k w then some (A ko w j) else none) else if j = S k w then some q else none) := by
        unfold dataX lstA
        have ef : (fun j => if j < S k w + 1 then some (elX (A1X A k ko w (S k w) q q2) k w (VX w S b σ e (k + 1) w 0) j) else none) = (fun j => if j < S k w then (if j < S k w then some (A ko w j) else none) else if j = S k w then some q else none) := by
          funext j
          have ee : elX (A1X A k ko w (S k w) q q2) k w (VX w S b σ e (k + 1) w 0) j = A1X A k ko w (S k w) q q2 ko w j := by rcases hk with ⟨z1, z2⟩ | ⟨z1, z2⟩ <;> (subst z1; subst z2; rfl)
          rw [ee]
          have kk : ko ≠ k + 1 := by omega
          by_cases h1 : j < S k w
          · rw [if_pos (by omega), if_pos h1, if_pos h1]
            unfold A1X
            rw [if_neg (fun z => by omega), if_neg (fun z => kk z.1)]
          · by_cases h2 : j = S k w
            · rw [if_pos (by omega), if_neg h1, if_pos h2]
              unfold A1X
              rw [if_pos ⟨rfl, rfl, h2⟩]
            · rw [if_neg (by omega), if_neg h1, if_neg h2]
        rw [ef]
      rw [← em, hl]
      exact hR3
    · exact (hf.cg (ha 5 (by decide)) (ha 6 (by decide))).s1 (by omega)
    · rw [S1X_ne (by omega)]
      exact hd.cg (ha 8 (by decide)) (ha 9 (by decide)) (ha 10 (by decide)) (ha 11 (by decide))
  · show VX w (S1X S k w) b σ1 e1 k' w' i' = (if k' = ko ∧ w' = w ∧ i' = S k w then VX w (S1X S k w) b σ1 e1 ko w (S k w) else VX w S b σ e k' w' i')
    by_cases c : k' = ko ∧ w' = w ∧ i' = S k w
    · rw [if_pos c, c.1, c.2.1, c.2.2]
    · rw [if_neg c, ← hcg]
      exact VX_S1 (k := k) (ko := ko) (kq := ko) (by omega) (fun z => c ⟨z.1.elim id id, z.2⟩)
/-- a party or a law is added, with the array that is its own -/
theorem SX.add2 (h : SX g P1 F1 A w S b σ e M) (hk : (k = 6 ∧ ko = 36 ∧ kq = 37) ∨ (k = 8 ∧ ko = 38 ∧ kq = 39)) (hF1 : ∀ a e, F a = some e → F1 a = some e) (hP : ∀ a, P a → P1 a) (hPF : ∀ a, P a → F a ≠ none) (hq : P1 q) (hqF : F q = none) (hqM : M q = some (if k = 6 then paO (VX w (S1X S k w) b1 σ1 e1 ko w (S k w)) qv else lwO (VX w (S1X S k w) b1 σ1 e1 ko w (S k w)) (A 50 0 (S k w)) qv)) (hv : P1 qv) (hvF : F qv = none) (hvM : M qv = some (if k = 6 then intX g 0 12 (VX w (S1X S k w) b1 σ1 e1 kq w (S k w)) else intX g 3 100 (VX w (S1X S k w) b1 σ1 e1 kq w (S k w)))) (hqv : q ≠ qv) (hk8 : k = 8 → w = 1 ∧ S 8 1 < S 8 0) (hcg : ∀ k' w' i', LvX S k' w' i' → VX w S b1 σ1 e1 k' w' i' = VX w S b σ e k' w' i') (ha : ∀ a, a = 5 ∨ a = 6 ∨ a = 8 ∨ a = 9 ∨ a = 10 ∨ a = 11 → σ1.2.1 a = σ.2.1 a) (hl : σ1.2.2 = σ.2.2) (hq2 : q2 = A (k + 1) w 0 ∨ M q2 = none) (hm : S k w + 1 ≤ m1 ∧ m1 < 1000) (hz1 : SzX w (S1X S k w)) (or : OrX w S b σ e) (hdn : k = 8 → ∀ dn, DnX σ (S 8 w) dn → DnX σ (S 8 w + 1) dn) :
  SX g P F (A2X A k ko kq w (S k w) q qv q2) w (S1X S k w) b1 σ1 e1 (mset (mset M q2 (lstA g m1 (fun j => if j < S k w then (if j < S k w then some (A ko w j) else none) else if j = S k w then some q else none))) (A k w 0) (lstO mc1 q2 (S k w + 1))) := by
  obtain ⟨τ, dn, fl, hR, hz, hf, hd⟩ := h
  have hR2 := RX.addQ (mc1 := mc1) (r := VX w (S1X S k w) b1 σ1 e1 ko w (S k w)) (rv := VX w (S1X S k w) b1 σ1 e1 kq w (S k w)) hR hk hF1 hP hPF hz.1 hq hqF hqM hv hvF hvM hqv (fun z8 z0 => by have := (hk8 z8).1; omega) (fun z8 _ => (hk8 z8).2) hq2 hm (S2_le hz) or.1 or.2.1 or.2.2
  have hR3 := hR2.cgI (f := VX w (S1X S k w) b1 σ1 e1) (fun k' w' i' hlv => ?_)
  · refine ⟨T1X τ k w m1 mc1, dn, fl, ?_, hz1, ?_, ?_⟩
    · have em : dataX g (A2X A k ko kq w (S k w) q qv q2) k w m1 (S k w + 1) (VX w S b σ e (k + 1) w 0) = lstA g m1 (fun j => if j < S k w then (if j < S k w then some (A ko w j) else none) else if j = S k w then some q else none) := by
        unfold dataX lstA
        have ef : (fun j => if j < S k w + 1 then some (elX (A2X A k ko kq w (S k w) q qv q2) k w (VX w S b σ e (k + 1) w 0) j) else none) = (fun j => if j < S k w then (if j < S k w then some (A ko w j) else none) else if j = S k w then some q else none) := by
          funext j
          have ee : elX (A2X A k ko kq w (S k w) q qv q2) k w (VX w S b σ e (k + 1) w 0) j = A2X A k ko kq w (S k w) q qv q2 ko w j := by rcases hk with ⟨z1, z2, z3⟩ | ⟨z1, z2, z3⟩ <;> (subst z1; subst z2; rfl)
          rw [ee]
          have kk : ko ≠ k + 1 ∧ ko ≠ kq := by omega
          by_cases h1 : j < S k w
          · rw [if_pos (by omega), if_pos h1, if_pos h1]
            unfold A2X
            rw [if_neg (fun z => by omega), if_neg (fun z => kk.2 z.1), if_neg (fun z => kk.1 z.1)]
          · by_cases h2 : j = S k w
            · rw [if_pos (by omega), if_neg h1, if_pos h2]
              unfold A2X
              rw [if_pos ⟨rfl, rfl, h2⟩]
            · rw [if_neg (by omega), if_neg h1, if_neg h2]
        rw [ef]
      rw [← em, hl]
      exact hR3
    · exact (hf.cg (ha 5 (by decide)) (ha 6 (by decide))).s1 (by omega)
    · have hd1 : DnX σ1 (S 8 w) dn := hd.cg (ha 8 (by decide)) (ha 9 (by decide)) (ha 10 (by decide)) (ha 11 (by decide))
      by_cases k8 : k = 8
      · subst k8
        rw [S1X_eq]
        exact (hdn rfl dn hd).cg (ha 8 (by decide)) (ha 9 (by decide)) (ha 10 (by decide)) (ha 11 (by decide))
      · rw [S1X_ne (fun z => k8 z.1.symm)]
        exact hd1
  · show VX w (S1X S k w) b1 σ1 e1 k' w' i' = (if k' = ko ∧ w' = w ∧ i' = S k w then VX w (S1X S k w) b1 σ1 e1 ko w (S k w) else if k' = kq ∧ w' = w ∧ i' = S k w then VX w (S1X S k w) b1 σ1 e1 kq w (S k w) else VX w S b σ e k' w' i')
    by_cases c : k' = ko ∧ w' = w ∧ i' = S k w
    · rw [if_pos c, c.1, c.2.1, c.2.2]
    · rw [if_neg c]
      by_cases c2 : k' = kq ∧ w' = w ∧ i' = S k w
      · rw [if_pos c2, c2.1, c2.2.1, c2.2.2]
      · have hn : ¬ ((k' = ko ∨ k' = kq) ∧ w' = w ∧ i' = S k w) := fun z => z.1.elim (fun y => c ⟨y, z.2⟩) (fun y => c2 ⟨y, z.2⟩)
        have hk4 : (k = 4 ∧ ko = 35 ∧ kq = 35) ∨ (k = 10 ∧ ko = 40 ∧ kq = 40) ∨ (k = 6 ∧ ko = 36 ∧ kq = 37) ∨ (k = 8 ∧ ko = 38 ∧ kq = 39) := hk.elim (fun z => Or.inr (Or.inr (Or.inl z))) (fun z => Or.inr (Or.inr (Or.inr z)))
        have hl8 : LvX S k' w' i' := LvX.s1 (k := k) (ko := ko) (kq := kq) hk4 hlv hn
        rw [if_neg c2, ← hcg k' w' i' hl8]
        exact VX_S1 (k := k) (ko := ko) (kq := kq) hk4 hn
end SA
