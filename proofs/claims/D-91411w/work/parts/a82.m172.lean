set_option maxRecDepth 100000
/-- the plan's own numbers alone change -/
def EP (e e1 : XE) : Prop := ∀ a, a ≠ 8 → a ≠ 17 → a ≠ 18 → e1 a = e a
theorem EP.rf {e : XE} : EP e e := fun _ _ _ _ => rfl
theorem EP.tr {e e1 e2 : XE} (h : EP e e1) (k : EP e1 e2) : EP e e2 := fun a h1 h2 h3 => (k a h1 h2 h3).trans (h a h1 h2 h3)
theorem EP.u {e e1 : XE} {k x : Nat} {v : Int32} (hk : k = 8 ∨ k = 17 ∨ k = 18) (h : EP e e1) : EP e (uE e1 k x v) := fun a h1 h2 h3 => (show uE e1 k x v a = e1 a by funext j; unfold uE; rw [if_neg (by omega)]).trans (h a h1 h2 h3)
section TXP
variable {w : Nat} {S : Nat → Nat → Nat} {σ : MS} {e : XE} {nw : Nat}
theorem TieX.eP {e1 : XE} (h : TieX w S σ e nw) (hz : SzX w S) (h9 : EP e e1) : TieX w S σ e1 nw := by
  have z6 := hz.2.2.1
  refine ⟨?_, ?_, ?_, ?_, ?_, ?_, ?_, ?_, ?_, ?_, ?_, ?_, ?_, ?_, tGh_cg h (fun _ _ => rfl) (fun _ _ => rfl) (fun _ _ => by rw [h9 16 (by decide) (by decide) (by decide)])⟩
  · rw [h9 0 (by decide) (by decide) (by decide)]; exact h.1
  · rw [h9 1 (by decide) (by decide) (by decide)]; exact h.2.1
  · rw [h9 2 (by decide) (by decide) (by decide)]; exact h.2.2.1
  · rw [h9 3 (by decide) (by decide) (by decide)]; exact h.2.2.2.1
  · rw [h9 6 (by decide) (by decide) (by decide), h9 15 (by decide) (by decide) (by decide)]; exact h.2.2.2.2.1
  · intro k hk; unfold DuX; rw [h9 16 (by decide) (by decide) (by decide)]; exact h.2.2.2.2.2.1 k hk
  · intro a ha j hj2 hj; rw [h9 (10 + a) (by omega) (by omega) (by omega)]; exact h.2.2.2.2.2.2.1 a ha j hj2 hj
  · exact h.2.2.2.2.2.2.2.1
  · exact h.2.2.2.2.2.2.2.2.1
  · intro l hl; unfold HiX; rw [h9 4 (by decide) (by decide) (by decide), h9 5 (by decide) (by decide) (by decide)]; exact h.2.2.2.2.2.2.2.2.2.1 l hl
  · rw [h9 7 (by decide) (by decide) (by decide)]; exact h.2.2.2.2.2.2.2.2.2.2.1
  · exact h.2.2.2.2.2.2.2.2.2.2.2.1
  · exact h.2.2.2.2.2.2.2.2.2.2.2.2.1
  · exact h.2.2.2.2.2.2.2.2.2.2.2.2.2.1
end TXP
theorem sF_F {σ : MS} {j : Nat} {x y : Int32} : sF (sF σ j x) j y = sF σ j y := by
  unfold sF
  congr 1
  funext k
  unfold upd
  dsimp only
  split <;> rfl
theorem sF_at {σ : MS} {j : Nat} {x : Int32} : (sF σ j x).1 j = x := by unfold sF upd; exact if_pos rfl
theorem psi_F {σ : MS} {j : Nat} {x : Int32} : psi (sF σ j x) = psi σ := rfl
/-- no trial is on -/
def RsT (σ : MS) : MS := sF (sF σ 23 (nI 0)) 7 (-1)
section B1
variable {g : GP} {P : Nat → Prop} {F : Mem} {A : XA} {S S1 : Nat → Nat → Nat} {b b1 : XS} {σ τ : MS} {e e2 : XE} {M : Mem} {i j : Nat}
theorem SX.r0b (h : SX g P F A 1 S b σ e M) : M (A 0 0 0) = some (coO A σ.2.2 (VX 1 S b σ e 0 0 0)) := by
  obtain ⟨τ, dn, fl, hR, -⟩ := h
  exact hR.gt (k := 0) (w := 0) (i := 0) (LvX.one (by decide) Nat.zero_lt_one)
theorem SX.r43b (h : SX g P F A 1 S b σ e M) : M (A 43 0 0) = some (.inl (gA g 0, 3, .inl (VX 1 S b σ e 43 0 0))) := by
  obtain ⟨τ, dn, fl, hR, -⟩ := h
  exact hR.gt (k := 43) (w := 0) (i := 0) (LvX.one (by decide) Nat.zero_lt_one)
theorem SX.r44b (h : SX g P F A 1 S b σ e M) : M (A 44 0 0) = some (.inl (gA g 0, 3, .inl (VX 1 S b σ e 44 0 0))) := by
  obtain ⟨τ, dn, fl, hR, -⟩ := h
  exact hR.gt (k := 44) (w := 0) (i := 0) (LvX.one (by decide) Nat.zero_lt_one)
theorem SX.r46b (h : SX g P F A 1 S b σ e M) : M (A 46 0 0) = some (.inl (gA g 0, 2, .inl (VX 1 S b σ e 46 0 0))) := by
  obtain ⟨τ, dn, fl, hR, -⟩ := h
  exact hR.gt (k := 46) (w := 0) (i := 0) (LvX.one (by decide) Nat.zero_lt_one)
theorem VXb {k : Nat} (hb : ∀ k i, b1.1 k 0 i = VX 0 S b σ e k 0 i) (hk : ¬ (27 ≤ k ∧ k ≤ 32)) : VX 1 S1 b1 τ e2 k 0 i j = VX 0 S b σ e k 0 i j := (VX_out (by unfold wkX; rw [if_neg hk]; decide)).trans (congrFun (hb k i) j)
theorem SX.v43b (hz : SzX 0 S) (hb : ∀ k i, b1.1 k 0 i = VX 0 S b σ e k 0 i) (hj : j < 3) : VX 1 S1 b1 τ e2 43 0 0 j = σ.2.1 15 j := (VXb hb (by decide)).trans (V43 hz hj)
theorem SX.v44b (hz : SzX 0 S) (hb : ∀ k i, b1.1 k 0 i = VX 0 S b σ e k 0 i) (hj : j < 3) : VX 1 S1 b1 τ e2 44 0 0 j = σ.2.1 16 j := (VXb hb (by decide)).trans (V44 hz hj)
theorem SX.v46b (hz : SzX 0 S) (hb : ∀ k i, b1.1 k 0 i = VX 0 S b σ e k 0 i) (hj : j < 2) : VX 1 S1 b1 τ e2 46 0 0 j = e 18 j := (VXb hb (by decide)).trans (V46 hz hj)
/-- in the other world's view: those gone hungry -/
theorem v6b {nw : Nat} {b3 : XS} (hz : SzX 1 S1) (hb : ∀ k i, b3.1 k 1 i = VX 1 S1 b1 τ e2 k 1 i) : VX 0 S b3 σ e 1 1 0 6 = row τ 2122 := (VX_out (by decide)).trans ((congrFun (hb 1 0) 6).trans (V1_6 hz))
end B1
theorem x_X2_passesN {g : GP} {μ : Mem} {d : Nat} {P : Nat → Prop} {F : Mem} {A : XA} {w : Nat} {S : Nat → Nat → Nat} {b : XS} {σ : MS} {n nl nb q nor nw : Nat} (hd : 346 ≤ d) (s : SB g P F A w S b σ nw μ) (h4 : S 4 w = n) (h8 : S 8 w = nl) (h10 : S 10 w = nb) (h6 : S 6 w = q) (iv : IvG σ n nl nb q nor nw) (hnw : nw < 1000) (h7 : σ.1 7 = -1 ∨ ¬ σ.1 7 < 0) (hTr : TrO σ) : PM g yX2_passes (ws_ yX2_passes cX2_passes 2 none) d (psi σ - psi (s_goes n nl nb q nw σ)) (3 * (psi σ - psi (s_goes n nl nb q nw σ))) [.ref (A 1 w 0)] μ (WQ none (SB g P F A w S b (s_goes n nl nb q nw σ) (nw + 1))) := by
  subst h4 h8 h10 h6
  exact x_X2_passesF hd s iv hnw h7 hTr
theorem HuX.le {m k : Nat} {σ : MS} (h : HuX m σ) (hk : m ≤ k) : HuX k σ := by
  obtain ⟨x, hx, e⟩ := h
  exact ⟨x, by omega, e⟩
theorem CsT_ss {S S1 : Nat → Nat → Nat} (ss : SsP S S1) : CsT S1 = 0 ∧ NsT S1 = 0 := by
  obtain ⟨s0, s4, s6, s8, s10, -⟩ := ss
  unfold CsT NsT
  rw [s4, s6, s8, s10, s0 4 0 (by omega), s0 6 0 (by omega), s0 8 0 (by omega), s0 10 0 (by omega)]
  omega
def GoI (g : GP) (P : Nat → Prop) (F : Mem) (n nl nb q nor nw : Nat) (σ1 : MS) (S0 : Nat → Nat → Nat) (A0 A : XA) (S : Nat → Nat → Nat) (b : XS) (e : XE) (υ : MS) (M : Mem) : Prop :=
  SX g P F A 0 S b (RsT υ) e M ∧ TieX 0 S (RsT υ) e nw ∧ eqX A A0 ∧ SqP S0 S ∧ BsX S b ∧ AkX S (RsT υ) nor ∧ PlI σ1 n nl nb q nor nw nw υ ∧ (∀ j, j < 2132 → row υ j = row σ1 j) ∧ υ.1 24 = -1
theorem rainF_s {n nl nb q nw st p r : Nat} {x : Int32 × Int32 × MS} {τ υ : MS} (h : υ = x.2.2) (hB : τ = rainB n nl nb q nw st p r υ) : rainF n nl nb q nw st p r x = (if r = 0 then row τ 2122 else if row τ 2122 ≤ x.1 then x.1 else row τ 2122, if r = 0 then nI (farmsC τ 96) else if x.2.1 ≤ nI (farmsC τ 96) then x.2.1 else nI (farmsC τ 96), s_back τ) := by
  subst h
  subst hB
  rfl
theorem max_le {x y : Int32} : (if x < y then y else x) = if y ≤ x then x else y := by
  by_cases h : x < y
  · rw [if_pos h, if_neg (Int32.not_le.mpr h)]
  · rw [if_neg h, if_pos (Int32.not_lt.mp h)]
theorem min_le {x y : Int32} : (if y < x then y else x) = if x ≤ y then x else y := by
  by_cases h : y < x
  · rw [if_pos h, if_neg (Int32.not_le.mpr h)]
  · rw [if_neg h, if_pos (Int32.not_lt.mp h)]

