set_option maxRecDepth 100000
def CsT (S : Nat → Nat → Nat) : Nat := 2 * (S 4 0 - S 4 1) + 3 * (S 6 0 - S 6 1) + 3 * (S 8 0 - S 8 1) + 2 * (S 10 0 - S 10 1)
def NsT (S : Nat → Nat → Nat) : Nat := 161 * (S 4 0 - S 4 1) + 167 * (S 6 0 - S 6 1) + 260 * (S 8 0 - S 8 1) + 155 * (S 10 0 - S 10 1)
/-- sizes behind set: the tries' lists are as long as the world's -/
def SsP (S S1 : Nat → Nat → Nat) : Prop := (∀ x y, ¬ ((x = 4 ∨ x = 6 ∨ x = 8 ∨ x = 10 ∨ x = 63) ∧ y = 1) → S1 x y = S x y) ∧ S1 4 1 = S 4 0 ∧ S1 6 1 = S 6 0 ∧ S1 8 1 = S 8 0 ∧ S1 10 1 = S 10 0 ∧ 96 ≤ S1 63 1
def eqX (A1 A : XA) : Prop := A1 0 0 0 = A 0 0 0 ∧ A1 1 0 0 = A 1 0 0 ∧ A1 1 1 0 = A 1 1 0
def setk (k : Nat) : Prop := k = 1 ∨ (18 ≤ k ∧ k ≤ 24) ∨ (34 ≤ k ∧ k ≤ 40)
/-- ints behind set -/
def SvP (S : Nat → Nat → Nat) (V V1 : Nat → Nat → Nat → Nat → Int32) : Prop :=
  (∀ k w i, ¬ (setk k ∧ w = 1) → V1 k w i = V k w i) ∧ V1 1 1 0 = r9V V ∧ (∀ k, 18 ≤ k → k ≤ 24 → ∀ j, j < jNX k → V1 k 1 0 j = V k 0 0 j) ∧ (∀ i, i < 96 → V1 34 1 i = V 34 0 i)
  ∧ (∀ p, p < S 4 0 → V1 35 1 p 0 = nI p ∧ ∀ j, 2 ≤ j → j < 10 → V1 35 1 p j = V 35 0 p j)
  ∧ (∀ p, p < S 6 0 → V1 36 1 p 0 = V 36 0 p 0 ∧ V1 36 1 p 1 = V 36 0 p 1 ∧ V1 36 1 p 2 = V 36 0 p 2 ∧ ∀ j, j < tN (V 36 0 p 2) → V1 37 1 p j = V 37 0 p j)
  ∧ (∀ p, p < S 8 0 → ∀ j, (j = 1 ∨ j = 2 ∨ j = 3 ∨ j = 4 ∨ j = 7) → V1 38 1 p j = V 38 0 p j)
  ∧ ∀ p, p < S 10 0 → V1 40 1 p 0 = V 40 0 p 0 ∧ V1 40 1 p 1 = V 40 0 p 1 ∧ V1 40 1 p 2 = V 40 0 p 2 ∧ V1 40 1 p 3 = V 40 0 p 3
set_option maxHeartbeats 1000000 in
theorem x_X2_set {g : GP} {μ : Mem} {d : Nat} {P : Nat → Prop} {F : Mem} {A : XA} {S : Nat → Nat → Nat} {V : Nat → Nat → Nat → Nat → Int32} {L : Nat → Int64} {fl : Nat → Nat → UInt32} {dn : XD} (hd : 11 ≤ d) (h : RV g P F A S V L fl dn μ) (hfit : ∀ j, j < 96 → fits .boolean (.int (V 21 0 0 j)) = true) (hi4 : ∀ p, p < S 4 1 → V 35 1 p 0 = nI p) (hi6 : ∀ p, p < S 6 1 → V 36 1 p 0 = V 36 0 p 0) (hq0 : ∀ p, p < S 6 0 → ∃ m, m ≤ 12 ∧ V 36 0 p 2 = nI m) (hz0 : ∀ p, p < S 8 0 → V 38 0 p 7 = nI 0 ∨ V 38 0 p 7 = nI 1) (hi10 : ∀ p, p < S 10 1 → V 40 1 p 0 = V 40 0 p 0 ∧ V 40 1 p 1 = V 40 0 p 1) :
  PM g yX2_set (ws_ yX2_set cX2_set 3 (some (.object "SettlerColony$World"))) d (CsT S) (NsT S) [.ref (A 1 1 0), .ref (A 1 0 0)] μ (WQ (some (.ref (A 1 1 0))) (fun M => ∃ A1 S1 V1, eqX A1 A ∧ SsP S S1 ∧ SvP S V V1 ∧ RV g P F A1 S1 V1 L fl dn M)) := by
  refine PM.of (by decide +kernel) (Nat.le_of_ble_eq_true rfl) ?_
  refine PJ.ok (fun G => ?_)
  show PJ g _ _ _ _ d (CsT S) (NsT S) 0 [(0, .ref (A 1 1 0)), (1, .ref (A 1 0 0))] [] _ _
  refine set_a (by omega) h hfit (fun Va Ma ha sa => ?_)
  refine set_b (by omega) ha (fun Sb Vb Mb hb sb bS b63 => ?_)
  have ob : ∀ k w i, ¬ ((k = 1 ∨ (18 ≤ k ∧ k ≤ 24) ∨ k = 34) ∧ w = 1) → Vb k w i = V k w i := fun k w i hn => (sb.1 k w i (by omega)).trans (sa.1 k w i (by omega))
  refine PJ.widen (C1 := (2 * (S 10 0 - S 10 1) + 3 * (S 8 0 - S 8 1) + 3 * (S 6 0 - S 6 1)) + 2 * (Sb 4 0 - Sb 4 1)) (N1 := (155 * (S 10 0 - S 10 1) + 260 * (S 8 0 - S 8 1) + 167 * (S 6 0 - S 6 1)) + 161 * (Sb 4 0 - Sb 4 1)) (by rw [bS 4 0 (by omega), bS 4 1 (by omega)]; unfold CsT; omega) (by rw [bS 4 0 (by omega), bS 4 1 (by omega)]; unfold NsT; omega) ?_
  refine set_c (by omega) hb (fun p hp => by rw [ob 35 1 p (by omega)]; exact hi4 p (by rw [← bS 4 1 (by omega)]; exact hp)) (fun Ac Sc Vc Mc hc sc ec0 => ?_)
  obtain ⟨cA, cS0, -, cV, cR1, cR2⟩ := sc
  rw [bS 4 0 (by omega)] at ec0 cR2
  have ec : Sc 4 1 = S 4 0 := ec0
  have c63 : 96 ≤ Sc 63 1 := by rw [cS0 63 1 (by omega)]; exact b63
  have cS : ∀ x y, ¬ ((x = 4 ∨ x = 63) ∧ y = 1) → Sc x y = S x y := fun x y hn => (cS0 x y (by omega)).trans (bS x y (by omega))
  have oc : ∀ k w i, ¬ ((k = 1 ∨ (18 ≤ k ∧ k ≤ 24) ∨ k = 34 ∨ k = 35) ∧ w = 1) → Vc k w i = V k w i := fun k w i hn => (cV k w i (by omega)).trans (ob k w i (by omega))
  refine PJ.widen (C1 := (2 * (S 10 0 - S 10 1) + 3 * (S 8 0 - S 8 1)) + 3 * (Sc 6 0 - Sc 6 1)) (N1 := (155 * (S 10 0 - S 10 1) + 260 * (S 8 0 - S 8 1)) + 167 * (Sc 6 0 - Sc 6 1)) (by rw [cS 6 0 (by omega), cS 6 1 (by omega)]; omega) (by rw [cS 6 0 (by omega), cS 6 1 (by omega)]; omega) ?_
  refine set_d (by omega) hc (fun p hp => by rw [oc 36 1 p (by omega), oc 36 0 p (by omega)]; exact hi6 p (by rw [← cS 6 1 (by omega)]; exact hp)) (fun p hp => by rw [oc 36 0 p (by omega)]; exact hq0 p (by rw [← cS 6 0 (by omega)]; exact hp)) (fun Ad Sd Vd Md hdd sd ed => ?_)
  obtain ⟨dA, dS, -, dV, dR1, dR2⟩ := sd
  have od : ∀ k w i, ¬ ((k = 1 ∨ (18 ≤ k ∧ k ≤ 24) ∨ (34 ≤ k ∧ k ≤ 37)) ∧ w = 1) → Vd k w i = V k w i := fun k w i hn => (dV k w i (by omega)).trans (oc k w i (by omega))
  have dS2 : ∀ x y, ¬ ((x = 4 ∨ x = 6 ∨ x = 63) ∧ y = 1) → Sd x y = S x y := fun x y hn => (dS x y (by omega)).trans (cS x y (by omega))
  refine PJ.widen (C1 := 2 * (S 10 0 - S 10 1) + 3 * (Sd 8 0 - Sd 8 1)) (N1 := 155 * (S 10 0 - S 10 1) + 260 * (Sd 8 0 - Sd 8 1)) (by rw [dS2 8 0 (by omega), dS2 8 1 (by omega)]; omega) (by rw [dS2 8 0 (by omega), dS2 8 1 (by omega)]; omega) ?_
  refine set_e (by omega) hdd (fun p hp => by rw [od 38 0 p (by omega)]; exact hz0 p (by rw [← dS2 8 0 (by omega)]; exact hp)) (fun Ae Se Ve Me he se ee => ?_)
  obtain ⟨eA, eS, -, eV, eR⟩ := se
  have oe : ∀ k w i, ¬ ((k = 1 ∨ (18 ≤ k ∧ k ≤ 24) ∨ (34 ≤ k ∧ k ≤ 39)) ∧ w = 1) → Ve k w i = V k w i := fun k w i hn => (eV k w i (by omega)).trans (od k w i (by omega))
  have eS2 : ∀ x y, ¬ ((x = 4 ∨ x = 6 ∨ x = 8 ∨ x = 63) ∧ y = 1) → Se x y = S x y := fun x y hn => (eS x y (by omega)).trans (dS2 x y (by omega))
  refine PJ.widen (C1 := 0 + 2 * (Se 10 0 - Se 10 1)) (N1 := 0 + 155 * (Se 10 0 - Se 10 1)) (by rw [eS2 10 0 (by omega), eS2 10 1 (by omega)]; omega) (by rw [eS2 10 0 (by omega), eS2 10 1 (by omega)]; omega) ?_
  refine set_f (by omega) he (fun p hp => by rw [oe 40 1 p (by omega), oe 40 0 p (by omega)]; exact hi10 p (by rw [← eS2 10 1 (by omega)]; exact hp)) (fun Af Sf Vf Mf hf sf ef => ?_)
  obtain ⟨fA, fS, -, fV, fR1, fR2⟩ := sf
  refine pl_aload_n (pc := 559) dX2_set_559 rfl rfl ?_
  refine pj_aret (pc := 560) dX2_set_560 rfl (Or.inl ⟨_, rfl⟩) (Or.inr ⟨_, rfl⟩) ?_
  have q0 : Af 0 0 0 = A 0 0 0 := fA.1.trans (eA.1.trans (dA.1.trans cA.1))
  have q1 : Af 1 0 0 = A 1 0 0 := fA.2.1.trans (eA.2.1.trans (dA.2.1.trans cA.2.1))
  have q2 : Af 1 1 0 = A 1 1 0 := fA.2.2.trans (eA.2.2.trans (dA.2.2.trans cA.2.2))
  refine ⟨by rw [q2], Af, Sf, Vf, ⟨q0, q1, q2⟩, ⟨fun x y hn => (fS x y (by omega)).trans (eS2 x y (by omega)), ?_, ?_, ?_, ?_, by rw [fS 63 1 (by omega), eS 63 1 (by omega), dS 63 1 (by omega)]; exact c63⟩, ⟨fun k w i hn => (fV k w i (by unfold setk at hn; omega)).trans (oe k w i (by unfold setk at hn; omega)), ?_, fun k h1 h2 j hj => ?_, fun i hi => ?_, fun p hp => ?_, fun p hp => ?_, fun p hp j hj => ?_, fun p hp => ?_⟩, hf⟩
  · rw [fS 4 1 (by omega), eS 4 1 (by omega), dS 4 1 (by omega), ec]
  · rw [fS 6 1 (by omega), eS 6 1 (by omega), ed, cS 6 0 (by omega)]
  · rw [fS 8 1 (by omega), ee, dS2 8 0 (by omega)]
  · rw [ef, eS2 10 0 (by omega)]
  · rw [fV 1 1 0 (by omega), eV 1 1 0 (by omega), dV 1 1 0 (by omega), cV 1 1 0 (by omega), sb.1 1 1 0 (by omega)]
    exact sa.2.1
  · rw [fV k 1 0 (by omega), eV k 1 0 (by omega), dV k 1 0 (by omega), cV k 1 0 (by omega), sb.1 k 1 0 (by omega)]
    exact sa.2.2 k h1 h2 j hj
  · rw [fV 34 1 i (by omega), eV 34 1 i (by omega), dV 34 1 i (by omega), cV 34 1 i (by omega), sb.2 i hi]
    exact sa.1 34 0 i (by omega)
  · have e35 : Vf 35 1 p = Vc 35 1 p := by rw [fV 35 1 p (by omega), eV 35 1 p (by omega), dV 35 1 p (by omega)]
    rw [e35]
    refine ⟨cR1 p (by rw [ec]; exact hp), fun j h1 h2 => ?_⟩
    rw [cR2 p hp j h1 h2, ob 35 0 p (by omega)]
  · have e36 : Vf 36 1 p = Vd 36 1 p := by rw [fV 36 1 p (by omega), eV 36 1 p (by omega)]
    have e37 : Vf 37 1 p = Vd 37 1 p := by rw [fV 37 1 p (by omega), eV 37 1 p (by omega)]
    have hp6 : p < Sc 6 0 := by rw [cS 6 0 (by omega)]; exact hp
    rw [e36, e37]
    have r1 := dR1 p (by rw [ed]; exact hp6)
    obtain ⟨⟨r2, r3⟩, r4⟩ := dR2 p hp6
    rw [oc 36 0 p (by omega)] at r1 r2 r3 r4
    refine ⟨r1, r2, r3, fun j hj => ?_⟩
    rw [r4 j hj, oc 37 0 p (by omega)]
  · rw [fV 38 1 p (by omega), eR p (by rw [dS2 8 0 (by omega)]; exact hp) j hj, od 38 0 p (by omega)]
  · have hp10 : p < Se 10 0 := by rw [eS2 10 0 (by omega)]; exact hp
    obtain ⟨r1, r2⟩ := fR1 p (by rw [ef]; exact hp10)
    obtain ⟨r3, r4⟩ := fR2 p hp10
    rw [oe 40 0 p (by omega)] at r1 r2 r3 r4
    exact ⟨r1, r2, r3, r4⟩
def trS (σ : MS) : MS := sF (sF (sF σ 23 (nI 0)) 24 (-1)) 7 (-1)
def setE (e : XE) (V1 : Nat → Nat → Nat → Nat → Int32) : XE := fun a j => if a = 9 then V1 26 1 0 j else if 10 ≤ a ∧ a < 14 then V1 37 1 (a - 10) j else e a j
/-- what the baseline tells of the world of tries -/
def BsX (S : Nat → Nat → Nat) (b : XS) : Prop := (S 4 1 ≤ S 4 0 ∧ S 6 1 ≤ S 6 0 ∧ S 8 1 ≤ S 8 0 ∧ S 10 1 ≤ S 10 0) ∧ (∀ p, p < S 4 1 → b.1 35 1 p 0 = nI p) ∧ (∀ a, a < S 6 1 → b.1 36 1 a 0 = nI (S 60 a)) ∧ ∀ k, k < S 10 1 → b.1 40 1 k 0 = nI (S 61 k) ∧ b.1 40 1 k 1 = nI (S 62 k)
theorem VX_out {w : Nat} {S : Nat → Nat → Nat} {b : XS} {σ : MS} {e : XE} {k w' i j : Nat} (h : w' ≠ wkX w k) : VX w S b σ e k w' i j = b.1 k w' i j := if_neg (fun z => h z.1)
theorem VX_setk {S S1 : Nat → Nat → Nat} {b : XS} {σ : MS} {e : XE} {V1 : Nat → Nat → Nat → Nat → Int32} {y : (Nat → Nat → Nat) × (Nat → Int64) × (Nat → Nat → UInt32)} (hz : SzX 0 S) (ss : SsP S S1) (sv : SvP S (VX 0 S b σ e) V1) {k w i j : Nat} (hw : w = wkX 1 k) (hi : i < iNX S1 1 k) (hj : j < jNX k) : vaX (V1, y) (trS σ) (setE e V1) k w i j (TX 1 k i j) = V1 k w i j := by
  obtain ⟨v1, v2, v3, v4, v5, v6, v7, v8⟩ := sv
  obtain ⟨s0, s4, s6, s8, s10, -⟩ := ss
  match k, hw, hi, hj with
  | 0, hw, hi, hj => exact absurd hi (by simp [iNX, wNX])
  | 1, hw, hi, hj =>
    subst hw
    have i0 : i = 0 := by have := iN_le_1 hi; omega
    subst i0
    have hj : j < 12 := hj
    show _ = V1 1 1 0 j
    rcases (by omega : j = 0 ∨ j = 1 ∨ j = 2 ∨ j = 3 ∨ j = 4 ∨ j = 5 ∨ j = 6 ∨ j = 7 ∨ j = 8 ∨ j = 9 ∨ j = 10 ∨ j = 11) with rfl | rfl | rfl | rfl | rfl | rfl | rfl | rfl | rfl | rfl | rfl | rfl
    · rw [v2, show r9V (VX 0 S b σ e) 0 = VX 0 S b σ e 1 0 0 0 from rfl, V1_0 hz]
      rfl
    · rw [v2, show r9V (VX 0 S b σ e) 1 = VX 0 S b σ e 1 0 0 1 from rfl, V1_1 hz]
      rfl
    · rw [v2, show r9V (VX 0 S b σ e) 2 = VX 0 S b σ e 1 0 0 2 from rfl, V1_2 hz]
      rfl
    · rw [v2, show r9V (VX 0 S b σ e) 3 = VX 0 S b σ e 1 0 0 3 from rfl, V1_3 hz]
      rfl
    · rfl
    · rfl
    · rw [v2, show r9V (VX 0 S b σ e) 6 = VX 0 S b σ e 1 0 0 6 from rfl, V1_6 hz]
      rfl
    · rw [v2, show r9V (VX 0 S b σ e) 7 = VX 0 S b σ e 1 0 0 7 from rfl, V1_7 hz]
      rfl
    · rfl
    · rw [v2]
      rfl
    · rw [v2]
      rfl
    · rw [v2]
      rfl
  | 2, hw, hi, hj => exact absurd hj (Nat.not_lt_zero _)
  | 3, hw, hi, hj => exact absurd hj (Nat.not_lt_zero _)
  | 4, hw, hi, hj => exact absurd hj (Nat.not_lt_zero _)
  | 5, hw, hi, hj => exact absurd hj (Nat.not_lt_zero _)
  | 6, hw, hi, hj => exact absurd hj (Nat.not_lt_zero _)
  | 7, hw, hi, hj => exact absurd hj (Nat.not_lt_zero _)
  | 8, hw, hi, hj => exact absurd hj (Nat.not_lt_zero _)
  | 9, hw, hi, hj => exact absurd hj (Nat.not_lt_zero _)
  | 10, hw, hi, hj => exact absurd hj (Nat.not_lt_zero _)
  | 11, hw, hi, hj => exact absurd hj (Nat.not_lt_zero _)
  | 12, hw, hi, hj => exact absurd hj (Nat.not_lt_zero _)
  | 13, hw, hi, hj => exact absurd hi (by simp [iNX, wNX])
  | 14, hw, hi, hj => exact absurd hj (Nat.not_lt_zero _)
  | 15, hw, hi, hj => exact absurd hi (by simp [iNX, wNX])
  | 16, hw, hi, hj => exact absurd hj (Nat.not_lt_zero _)
  | 17, hw, hi, hj => exact absurd hi (by simp [iNX, wNX])
  | 18, hw, hi, hj =>
    subst hw
    have i0 : i = 0 := by have := iN_le_18 hi; omega
    subst i0
    show _ = V1 18 1 0 j
    rw [v3 18 (by decide) (by decide) j hj, V18 hz hj]
    rfl
  | 19, hw, hi, hj =>
    subst hw
    have i0 : i = 0 := by have := iN_le_19 hi; omega
    subst i0
    show _ = V1 19 1 0 j
    rw [v3 19 (by decide) (by decide) j hj, V19 hz hj]
    rfl
  | 20, hw, hi, hj =>
    subst hw
    have i0 : i = 0 := by have := iN_le_20 hi; omega
    subst i0
    show _ = V1 20 1 0 j
    rw [v3 20 (by decide) (by decide) j hj, V20 hz hj]
    rfl
  | 21, hw, hi, hj =>
    subst hw
    have i0 : i = 0 := by have := iN_le_21 hi; omega
    subst i0
    show _ = V1 21 1 0 j
    rw [v3 21 (by decide) (by decide) j hj, V21 hz hj]
    rfl
  | 22, hw, hi, hj =>
    subst hw
    have i0 : i = 0 := by have := iN_le_22 hi; omega
    subst i0
    show _ = V1 22 1 0 j
    rw [v3 22 (by decide) (by decide) j hj, V22 hz hj]
    rfl
  | 23, hw, hi, hj =>
    subst hw
    have i0 : i = 0 := by have := iN_le_23 hi; omega
    subst i0
    show _ = V1 23 1 0 j
    rw [v3 23 (by decide) (by decide) j hj, V23 hz hj]
    rfl
  | 24, hw, hi, hj =>
    subst hw
    have i0 : i = 0 := by have := iN_le_24 hi; omega
    subst i0
    show _ = V1 24 1 0 j
    rw [v3 24 (by decide) (by decide) j hj, V24 hz hj]
    rfl
  | 25, hw, hi, hj => exact absurd hi (by simp [iNX, wNX])
  | 26, hw, hi, hj =>
    subst hw
    have i0 : i = 0 := by have := iN_le_26 hi; omega
    subst i0
    rfl
  | 27, hw, hi, hj =>
    subst hw
    have i0 : i = 0 := by have := iN_le_27 hi; omega
    subst i0
    show _ = V1 27 0 0 j
    rw [v1 27 0 0 (by unfold setk; omega), V27 hz hj]
    rfl
  | 28, hw, hi, hj =>
    subst hw
    have i0 : i = 0 := by have := iN_le_28 hi; omega
    subst i0
    show _ = V1 28 0 0 j
    rw [v1 28 0 0 (by unfold setk; omega), V28 hz hj]
    rfl
  | 29, hw, hi, hj => exact absurd hj (Nat.not_lt_zero _)
  | 30, hw, hi, hj => exact absurd hj (Nat.not_lt_zero _)
  | 31, hw, hi, hj =>
    subst hw
    have i0 : i = 0 := by have := iN_le_31 hi; omega
    subst i0
    show _ = V1 31 0 0 j
    rw [v1 31 0 0 (by unfold setk; omega), V31 hz hj]
    rfl
  | 32, hw, hi, hj => exact absurd hj (Nat.not_lt_zero _)
  | 33, hw, hi, hj => exact absurd hi (by simp [iNX, wNX])
  | 34, hw, hi, hj =>
    subst hw
    have hi9 := iN_le_34 hi
    have hj : j < 4 := hj
    show _ = V1 34 1 i j
    rw [v4 i hi9]
    rcases (by omega : j = 0 ∨ j = 1 ∨ j = 2 ∨ j = 3) with rfl | rfl | rfl | rfl
    · rw [V34_0 hz hi9]
      rfl
    · rw [V34_1 hz hi9]
      rfl
    · rw [V34_2 hz hi9]
      rfl
    · rw [V34_3 hz hi9]
      rfl
  | 35, hw, hi, hj =>
    subst hw
    have hi9 : i < S 4 0 := by rw [← s4]; exact iN_le_35 hi
    have hj : j < 10 := hj
    show _ = V1 35 1 i j
    rcases (by omega : j = 0 ∨ j = 1 ∨ j = 2 ∨ j = 3 ∨ j = 4 ∨ j = 5 ∨ j = 6 ∨ j = 7 ∨ j = 8 ∨ j = 9) with rfl | rfl | rfl | rfl | rfl | rfl | rfl | rfl | rfl | rfl
    · rw [(v5 i hi9).1]
      rfl
    · rfl
    · rw [(v5 i hi9).2 2 (by decide) (by decide), V35_2 hz hi9]
      rfl
    · rw [(v5 i hi9).2 3 (by decide) (by decide), V35_3 hz hi9]
      rfl
    · rw [(v5 i hi9).2 4 (by decide) (by decide), V35_4 hz hi9]
      rfl
    · rw [(v5 i hi9).2 5 (by decide) (by decide), V35_5 hz hi9]
      rfl
    · rw [(v5 i hi9).2 6 (by decide) (by decide), V35_6 hz hi9]
      rfl
    · rw [(v5 i hi9).2 7 (by decide) (by decide), V35_7 hz hi9]
      rfl
    · rw [(v5 i hi9).2 8 (by decide) (by decide), V35_8 hz hi9]
      rfl
    · rw [(v5 i hi9).2 9 (by decide) (by decide), V35_9 hz hi9]
      rfl
  | 36, hw, hi, hj =>
    subst hw
    have hi9 : i < S 6 0 := by rw [← s6]; exact iN_le_36 hi
    have hj : j < 3 := hj
    show _ = V1 36 1 i j
    rcases (by omega : j = 0 ∨ j = 1 ∨ j = 2) with rfl | rfl | rfl
    · rw [(v6 i hi9).1, V36_0 hz hi9]
      rfl
    · rw [(v6 i hi9).2.1, V36_1 hz hi9]
      rfl
    · rw [(v6 i hi9).2.2.1, V36_2 hz hi9]
      rfl
  | 37, hw, hi, hj =>
    subst hw
    have hi9 : i < S 6 0 := by rw [← s6]; exact iN_le_37 hi
    have hS6 := hz.2.2.1
    show setE e V1 (10 + i) j = V1 37 1 i j
    unfold setE
    rw [if_neg (by omega), if_pos (by omega), Nat.add_sub_cancel_left]
  | 38, hw, hi, hj =>
    subst hw
    have hi9 : i < S 8 0 := by rw [← s8]; exact iN_le_38 hi
    have hj : j < 8 := hj
    show _ = V1 38 1 i j
    rcases (by omega : j = 0 ∨ j = 1 ∨ j = 2 ∨ j = 3 ∨ j = 4 ∨ j = 5 ∨ j = 6 ∨ j = 7) with rfl | rfl | rfl | rfl | rfl | rfl | rfl | rfl
    · rfl
    · rw [v7 i hi9 1 (by decide), V38_1 hz hi9]
      rfl
    · rw [v7 i hi9 2 (by decide), V38_2 hz hi9]
      rfl
    · rw [v7 i hi9 3 (by decide), V38_3 hz hi9]
      rfl
    · rw [v7 i hi9 4 (by decide), V38_4 hz hi9]
      rfl
    · rfl
    · rfl
    · rw [v7 i hi9 7 (by decide), V38_7 hz hi9]
      rfl
  | 39, hw, hi, hj =>
    subst hw
    rfl
  | 40, hw, hi, hj =>
    subst hw
    have hi9 : i < S 10 0 := by rw [← s10]; exact iN_le_40 hi
    have hj : j < 4 := hj
    show _ = V1 40 1 i j
    rcases (by omega : j = 0 ∨ j = 1 ∨ j = 2 ∨ j = 3) with rfl | rfl | rfl | rfl
    · rw [(v8 i hi9).1, V40_0 hz hi9]
      rfl
    · rw [(v8 i hi9).2.1, V40_1 hz hi9]
      rfl
    · rw [(v8 i hi9).2.2.1, V40_2 hz hi9]
      rfl
    · rw [(v8 i hi9).2.2.2, V40_3 hz hi9]
      rfl
  | 41, hw, hi, hj => exact absurd hi (by simp [iNX, wNX])
  | 42, hw, hi, hj => exact absurd hi (by simp [iNX, wNX])
  | 43, hw, hi, hj => exact absurd hi (by simp [iNX, wNX])
  | 44, hw, hi, hj => exact absurd hi (by simp [iNX, wNX])
  | 45, hw, hi, hj => exact absurd hi (by simp [iNX, wNX])
  | 46, hw, hi, hj => exact absurd hi (by simp [iNX, wNX])
  | 47, hw, hi, hj => exact absurd hi (by simp [iNX, wNX])
  | k9 + 48, hw, hi, hj => exact absurd hj (Nat.not_lt_zero _)
theorem VX_set {S S1 : Nat → Nat → Nat} {b : XS} {σ : MS} {e : XE} {V1 : Nat → Nat → Nat → Nat → Int32} {y : (Nat → Nat → Nat) × (Nat → Int64) × (Nat → Nat → UInt32)} (hz : SzX 0 S) (ss : SsP S S1) (sv : SvP S (VX 0 S b σ e) V1) : VX 1 S1 (V1, y) (trS σ) (setE e V1) = V1 := by
  funext k w i j
  simp only [VX]
  by_cases hc : w = wkX 1 k ∧ i < iNX S1 1 k ∧ j < jNX k
  · rw [if_pos hc]
    exact VX_setk hz ss sv hc.1 hc.2.1 hc.2.2
  · rw [if_neg hc]
theorem SsP.sz {S S1 : Nat → Nat → Nat} (ss : SsP S S1) (hz : SzX 0 S) : SzX 1 S1 ∧ SzX 0 S1 := by
  obtain ⟨s0, s4, s6, s8, s10, s63⟩ := ss
  obtain ⟨z1, z2, z3, z4, z5, z6, z7, z8⟩ := hz
  have e0 : ∀ x, S1 x 0 = S x 0 := fun x => s0 x 0 (by omega)
  refine ⟨⟨by decide, by rw [s4]; exact z2, by rw [s6]; exact z3, by rw [s8]; exact z4, by rw [s10]; exact z5, by rw [e0]; exact z6, by rw [s0 2 1 (by omega)]; exact z7, by rw [s8, e0]; omega, fun _ => s63⟩, ⟨by decide, by rw [e0]; exact z2, by rw [e0]; exact z3, by rw [e0]; exact z4, by rw [e0]; exact z5, by rw [e0]; exact z6, by rw [s0 2 1 (by omega)]; exact z7, Nat.le_refl _, fun z => absurd z (by decide)⟩⟩
theorem FlX.s32 {S S1 : Nat → Nat → Nat} {σ : MS} {fl : Nat → Nat → UInt32} (h : FlX S σ fl) (hs : ∀ z, S1 32 z = S 32 z) : FlX S1 σ fl := fun z hz => by rw [hs]; exact h z hz
/-- what is tied to the world is tied to the world of tries, behind set -/
theorem TieX.set {S S1 : Nat → Nat → Nat} {b : XS} {σ : MS} {e : XE} {V1 : Nat → Nat → Nat → Nat → Int32} {nw : Nat} (t : TieX 0 S σ e nw) (hz : SzX 0 S) (ss : SsP S S1) (sv : SvP S (VX 0 S b σ e) V1) : TieX 1 S1 (trS σ) (setE e V1) nw := by
  obtain ⟨s0, s4, s6, s8, s10, -⟩ := ss
  have h60 : S1 60 = S 60 := funext fun a => s0 60 a (by omega)
  have h61 : S1 61 = S 61 := funext fun a => s0 61 a (by omega)
  have h62 : S1 62 = S 62 := funext fun a => s0 62 a (by omega)
  have hS6 := hz.2.2.1
  unfold TieX GhX
  rw [s4, s6, s8, s10, h60, h61, h62]
  refine ⟨t.1, t.2.1, t.2.2.1, t.2.2.2.1, t.2.2.2.2.1, t.2.2.2.2.2.1, fun a ha j hj2 hj => ?_, t.2.2.2.2.2.2.2.1, t.2.2.2.2.2.2.2.2.1, t.2.2.2.2.2.2.2.2.2.1, fun h => absurd h (by decide), t.2.2.2.2.2.2.2.2.2.2.2.1, ⟨Or.inl (show (nI 0 : Int32) ≤ 0 from by decide), Or.inl rfl⟩, t.ivd, t.gh⟩
  have e1 : setE e V1 (10 + a) j = V1 37 1 a j := by
    unfold setE
    rw [if_neg (by omega), if_pos (by omega), Nat.add_sub_cancel_left]
  rw [e1, (sv.2.2.2.2.2.1 a ha).2.2.2 j (by rw [V36_2 hz ha]; exact hj), V37 hz ha hj2]
  exact t.queue ha hj2 hj
theorem TX_sh {k i j : Nat} (h : 27 ≤ k ∧ k ≤ 32) : TX 0 k i j = TX 1 k i j ∧ (j < jNX k → (TX 1 k i j).1 = 0 ∧ ((TX 1 k i j).2.1 = 3 ∨ (TX 1 k i j).2.1 = 4 ∨ (TX 1 k i j).2.1 = 6)) := by
  rcases (by omega : k = 27 ∨ k = 28 ∨ k = 29 ∨ k = 30 ∨ k = 31 ∨ k = 32) with e | e | e | e | e | e <;> subst e
  · exact ⟨rfl, fun _ => ⟨rfl, Or.inl rfl⟩⟩
  · exact ⟨rfl, fun _ => ⟨rfl, Or.inr (Or.inl rfl)⟩⟩
  · exact ⟨rfl, fun h => absurd h (Nat.not_lt_zero _)⟩
  · exact ⟨rfl, fun h => absurd h (Nat.not_lt_zero _)⟩
  · exact ⟨rfl, fun _ => ⟨rfl, Or.inr (Or.inr rfl)⟩⟩
  · exact ⟨rfl, fun h => absurd h (Nat.not_lt_zero _)⟩
theorem vaX_b {b b2 : XS} {σ : MS} {e : XE} {k w i j : Nat} {t : Nat × Nat × Nat} : vaX b2 σ e k w i j t = vaX b σ e k w i j t ∨ vaX b2 σ e k w i j t = b2.1 k w i j := by
  simp only [vaX]
  by_cases h0 : t.1 = 0
  · rw [if_pos h0, if_pos h0]; exact Or.inl rfl
  · by_cases h1 : t.1 = 1
    · rw [if_neg h0, if_neg h0, if_pos h1, if_pos h1]; exact Or.inl rfl
    · by_cases h2 : t.1 = 2
      · rw [if_neg h0, if_neg h0, if_neg h1, if_neg h1, if_pos h2, if_pos h2]; exact Or.inl rfl
      · by_cases h3 : t.1 = 3
        · rw [if_neg h0, if_neg h0, if_neg h1, if_neg h1, if_neg h2, if_neg h2, if_pos h3, if_pos h3]; exact Or.inl rfl
        · rw [if_neg h0, if_neg h1, if_neg h2, if_neg h3]; exact Or.inr rfl
/-- back to the world's own view -/
theorem VX_back {S1 : Nat → Nat → Nat} {b b1 : XS} {σ τ : MS} {e e2 : XE} {y : (Nat → Nat → Nat) × (Nat → Int64) × (Nat → Nat → UInt32)} (hb : ∀ k i, b1.1 k 0 i = VX 0 S1 b σ e k 0 i) (h3 : τ.2.1 3 = σ.2.1 3) (h4 : τ.2.1 4 = σ.2.1 4) (h6 : τ.2.1 6 = σ.2.1 6) : VX 0 S1 (VX 1 S1 b1 τ e2, y) σ e = VX 1 S1 b1 τ e2 := by
  funext k w i j
  show (if w = wkX 0 k ∧ i < iNX S1 0 k ∧ j < jNX k then vaX (VX 1 S1 b1 τ e2, y) σ e k w i j (TX 0 k i j) else VX 1 S1 b1 τ e2 k w i j) = _
  by_cases hc : w = wkX 0 k ∧ i < iNX S1 0 k ∧ j < jNX k
  · rw [if_pos hc]
    obtain ⟨hw, hi, hj⟩ := hc
    by_cases hk : 27 ≤ k ∧ k ≤ 32
    · have w0 : w = 0 := by rw [hw]; exact if_pos hk
      subst w0
      obtain ⟨t1, t2⟩ := TX_sh (i := i) (j := j) hk
      obtain ⟨t3, t4⟩ := t2 hj
      have hi1 : i < iNX S1 1 k := by
        unfold iNX at hi ⊢
        rw [if_pos hk] at hi ⊢
        exact hi
      have e1 : VX 1 S1 b1 τ e2 k 0 i j = vaX b1 τ e2 k 0 i j (TX 1 k i j) := if_pos ⟨(if_pos hk).symm, hi1, hj⟩
      rw [e1, t1]
      simp only [vaX]
      rw [if_pos t3, if_pos t3]
      rcases t4 with z | z | z <;> rw [z]
      · rw [h3]
      · rw [h4]
      · rw [h6]
    · have w0 : w = 0 := by rw [hw]; exact if_neg hk
      subst w0
      have e1 : VX 1 S1 b1 τ e2 k 0 i j = b1.1 k 0 i j := VX_out (by unfold wkX; rw [if_neg hk]; decide)
      have e2' : VX 0 S1 b σ e k 0 i j = vaX b σ e k 0 i j (TX 0 k i j) := if_pos ⟨hw, hi, hj⟩
      rcases vaX_b (b := b) (b2 := (VX 1 S1 b1 τ e2, y)) (σ := σ) (e := e) (k := k) (w := 0) (i := i) (j := j) (t := TX 0 k i j) with z | z
      · rw [z, ← e2', ← hb, e1]
      · exact z
  · rw [if_neg hc]
section SB9
variable {g : GP} {P : Nat → Prop} {F : Mem} {A : XA} {S S1 : Nat → Nat → Nat} {b b1 : XS} {σ τ : MS} {e e2 : XE} {M : Mem} {nw : Nat}
/-- behind set: the cells seen as the world of tries -/
theorem SX.toOne (hz : SzX 0 S) (ss : SsP S S1) {V1 : Nat → Nat → Nat → Nat → Int32} {fl : Nat → Nat → UInt32} {dn : XD} (sv : SvP S (VX 0 S b σ e) V1) (hf : FlX S σ fl) (hd : DnX σ (S 8 0) dn) (h : RV g P F A S1 V1 σ.2.2 fl dn M) : SX g P F A 1 S1 (V1, S1, σ.2.2, fl) (trS σ) (setE e V1) M := by
  obtain ⟨-, τ9, hR⟩ := h
  refine ⟨τ9, dn, fl, ?_, (ss.sz hz).1, (hf.cg (τ := trS σ) rfl rfl).s32 (fun z => ss.1 32 z (by omega)), ?_⟩
  · rw [VX_set hz ss sv]
    exact hR
  · rw [ss.2.2.2.1]
    exact hd.cg rfl rfl rfl rfl
/-- behind a trial: the cells seen as the world again -/
theorem SX.toZero (h : SX g P F A 1 S1 b1 τ e2 M) (hz : SzX 0 S1) (h8 : S1 8 1 = S1 8 0) (hb : ∀ k i, b1.1 k 0 i = VX 0 S1 b σ e k 0 i) (ha : ∀ a, a ≠ 1 → a ≠ 2 → a ≠ 13 → a ≠ 14 → τ.2.1 a = σ.2.1 a) (hl : τ.2.2 = σ.2.2) : ∃ b2 : XS, (∀ k i, b2.1 k 1 i = VX 1 S1 b1 τ e2 k 1 i) ∧ SX g P F A 0 S1 b2 σ e M := by
  obtain ⟨τ9, dn, fl, hR, hz1, hf, hd⟩ := h
  refine ⟨(VX 1 S1 b1 τ e2, S1, τ.2.2, fl), fun _ _ => rfl, τ9, dn, fl, ?_, hz, hf.cg (ha 5 (by decide) (by decide) (by decide) (by decide)).symm (ha 6 (by decide) (by decide) (by decide) (by decide)).symm, ?_⟩
  · rw [VX_back hb (ha 3 (by decide) (by decide) (by decide) (by decide)) (ha 4 (by decide) (by decide) (by decide) (by decide)) (ha 6 (by decide) (by decide) (by decide) (by decide)), ← hl]
    exact hR
  · rw [← h8]
    exact hd.cg (ha 8 (by decide) (by decide) (by decide) (by decide)).symm (ha 9 (by decide) (by decide) (by decide) (by decide)).symm (ha 10 (by decide) (by decide) (by decide) (by decide)).symm (ha 11 (by decide) (by decide) (by decide) (by decide)).symm
theorem fits_b {x : Int32} (h : x = nI 0 ∨ x = nI 1) : fits .boolean (.int x) = true := by
  rcases h with rfl | rfl <;> rfl
/-- set of the world of tries -/
theorem x_set1 {μ : Mem} {d nor : Nat} (hd : 11 ≤ d) (h : SX g P F A 0 S b σ e μ) (t : TieX 0 S σ e nw) (iv : IvG σ (S 4 0) (S 8 0) (S 10 0) (S 6 0) nor nw) (ak : AkX S σ nor) (bs : BsX S b) : PM g yX2_set (ws_ yX2_set cX2_set 3 (some (.object "SettlerColony$World"))) d (CsT S) (NsT S) [.ref (A 1 1 0), .ref (A 1 0 0)] μ (WQ (some (.ref (A 1 1 0))) (fun M => ∃ A1 S1 b1 e1, eqX A1 A ∧ SsP S S1 ∧ (∀ k i, b1.1 k 0 i = VX 0 S b σ e k 0 i) ∧ SX g P F A1 1 S1 b1 (trS σ) e1 M ∧ TieX 1 S1 (trS σ) e1 nw)) := by
  have hz := h.hz
  have or := or_of (b := b) (e := e) hz iv ak
  have hL8 := hz.2.2.2.1
  have hS6 := hz.2.2.1
  obtain ⟨τ, dn, fl, hR, -, hf, hd9⟩ := h
  have hRV : RV g P F A S (VX 0 S b σ e) σ.2.2 fl dn μ := ⟨⟨⟨hz.2.2.2.2.2.1, hz.2.2.2.2.2.2.1⟩, ⟨hz.2.1, hz.2.2.1, hz.2.2.2.1, hz.2.2.2.2.1⟩, ⟨bs.1.1, bs.1.2.1, bs.1.2.2.1, bs.1.2.2.2⟩, or.2.1, or.2.2⟩, τ, hR⟩
  have ho : ∀ k i j, ¬ (27 ≤ k ∧ k ≤ 32) → VX 0 S b σ e k 1 i j = b.1 k 1 i j := fun k i j hk => VX_out (by unfold wkX; rw [if_neg hk]; decide)
  have key := x_X2_set (d := d) hd hRV (fun j hj => by
    rw [V21 hz hj]
    refine fits_b ?_
    rcases (t.ps hj).2.2.2 with z | z
    · exact Or.inl z
    · exact Or.inr z.1) (fun p hp => by rw [ho 35 p 0 (by omega)]; exact bs.2.1 p hp) (fun p hp => by rw [ho 36 p 0 (by omega), V36_0 hz (by have := bs.1.2.1; omega), bs.2.2.1 p hp]; exact (t.gh.1 p (by have := bs.1.2.1; omega)).symm) (fun p hp => by
    obtain ⟨⟨m, hm⟩, -⟩ := iv.par p (by omega)
    exact ⟨m, hm.2.1, by rw [V36_2 hz hp]; exact hm.1⟩) (fun p hp => by
    rw [V38_7 hz hp, (t.said hp).2]
    split
    · exact Or.inr rfl
    · exact Or.inl rfl) (fun p hp => by
    have h10 := bs.1.2.2.2
    rw [ho 40 p 0 (by omega), ho 40 p 1 (by omega), V40_0 hz (by omega), V40_1 hz (by omega), (bs.2.2.2 p hp).1, (bs.2.2.2 p hp).2]
    exact ⟨(t.gh.2 p (by omega)).1.symm, (t.gh.2 p (by omega)).2.symm⟩)
  refine PM.post (fun o M hq => ?_) key
  obtain ⟨ho9, A1, S1, V1, eA, ss, sv, rv⟩ := hq
  exact ⟨ho9, A1, S1, (V1, S1, σ.2.2, fl), setE e V1, eA, ss, fun k i => sv.1 k 0 i (by omega), SX.toOne hz ss sv hf hd9 rv, t.set hz ss sv⟩
end SB9
