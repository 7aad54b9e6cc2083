set_option maxRecDepth 100000
/-- what the orders' persons and the persons' orders tell of one another -/
def OdX (σ : MS) (n nor : Nat) : Prop := (∀ o p, o < nor → p < n → row σ (1780 + 3 * o + 0) = nI p → per σ p 6 = nI o) ∧ ∀ o p, o < nor → p < n → per σ p 6 = nI o → row σ (1780 + 3 * o + 0) = nI p
theorem OdX.cg {σ τ : MS} {n nor : Nat} (h : OdX σ n nor) (h6 : ∀ p, p < n → per τ p 6 = per σ p 6) (ho : ∀ o, o < nor → row τ (1780 + 3 * o + 0) = row σ (1780 + 3 * o + 0)) : OdX τ n nor :=
  ⟨fun o p h1 h2 e => (h6 p h2).trans (h.1 o p h1 h2 ((ho o h1).symm.trans e)), fun o p h1 h2 e => (ho o h1).trans (h.2 o p h1 h2 ((h6 p h2).symm.trans e))⟩
theorem sA_twoX {σ : MS} {a : Nat} {f k : Nat → Int32} : sA (sA σ a f) a k = sA σ a k := by
  unfold sA
  refine Prod.ext rfl (Prod.ext ?_ rfl)
  funext q
  show (if q = a then k else if q = a then f else σ.2.1 q) = if q = a then k else σ.2.1 q
  by_cases h : q = a
  · rw [if_pos h, if_pos h]
  · rw [if_neg h, if_neg h, if_neg h]
theorem sA_idX {σ : MS} {a : Nat} {f : Nat → Int32} (h : f = σ.2.1 a) : sA σ a f = σ := by
  subst h
  unfold sA
  refine Prod.ext rfl (Prod.ext ?_ rfl)
  funext q
  show (if q = a then σ.2.1 a else σ.2.1 q) = σ.2.1 q
  by_cases h : q = a
  · rw [if_pos h, h]
  · rw [if_neg h]
/-- some persons sail -/
def shF (σ : MS) (x : Int32) (D : Nat → Bool) (j : Nat) : Int32 := if 768 ≤ j ∧ j < 1568 ∧ D ((j - 768) / 8) = true then (if j % 8 = 2 then nI 1 else if j % 8 = 5 then x else row σ j) else row σ j
def shD (σ : MS) (x : Int32) (D : Nat → Bool) : MS := sA σ 1 (shF σ x D)
theorem shD_row {σ : MS} {x : Int32} {D : Nat → Bool} {j : Nat} : row (shD σ x D) j = shF σ x D j := by
  show (if (1 : Nat) = 1 then shF σ x D else σ.2.1 1) j = _
  rw [if_pos rfl]
theorem shD_per {σ : MS} {x : Int32} {D : Nat → Bool} {p : Nat} (hp : p < 100) : per (shD σ x D) p 2 = (if D p = true then nI 1 else per σ p 2) ∧ per (shD σ x D) p 6 = per σ p 6 := by
  refine ⟨shD_row.trans ?_, shD_row.trans ?_⟩
  · unfold shF
    rw [show (768 + 8 * p + 2 - 768) / 8 = p by omega]
    by_cases h : D p = true
    · rw [if_pos ⟨by omega, by omega, h⟩, if_pos (by omega), if_pos h]
    · rw [if_neg (fun z => h z.2.2), if_neg h]
  · unfold shF
    rw [show (768 + 8 * p + 6 - 768) / 8 = p by omega]
    split
    · rw [if_neg (by omega), if_neg (by omega)]
    · rfl
theorem shD_o {σ : MS} {x : Int32} {D : Nat → Bool} {j : Nat} (h : 1568 ≤ j) : row (shD σ x D) j = row σ j := by
  rw [shD_row]
  unfold shF
  rw [if_neg (by omega)]
theorem shD_0 {σ : MS} {x : Int32} {D : Nat → Bool} (h : ∀ p, D p = false) : shD σ x D = σ := by
  refine sA_idX (funext fun j => ?_)
  unfold shF
  rw [if_neg (fun z => by rw [h] at z; exact absurd z.2.2 (by decide))]
theorem shD_cg {σ : MS} {x : Int32} {D E : Nat → Bool} (h : ∀ p, p < 100 → D p = E p) : shD σ x D = shD σ x E := by
  refine congrArg (sA σ 1) (funext fun j => ?_)
  unfold shF
  by_cases c : 768 ≤ j ∧ j < 1568
  · rw [h ((j - 768) / 8) (by omega)]
  · rw [if_neg (fun z => c ⟨z.1, z.2.1⟩), if_neg (fun z => c ⟨z.1, z.2.1⟩)]
theorem shD_s {σ : MS} {x : Int32} {D : Nat → Bool} {p : Nat} (hp : p < 100) : sR (sR (shD σ x D) (768 + 8 * p + 2) (nI 1)) (768 + 8 * p + 5) x = shD σ x (fun q => D q || decide (q = p)) := by
  have e : sR (sR (shD σ x D) (768 + 8 * p + 2) (nI 1)) (768 + 8 * p + 5) x = sA σ 1 (row (sR (sR (shD σ x D) (768 + 8 * p + 2) (nI 1)) (768 + 8 * p + 5) x)) := by
    unfold sR shD
    rw [sA_twoX, sA_twoX]
    rfl
  rw [e]
  refine congrArg (sA σ 1) (funext fun j => ?_)
  rw [rowS_if, rowS_if, shD_row]
  unfold shF
  by_cases h5 : j = 768 + 8 * p + 5
  · subst h5
    rw [if_pos rfl, show (768 + 8 * p + 5 - 768) / 8 = p by omega, if_pos ⟨by omega, by omega, by simp⟩, if_neg (by omega), if_pos (by omega)]
  · rw [if_neg h5]
    by_cases h2 : j = 768 + 8 * p + 2
    · subst h2
      rw [if_pos rfl, show (768 + 8 * p + 2 - 768) / 8 = p by omega, if_pos ⟨by omega, by omega, by simp⟩, if_pos (by omega)]
    · rw [if_neg h2]
      by_cases c : 768 ≤ j ∧ j < 1568
      · by_cases eq : (j - 768) / 8 = p
        · have m2 : ¬ j % 8 = 2 := by omega
          have m5 : ¬ j % 8 = 5 := by omega
          rw [if_neg m2, if_neg m5, ite_self, ite_self]
        · have ed : (D ((j - 768) / 8) || decide ((j - 768) / 8 = p)) = D ((j - 768) / 8) := by rw [decide_eq_false eq, Bool.or_false]
          by_cases hd : D ((j - 768) / 8) = true
          · have hc1 : 768 ≤ j ∧ j < 1568 ∧ D ((j - 768) / 8) = true := ⟨c.1, c.2, hd⟩
            have hc2 : 768 ≤ j ∧ j < 1568 ∧ (fun q => D q || decide (q = p)) ((j - 768) / 8) = true := ⟨c.1, c.2, ed.trans hd⟩
            rw [if_pos hc1, if_pos hc2]
          · rw [if_neg (fun z => hd z.2.2), if_neg (fun z => hd (ed.symm.trans z.2.2))]
      · rw [if_neg (fun z => c ⟨z.1, z.2.1⟩), if_neg (fun z => c ⟨z.1, z.2.1⟩)]
/-- what the class does for one order -/
def shipC (x : Int32) (o : Nat) (σ : MS) : MS := if per σ (tN (row σ (1780 + 3 * o + 0))) 2 = 0 then sR (sR σ (768 + 8 * tN (row σ (1780 + 3 * o + 0)) + 2) (nI 1)) (768 + 8 * tN (row σ (1780 + 3 * o + 0)) + 5) x else σ
def shM (σ : MS) (m : Nat) (p : Nat) : Bool := decide (p < m) && (decide (per σ p 2 = 0) && decide (0 ≤ per σ p 6))
def shK (σ : MS) (n k : Nat) (p : Nat) : Bool := decide (p < n) && (decide (per σ p 2 = 0) && (decide (0 ≤ per σ p 6) && decide (per σ p 6 < nI k)))
theorem ship1_all {σ : MS} {x : Int32} : ∀ m, m ≤ 100 → uq (ship1 x) m σ = shD σ x (shM σ m)
  | 0, _ => by rw [uq_0]; exact (shD_0 (fun p => by unfold shM; rw [decide_eq_false (by omega)]; rfl)).symm
  | m + 1, h => by
    rw [uq_s _ m, ship1_all m (by omega)]
    have hm : shM σ m m = false := by unfold shM; rw [decide_eq_false (by omega)]; rfl
    obtain ⟨e2, e6⟩ := shD_per (σ := σ) (x := x) (D := shM σ m) (p := m) (by omega)
    rw [hm, if_neg (by decide)] at e2
    have hs : ∀ p, ¬ p = m → shM σ (m + 1) p = shM σ m p := fun p hp => by
      unfold shM
      rw [show decide (p < m + 1) = decide (p < m) from decide_eq_decide.mpr (by omega)]
    unfold ship1
    rw [e2, e6]
    by_cases c2 : per σ m 2 = 0
    · rw [if_neg (fun z => z c2)]
      by_cases c6 : 0 ≤ per σ m 6
      · rw [if_neg (fun z => z c6), shD_s (by omega)]
        refine shD_cg (fun p _ => ?_)
        by_cases ep : p = m
        · subst ep
          rw [decide_eq_true rfl, Bool.or_true]
          unfold shM
          rw [decide_eq_true (by omega), decide_eq_true c2, decide_eq_true c6]
          rfl
        · rw [decide_eq_false ep, Bool.or_false]
          exact (hs p ep).symm
      · rw [if_pos c6]
        refine shD_cg (fun p _ => ?_)
        by_cases ep : p = m
        · subst ep
          rw [hm]
          unfold shM
          rw [decide_eq_false c6, Bool.and_false, Bool.and_false]
        · exact (hs p ep).symm
    · rw [if_pos c2]
      refine shD_cg (fun p _ => ?_)
      by_cases ep : p = m
      · subst ep
        rw [hm]
        unfold shM
        rw [decide_eq_false c2, Bool.false_and, Bool.and_false]
      · exact (hs p ep).symm
theorem shipC_all {σ : MS} {x : Int32} {n nor : Nat} (hn : n ≤ 100) (hor : nor ≤ 100) (hof : ∀ o, o < nor → ∃ p, p < n ∧ row σ (1780 + 3 * o + 0) = nI p) (od : OdX σ n nor) : ∀ k, k ≤ nor → upto (shipC x) k σ = shD σ x (shK σ n k)
  | 0, _ => (shD_0 (fun p => by
    unfold shK
    by_cases h : 0 ≤ per σ p 6
    · rw [decide_eq_false (show ¬ per σ p 6 < nI 0 from Int32.not_lt.mpr h), Bool.and_false, Bool.and_false, Bool.and_false]
    · rw [decide_eq_false h, Bool.false_and, Bool.and_false, Bool.and_false])).symm
  | k + 1, h => by
    show shipC x k (upto (shipC x) k σ) = _
    rw [shipC_all hn hor hof od k (by omega)]
    obtain ⟨p, hp, ep⟩ := hof k (by omega)
    have e6 := od.1 k p (by omega) hp ep
    have er : row (shD σ x (shK σ n k)) (1780 + 3 * k + 0) = nI p := (shD_o (by omega)).trans ep
    have hm : shK σ n k p = false := by
      unfold shK
      rw [e6, decide_eq_false (show ¬ nI k < nI k from fun z => Int32.lt_irrefl z), Bool.and_false, Bool.and_false, Bool.and_false]
    obtain ⟨e2, -⟩ := shD_per (σ := σ) (x := x) (D := shK σ n k) (p := p) (by omega)
    rw [hm, if_neg (by decide)] at e2
    have hs : ∀ q, ¬ q = p → shK σ n (k + 1) q = shK σ n k q := fun q hq => by
      unfold shK
      by_cases hqn : q < n
      · by_cases h0 : 0 ≤ per σ q 6
        · obtain ⟨j, hj, ej⟩ := nI_of (x := per σ q 6) (Int32.not_lt.mpr h0)
          have hne : ¬ j = k := fun z => by
            subst z
            have z1 := od.2 j q (by omega) hqn ej
            rw [ep] at z1
            exact hq ((nI_eq (by omega) (by omega)).mp z1).symm
          have e9 : decide (per σ q 6 < nI (k + 1)) = decide (per σ q 6 < nI k) := by
            rw [ej]
            refine decide_eq_decide.mpr ?_
            rw [nI_ltI hj (by omega), nI_ltI hj (by omega)]
            omega
          rw [e9]
        · rw [decide_eq_false h0, Bool.false_and, Bool.false_and]
      · rw [decide_eq_false hqn, Bool.false_and, Bool.false_and]
    unfold shipC
    rw [er, tN_nI (by omega), e2]
    by_cases c2 : per σ p 2 = 0
    · rw [if_pos c2, shD_s (by omega)]
      refine shD_cg (fun q _ => ?_)
      by_cases eq : q = p
      · subst eq
        rw [decide_eq_true rfl, Bool.or_true]
        unfold shK
        rw [e6, decide_eq_true hp, decide_eq_true c2, decide_eq_true (show (0 : Int32) ≤ nI k from nI_pos' (by omega)), decide_eq_true (show nI k < nI (k + 1) from (nI_ltI (by omega) (by omega)).mpr (by omega))]
        rfl
      · rw [decide_eq_false eq, Bool.or_false]
        exact (hs q eq).symm
    · rw [if_neg c2]
      refine shD_cg (fun q _ => ?_)
      by_cases eq : q = p
      · subst eq
        rw [hm]
        unfold shK
        rw [decide_eq_false c2, Bool.false_and, Bool.and_false]
      · exact (hs q eq).symm
/-- by orders or by persons: the same sail -/
theorem shipC_eq {σ : MS} {x : Int32} {n nl nb q nor nw : Nat} (iv : IvG σ n nl nb q nor nw) (od : OdX σ n nor) : upto (shipC x) nor σ = uq (ship1 x) n σ := by
  have hP := iv.hP
  have hOR := iv.hOR
  rw [shipC_all hP hOR iv.of_ od nor (Nat.le_refl _), ship1_all n hP]
  refine shD_cg (fun p _ => ?_)
  unfold shK shM
  by_cases hp : p < n
  · by_cases h0 : 0 ≤ per σ p 6
    · obtain ⟨k, hk, ek⟩ := iv.ord p hp (Int32.not_lt.mpr h0)
      rw [ek, decide_eq_true (show nI k < nI nor from (nI_ltI (by omega) (by omega)).mpr hk), Bool.and_true]
    · rw [decide_eq_false h0, Bool.false_and]
  · rw [decide_eq_false hp, Bool.false_and, Bool.false_and]
/-- of each trade so many, of those before it so many -/
def cnT (f h u k z : Nat) : Nat := if z = 0 then f else if z = 1 then h else if z = 2 then u else k
def csT (f h u k z : Nat) : Nat := if z = 0 then 0 else if z = 1 then f else if z = 2 then f + h else if z = 3 then f + h + u else f + h + u + k
theorem csT_s {f h u k z : Nat} (hz : z < 4) : csT f h u k (z + 1) = csT f h u k z + cnT f h u k z := by
  rcases (by omega : z = 0 ∨ z = 1 ∨ z = 2 ∨ z = 3) with e | e | e | e <;> subst e <;> simp [csT, cnT]
theorem csT_le {f h u k z : Nat} (hz : z < 4) : csT f h u k z + cnT f h u k z ≤ f + h + u + k := by
  rcases (by omega : z = 0 ∨ z = 1 ∨ z = 2 ∨ z = 3) with e | e | e | e <;> subst e <;> simp [csT, cnT] <;> omega
theorem trade_eq {f h u k z i : Nat} (hz : z < 4) (hi : i < cnT f h u k z) : tradeN f h u (csT f h u k z + i) = z := by
  rcases (by omega : z = 0 ∨ z = 1 ∨ z = 2 ∨ z = 3) with e | e | e | e <;> subst e
  · have h1 : i < f := hi
    show (if 0 + i < f then 0 else _) = 0
    rw [if_pos (by omega)]
  · have h1 : i < h := hi
    show (if f + i < f then 0 else if f + i < f + h then 1 else _) = 1
    rw [if_neg (by omega), if_pos (by omega)]
  · have h1 : i < u := hi
    show (if f + h + i < f then 0 else if f + h + i < f + h then 1 else if f + h + i < f + h + u then 2 else 3) = 2
    rw [if_neg (by omega), if_neg (by omega), if_pos (by omega)]
  · show (if f + h + u + i < f then 0 else if f + h + u + i < f + h then 1 else if f + h + u + i < f + h + u then 2 else 3) = 3
    rw [if_neg (by omega), if_neg (by omega), if_neg (by omega)]
theorem adds_sails {σ : MS} {t c x : Int32} {n j : Nat} (hn : row σ 2124 = nI n) (hn9 : n < 100) : row (s_adds σ t c (nI 1) x) j = row (sR (sR (s_adds σ t c (nI 0) (-1)) (768 + 8 * n + 2) (nI 1)) (768 + 8 * n + 5) x) j := by
  rw [rowS_if, rowS_if, adds_row hn (by omega), adds_row hn (by omega)]
  by_cases h5 : j = 768 + 8 * n + 5
  · rw [if_neg (by omega), if_neg (by omega), if_pos h5, if_pos h5]
  · by_cases h2 : j = 768 + 8 * n + 2
    · rw [if_neg (by omega), if_neg (by omega), if_neg h5, if_neg (by omega), if_neg (by omega), if_pos h2, if_neg h5, if_pos h2]
    · simp only [if_neg h5, if_neg h2]
theorem lt64 {x : Int32} {m : Nat} (hm : m < 2147483648) : x.toInt64 < lN m ↔ x < nI m := by
  rw [← nI_l hm, Int64.lt_iff_toInt_lt, Int32.lt_iff_toInt_lt, Int32.toInt_toInt64, Int32.toInt_toInt64]
theorem p_ship_yes {σ : MS} {n nw f h s k : Nat} (hf : f < 2147483648) (hh : h < 2147483648) (hs : s < 2147483648) (hk : k < 2147483648) (h29 : ¬ row (s0 σ) 2129 = nI 20) (hm : f + h + s + k ≤ 100 - n) (hp : nI (10 * (f + h + s + k)) ≤ homePassV (s0 σ) nw) : p_ship σ n nw (nI f) (nI h) (nI s) (nI k) = shipE (shipS n nw f h s k (s0 σ)) := by
  have nn : ∀ a, a < 2147483648 → ¬ nI a < 0 := fun a ha => Int32.not_lt.mpr (nI_pos' ha)
  unfold p_ship
  rw [if_neg (nn f hf), if_neg (nn h hh), if_neg (nn s hs), if_neg (fun z => z (nI_pos' hk)), if_neg h29, tN_nI hf, tN_nI hh, tN_nI hs, tN_nI hk, if_neg (by omega), if_neg (fun z => absurd ((lt64 (by omega)).mp z) (Int32.not_lt.mpr hp))]
theorem p_ship_3 {σ : MS} {n nw f h s k : Nat} (hf : f < 2147483648) (hh : h < 2147483648) (hs : s < 2147483648) (hk : k < 2147483648) (h29 : ¬ row (s0 σ) 2129 = nI 20) (hm : ¬ f + h + s + k ≤ 100 - n) : p_ship σ n nw (nI f) (nI h) (nI s) (nI k) = (-3, s0 σ) := by
  have nn : ∀ a, a < 2147483648 → ¬ nI a < 0 := fun a ha => Int32.not_lt.mpr (nI_pos' ha)
  unfold p_ship
  rw [if_neg (nn f hf), if_neg (nn h hh), if_neg (nn s hs), if_neg (fun z => z (nI_pos' hk)), if_neg h29, tN_nI hf, tN_nI hh, tN_nI hs, tN_nI hk, if_pos (by omega)]
theorem p_ship_4 {σ : MS} {n nw f h s k : Nat} (hf : f < 2147483648) (hh : h < 2147483648) (hs : s < 2147483648) (hk : k < 2147483648) (h29 : ¬ row (s0 σ) 2129 = nI 20) (hm : f + h + s + k ≤ 100 - n) (hp : ¬ nI (10 * (f + h + s + k)) ≤ homePassV (s0 σ) nw) : p_ship σ n nw (nI f) (nI h) (nI s) (nI k) = (-4, s0 σ) := by
  have nn : ∀ a, a < 2147483648 → ¬ nI a < 0 := fun a ha => Int32.not_lt.mpr (nI_pos' ha)
  unfold p_ship
  rw [if_neg (nn f hf), if_neg (nn h hh), if_neg (nn s hs), if_neg (fun z => z (nI_pos' hk)), if_neg h29, tN_nI hf, tN_nI hh, tN_nI hs, tN_nI hk, if_neg (by omega), if_pos ((lt64 (by omega)).mpr (Int32.not_le.mp hp))]
theorem p_ship_2 {σ : MS} {n nw f h s k : Nat} (hf : f < 2147483648) (hh : h < 2147483648) (hs : s < 2147483648) (hk : k < 2147483648) (h29 : row (s0 σ) 2129 = nI 20) : p_ship σ n nw (nI f) (nI h) (nI s) (nI k) = (-2, s0 σ) := by
  have nn : ∀ a, a < 2147483648 → ¬ nI a < 0 := fun a ha => Int32.not_lt.mpr (nI_pos' ha)
  unfold p_ship
  rw [if_neg (nn f hf), if_neg (nn h hh), if_neg (nn s hs), if_neg (fun z => z (nI_pos' hk)), if_pos h29]
/-- the whole of ship keeps the invariant -/
theorem uq_iv2 {f h s n nl nb q nor nw : Nat} {x : Int32} {σ : MS} (v : IvG σ n nl nb q nor nw) : ∀ k, n + k ≤ 100 → IvG (uq (ship2 f h s x) k σ) (n + k) nl nb q nor nw
  | 0, _ => by rw [uq_0]; exact v
  | k + 1, hk => by rw [uq_s _ k]; exact adds_iv (n := n + k) (uq_iv2 v k (by omega)) (show n + k < 100 by omega) (by decide)
theorem ship1_iv {σ : MS} {n nl nb q nor nw p : Nat} {x : Int32} (v : IvG σ n nl nb q nor nw) (hp : p < n) : IvG (ship1 x p σ) n nl nb q nor nw := by
  unfold ship1
  split
  · exact v
  · split
    · exact v
    · exact sails_iv v hp
theorem shipS_iv {σ : MS} {n nl nb q nor nw f h s k : Nat} (v : IvG σ n nl nb q nor nw) (hk : n + (f + h + s + k) ≤ 100) : IvG (shipS n nw f h s k σ) (n + (f + h + s + k)) nl nb q nor nw := by
  unfold shipS
  exact uq_iv2 (uq_iv (m := n) (fun i τ hi w => ship1_iv w hi) (v.sR1 (j := 2121) (x := row σ 2121 + nI (10 * (f + h + s + k))) (by unfold fr1 fr2; omega)) n (Nat.le_refl _)) _ hk
theorem ship_iv {σ : MS} {n nl nb q nor nw : Nat} {f h s k : Int32} (v : IvG σ n nl nb q nor nw) : ∃ n1, n ≤ n1 ∧ IvG (p_ship σ n nw f h s k).2 n1 nl nb q nor nw := by
  have v0 := v.f0 (j := 0) (x := nI 0)
  have hP := v.hP
  unfold p_ship
  by_cases c1 : f < 0
  · rw [if_pos c1]; exact ⟨n, Nat.le_refl _, by with_reducible exact v0⟩
  · rw [if_neg c1]
    by_cases c2 : h < 0
    · rw [if_pos c2]; exact ⟨n, Nat.le_refl _, by with_reducible exact v0⟩
    · rw [if_neg c2]
      by_cases c3 : s < 0
      · rw [if_pos c3]; exact ⟨n, Nat.le_refl _, by with_reducible exact v0⟩
      · rw [if_neg c3]
        by_cases c4 : ¬ 0 ≤ k
        · rw [if_pos c4]; exact ⟨n, Nat.le_refl _, by with_reducible exact v0⟩
        · rw [if_neg c4]
          by_cases c5 : row (s0 σ) 2129 = nI 20
          · rw [if_pos c5]; exact ⟨n, Nat.le_refl _, by with_reducible exact v0⟩
          · rw [if_neg c5]
            by_cases c6 : 100 - n < tN f + tN h + tN s + tN k
            · rw [if_pos c6]; exact ⟨n, Nat.le_refl _, by with_reducible exact v0⟩
            · rw [if_neg c6]
              by_cases c7 : (homePassV (s0 σ) nw).toInt64 < lN (10 * (tN f + tN h + tN s + tN k))
              · rw [if_pos c7]; exact ⟨n, Nat.le_refl _, by with_reducible exact v0⟩
              · rw [if_neg c7]
                have w := shipS_iv (f := tN f) (h := tN h) (s := tN s) (k := tN k) v0 (by omega)
                exact ⟨_, Nat.le_add_right _ _, w.keep4 (τ := sR (shipS n nw (tN f) (tN h) (tN s) (tN k) (s0 σ)) 2129 (row (shipS n nw (tN f) (tN h) (tN s) (tN k) (s0 σ)) 2129 + nI 1)) (fun j hj => rowS_ne (fun z => hj (by unfold fr3; omega))) rfl rfl rfl rfl rfl⟩
