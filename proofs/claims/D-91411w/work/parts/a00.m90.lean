set_option maxRecDepth 100000
theorem rowS_if {σ : MS} {j k : Nat} {v : Int32} : row (sR σ j v) k = if k = j then v else row σ k := by
  by_cases h : k = j
  · subst h; rw [if_pos rfl]; exact rowS_eq
  · rw [if_neg h]; exact rowS_ne h
theorem uE_if {e : XE} {a x a' x' : Nat} {v : Int32} : uE e a x v a' x' = if a' = a ∧ x' = x then v else e a' x' := by
  by_cases h : a' = a ∧ x' = x
  · rw [if_pos h, h.1, h.2]; exact uE_eq
  · rw [if_neg h]; exact uE_ne h
/-- so many coins are not clipped -/
theorem pay_sub {a b : Int32} {m k : Nat} (ha : a = nI m) (hb : b = nI k) (hm : m ≤ 1000000) (hk : k ≤ 1000000) (h : b ≤ a) : k ≤ m ∧ a - b = nI (m - k) ∧ (if ¬ a + -b ≤ 1000000 then 1000000 else a + -b) = a - b := by
  subst ha; subst hb
  have h1 : k ≤ m := (nI_leI (by omega) (by omega)).mp h
  have h2 : nI m - nI k = nI (m - k) := pk_sub h1
  refine ⟨h1, h2, ?_⟩
  have h3 : nI (m - k) ≤ nI 1000000 := (nI_leI (by omega) (by decide)).mpr (by omega)
  rw [← Int32.sub_eq_add_neg, h2, if_neg (fun z => z h3)]
theorem SX.meanP {g : GP} {P : Nat → Prop} {F : Mem} {A : XA} {w : Nat} {S : Nat → Nat → Nat} {b : XS} {σ : MS} {e : XE} {M : Mem} (h : SX g P F A w S b σ e M) {n name : Nat} {gr : Int32} {f : Nat → Int32} (hname : name < 8) : (meanV (sA σ 13 f) n (S 8 w) name gr).1 = (meanV σ n (S 8 w) name gr).1 := by
  obtain ⟨τ, dn, fl, hR, hz, -, hd⟩ := h
  have hwl : lawI (sA σ 13 f) (S 8 w) name = lawI σ (S 8 w) name := rfl
  unfold meanV
  rw [hwl]
  show (if name = 0 ∧ ¬ σ.1 23 ≤ 0 then _ else if name = 1 ∧ ¬ σ.1 24 < 0 then _ else _ : Int32 × (Nat → Int32)).1 = _
  by_cases c1 : name = 0 ∧ ¬ σ.1 23 ≤ 0
  · rw [if_pos c1, if_pos c1]
    rfl
  · rw [if_neg c1, if_neg c1]
    by_cases c2 : name = 1 ∧ ¬ σ.1 24 < 0
    · rw [if_pos c2, if_pos c2]
      rfl
    · rw [if_neg c2, if_neg c2]
      by_cases c3 : lawI σ (S 8 w) name = -1
      · rw [if_pos c3, if_pos c3]
      · rw [if_neg c3, if_neg c3]
        have hwl2 := why_law (σ := σ) (name := name) hz.2.2.2.1
        rcases lastI_c (toldB σ name) (S 8 w) with z | ⟨l, hl, el, htb⟩
        · exact absurd (hwl2.symm.trans z) c3
        · have el2 : lawI σ (S 8 w) name = nI l := hwl2.symm.trans el
          have hl12 := hz.2.2.2.1
          rw [el2, tN_nI (by omega)]
          simp only [toldB, Bool.and_eq_true, decide_eq_true_eq] at htb
          rcases (hd l hl).2 name hname with ⟨-, z2⟩ | ⟨φ, ca, z1, z2, z3, z4⟩
          · exact absurd htb.2 (Int32.not_le.mpr z2)
          · have q : ∀ τ9 : MS, τ9.2.1 8 = σ.2.1 8 → τ9.2.1 9 = σ.2.1 9 → τ9.2.1 10 = σ.2.1 10 → ∀ wk so pe g9, (valV τ9 l name wk so pe g9).1 = φ wk so pe g9 := by
              intro τ9 h8 h9 h10 wk so pe g9
              obtain ⟨p', hp⟩ := z4 wk so pe g9 (τ9.2.1 13)
              have hp9 := (vrun_cg h8 h9 4800 (400 * l + ca) 0 (τ9.2.1 13)).trans hp
              unfold valV
              rw [h10, z2, tN_nI (by omega), hp9]
              rfl
            show (boundedV name (valV (sA σ 13 f) l name (row σ 2116) (nI (farmsC σ 96)) (nI (hereC σ n)) gr).1) = boundedV name (valV σ l name (row σ 2116) (nI (farmsC σ 96)) (nI (hereC σ n)) gr).1
            rw [q (sA σ 13 f) rfl rfl rfl, q σ rfl rfl rfl]
