set_option maxRecDepth 100000
section FL
variable {w : Nat} {S : Nat → Nat → Nat} {σ τ : MS} {e e1 : XE} {nw : Nat}
/-- the class's own numbers when a farm of p is a lot again -/
def FaE (e e1 : XE) (p c : Nat) : Prop := (∀ q, q < 100 → e1 1 q = if q = p then e 1 q - nI 1 else e 1 q) ∧ (∀ q, q < 96 → e1 2 q = if q = c then nI 0 else e 2 q) ∧ (∀ q, q < 96 → e1 3 q = if q = c then -1 else e 3 q) ∧ ∀ a, a ≠ 1 → a ≠ 2 → a ≠ 3 → e1 a = e a
/-- a farm of p is a lot again; coins may have been paid -/
theorem tie_fall {n nl nb q nor c p : Nat} (t : TieX w S σ e nw) (hz : SzX w S) (hn : n = S 4 w) (iv : IvG σ n nl nb q nor nw) (hc : c < 96) (hp : p < S 4 w) (hf : isFarmV (sec σ c 0) = true) (hh : sec σ c 1 = nI p)
    (hr : ∀ j, ¬ fr0 j → j ≠ 8 * c + 0 → j ≠ 8 * c + 1 → j ≠ 8 * c + 2 → j ≠ 8 * c + 3 → j ≠ 8 * c + 4 → j ≠ 8 * c + 5 → j ≠ 768 + 8 * p + 1 → row τ j = row σ j) (t0 : sec τ c 0 = nI 1) (tc : ∃ m, m ≤ 1000000 ∧ per τ p 1 = nI m) (tp : PsX τ c)
    (a3 : τ.2.1 3 = σ.2.1 3) (a4 : τ.2.1 4 = σ.2.1 4) (a14 : τ.2.1 14 = σ.2.1 14) (h23 : τ.1 23 = σ.1 23) (h24 : τ.1 24 = σ.1 24) (fa : FaE e e1 p c) : TieX w S τ e1 nw := by
  subst hn
  obtain ⟨o1, o2, o3, o4⟩ := fa
  have z1 := hz.2.1
  have z6 := hz.2.2.1
  have z8 := hz.2.2.2.1
  have z10 := hz.2.2.2.2.1
  have hs : ∀ a j, a < 96 → a ≠ c → (j = 0 ∨ j = 1 ∨ j = 2 ∨ j = 3 ∨ j = 4 ∨ j = 5 ∨ j = 7) → sec τ a j = sec σ a j := fun a j ha hne hj => hr _ (fun z => by have := fr0_sec (c := a) (j := j) ha (by omega) z; omega) (by omega) (by omega) (by omega) (by omega) (by omega) (by omega) (by omega)
  have hq : ∀ a j, a < S 4 w → (j = 2 ∨ j = 3 ∨ (j = 1 ∧ a ≠ p)) → per τ a j = per σ a j := fun a j ha hj => hr _ (fun z => by have := fr0_per (p := a) (by omega) (by omega) z; omega) (by omega) (by omega) (by omega) (by omega) (by omega) (by omega) (by omega)
  have lw : ∀ l j, l < S 8 w → j < 6 → lawv τ l j = lawv σ l j := fun l j hl hj => hr _ (by unfold fr0; omega) (by omega) (by omega) (by omega) (by omega) (by omega) (by omega) (by omega)
  have bw : ∀ k j, k < S 10 w → j < 4 → row τ (1640 + 4 * k + j) = row σ (1640 + 4 * k + j) := fun k j hk hj => hr _ (by unfold fr0; omega) (by omega) (by omega) (by omega) (by omega) (by omega) (by omega) (by omega)
  have qw : ∀ a j, a < S 6 w → j < 15 → row τ (1720 + 15 * a + j) = row σ (1720 + 15 * a + j) := fun a j ha hj => hr _ (by unfold fr0; omega) (by omega) (by omega) (by omega) (by omega) (by omega) (by omega) (by omega)
  have tf : isFarmV (sec τ c 0) = false := by rw [t0]; decide
  refine ⟨tHa_cg t (fun a ha => hq a 2 ha (Or.inl rfl)) (fun a ha => hq a 3 ha (Or.inr (Or.inl rfl))) (fun _ _ => by rw [o4 0 (by decide) (by decide) (by decide)]), fun a ha => ?_, fun a ha => ?_, fun a ha => ?_, tSa_cg t (fun l hl => lw l 4 hl (by decide)) (fun l hl => lw l 5 hl (by decide)) (fun _ _ => by rw [o4 6 (by decide) (by decide) (by decide)]) (fun _ _ => by rw [o4 15 (by decide) (by decide) (by decide)]), tDu_cg t (fun k hk => bw k 2 hk (by decide)) (fun k hk => bw k 3 hk (by decide)) (fun _ _ => by rw [o4 16 (by decide) (by decide) (by decide)]), tQu_cg t qw (fun a _ _ _ => by rw [o4 (10 + a) (by omega) (by omega) (by omega)]), tBo_cg t (fun a ha => hq a 2 ha (Or.inl rfl)) (fun a ha => hq a 3 ha (Or.inr (Or.inl rfl))), fun a ha => ⟨fun hf9 x hx z => ?_, ?_⟩, tHi_cg t (fun l hl => lw l 0 hl (by decide)) (fun l hl => lw l 3 hl (by decide)) (fun j _ => by rw [a14]) (fun _ _ => by rw [o4 4 (by decide) (by decide) (by decide)]) (fun _ _ => by rw [o4 5 (by decide) (by decide) (by decide)]), tRo_cg t (fun j _ => by rw [a14]) (fun _ _ => by rw [o4 7 (by decide) (by decide) (by decide)]), fun a ha => ?_, tTr_cg t h23 h24, ?_, tGh_cg t (fun a ha => qw a 0 ha (by decide)) (fun k hk => bw k 0 hk (by decide)) (fun _ _ => by rw [o4 16 (by decide) (by decide) (by decide)])⟩
  · rw [o1 a (by omega), t.farms ha]
    have c1 := cnt_one (p := fun x => isFarmV (sec σ x 0) && decide (sec σ x 1 = nI a)) (p' := fun x => isFarmV (sec τ x 0) && decide (sec τ x 1 = nI a)) hc (fun i hi hne => by simp only [hs i 0 hi hne (by decide), hs i 1 hi hne (by decide)])
    have e2 : (isFarmV (sec τ c 0) && decide (sec τ c 1 = nI a)) = false := by rw [tf]; rfl
    simp only [e2] at c1
    by_cases ha2 : a = p
    · subst ha2
      have e1 : (isFarmV (sec σ c 0) && decide (sec σ c 1 = nI a)) = true := by rw [hf, hh]; simp
      simp only [e1] at c1
      simp at c1
      rw [if_pos rfl]
      have c2 : farmsOfC τ (nI a) 96 + 1 = farmsOfC σ (nI a) 96 := c1
      rw [← c2, nI_pdec (by omega)]
      rfl
    · have e1 : (isFarmV (sec σ c 0) && decide (sec σ c 1 = nI a)) = false := by
        rw [hh]
        simp only [Bool.and_eq_false_iff, decide_eq_false_iff_not]
        exact Or.inr (fun y => ha2 ((nI_eq (by omega) (by omega)).mp y).symm)
      simp only [e1] at c1
      simp at c1
      rw [if_neg ha2]
      exact congrArg nI c1.symm
  · rw [o2 a ha]
    by_cases e9 : a = c
    · subst e9
      rw [if_pos rfl, t0, if_neg (by decide)]
    · rw [if_neg e9, hs a 0 ha e9 (by decide), hs a 7 ha e9 (by decide), a3, a4]
      exact t.miles ha
  · rw [o3 a ha]
    by_cases e9 : a = c
    · subst e9
      rw [if_pos rfl, t0, if_neg (by decide)]
    · rw [if_neg e9, hs a 0 ha e9 (by decide), hs a 2 ha e9 (by decide)]
      exact t.ends ha
  · have e9 : a ≠ c := fun z9 => by subst z9; rw [tf] at hf9; cases hf9
    rw [hs a 0 ha e9 (by decide)] at hf9
    rw [hs a 1 ha e9 (by decide)] at z
    rw [hq x 2 hx (Or.inl rfl)]
    exact t.own ha hf9 hx z
  · by_cases e8 : a = c
    · subst e8; exact tp
    · exact (t.ps ha).cg (hs a 0 ha e8 (by decide)) (hs a 3 ha e8 (by decide)) (hs a 4 ha e8 (by decide)) (hs a 5 ha e8 (by decide)) a3
  · by_cases e9 : a = p
    · subst e9; exact tc
    · rw [hq a 1 ha (Or.inr (Or.inr ⟨rfl, e9⟩))]
      exact t.coins ha
  · refine ⟨fun a ha => ?_, fun a ha => ?_⟩
    · obtain ⟨m, m1, m2, m3⟩ := t.ivd.1 a ha
      refine ⟨m, by rw [a3, a4]; exact m1, m2, fun z => ?_⟩
      by_cases e9 : a = c
      · subst e9
        rw [t0] at z
        exact absurd z (by decide)
      · rw [hs a 0 ha e9 (by decide)] at z
        rw [hs a 7 ha e9 (by decide)]
        exact m3 z
    · rw [qw a 0 ha (by decide)]
      exact t.ivd.2 a ha
end FL
section FM
variable {g : GP} {P : Nat → Prop} {F : Mem} {A : XA} {w : Nat} {S : Nat → Nat → Nat} {b : XS} {σ : MS} {e : XE} {M : Mem} {nor nw : Nat}
theorem puts_sec {σ : MS} {c j : Nat} {k h p1 l : Int32} (hj : j < 7) (hj2 : j ≠ 2) : row (putsS σ c k h p1 l) (8 * c + j) = if j = 0 then k else if j = 1 then h else if j = 5 then p1 else if j = 6 then l else nI 0 := by
  unfold putsS hoS
  rcases (by omega : j = 0 ∨ j = 1 ∨ j = 3 ∨ j = 4 ∨ j = 5 ∨ j = 6) with rfl | rfl | rfl | rfl | rfl | rfl <;> simp (disch := omega) [rowS_ne, rowS_eq]
theorem holds_sec {σ : MS} {c j : Nat} {k h : Int32} (hj : j < 7) : row (s_holds σ c k h) (8 * c + j) = if j = 0 then k else if j = 1 then h else if j = 5 then -1 else if j = 6 then -1 else nI 0 := by
  unfold s_holds
  rcases (by omega : j = 0 ∨ j = 1 ∨ j = 2 ∨ j = 3 ∨ j = 4 ∨ j = 5 ∨ j = 6) with rfl | rfl | rfl | rfl | rfl | rfl | rfl <;> simp (disch := omega) [rowS_ne, rowS_eq]
theorem OnR.holds {σ : MS} {c : Nat} {k h : Int32} : OnR σ (s_holds σ c k h) := OnR.rf.R.R.R.R.R.R.R
/-- what is put where nothing is paid is what the model puts -/
theorem puts_holds {k h : Int32} {c : Nat} (hc : c < 96) (y : SX g P F A w S b (putsS σ c k h (-1) (-1)) e M) : SX g P F A w S b (s_holds σ c k h) e M := by
  refine y.onR (fun j hj => ?_) (OnR.puts.sy.tr OnR.holds)
  by_cases hb : 8 * c ≤ j ∧ j < 8 * c + 7
  · obtain ⟨i, rfl⟩ : ∃ i, j = 8 * c + i := ⟨j - 8 * c, by omega⟩
    have hi2 : i ≠ 2 := fun z => by subst z; unfold mapR at hj; omega
    rw [holds_sec (by omega), puts_sec (by omega) hi2]
  · rw [holds_row (by omega), puts_row (by omega)]
/-- a farm of p is a lot again, the farm counted off -/
theorem fall_tie {c p : Nat} (y : SX g P F A w S b (putsS σ c (nI 1) (-1) (-1) (-1)) (uE (putsE e c (nI 0)) 1 p (putsE e c (nI 0) 1 p - nI 1)) M) (t : TieX w S σ e nw) (iv : IvG σ (S 4 w) (S 8 w) (S 10 w) (S 6 w) nor nw) (hc : c < 96) (hp : p < S 4 w) (hf : isFarmV (sec σ c 0) = true) (hh : sec σ c 1 = nI p) : SX g P F A w S b (s_holds σ c (nI 1) (-1)) (uE (putsE e c (nI 0)) 1 p (putsE e c (nI 0) 1 p - nI 1)) M ∧ TieX w S (s_holds σ c (nI 1) (-1)) (uE (putsE e c (nI 0)) 1 p (putsE e c (nI 0) 1 p - nI 1)) nw := by
  have hz := y.hz
  have on : OnR σ (s_holds σ c (nI 1) (-1)) := OnR.holds
  have hS4 := hz.2.1
  refine ⟨puts_holds hc y, tie_fall t hz rfl iv hc hp hf hh (fun j hj g0 g1 g2 g4 g6 g5 g3 => ?_) ((holds_sec (j := 0) (by decide)).trans rfl) ?_ ⟨fun z => absurd (((holds_sec (j := 0) (by decide)).trans rfl).symm.trans z) (show ¬ nI 1 = nI 3 by decide), ⟨0, by decide, (holds_sec (j := 3) (by decide)).trans rfl, fun _ => rfl⟩, by rw [on.1 3 (by decide) (by decide) (by decide) (by decide)]; exact (t.ps hc).2.2.1, Or.inl ((holds_sec (j := 4) (by decide)).trans rfl)⟩ (on.1 3 (by decide) (by decide) (by decide) (by decide)) (on.1 4 (by decide) (by decide) (by decide) (by decide)) on.2.2.2 (on.2.1 23) (on.2.1 24) ⟨fun q hq => ?_, fun q hq => ?_, fun q hq => ?_, fun a a1 a2 a3 => ?_⟩⟩
  · exact holds_row (by unfold fr0 at hj; omega)
  · rw [show per (s_holds σ c (nI 1) (-1)) p 1 = per σ p 1 from holds_row (by omega)]
    exact t.coins hp
  · by_cases eq : q = p
    · subst eq; simp [uE_if, putsE]
    · simp [uE_if, putsE, eq]
  · by_cases eq : q = c
    · subst eq; simp [uE_if, putsE]
    · simp [uE_if, putsE, eq]
  · by_cases eq : q = c
    · subst eq; simp [uE_if, putsE]
    · simp [uE_if, putsE, eq]
  · simp [uE, putsE, a1, a2, a3]
theorem leave_tie {p o : Nat} (h : SX g P F A w S b (leavesS σ p) (leavesE σ e p) M) (t : TieX w S σ e nw) (iv : IvG σ (S 4 w) (S 8 w) (S 10 w) (S 6 w) nor nw) (hp : p < S 4 w) (h2 : per σ p 2 = nI 3) (ho : o < S 4 w) (h3 : per σ p 3 = nI o) : SB g P F A w S b (sR (sR σ (768 + 8 * p + 2) (nI 2)) (768 + 8 * p + 3) (-1)) nw M := by
  have hz := h.hz
  have hS4 := hz.2.1
  have go : tN (per σ p 3) = o := by rw [h3]; exact tN_nI (by omega)
  have eS : leavesS σ p = sR (sR σ (768 + 8 * p + 3) (-1)) (768 + 8 * p + 2) (nI 2) := if_pos h2
  have eE : leavesE σ e p = uE e 0 o (e 0 o - nI 1) := by
    unfold leavesE
    rw [if_pos h2, go]
  rw [eS, eE] at h
  refine ⟨_, h.onR (fun j _ => ?_) (OnR.rf.R.R.sy.tr OnR.rf.R.R), tie_free t hz rfl iv hp ho h2 h3 (fun j _ g2 g3 => ?_) ?_ rowS_eq (by simp [sA]) (by simp [sA]) (by simp [sA]) rfl rfl⟩
  · by_cases j3 : j = 768 + 8 * p + 3
    · subst j3
      rw [rowS_eq, rowS_ne (by omega), rowS_eq]
    · rw [rowS_ne j3]
      by_cases j2 : j = 768 + 8 * p + 2
      · subst j2
        rw [rowS_eq, rowS_eq]
      · rw [rowS_ne j2, rowS_ne j2, rowS_ne j3]
  · rw [rowS_ne g3, rowS_ne g2]
  · show row _ (768 + 8 * p + 2) = _
    rw [rowS_ne (by omega), rowS_eq]
theorem frees1_no2 {σ : MS} {p o : Nat} (h : ¬ per σ o 2 = nI 3) : frees1 p o σ = σ := by
  unfold frees1
  exact if_pos h
theorem frees1_no3 {σ : MS} {p o : Nat} (h : ¬ per σ o 3 = nI p) : frees1 p o σ = σ := by
  unfold frees1
  split
  · rfl
  · first | rfl | exact if_pos h
theorem frees1_yes {σ : MS} {p o : Nat} (h : per σ o 2 = nI 3) (h3 : per σ o 3 = nI p) : frees1 p o σ = sR (sR σ (768 + 8 * o + 2) (nI 2)) (768 + 8 * o + 3) (-1) := by
  unfold frees1
  rw [if_neg (fun z => z h), if_neg (fun z => z h3)]
theorem loses_more {σ : MS} {n p : Nat} (h : 0 < farmsOfC σ (nI p) 96) : s_loses n σ p = σ := by
  unfold s_loses
  split
  · rfl
  · first | rfl | exact if_pos h
theorem loses_last {σ : MS} {n p : Nat} (h2 : per σ p 2 = nI 4) (h : farmsOfC σ (nI p) 96 = 0) : s_loses n σ p = upto (frees1 p) n (sR σ (768 + 8 * p + 2) (nI 2)) := by
  unfold s_loses
  rw [if_neg (fun z => z h2), if_neg (by omega)]
theorem cnt_0 {p : Nat → Bool} : ∀ {n : Nat}, cnt p n = 0 → ∀ i, i < n → p i = false
  | 0, _, i, hi => absurd hi (Nat.not_lt_zero _)
  | n + 1, h, i, hi => by
    unfold cnt at h
    have h1 : cnt p n = 0 := by omega
    have h2 : p n = false := by
      by_cases hp : p n = true
      · rw [hp] at h
        simp at h
      · exact Bool.not_eq_true _ ▸ hp
    by_cases e : i = n
    · subst e; exact h2
    · exact cnt_0 h1 i (by omega)
end FM
set_option maxHeartbeats 600000 in
theorem x_X2_falls {g : GP} {μ : Mem} {d : Nat} {P : Nat → Prop} {F : Mem} {A : XA} {w : Nat} {S : Nat → Nat → Nat} {b : XS} {σ : MS} {nor nw : Nat} (hd : 12 ≤ d) (s : SB g P F A w S b σ nw μ) (iv : IvG σ (S 4 w) (S 8 w) (S 10 w) (S 6 w) nor nw) {c p : Nat} (hc : c < 96) (hp : p < S 4 w) (hf : isFarmV (sec σ c 0) = true) (hh : sec σ c 1 = nI p) : PM g yX2_falls (ws_ yX2_falls cX2_falls 4 none) d 0 0 [.ref (A 1 w 0), .int (nI c)] μ (WQ none (SB g P F A w S b (s_loses (S 4 w) (s_holds σ c (nI 1) (-1)) p) nw)) := by
  refine PM.of (by decide +kernel) (Nat.le_of_ble_eq_true rfl) ?_
  refine PJ.ok (fun G => ?_)
  show PJ g _ _ _ _ d 0 0 0 [(0, .ref (A 1 w 0)), (1, .int (nI c))] [] _ _
  obtain ⟨e, h, t⟩ := s
  have hS4 := h.hz.2.1
  have hS6 := h.hz.2.2.1
  have hS8 := h.hz.2.2.2.1
  have hS10 := h.hz.2.2.2.2.1
  refine pl_aload_n (pc := 0) dX2_falls_0 rfl rfl ?_
  refine pj_getf (pc := 1) ckX2 26 q772 dX2_falls_1 (by decide) (h.r1) rfl ?_
  refine pl_aload_n (pc := 4) dX2_falls_4 rfl rfl ?_
  refine pl_iload_n (pc := 5) dX2_falls_5 rfl rfl ?_
  obtain ⟨q_6, hm_6, hq_6, hdd_6⟩ := h.held (s := c) (by omega)
  refine pl_callVd (pc := 6) (As := [_]) (C1 := 0) (N1 := 0) (C2 := 0) (N2 := 0) ckX2 mdX2_at rfl q1199 q1124 q1125 q126 dX2_falls_6 rfl rfl (Nat.le_of_ble_eq_true rfl) (h.r1) (x_X2_at (d := d - 1) (by omega) h (by omega) hm_6 hq_6) (by omega) (by omega) (by omega) ?_
  refine ph_holder (pc := 9) hq_6 (fun G => dw_at G 17 rfl) (fun G => dw_at G 3 rfl) dX2_falls_9 (by omega) (Nat.le_of_ble_eq_true rfl) ?_
  refine PJ.top ho_holder ?_
  refine PJ.top (y := nI p) hh ?_
  obtain ⟨m_12, c_12, l_12⟩ := h.L4
  refine pl_callVd (pc := 12) (As := [_]) (C1 := 0) (N1 := 0) (C2 := 0) (N2 := 0) ckJ2 mdJ2_get rfl q707 q708 q709 q129 dX2_falls_12 rfl rfl (Nat.le_of_ble_eq_true rfl) l_12.1 (k_J2_get (d := d - 1) (by omega) l_12 (j := p) hp (if_pos hp)) (by omega) (by omega) (by omega) ?_
  refine pj_castS (pc := 15) ckX10 q1190 dX2_falls_15 (h.r35 hp) ?_
  refine pj_astore_n (pc := 18) (lv' := [(2, _), (0, _), (1, _)]) dX2_falls_18 rfl (by decide) rfl ?_
  refine pl_aload_n (pc := 19) dX2_falls_19 rfl rfl ?_
  refine pl_iload_n (pc := 20) dX2_falls_20 rfl rfl ?_
  refine pl_aload_n (pc := 21) dX2_falls_21 rfl rfl ?_
  refine pj_getf (pc := 22) ckX2 20 q763 dX2_falls_22 (by decide) (h.r1) rfl ?_
  have hl_25 : HoC _ (A 49 w 0) (ho4 (nI 1) (-1) (-1) (-1)) := Or.inr (Or.inl ⟨rfl, rfl, rfl, h.lot.1⟩)
  refine pl_callVWv (pc := 25) (As := [_, _]) (C1 := 0) (N1 := 0) (C2 := 0) (N2 := 0) ckX2 mdX2_puts rfl q703 q704 q705 q126 dX2_falls_25 rfl rfl (Nat.le_of_ble_eq_true rfl) (h.r1) (x_X2_puts (d := d - 1) (by omega) h (by omega) hl_25 h.lot.2 (by decide)) (by omega) (by omega) (by omega) (fun My1 y1 => ?_)
  refine pl_aload_n (pc := 28) dX2_falls_28 rfl rfl ?_
  refine pj_dup (pc := 29) dX2_falls_29 rfl ?_
  refine pj_getfN (pc := 30) ckX10 6 q1083 dX2_falls_30 (by decide) (y1.r35 hp) rfl ?_
  refine pl_iconst (pc := 33) (v := 1) dX2_falls_33 (by rfl) ?_
  refine pj_isub (pc := 34) dX2_falls_34 ?_
  refine pj_putfN (pc := 35) ckX10 6 q1083 dX2_falls_35 (by decide) rfl (y1.r35 hp) rfl rfl (Nat.le_of_ble_eq_true rfl) ?_
  refine sxk (y1.p35_6 hp) (fun My2 y2 => ?_)
  obtain ⟨yt, tt⟩ := fall_tie y2 t iv hc hp hf hh
  have ivt := iv.holdsN hc (h := nI 1) (p := -1) (Or.inr (Or.inl rfl))
  have own := t.own hc hf hp hh
  have own2 : per (s_holds σ c (nI 1) (-1)) p 2 = nI 4 := (holds_row (by omega)).trans own
  refine pl_aload_n (pc := 38) dX2_falls_38 rfl rfl ?_
  refine pj_getfN (pc := 39) ckX10 6 q1083 dX2_falls_39 (by decide) (yt.r35 hp) rfl ?_
  have c_f : farmsOfC (s_holds σ c (nI 1) (-1)) (nI p) 96 ≤ 96 := cnt_le _ _
  refine PJ.top (y := nI (farmsOfC (s_holds σ c (nI 1) (-1)) (nI p) 96)) (tt.farms hp) ?_
  refine pl_if_leN (pc := 42) (tgt := 46) dX2_falls_42 (by decide) (by omega) (fun c42 => ?_) (fun c42 => ?_)
  · refine pl_aload_n (pc := 46) dX2_falls_46 rfl rfl ?_
    refine pl_iconst (pc := 47) (v := 2) dX2_falls_47 (by rfl) ?_
    refine pj_putfN (pc := 48) ckX10 3 q1074 dX2_falls_48 (by decide) rfl (yt.r35 hp) rfl rfl (Nat.le_of_ble_eq_true rfl) ?_
    refine sxk (yt.p35_3 hp) (fun My3 y3 => ?_)
    refine pl_iconst (pc := 51) (v := 0) dX2_falls_51 (by rfl) ?_
    refine pj_istore_n (pc := 52) (lv' := [(3, _), (2, _), (0, _), (1, _)]) dX2_falls_52 rfl (by decide) rfl ?_
    have f0 : farmsOfC (s_holds σ c (nI 1) (-1)) (nI p) 96 = 0 := by omega
    have s7 : SB g P F A w S b (sR (s_holds σ c (nI 1) (-1)) (768 + 8 * p + 2) (nI 2)) nw _ := y3.SB (tie_isF tt y3.hz hp (by rw [own2]; decide) (fun x hx z1 z2 => by have h9 := cnt_0 f0 x hx; rw [z1, z2] at h9; simp at h9) (fun j _ hj => rowS_ne hj) (by rw [show per (sR (s_holds σ c (nI 1) (-1)) (768 + 8 * p + 2) (nI 2)) p 2 = nI 2 from rowS_eq]; decide) (by simp [sA]) (by simp [sA]) (by simp [sA]) rfl rfl)
    have iv7 : IvG (sR (s_holds σ c (nI 1) (-1)) (768 + 8 * p + 2) (nI 2)) (S 4 w) (S 8 w) (S 10 w) (S 6 w) nor nw := ivt.perF hp (by decide)
    refine PJ.sub [0, 1, 3, 2] rfl ?_
    refine ind_dn (n := (S 4 w)) (P := fun i => ∀ M9 τ, τ = upto (frees1 p) i (sR (s_holds σ c (nI 1) (-1)) (768 + 8 * p + 2) (nI 2)) → SB g P F A w S b τ nw M9 → IvG τ (S 4 w) (S 8 w) (S 10 w) (S 6 w) nor nw → PJ g _ _ _ _ d 0 0 53 [(3, .int (nI i)), (2, .ref (A 35 w p)), (1, .int (nI c)), (0, .ref (A 1 w 0))] [] M9 _) (fun i hi ih M9 τ hτ s9 iv9 => ?_) 0 (Nat.zero_le _) _ _ rfl s7 iv7
    obtain ⟨e9, h9, t9⟩ := s9
    refine pl_iload_n (pc := 53) dX2_falls_53 rfl rfl ?_
    refine pl_aload_n (pc := 54) dX2_falls_54 rfl rfl ?_
    refine pj_getf (pc := 55) ckX2 26 q772 dX2_falls_55 (by decide) (h9.r1) rfl ?_
    obtain ⟨m_58, c_58, l_58⟩ := h9.L4
    refine pl_callVd (pc := 58) (As := []) (C1 := 0) (N1 := 0) (C2 := 0) (N2 := 0) ckJ2 mdJ2_size rfl q947 q948 q949 q129 dX2_falls_58 rfl rfl (Nat.le_of_ble_eq_true rfl) l_58.1 (k_J2_size (d := d - 1) (by omega) l_58) (by omega) (by omega) (by omega) ?_
    refine pl_icmp_ge (pc := 61) (tgt := 124) dX2_falls_61 (by decide) (by omega) (by omega) (fun c61 => ?_) (fun c61 => ?_)
    · refine pj_vret (pc := 124) dX2_falls_124 rfl ?_
      have ei : i = S 4 w := by omega
      subst ei
      rw [loses_last own2 f0, ← hτ]
      exact ⟨rfl, _, h9, t9⟩
    · refine pl_aload_n (pc := 64) dX2_falls_64 rfl rfl ?_
      refine pj_getf (pc := 65) ckX2 26 q772 dX2_falls_65 (by decide) (h9.r1) rfl ?_
      refine pl_iload_n (pc := 68) dX2_falls_68 rfl rfl ?_
      obtain ⟨m_69, c_69, l_69⟩ := h9.L4
      refine pl_callVd (pc := 69) (As := [_]) (C1 := 0) (N1 := 0) (C2 := 0) (N2 := 0) ckJ2 mdJ2_get rfl q707 q708 q709 q129 dX2_falls_69 rfl rfl (Nat.le_of_ble_eq_true rfl) l_69.1 (k_J2_get (d := d - 1) (by omega) l_69 (j := _) (by omega) (if_pos (by omega))) (by omega) (by omega) (by omega) ?_
      refine pj_castS (pc := 72) ckX10 q1190 dX2_falls_72 (h9.r35 (by omega)) ?_
      refine pj_getfN (pc := 75) ckX10 3 q1074 dX2_falls_75 (by decide) (h9.r35 (by omega)) rfl ?_
      refine pl_iconst (pc := 78) (v := 3) dX2_falls_78 (by rfl) ?_
      refine pj_icmp_ne (pc := 79) (tgt := 118) dX2_falls_79 (by decide) (fun c79 => ?_) (fun c79 => ?_)
      · refine pl_iinc1 (pc := 118) (lv' := [(3, _), (2, _), (1, _), (0, _)]) dX2_falls_118 rfl rfl (by decide) rfl ?_
        refine pj_goto (pc := 121) (tgt := 53) dX2_falls_121 (by decide) ?_
        exact ih (by omega) _ _ (by show _ = frees1 p i (upto (frees1 p) i _); rw [← hτ, frees1_no2 c79]) ⟨_, h9, t9⟩ iv9
      · refine pl_aload_n (pc := 82) dX2_falls_82 rfl rfl ?_
        refine pj_getf (pc := 83) ckX2 26 q772 dX2_falls_83 (by decide) (h9.r1) rfl ?_
        refine pl_iload_n (pc := 86) dX2_falls_86 rfl rfl ?_
        obtain ⟨m_87, c_87, l_87⟩ := h9.L4
        refine pl_callVd (pc := 87) (As := [_]) (C1 := 0) (N1 := 0) (C2 := 0) (N2 := 0) ckJ2 mdJ2_get rfl q707 q708 q709 q129 dX2_falls_87 rfl rfl (Nat.le_of_ble_eq_true rfl) l_87.1 (k_J2_get (d := d - 1) (by omega) l_87 (j := _) (by omega) (if_pos (by omega))) (by omega) (by omega) (by omega) ?_
        refine pj_castS (pc := 90) ckX10 q1190 dX2_falls_90 (h9.r35 (by omega)) ?_
        refine pj_getfN (pc := 93) ckX10 4 q1077 dX2_falls_93 (by decide) (h9.r35 (by omega)) rfl ?_
        refine pl_aload_n (pc := 96) dX2_falls_96 rfl rfl ?_
        refine pj_getfN (pc := 97) ckX10 0 q1065 dX2_falls_97 (by decide) (h9.r35 hp) rfl ?_
        refine pj_icmp_ne (pc := 100) (tgt := 118) dX2_falls_100 (by decide) (fun c100 => ?_) (fun c100 => ?_)
        · refine pl_iinc1 (pc := 118) (lv' := [(3, _), (2, _), (1, _), (0, _)]) dX2_falls_118 rfl rfl (by decide) rfl ?_
          refine pj_goto (pc := 121) (tgt := 53) dX2_falls_121 (by decide) ?_
          exact ih (by omega) _ _ (by show _ = frees1 p i (upto (frees1 p) i _); rw [← hτ, frees1_no3 c100]) ⟨_, h9, t9⟩ iv9
        · refine pl_aload_n (pc := 103) dX2_falls_103 rfl rfl ?_
          refine pl_aload_n (pc := 104) dX2_falls_104 rfl rfl ?_
          refine pj_getf (pc := 105) ckX2 26 q772 dX2_falls_105 (by decide) (h9.r1) rfl ?_
          refine pl_iload_n (pc := 108) dX2_falls_108 rfl rfl ?_
          obtain ⟨m_109, c_109, l_109⟩ := h9.L4
          refine pl_callVd (pc := 109) (As := [_]) (C1 := 0) (N1 := 0) (C2 := 0) (N2 := 0) ckJ2 mdJ2_get rfl q707 q708 q709 q129 dX2_falls_109 rfl rfl (Nat.le_of_ble_eq_true rfl) l_109.1 (k_J2_get (d := d - 1) (by omega) l_109 (j := _) (by omega) (if_pos (by omega))) (by omega) (by omega) (by omega) ?_
          refine pj_castS (pc := 112) ckX10 q1190 dX2_falls_112 (h9.r35 (by omega)) ?_
          refine pl_callVWv (pc := 115) (As := [_]) (C1 := 0) (N1 := 0) (C2 := 0) (N2 := 0) ckX2 mdX2_leaves rfl q1741 q1742 q1743 q126 dX2_falls_115 rfl rfl (Nat.le_of_ble_eq_true rfl) (h9.r1) (x_X2_leaves (d := d - 1) (by omega) h9 (by omega) (fun _ => ⟨p, hp, c100⟩)) (by omega) (by omega) (by omega) (fun My4 y4 => ?_)
          refine pl_iinc1 (pc := 118) (lv' := [(3, _), (2, _), (1, _), (0, _)]) dX2_falls_118 rfl rfl (by decide) rfl ?_
          refine pj_goto (pc := 121) (tgt := 53) dX2_falls_121 (by decide) ?_
          have ivn := iv9.frees (p := p) (o := i) (by omega)
          rw [frees1_yes c79 c100] at ivn
          exact ih (by omega) _ _ (by show _ = frees1 p i (upto (frees1 p) i _); rw [← hτ, frees1_yes c79 c100]) (leave_tie y4 t9 iv9 (by omega) c79 hp c100) ivn
  · refine pj_vret (pc := 45) dX2_falls_45 rfl ?_
    rw [loses_more (by omega)]
    exact ⟨rfl, _, yt, tt⟩
