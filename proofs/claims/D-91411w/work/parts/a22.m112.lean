set_option maxRecDepth 100000
theorem fp_ok {m : Nat} (h : m ≤ 1000) : vf_n32 (FP.i2f (nI m)) := (fp_d2 ⟨m, by omega⟩).2.2
theorem fp_ok1 {m : Nat} (h : m ≤ 500) : vf_n32 (FP.fdiv (FP.i2f (nI m)) (FP.i2f (nI 1))) := (fp_d1 ⟨m, by omega⟩).2
theorem fp_ok2 {m : Nat} (h : m ≤ 1000) : vf_n32 (FP.fdiv (FP.i2f (nI m)) (FP.i2f (nI 2))) := (fp_d2 ⟨m, by omega⟩).2.1
theorem fp_ge {a : Nat} (ha : a ≤ 500) (op : CmpOp) : 0 ≤ Op.cmpValue (FP.fcmp (FP.i2f (nI a)) FP.fconst0) op := by
  rw [show FP.fcmp (FP.i2f (nI a)) FP.fconst0 = _ from (fp_one ⟨a, by omega⟩).2.2.1]
  by_cases h : a = 0
  · rw [if_pos h]; cases op <;> decide
  · rw [if_neg h]; cases op <;> decide
theorem fp_self {a : Nat} (ha : a ≤ 500) (op : CmpOp) : Op.cmpValue (FP.fcmp (FP.i2f (nI a)) (FP.i2f (nI a))) op = nI 0 := by
  rw [show FP.fcmp (FP.i2f (nI a)) (FP.i2f (nI a)) = _ from (fp_one ⟨a, by omega⟩).2.2.2]
  rfl
theorem fp_no {v : UInt32} (h : v = 3212836864 ∨ v = 2143289344) : Op.cmpValue (FP.fcmp v FP.fconst0) .l = -1 := by
  rcases h with h | h <;> · subst h; decide +kernel
theorem fp_nan0 : Op.cmpValue (FP.fcmp 2143289344 FP.fconst0) .g = nI 1 := by decide +kernel
theorem fp_nan1 : Op.cmpValue (FP.fcmp 2143289344 2143289344) .l = -1 := by decide +kernel
theorem fp_m1 : Op.cmpValue (FP.fcmp 3212836864 FP.fconst0) .g = -1 := by decide +kernel
/-- what is told of a zone's week (the zone's number plus 1) -/
def tdV (mn : Nat → Nat) (fl : Nat → Nat → UInt32) (y wk : Nat) : UInt32 := if 0 < y ∧ y ≤ 4 ∧ wk < mn (y - 1) then fl (y - 1) wk else 3212836864
/-- the floats and the model's numbers of rain -/
def FlR (σ : MS) (mn : Nat → Nat) (fl : Nat → Nat → UInt32) : Prop := ∀ z, z < 4 → rm σ z = nI (mn z) ∧ mn z ≤ 1000 ∧ ∀ j, j < mn z → (rn σ z j = -1 ∧ fl z j = 2143289344) ∨ ∃ n, n ≤ 500 ∧ rn σ z j = nI n ∧ fl z j = FP.i2f (nI n)
theorem td_own {σ : MS} {mn : Nat → Nat} {fl : Nat → Nat → UInt32} {z wk : Nat} (h : FlR σ mn fl) (hz : z < 4) (hw : wk ≤ 1000) : (¬ nI wk < rm σ z ∧ tdV mn fl (z + 1) wk = 3212836864) ∨ (nI wk < rm σ z ∧ rn σ z wk < 0 ∧ tdV mn fl (z + 1) wk = 2143289344) ∨ (nI wk < rm σ z ∧ ∃ n, n ≤ 500 ∧ rn σ z wk = nI n ∧ tdV mn fl (z + 1) wk = FP.i2f (nI n)) := by
  obtain ⟨h1, h2, h3⟩ := h z hz
  by_cases hl : wk < mn z
  · have e : tdV mn fl (z + 1) wk = fl z wk := if_pos ⟨by omega, by omega, by simpa using hl⟩
    have hr : nI wk < rm σ z := by rw [h1]; exact (nI_ltI (by omega) (by omega)).mpr hl
    rcases h3 wk hl with ⟨a, b⟩ | ⟨n, hn, a, b⟩
    · exact Or.inr (Or.inl ⟨hr, by rw [a]; decide, e.trans b⟩)
    · exact Or.inr (Or.inr ⟨hr, n, hn, a, e.trans b⟩)
  · refine Or.inl ⟨fun z9 => hl ?_, if_neg (fun z9 => hl (by simpa using z9.2.2))⟩
    rw [h1] at z9
    exact (nI_ltI (by omega) (by omega)).mp z9
theorem td_nb {σ : MS} {mn : Nat → Nat} {fl : Nat → Nat → UInt32} {y wk : Nat} (h : FlR σ mn fl) (hy : y ≤ 5) (hw : wk ≤ 1000) : (¬ (0 < y ∧ tl σ (y - 1) wk = true) ∧ (tdV mn fl y wk = 3212836864 ∨ tdV mn fl y wk = 2143289344)) ∨ ((0 < y ∧ tl σ (y - 1) wk = true) ∧ ∃ n, n ≤ 500 ∧ rn σ (y - 1) wk = nI n ∧ tdV mn fl y wk = FP.i2f (nI n)) := by
  by_cases h0 : 0 < y ∧ y ≤ 4
  · obtain ⟨h1, h2, h3⟩ := h (y - 1) (by omega)
    by_cases hl : wk < mn (y - 1)
    · have e : tdV mn fl y wk = fl (y - 1) wk := if_pos ⟨by omega, by omega, hl⟩
      have hr : ¬ rm σ (y - 1) ≤ nI wk := by rw [h1]; intro z9; have := (nI_leI (by omega) (by omega)).mp z9; omega
      rcases h3 wk hl with ⟨a, b⟩ | ⟨n, hn, a, b⟩
      · refine Or.inl ⟨fun z9 => ?_, Or.inr (e.trans b)⟩
        have z8 := z9.2
        unfold tl at z8
        simp only [Bool.and_eq_true, decide_eq_true_eq] at z8
        have z7 := z8.2.2
        rw [a] at z7
        exact absurd z7 (by decide)
      · refine Or.inr ⟨⟨h0.1, ?_⟩, n, hn, a, e.trans b⟩
        unfold tl
        have hy4 : y - 1 < 4 := by omega
        simp [hr, hy4, a, nI_pos' (show n < 2147483648 by omega)]
    · refine Or.inl ⟨fun z9 => hl ?_, Or.inl (if_neg (fun z9 => hl z9.2.2))⟩
      have z8 := z9.2
      unfold tl at z8
      simp only [Bool.and_eq_true, Bool.not_eq_true', decide_eq_false_iff_not, decide_eq_true_eq] at z8
      have z7 := z8.2.1
      rw [h1] at z7
      rcases Nat.lt_or_ge wk (mn (y - 1)) with z6 | z6
      · exact z6
      · exact absurd ((nI_leI (by omega) (by omega)).mpr z6) z7
  · refine Or.inl ⟨fun z9 => h0 ⟨z9.1, ?_⟩, Or.inl (if_neg (fun z9 => h0 ⟨z9.1, z9.2.1⟩))⟩
    have z8 := z9.2
    unfold tl at z8
    simp only [Bool.and_eq_true, decide_eq_true_eq] at z8
    omega
def fallC (σ : MS) (z w : Nat) : Int32 := if ¬ nI w < rm σ z then nI 10 else if ¬ rn σ z w < 0 then rn σ z w else if nbN σ z w = 0 then nI 0 else nbS σ z w / nI (nbN σ z w)
theorem fall_0 {σ : MS} {z w : Nat} (h : ¬ nI w < rm σ z) : fallC σ z w = nI 10 := if_pos h
theorem fall_2 {σ : MS} {z w n : Nat} (h : nI w < rm σ z) (hn : n ≤ 500) (e : rn σ z w = nI n) : fallC σ z w = nI n := by
  unfold fallC
  rw [if_neg (fun z9 => z9 h), if_pos (by rw [e]; exact Int32.not_lt.mpr (nI_pos' (by omega))), e]
theorem fall_1 {σ : MS} {z w s c : Nat} (h : nI w < rm σ z) (h2 : rn σ z w < 0) (hs : s ≤ 1000) (hc : c ≤ 2) (eN : nbN σ z w = c) (eS : nbS σ z w = nI s) : fallC σ z w = if c = 0 then nI 0 else nI (s / c) := by
  unfold fallC
  rw [if_neg (fun z9 => z9 h), if_neg (fun z9 => z9 h2), eN, eS]
  by_cases h0 : c = 0
  · rw [if_pos h0, if_pos h0]
  · rw [if_neg h0, if_neg h0, pk_div (by omega) (by omega) (by omega)]
theorem nb_of {σ : MS} {z w : Nat} {p q : Prop} [Decidable p] [Decidable q] {a b : Nat} (hp : p ↔ (0 < z ∧ tl σ (z - 1) w = true)) (hq : q ↔ tl σ (z + 1) w = true) (ha : p → rn σ (z - 1) w = nI a) (hb : q → rn σ (z + 1) w = nI b) : nbN σ z w = (if p then 1 else 0) + (if q then 1 else 0) ∧ nbS σ z w = nI ((if p then a else 0) + (if q then b else 0)) := by
  have e1 : nI 0 + nI a = nI (0 + a) := nI_add _ _
  unfold nbN nbS
  by_cases h1 : p
  · by_cases h2 : q
    · rw [if_pos (hp.mp h1), if_pos (hq.mp h2), if_pos h1, if_pos h2, if_pos (hq.mp h2), if_pos (hp.mp h1), if_pos h1, if_pos h2, ha h1, hb h2, e1, nI_add, Nat.zero_add]
      exact ⟨rfl, rfl⟩
    · have h2' : ¬ tl σ (z + 1) w = true := fun y => h2 (hq.mpr y)
      rw [if_pos (hp.mp h1), if_neg h2', if_pos h1, if_neg h2, if_neg h2', if_pos (hp.mp h1), if_pos h1, if_neg h2, ha h1, e1, Nat.zero_add, Nat.add_zero]
      exact ⟨rfl, rfl⟩
  · have h1' : ¬ (0 < z ∧ tl σ (z - 1) w = true) := fun y => h1 (hp.mpr y)
    by_cases h2 : q
    · rw [if_neg h1', if_pos (hq.mp h2), if_neg h1, if_pos h2, if_pos (hq.mp h2), if_neg h1', if_neg h1, if_pos h2, hb h2, nI_add]
      exact ⟨rfl, rfl⟩
    · have h2' : ¬ tl σ (z + 1) w = true := fun y => h2 (hq.mpr y)
      rw [if_neg h1', if_neg h2', if_neg h1, if_neg h2, if_neg h2', if_neg h1', if_neg h1, if_neg h2]
      exact ⟨rfl, rfl⟩
theorem dnI_2 (z : Nat) : dnI z + Int32.ofInt 2 = dnI (z + 2) := by
  cases z with
  | zero => decide
  | succ n => exact nI_add n 2
theorem nI_3 (z : Nat) : nI (z + 1) + Int32.ofInt 2 = nI (z + 3) := nI_add (z + 1) 2
theorem dnI_le {z : Nat} (h : z ≤ 1000) : ¬ nI (z + 1) < dnI z := by
  cases z with
  | zero => decide
  | succ n => exact fun y => by have := (nI_ltI (by omega) (by omega)).mp (show nI (n + 1 + 1) < nI n from y); omega
section RF
variable {g : GP} {own : String} {cc : ByteArray} {nL : Nat} {i : MI} {d C N pc : Nat} {ls : List (Nat × Value)} {rest : List Value} {μ : Mem} {Q : OC → Mem → Prop}
theorem pj_ldcf {index : Nat} {v : UInt32} (hc : Cond.constantFloat own index v ∈ lw_all) (hdg : decode cc pc = .ok (.ldc index, 2)) (kk : PJ g own cc nL i d C N (pc + 2) ls (.float v :: rest) μ Q) : PJ g own cc nL i d C N pc ls rest μ Q :=
  fun G p e R s m args below meth c E H locs cells slots K K9 B arr hl9 => lv_ldcf E.1 E.2.1 E.2.2.2.1 (E.2.2.2.2.1 _ hc) hdg (kk G p e R s m args below meth c E H locs cells slots K K9 B arr hl9)
theorem pj_aldR {a n : Nat} {f : Nat → Option Nat} {j : Int32} (hdg : decode cc pc = .ok (.aaload, 1)) (hm : μ a = some (.inl (gA g 8, n, .inr (.inr (.inr (.inr f)))))) (hin : vp_in j n) (kk : PJ g own cc nL i d C N (pc + 1) ls (va_rf (f j.toNatClampNeg) :: rest) μ Q) : PJ g own cc nL i d C N pc ls (.int j :: .ref a :: rest) μ Q :=
  fun G p e R s m args below meth c E H locs cells slots K K9 B arr hl9 => by
    have hlt : j.toNatClampNeg < n := Nat.not_le.mp fun q => hin (Or.inr q)
    exact W.aald (v := va_rf (f j.toNatClampNeg)) (ty := .array .float) E.1 E.2.1 ((Sim.one B.2.2.2.2.1 hm) 0 _ rfl) (((G.K E.2.2.2.2.2.2.2.2.2.1).2 8 _ rfl).1 n (fun j => va_rf (f j))) rfl (fun q => by cases q) (by show ¬ (j < 0 ∨ (arrV _ _ _).slots.size ≤ _); rw [arrV_size]; exact hin) (by show (arrV _ _ _).slots[_]? = _; rw [arrV_read _ _ hlt]) rfl rfl hdg (kk G p e R s m args below meth c E H locs cells slots K K9 B arr hl9)
theorem pl_aldR {a n j : Nat} {f : Nat → Option Nat} (hdg : decode cc pc = .ok (.aaload, 1)) (hm : μ a = some (.inl (gA g 8, n, .inr (.inr (.inr (.inr f)))))) (hj : j < n) (hn : n < 2147483648) (kk : PJ g own cc nL i d C N (pc + 1) ls (va_rf (f j) :: rest) μ Q) : PJ g own cc nL i d C N pc ls (.int (nI j) :: .ref a :: rest) μ Q := pj_aldR hdg hm (vp_in_nI hj hn) (by rw [nI_clamp (Nat.lt_trans hj hn)]; exact kk)
end RF
/-- the cells of the rains -/
def RnX (g : GP) (A : XA) (mn : Nat → Nat) (fl : Nat → Nat → UInt32) (M : Mem) : Prop := M (A 29 0 0) = some (.inr (34, [.ref (A 30 0 0), .ref (A 31 0 0)])) ∧ (∃ R : Nat → Option Nat, M (A 30 0 0) = some (.inl (gA g 8, 4, .inr (.inr (.inr (.inr R))))) ∧ ∀ z, z < 4 → 0 < mn z → ∃ q, R z = some q ∧ M q = some (.inl (gA g 4, 1000, .inr (.inr (.inl (fl z)))))) ∧ ∃ u : Nat → Int32, M (A 31 0 0) = some (.inl (gA g 0, 4, .inl u)) ∧ ∀ z, z < 4 → u z = nI (mn z) ∧ mn z ≤ 1000
theorem SX.rain {g : GP} {P : Nat → Prop} {F : Mem} {A : XA} {w : Nat} {S : Nat → Nat → Nat} {b : XS} {σ : MS} {e : XE} {M : Mem} (h : SX g P F A w S b σ e M) (hr : ∀ z, z < 4 → ∃ r, r ≤ 1000 ∧ σ.2.1 6 z = nI r) : ∃ mn fl, RnX g A mn fl M ∧ FlR σ mn fl := by
  have r31 := h.r31
  have v31 : ∀ z, z < 4 → VX w S b σ e 31 0 0 z = σ.2.1 6 z := fun z hz => h.v31 hz
  obtain ⟨τ, dn, fl, hR, hz, hf, hd⟩ := h
  have hm : ∀ z, z < 4 → σ.2.1 6 z = nI (tN (σ.2.1 6 z)) ∧ tN (σ.2.1 6 z) ≤ 1000 := fun z hz => by
    obtain ⟨r, h1, h2⟩ := hr z hz
    rw [h2, tN_nI (by omega)]
    exact ⟨rfl, h1⟩
  refine ⟨fun z => tN (σ.2.1 6 z), fl, ⟨hR.gt (k := 29) (w := 0) (i := 0) (LvX.one (by decide) Nat.zero_lt_one), ⟨_, hR.gt (k := 30) (w := 0) (i := 0) (LvX.one (by decide) Nat.zero_lt_one), fun z hz h0 => ?_⟩, _, r31, fun z hz => ⟨(v31 z hz).trans (hm z hz).1, (hm z hz).2⟩⟩, fun z hz => ⟨(hm z hz).1, (hm z hz).2, fun j hj => (hf z hz).2 j hj⟩⟩
  rcases (hf z hz).1 with h1 | h1
  · refine ⟨A 32 0 z, if_pos h1, hR.gt (k := 32) (w := 0) (i := z) ⟨by simp [wNX], by simp [cNX]; omega, fun _ => h1⟩⟩
  · exfalso
    have h2 : 0 < tN (σ.2.1 6 z) := h0
    rw [h1, tN_nI (by decide)] at h2
    omega
set_option maxHeartbeats 600000 in
theorem k_X7_told {g : GP} {μ : Mem} {d : Nat} (hd : 1 ≤ d) {A : XA} {mn : Nat → Nat} {fl : Nat → Nat → UInt32} {y wk : Nat} (hy : y ≤ 5) (hw : wk ≤ 1000) (h : RnX g A mn fl μ) : PM g yX7_told (ws_ yX7_told cX7_told 3 (some .float)) d 0 0 [.ref (A 29 0 0), .int (dnI y), .int (nI wk)] μ (rQ (some (.float (tdV mn fl y wk))) μ) := by
  refine PM.of (by decide +kernel) (Nat.le_of_ble_eq_true rfl) ?_
  refine PJ.ok (fun G => ?_)
  show PJ g _ _ _ _ d 0 0 0 [(0, .ref (A 29 0 0)), (1, .int (dnI y)), (2, .int (nI wk))] [] _ _
  obtain ⟨hC, ⟨R, hR, hRz⟩, u, hU, hu⟩ := h
  cases y with
  | zero =>
    show PJ g yX7_told.cls cX7_told 3 (some .float, yX7_told.name, []) d 0 0 0 [(0, .ref (A 29 0 0)), (1, .int (-1)), (2, .int (nI wk))] [] μ _
    refine pl_iload_n (pc := 0) dX7_told_0 rfl rfl ?_
    refine pj_if_lt (pc := 1) (tgt := 30) dX7_told_1 (by decide) (fun _ => ?_) (fun h => absurd h (by decide))
    refine pj_ldcf (pc := 30) q1311 dX7_told_30 ?_
    refine pj_fret (pc := 32) dX7_told_32 rfl ?_
    rw [show tdV mn fl 0 wk = 3212836864 from if_neg (by omega)]
    exact ⟨rfl, rfl⟩
  | succ y =>
    show PJ g yX7_told.cls cX7_told 3 (some .float, yX7_told.name, []) d 0 0 0 [(0, .ref (A 29 0 0)), (1, .int (nI y)), (2, .int (nI wk))] [] μ _
    refine pl_iload_n (pc := 0) dX7_told_0 rfl rfl ?_
    refine pl_if_ltN (pc := 1) dX7_told_1 ⟨30, by decide⟩ (by omega) ?_
    refine pl_iload_n (pc := 4) dX7_told_4 rfl rfl ?_
    refine pl_iconst (pc := 5) (v := 4) dX7_told_5 (by rfl) ?_
    refine pl_icmp_ge (pc := 6) (tgt := 30) dX7_told_6 (by decide) (by omega) (by omega) (fun c6 => ?_) (fun c6 => ?_)
    · refine pj_ldcf (pc := 30) q1311 dX7_told_30 ?_
      refine pj_fret (pc := 32) dX7_told_32 rfl ?_
      rw [show tdV mn fl (y + 1) wk = 3212836864 from if_neg (fun z9 => by have z8 := z9.2.1; have z7 : wk < mn y := (by simpa using z9.2.2); omega)]
      exact ⟨rfl, rfl⟩
    · refine pl_iload_n (pc := 9) dX7_told_9 rfl rfl ?_
      refine pl_aload_n (pc := 10) dX7_told_10 rfl rfl ?_
      refine pj_getf (pc := 11) ckX7 1 q613 dX7_told_11 (by decide) hC rfl ?_
      refine pl_iload_n (pc := 14) dX7_told_14 rfl rfl ?_
      refine pl_iald (pc := 15) (n := 4) dX7_told_15 hU (by omega) (by decide) ?_
      refine PJ.top (y := nI (mn y)) (hu y (by omega)).1 ?_
      have hm9 := (hu y (by omega)).2
      refine pl_icmp_ge (pc := 16) (tgt := 30) dX7_told_16 (by decide) (by omega) (by omega) (fun c16 => ?_) (fun c16 => ?_)
      · refine pj_ldcf (pc := 30) q1311 dX7_told_30 ?_
        refine pj_fret (pc := 32) dX7_told_32 rfl ?_
        rw [show tdV mn fl (y + 1) wk = 3212836864 from if_neg (fun z9 => by have z8 := z9.2.1; have z7 : wk < mn y := (by simpa using z9.2.2); omega)]
        exact ⟨rfl, rfl⟩
      · refine pl_aload_n (pc := 19) dX7_told_19 rfl rfl ?_
        refine pj_getf (pc := 20) ckX7 0 q612 dX7_told_20 (by decide) hC rfl ?_
        refine pl_iload_n (pc := 23) dX7_told_23 rfl rfl ?_
        obtain ⟨q, hq, hqm⟩ := hRz y (by omega) (by omega)
        refine pl_aldR (pc := 24) (n := 4) dX7_told_24 hR (by omega) (by decide) ?_
        rw [hq]
        show PJ g _ _ _ _ d _ _ 25 _ (.ref q :: _) _ _
        refine pl_iload_n (pc := 25) dX7_told_25 rfl rfl ?_
        refine pl_fald (pc := 26) (n := 1000) dX7_told_26 hqm (by omega) (by decide) ?_
        refine pj_goto (pc := 27) (tgt := 32) dX7_told_27 (by decide) ?_
        refine pj_fret (pc := 32) dX7_told_32 rfl ?_
        rw [show tdV mn fl (y + 1) wk = fl y wk from if_pos ⟨by omega, by omega, by simpa using (show wk < mn y by omega)⟩]
        exact ⟨rfl, rfl⟩
set_option maxHeartbeats 4000000 in
theorem k_X7_fell {g : GP} {μ : Mem} {d : Nat} (hd : 2 ≤ d) {A : XA} {mn : Nat → Nat} {fl : Nat → Nat → UInt32} {σ : MS} {z wk : Nat} (hz : z < 4) (hw : wk ≤ 1000) (h : RnX g A mn fl μ) (hf : FlR σ mn fl) : PM g yX7_fell (ws_ yX7_fell cX7_fell 8 (some .int)) d 0 0 [.ref (A 29 0 0), .int (nI z), .int (nI wk)] μ (rQ (some (.int (fallC σ z wk))) μ) := by
  refine PM.of (by decide +kernel) (Nat.le_of_ble_eq_true rfl) ?_
  refine PJ.ok (fun G => ?_)
  show PJ g _ _ _ _ d 0 0 0 [(0, .ref (A 29 0 0)), (1, .int (nI z)), (2, .int (nI wk))] [] _ _
  refine pl_aload_n (pc := 0) dX7_fell_0 rfl rfl ?_
  refine pl_iload_n (pc := 1) dX7_fell_1 rfl rfl ?_
  refine pl_iload_n (pc := 2) dX7_fell_2 rfl rfl ?_
  refine pl_callVd (pc := 3) (As := [_, _]) (C1 := 0) (N1 := 0) (C2 := 0) (N2 := 0) ckX7 mdX7_told rfl q1307 q1309 qs8 q151 dX7_fell_3 rfl rfl (Nat.le_of_ble_eq_true rfl) h.1 (k_X7_told (d := d - 1) (by omega) (y := z + 1) (by omega) hw h) (by omega) (by omega) (by omega) ?_
  rcases td_own hf hz hw with ⟨hl, ev⟩ | ⟨hl, hn, ev⟩ | ⟨hl, a0, ha0, er, ev⟩
  · rw [ev]
    refine pj_fstore_n (pc := 6) (lv' := [(3, _), (0, _), (1, _), (2, _)]) dX7_fell_6 rfl (by decide) rfl ?_
    refine pl_fload_n (pc := 7) dX7_fell_7 rfl rfl ?_
    refine pj_fconst0 (pc := 8) dX7_fell_8 ?_
    refine pj_fcmp (pc := 9) dX7_fell_9 ?_
    refine PJ.top (y := (-1 : Int32)) fp_m1 ?_
    refine pj_if_ge (pc := 10) (tgt := 16) dX7_fell_10 (by decide) (fun h => absurd h (by decide)) (fun _ => ?_)
    refine pl_bipush (pc := 13) (v := 10) dX7_fell_13 (by rfl) ?_
    refine pj_iret (pc := 15) dX7_fell_15 rfl ?_
    rw [fall_0 hl]
    exact ⟨rfl, rfl⟩
  · rw [ev]
    refine pj_fstore_n (pc := 6) (lv' := [(3, _), (0, _), (1, _), (2, _)]) dX7_fell_6 rfl (by decide) rfl ?_
    refine pl_fload_n (pc := 7) dX7_fell_7 rfl rfl ?_
    refine pj_fconst0 (pc := 8) dX7_fell_8 ?_
    refine pj_fcmp (pc := 9) dX7_fell_9 ?_
    refine PJ.top (y := nI 1) fp_nan0 ?_
    refine pj_if_ge (pc := 10) (tgt := 16) dX7_fell_10 (by decide) (fun _ => ?_) (fun h => absurd h (by decide))
    refine pl_fload_n (pc := 16) dX7_fell_16 rfl rfl ?_
    refine pl_fload_n (pc := 17) dX7_fell_17 rfl rfl ?_
    refine pj_fcmp (pc := 18) dX7_fell_18 ?_
    refine PJ.top (y := (-1 : Int32)) fp_nan1 ?_
    refine pj_if_ne (pc := 19) (tgt := 25) dX7_fell_19 (by decide) (fun _ => ?_) (fun h => absurd h (by decide))
    refine pj_fconst0 (pc := 25) dX7_fell_25 ?_
    refine PJ.conv rfl (show _ = [Value.float (FP.i2f (nI 0))] by rw [fp_c0]) rfl ?_
    refine pj_fstore (pc := 26) (lv' := [(4, _), (3, _), (0, _), (1, _), (2, _)]) dX7_fell_26 (by decide) rfl ?_
    refine pj_fconst0 (pc := 28) dX7_fell_28 ?_
    refine PJ.conv rfl (show _ = [Value.float (FP.i2f (nI 0))] by rw [fp_c0]) rfl ?_
    refine pj_fstore (pc := 29) (lv' := [(5, _), (4, _), (3, _), (0, _), (1, _), (2, _)]) dX7_fell_29 (by decide) rfl ?_
    refine pl_iload_n (pc := 31) dX7_fell_31 rfl rfl ?_
    refine pl_iconst (pc := 32) (v := 1) dX7_fell_32 (by rfl) ?_
    refine pj_isub (pc := 33) dX7_fell_33 ?_
    refine PJ.top (y := dnI z) (dnI_sub z) ?_
    refine pj_istore (pc := 34) (lv' := [(6, _), (5, _), (4, _), (3, _), (0, _), (1, _), (2, _)]) dX7_fell_34 (by decide) rfl ?_
    refine PJ.sub [0, 1, 2, 6, 5, 4] rfl ?_
    rcases td_nb (y := z) hf (by omega) hw with ⟨na, va⟩ | ⟨pa, a, ha, ra, va⟩
    · rcases td_nb (y := z + 2) hf (by omega) hw with ⟨nb, vb⟩ | ⟨pb, b, hb, rb, vb⟩
      · refine pl_iload (pc := 36) dX7_fell_36 rfl ?_
        refine pl_iload_n (pc := 38) dX7_fell_38 rfl rfl ?_
        refine pl_iconst (pc := 39) (v := 1) dX7_fell_39 (by rfl) ?_
        refine pl_iadd (pc := 40) dX7_fell_40 ?_
        refine pj_icmp_gt (pc := 41) (tgt := 82) dX7_fell_41 (by decide) (fun z9 => absurd z9 (dnI_le (by omega))) (fun _ => ?_)
        refine pl_aload_n (pc := 44) dX7_fell_44 rfl rfl ?_
        refine pl_iload (pc := 45) dX7_fell_45 rfl ?_
        refine pl_iload_n (pc := 47) dX7_fell_47 rfl rfl ?_
        refine pl_callVd (pc := 48) (As := [_, _]) (C1 := 0) (N1 := 0) (C2 := 0) (N2 := 0) ckX7 mdX7_told rfl q1307 q1309 qs8 q151 dX7_fell_48 rfl rfl (Nat.le_of_ble_eq_true rfl) h.1 (k_X7_told (d := d - 1) (by omega) (y := z) (by omega) hw h) (by omega) (by omega) (by omega) ?_
        refine pj_fstore (pc := 51) (lv' := [(7, _), (6, _), (5, _), (4, _), (2, _), (1, _), (0, _)]) dX7_fell_51 (by decide) rfl ?_
        refine pl_fload (pc := 53) dX7_fell_53 rfl ?_
        refine pj_fconst0 (pc := 55) dX7_fell_55 ?_
        refine pj_fcmp (pc := 56) dX7_fell_56 ?_
        refine PJ.top (y := (-1 : Int32)) (fp_no va) ?_
        refine pj_if_ge (pc := 57) (tgt := 63) dX7_fell_57 (by decide) (fun h => absurd h (by decide)) (fun _ => ?_)
        refine pj_goto (pc := 60) (tgt := 76) dX7_fell_60 (by decide) ?_
        refine pl_iinc (pc := 76) (v := dnI (z + 2)) (lv' := [(6, _), (7, _), (5, _), (4, _), (2, _), (1, _), (0, _)]) dX7_fell_76 rfl (dnI_2 z) (by decide) rfl ?_
        refine pj_goto (pc := 79) (tgt := 36) dX7_fell_79 (by decide) ?_
        refine pl_iload (pc := 36) dX7_fell_36 rfl ?_
        refine pl_iload_n (pc := 38) dX7_fell_38 rfl rfl ?_
        refine pl_iconst (pc := 39) (v := 1) dX7_fell_39 (by rfl) ?_
        refine pl_iadd (pc := 40) dX7_fell_40 ?_
        refine pj_icmp_gt (pc := 41) (tgt := 82) dX7_fell_41 (by decide) (fun z9 => (Int32.lt_irrefl (show nI (z + 1) < nI (z + 1) from z9)).elim) (fun _ => ?_)
        refine pl_aload_n (pc := 44) dX7_fell_44 rfl rfl ?_
        refine pl_iload (pc := 45) dX7_fell_45 rfl ?_
        refine pl_iload_n (pc := 47) dX7_fell_47 rfl rfl ?_
        refine pl_callVd (pc := 48) (As := [_, _]) (C1 := 0) (N1 := 0) (C2 := 0) (N2 := 0) ckX7 mdX7_told rfl q1307 q1309 qs8 q151 dX7_fell_48 rfl rfl (Nat.le_of_ble_eq_true rfl) h.1 (k_X7_told (d := d - 1) (by omega) (y := z + 2) (by omega) hw h) (by omega) (by omega) (by omega) ?_
        refine pj_fstore (pc := 51) (lv' := [(7, _), (6, _), (5, _), (4, _), (2, _), (1, _), (0, _)]) dX7_fell_51 (by decide) rfl ?_
        refine pl_fload (pc := 53) dX7_fell_53 rfl ?_
        refine pj_fconst0 (pc := 55) dX7_fell_55 ?_
        refine pj_fcmp (pc := 56) dX7_fell_56 ?_
        refine PJ.top (y := (-1 : Int32)) (fp_no vb) ?_
        refine pj_if_ge (pc := 57) (tgt := 63) dX7_fell_57 (by decide) (fun h => absurd h (by decide)) (fun _ => ?_)
        refine pj_goto (pc := 60) (tgt := 76) dX7_fell_60 (by decide) ?_
        refine pl_iinc (pc := 76) (v := nI (z + 3)) (lv' := [(6, _), (7, _), (5, _), (4, _), (2, _), (1, _), (0, _)]) dX7_fell_76 rfl (nI_3 z) (by decide) rfl ?_
        refine pj_goto (pc := 79) (tgt := 36) dX7_fell_79 (by decide) ?_
        refine pl_iload (pc := 36) dX7_fell_36 rfl ?_
        refine pl_iload_n (pc := 38) dX7_fell_38 rfl rfl ?_
        refine pl_iconst (pc := 39) (v := 1) dX7_fell_39 (by rfl) ?_
        refine pl_iadd (pc := 40) dX7_fell_40 ?_
        refine pj_icmp_gt (pc := 41) (tgt := 82) dX7_fell_41 (by decide) (fun _ => ?_) (fun z9 => absurd ((nI_ltI (by omega) (by omega)).mpr (show z + 1 < z + 3 by omega)) z9)
        refine pl_fload (pc := 82) dX7_fell_82 rfl ?_
        refine pj_fconst0 (pc := 84) dX7_fell_84 ?_
        refine pj_fcmp (pc := 85) dX7_fell_85 ?_
        refine PJ.top (y := nI 0) (by decide +kernel) ?_
        refine pj_if_ne (pc := 86) (tgt := 93) dX7_fell_86 (by decide) (fun h => absurd h (by decide)) (fun _ => ?_)
        refine pl_iconst (pc := 89) (v := 0) dX7_fell_89 (by rfl) ?_
        refine pj_goto (pc := 90) (tgt := 99) dX7_fell_90 (by decide) ?_
        refine pj_iret (pc := 99) dX7_fell_99 rfl ?_
        obtain ⟨eN, eS⟩ := nb_of (σ := σ) (z := z) (w := wk) (p := False) (q := False) (a := 0) (b := 0) ⟨fun z9 => z9.elim, fun z9 => na z9⟩ ⟨fun z9 => z9.elim, fun z9 => nb ⟨by omega, z9⟩⟩ (fun z9 => z9.elim) (fun z9 => z9.elim)
        rw [fall_1 (s := 0) (c := 0) hl hn (by omega) (by decide) (eN.trans (by simp)) (eS.trans (by simp))]
        exact ⟨rfl, rfl⟩
      · refine pl_iload (pc := 36) dX7_fell_36 rfl ?_
        refine pl_iload_n (pc := 38) dX7_fell_38 rfl rfl ?_
        refine pl_iconst (pc := 39) (v := 1) dX7_fell_39 (by rfl) ?_
        refine pl_iadd (pc := 40) dX7_fell_40 ?_
        refine pj_icmp_gt (pc := 41) (tgt := 82) dX7_fell_41 (by decide) (fun z9 => absurd z9 (dnI_le (by omega))) (fun _ => ?_)
        refine pl_aload_n (pc := 44) dX7_fell_44 rfl rfl ?_
        refine pl_iload (pc := 45) dX7_fell_45 rfl ?_
        refine pl_iload_n (pc := 47) dX7_fell_47 rfl rfl ?_
        refine pl_callVd (pc := 48) (As := [_, _]) (C1 := 0) (N1 := 0) (C2 := 0) (N2 := 0) ckX7 mdX7_told rfl q1307 q1309 qs8 q151 dX7_fell_48 rfl rfl (Nat.le_of_ble_eq_true rfl) h.1 (k_X7_told (d := d - 1) (by omega) (y := z) (by omega) hw h) (by omega) (by omega) (by omega) ?_
        refine pj_fstore (pc := 51) (lv' := [(7, _), (6, _), (5, _), (4, _), (2, _), (1, _), (0, _)]) dX7_fell_51 (by decide) rfl ?_
        refine pl_fload (pc := 53) dX7_fell_53 rfl ?_
        refine pj_fconst0 (pc := 55) dX7_fell_55 ?_
        refine pj_fcmp (pc := 56) dX7_fell_56 ?_
        refine PJ.top (y := (-1 : Int32)) (fp_no va) ?_
        refine pj_if_ge (pc := 57) (tgt := 63) dX7_fell_57 (by decide) (fun h => absurd h (by decide)) (fun _ => ?_)
        refine pj_goto (pc := 60) (tgt := 76) dX7_fell_60 (by decide) ?_
        refine pl_iinc (pc := 76) (v := dnI (z + 2)) (lv' := [(6, _), (7, _), (5, _), (4, _), (2, _), (1, _), (0, _)]) dX7_fell_76 rfl (dnI_2 z) (by decide) rfl ?_
        refine pj_goto (pc := 79) (tgt := 36) dX7_fell_79 (by decide) ?_
        refine pl_iload (pc := 36) dX7_fell_36 rfl ?_
        refine pl_iload_n (pc := 38) dX7_fell_38 rfl rfl ?_
        refine pl_iconst (pc := 39) (v := 1) dX7_fell_39 (by rfl) ?_
        refine pl_iadd (pc := 40) dX7_fell_40 ?_
        refine pj_icmp_gt (pc := 41) (tgt := 82) dX7_fell_41 (by decide) (fun z9 => (Int32.lt_irrefl (show nI (z + 1) < nI (z + 1) from z9)).elim) (fun _ => ?_)
        refine pl_aload_n (pc := 44) dX7_fell_44 rfl rfl ?_
        refine pl_iload (pc := 45) dX7_fell_45 rfl ?_
        refine pl_iload_n (pc := 47) dX7_fell_47 rfl rfl ?_
        refine pl_callVd (pc := 48) (As := [_, _]) (C1 := 0) (N1 := 0) (C2 := 0) (N2 := 0) ckX7 mdX7_told rfl q1307 q1309 qs8 q151 dX7_fell_48 rfl rfl (Nat.le_of_ble_eq_true rfl) h.1 (k_X7_told (d := d - 1) (by omega) (y := z + 2) (by omega) hw h) (by omega) (by omega) (by omega) ?_
        rw [vb]
        refine pj_fstore (pc := 51) (lv' := [(7, _), (6, _), (5, _), (4, _), (2, _), (1, _), (0, _)]) dX7_fell_51 (by decide) rfl ?_
        refine pl_fload (pc := 53) dX7_fell_53 rfl ?_
        refine pj_fconst0 (pc := 55) dX7_fell_55 ?_
        refine pj_fcmp (pc := 56) dX7_fell_56 ?_
        refine pj_if_ge (pc := 57) (tgt := 63) dX7_fell_57 (by decide) (fun _ => ?_) (fun z9 => absurd (fp_ge hb _) z9)
        refine pl_fload (pc := 63) dX7_fell_63 rfl ?_
        refine pl_fload (pc := 65) dX7_fell_65 rfl ?_
        refine pj_fadd (pc := 67) dX7_fell_67 (by rw [fp_add (by omega) (by omega)]; exact fp_ok (by omega)) ?_
        refine PJ.conv rfl (show _ = [Value.float (FP.i2f (nI (b)))] by rw [fp_add (by omega) (by omega)]; rw [Nat.zero_add]) rfl ?_
        refine pj_fstore (pc := 68) (lv' := [(4, _), (7, _), (6, _), (5, _), (2, _), (1, _), (0, _)]) dX7_fell_68 (by decide) rfl ?_
        refine pl_fload (pc := 70) dX7_fell_70 rfl ?_
        refine pj_fconst1 (pc := 72) dX7_fell_72 ?_
        refine pj_fadd (pc := 73) dX7_fell_73 (by rw [← fp_c1, fp_add (by omega) (by omega)]; exact fp_ok (by omega)) ?_
        refine PJ.conv rfl (show _ = [Value.float (FP.i2f (nI 1))] by rw [← fp_c1, fp_add (by omega) (by omega)]) rfl ?_
        refine pj_fstore (pc := 74) (lv' := [(5, _), (4, _), (7, _), (6, _), (2, _), (1, _), (0, _)]) dX7_fell_74 (by decide) rfl ?_
        refine pl_iinc (pc := 76) (v := nI (z + 3)) (lv' := [(6, _), (5, _), (4, _), (7, _), (2, _), (1, _), (0, _)]) dX7_fell_76 rfl (nI_3 z) (by decide) rfl ?_
        refine pj_goto (pc := 79) (tgt := 36) dX7_fell_79 (by decide) ?_
        refine pl_iload (pc := 36) dX7_fell_36 rfl ?_
        refine pl_iload_n (pc := 38) dX7_fell_38 rfl rfl ?_
        refine pl_iconst (pc := 39) (v := 1) dX7_fell_39 (by rfl) ?_
        refine pl_iadd (pc := 40) dX7_fell_40 ?_
        refine pj_icmp_gt (pc := 41) (tgt := 82) dX7_fell_41 (by decide) (fun _ => ?_) (fun z9 => absurd ((nI_ltI (by omega) (by omega)).mpr (show z + 1 < z + 3 by omega)) z9)
        refine pl_fload (pc := 82) dX7_fell_82 rfl ?_
        refine pj_fconst0 (pc := 84) dX7_fell_84 ?_
        refine pj_fcmp (pc := 85) dX7_fell_85 ?_
        refine PJ.top (y := nI 1) (by decide +kernel) ?_
        refine pj_if_ne (pc := 86) (tgt := 93) dX7_fell_86 (by decide) (fun _ => ?_) (fun h => absurd h (by decide))
        refine pl_fload (pc := 93) dX7_fell_93 rfl ?_
        refine pl_fload (pc := 95) dX7_fell_95 rfl ?_
        refine pj_fdiv (pc := 97) dX7_fell_97 (fp_ok1 (m := b) (by omega)) ?_
        refine pj_f2i (pc := 98) dX7_fell_98 ?_
        refine PJ.top (y := nI (b)) (fp_d1 ⟨b, by omega⟩).1 ?_
        refine pj_iret (pc := 99) dX7_fell_99 rfl ?_
        obtain ⟨eN, eS⟩ := nb_of (σ := σ) (z := z) (w := wk) (p := False) (q := True) (a := 0) (b := b) ⟨fun z9 => z9.elim, fun z9 => na z9⟩ ⟨fun _ => pb.2, fun _ => trivial⟩ (fun z9 => z9.elim) (fun _ => rb)
        rw [fall_1 (s := b) (c := 1) hl hn (by omega) (by decide) (eN.trans (by simp)) (eS.trans (by simp))]
        rw [if_neg (by decide), Nat.div_one]
        exact ⟨rfl, rfl⟩
    · rcases td_nb (y := z + 2) hf (by omega) hw with ⟨nb, vb⟩ | ⟨pb, b, hb, rb, vb⟩
      · refine pl_iload (pc := 36) dX7_fell_36 rfl ?_
        refine pl_iload_n (pc := 38) dX7_fell_38 rfl rfl ?_
        refine pl_iconst (pc := 39) (v := 1) dX7_fell_39 (by rfl) ?_
        refine pl_iadd (pc := 40) dX7_fell_40 ?_
        refine pj_icmp_gt (pc := 41) (tgt := 82) dX7_fell_41 (by decide) (fun z9 => absurd z9 (dnI_le (by omega))) (fun _ => ?_)
        refine pl_aload_n (pc := 44) dX7_fell_44 rfl rfl ?_
        refine pl_iload (pc := 45) dX7_fell_45 rfl ?_
        refine pl_iload_n (pc := 47) dX7_fell_47 rfl rfl ?_
        refine pl_callVd (pc := 48) (As := [_, _]) (C1 := 0) (N1 := 0) (C2 := 0) (N2 := 0) ckX7 mdX7_told rfl q1307 q1309 qs8 q151 dX7_fell_48 rfl rfl (Nat.le_of_ble_eq_true rfl) h.1 (k_X7_told (d := d - 1) (by omega) (y := z) (by omega) hw h) (by omega) (by omega) (by omega) ?_
        rw [va]
        refine pj_fstore (pc := 51) (lv' := [(7, _), (6, _), (5, _), (4, _), (2, _), (1, _), (0, _)]) dX7_fell_51 (by decide) rfl ?_
        refine pl_fload (pc := 53) dX7_fell_53 rfl ?_
        refine pj_fconst0 (pc := 55) dX7_fell_55 ?_
        refine pj_fcmp (pc := 56) dX7_fell_56 ?_
        refine pj_if_ge (pc := 57) (tgt := 63) dX7_fell_57 (by decide) (fun _ => ?_) (fun z9 => absurd (fp_ge ha _) z9)
        refine pl_fload (pc := 63) dX7_fell_63 rfl ?_
        refine pl_fload (pc := 65) dX7_fell_65 rfl ?_
        refine pj_fadd (pc := 67) dX7_fell_67 (by rw [fp_add (by omega) (by omega)]; exact fp_ok (by omega)) ?_
        refine PJ.conv rfl (show _ = [Value.float (FP.i2f (nI (a)))] by rw [fp_add (by omega) (by omega)]; rw [Nat.zero_add]) rfl ?_
        refine pj_fstore (pc := 68) (lv' := [(4, _), (7, _), (6, _), (5, _), (2, _), (1, _), (0, _)]) dX7_fell_68 (by decide) rfl ?_
        refine pl_fload (pc := 70) dX7_fell_70 rfl ?_
        refine pj_fconst1 (pc := 72) dX7_fell_72 ?_
        refine pj_fadd (pc := 73) dX7_fell_73 (by rw [← fp_c1, fp_add (by omega) (by omega)]; exact fp_ok (by omega)) ?_
        refine PJ.conv rfl (show _ = [Value.float (FP.i2f (nI 1))] by rw [← fp_c1, fp_add (by omega) (by omega)]) rfl ?_
        refine pj_fstore (pc := 74) (lv' := [(5, _), (4, _), (7, _), (6, _), (2, _), (1, _), (0, _)]) dX7_fell_74 (by decide) rfl ?_
        refine pl_iinc (pc := 76) (v := dnI (z + 2)) (lv' := [(6, _), (5, _), (4, _), (7, _), (2, _), (1, _), (0, _)]) dX7_fell_76 rfl (dnI_2 z) (by decide) rfl ?_
        refine pj_goto (pc := 79) (tgt := 36) dX7_fell_79 (by decide) ?_
        refine pl_iload (pc := 36) dX7_fell_36 rfl ?_
        refine pl_iload_n (pc := 38) dX7_fell_38 rfl rfl ?_
        refine pl_iconst (pc := 39) (v := 1) dX7_fell_39 (by rfl) ?_
        refine pl_iadd (pc := 40) dX7_fell_40 ?_
        refine pj_icmp_gt (pc := 41) (tgt := 82) dX7_fell_41 (by decide) (fun z9 => (Int32.lt_irrefl (show nI (z + 1) < nI (z + 1) from z9)).elim) (fun _ => ?_)
        refine pl_aload_n (pc := 44) dX7_fell_44 rfl rfl ?_
        refine pl_iload (pc := 45) dX7_fell_45 rfl ?_
        refine pl_iload_n (pc := 47) dX7_fell_47 rfl rfl ?_
        refine pl_callVd (pc := 48) (As := [_, _]) (C1 := 0) (N1 := 0) (C2 := 0) (N2 := 0) ckX7 mdX7_told rfl q1307 q1309 qs8 q151 dX7_fell_48 rfl rfl (Nat.le_of_ble_eq_true rfl) h.1 (k_X7_told (d := d - 1) (by omega) (y := z + 2) (by omega) hw h) (by omega) (by omega) (by omega) ?_
        refine pj_fstore (pc := 51) (lv' := [(7, _), (6, _), (5, _), (4, _), (2, _), (1, _), (0, _)]) dX7_fell_51 (by decide) rfl ?_
        refine pl_fload (pc := 53) dX7_fell_53 rfl ?_
        refine pj_fconst0 (pc := 55) dX7_fell_55 ?_
        refine pj_fcmp (pc := 56) dX7_fell_56 ?_
        refine PJ.top (y := (-1 : Int32)) (fp_no vb) ?_
        refine pj_if_ge (pc := 57) (tgt := 63) dX7_fell_57 (by decide) (fun h => absurd h (by decide)) (fun _ => ?_)
        refine pj_goto (pc := 60) (tgt := 76) dX7_fell_60 (by decide) ?_
        refine pl_iinc (pc := 76) (v := nI (z + 3)) (lv' := [(6, _), (7, _), (5, _), (4, _), (2, _), (1, _), (0, _)]) dX7_fell_76 rfl (nI_3 z) (by decide) rfl ?_
        refine pj_goto (pc := 79) (tgt := 36) dX7_fell_79 (by decide) ?_
        refine pl_iload (pc := 36) dX7_fell_36 rfl ?_
        refine pl_iload_n (pc := 38) dX7_fell_38 rfl rfl ?_
        refine pl_iconst (pc := 39) (v := 1) dX7_fell_39 (by rfl) ?_
        refine pl_iadd (pc := 40) dX7_fell_40 ?_
        refine pj_icmp_gt (pc := 41) (tgt := 82) dX7_fell_41 (by decide) (fun _ => ?_) (fun z9 => absurd ((nI_ltI (by omega) (by omega)).mpr (show z + 1 < z + 3 by omega)) z9)
        refine pl_fload (pc := 82) dX7_fell_82 rfl ?_
        refine pj_fconst0 (pc := 84) dX7_fell_84 ?_
        refine pj_fcmp (pc := 85) dX7_fell_85 ?_
        refine PJ.top (y := nI 1) (by decide +kernel) ?_
        refine pj_if_ne (pc := 86) (tgt := 93) dX7_fell_86 (by decide) (fun _ => ?_) (fun h => absurd h (by decide))
        refine pl_fload (pc := 93) dX7_fell_93 rfl ?_
        refine pl_fload (pc := 95) dX7_fell_95 rfl ?_
        refine pj_fdiv (pc := 97) dX7_fell_97 (fp_ok1 (m := a) (by omega)) ?_
        refine pj_f2i (pc := 98) dX7_fell_98 ?_
        refine PJ.top (y := nI (a)) (fp_d1 ⟨a, by omega⟩).1 ?_
        refine pj_iret (pc := 99) dX7_fell_99 rfl ?_
        obtain ⟨eN, eS⟩ := nb_of (σ := σ) (z := z) (w := wk) (p := True) (q := False) (a := a) (b := 0) ⟨fun _ => pa, fun _ => trivial⟩ ⟨fun z9 => z9.elim, fun z9 => nb ⟨by omega, z9⟩⟩ (fun _ => ra) (fun z9 => z9.elim)
        rw [fall_1 (s := a) (c := 1) hl hn (by omega) (by decide) (eN.trans (by simp)) (eS.trans (by simp))]
        rw [if_neg (by decide), Nat.div_one]
        exact ⟨rfl, rfl⟩
      · refine pl_iload (pc := 36) dX7_fell_36 rfl ?_
        refine pl_iload_n (pc := 38) dX7_fell_38 rfl rfl ?_
        refine pl_iconst (pc := 39) (v := 1) dX7_fell_39 (by rfl) ?_
        refine pl_iadd (pc := 40) dX7_fell_40 ?_
        refine pj_icmp_gt (pc := 41) (tgt := 82) dX7_fell_41 (by decide) (fun z9 => absurd z9 (dnI_le (by omega))) (fun _ => ?_)
        refine pl_aload_n (pc := 44) dX7_fell_44 rfl rfl ?_
        refine pl_iload (pc := 45) dX7_fell_45 rfl ?_
        refine pl_iload_n (pc := 47) dX7_fell_47 rfl rfl ?_
        refine pl_callVd (pc := 48) (As := [_, _]) (C1 := 0) (N1 := 0) (C2 := 0) (N2 := 0) ckX7 mdX7_told rfl q1307 q1309 qs8 q151 dX7_fell_48 rfl rfl (Nat.le_of_ble_eq_true rfl) h.1 (k_X7_told (d := d - 1) (by omega) (y := z) (by omega) hw h) (by omega) (by omega) (by omega) ?_
        rw [va]
        refine pj_fstore (pc := 51) (lv' := [(7, _), (6, _), (5, _), (4, _), (2, _), (1, _), (0, _)]) dX7_fell_51 (by decide) rfl ?_
        refine pl_fload (pc := 53) dX7_fell_53 rfl ?_
        refine pj_fconst0 (pc := 55) dX7_fell_55 ?_
        refine pj_fcmp (pc := 56) dX7_fell_56 ?_
        refine pj_if_ge (pc := 57) (tgt := 63) dX7_fell_57 (by decide) (fun _ => ?_) (fun z9 => absurd (fp_ge ha _) z9)
        refine pl_fload (pc := 63) dX7_fell_63 rfl ?_
        refine pl_fload (pc := 65) dX7_fell_65 rfl ?_
        refine pj_fadd (pc := 67) dX7_fell_67 (by rw [fp_add (by omega) (by omega)]; exact fp_ok (by omega)) ?_
        refine PJ.conv rfl (show _ = [Value.float (FP.i2f (nI (a)))] by rw [fp_add (by omega) (by omega)]; rw [Nat.zero_add]) rfl ?_
        refine pj_fstore (pc := 68) (lv' := [(4, _), (7, _), (6, _), (5, _), (2, _), (1, _), (0, _)]) dX7_fell_68 (by decide) rfl ?_
        refine pl_fload (pc := 70) dX7_fell_70 rfl ?_
        refine pj_fconst1 (pc := 72) dX7_fell_72 ?_
        refine pj_fadd (pc := 73) dX7_fell_73 (by rw [← fp_c1, fp_add (by omega) (by omega)]; exact fp_ok (by omega)) ?_
        refine PJ.conv rfl (show _ = [Value.float (FP.i2f (nI 1))] by rw [← fp_c1, fp_add (by omega) (by omega)]) rfl ?_
        refine pj_fstore (pc := 74) (lv' := [(5, _), (4, _), (7, _), (6, _), (2, _), (1, _), (0, _)]) dX7_fell_74 (by decide) rfl ?_
        refine pl_iinc (pc := 76) (v := dnI (z + 2)) (lv' := [(6, _), (5, _), (4, _), (7, _), (2, _), (1, _), (0, _)]) dX7_fell_76 rfl (dnI_2 z) (by decide) rfl ?_
        refine pj_goto (pc := 79) (tgt := 36) dX7_fell_79 (by decide) ?_
        refine pl_iload (pc := 36) dX7_fell_36 rfl ?_
        refine pl_iload_n (pc := 38) dX7_fell_38 rfl rfl ?_
        refine pl_iconst (pc := 39) (v := 1) dX7_fell_39 (by rfl) ?_
        refine pl_iadd (pc := 40) dX7_fell_40 ?_
        refine pj_icmp_gt (pc := 41) (tgt := 82) dX7_fell_41 (by decide) (fun z9 => (Int32.lt_irrefl (show nI (z + 1) < nI (z + 1) from z9)).elim) (fun _ => ?_)
        refine pl_aload_n (pc := 44) dX7_fell_44 rfl rfl ?_
        refine pl_iload (pc := 45) dX7_fell_45 rfl ?_
        refine pl_iload_n (pc := 47) dX7_fell_47 rfl rfl ?_
        refine pl_callVd (pc := 48) (As := [_, _]) (C1 := 0) (N1 := 0) (C2 := 0) (N2 := 0) ckX7 mdX7_told rfl q1307 q1309 qs8 q151 dX7_fell_48 rfl rfl (Nat.le_of_ble_eq_true rfl) h.1 (k_X7_told (d := d - 1) (by omega) (y := z + 2) (by omega) hw h) (by omega) (by omega) (by omega) ?_
        rw [vb]
        refine pj_fstore (pc := 51) (lv' := [(7, _), (6, _), (5, _), (4, _), (2, _), (1, _), (0, _)]) dX7_fell_51 (by decide) rfl ?_
        refine pl_fload (pc := 53) dX7_fell_53 rfl ?_
        refine pj_fconst0 (pc := 55) dX7_fell_55 ?_
        refine pj_fcmp (pc := 56) dX7_fell_56 ?_
        refine pj_if_ge (pc := 57) (tgt := 63) dX7_fell_57 (by decide) (fun _ => ?_) (fun z9 => absurd (fp_ge hb _) z9)
        refine pl_fload (pc := 63) dX7_fell_63 rfl ?_
        refine pl_fload (pc := 65) dX7_fell_65 rfl ?_
        refine pj_fadd (pc := 67) dX7_fell_67 (by rw [fp_add (by omega) (by omega)]; exact fp_ok (by omega)) ?_
        refine PJ.conv rfl (show _ = [Value.float (FP.i2f (nI (a + b)))] by rw [fp_add (by omega) (by omega)]) rfl ?_
        refine pj_fstore (pc := 68) (lv' := [(4, _), (7, _), (6, _), (5, _), (2, _), (1, _), (0, _)]) dX7_fell_68 (by decide) rfl ?_
        refine pl_fload (pc := 70) dX7_fell_70 rfl ?_
        refine pj_fconst1 (pc := 72) dX7_fell_72 ?_
        refine pj_fadd (pc := 73) dX7_fell_73 (by rw [← fp_c1, fp_add (by omega) (by omega)]; exact fp_ok (by omega)) ?_
        refine PJ.conv rfl (show _ = [Value.float (FP.i2f (nI 2))] by rw [← fp_c1, fp_add (by omega) (by omega)]) rfl ?_
        refine pj_fstore (pc := 74) (lv' := [(5, _), (4, _), (7, _), (6, _), (2, _), (1, _), (0, _)]) dX7_fell_74 (by decide) rfl ?_
        refine pl_iinc (pc := 76) (v := nI (z + 3)) (lv' := [(6, _), (5, _), (4, _), (7, _), (2, _), (1, _), (0, _)]) dX7_fell_76 rfl (nI_3 z) (by decide) rfl ?_
        refine pj_goto (pc := 79) (tgt := 36) dX7_fell_79 (by decide) ?_
        refine pl_iload (pc := 36) dX7_fell_36 rfl ?_
        refine pl_iload_n (pc := 38) dX7_fell_38 rfl rfl ?_
        refine pl_iconst (pc := 39) (v := 1) dX7_fell_39 (by rfl) ?_
        refine pl_iadd (pc := 40) dX7_fell_40 ?_
        refine pj_icmp_gt (pc := 41) (tgt := 82) dX7_fell_41 (by decide) (fun _ => ?_) (fun z9 => absurd ((nI_ltI (by omega) (by omega)).mpr (show z + 1 < z + 3 by omega)) z9)
        refine pl_fload (pc := 82) dX7_fell_82 rfl ?_
        refine pj_fconst0 (pc := 84) dX7_fell_84 ?_
        refine pj_fcmp (pc := 85) dX7_fell_85 ?_
        refine PJ.top (y := nI 1) (by decide +kernel) ?_
        refine pj_if_ne (pc := 86) (tgt := 93) dX7_fell_86 (by decide) (fun _ => ?_) (fun h => absurd h (by decide))
        refine pl_fload (pc := 93) dX7_fell_93 rfl ?_
        refine pl_fload (pc := 95) dX7_fell_95 rfl ?_
        refine pj_fdiv (pc := 97) dX7_fell_97 (fp_ok2 (m := a + b) (by omega)) ?_
        refine pj_f2i (pc := 98) dX7_fell_98 ?_
        refine PJ.top (y := nI ((a + b) / 2)) (fp_d2 ⟨a + b, by omega⟩).1 ?_
        refine pj_iret (pc := 99) dX7_fell_99 rfl ?_
        obtain ⟨eN, eS⟩ := nb_of (σ := σ) (z := z) (w := wk) (p := True) (q := True) (a := a) (b := b) ⟨fun _ => pa, fun _ => trivial⟩ ⟨fun _ => pb.2, fun _ => trivial⟩ (fun _ => ra) (fun _ => rb)
        rw [fall_1 (s := a + b) (c := 2) hl hn (by omega) (by decide) (eN.trans (by simp)) (eS.trans (by simp))]
        rw [if_neg (by decide)]
        exact ⟨rfl, rfl⟩
  · rw [ev]
    refine pj_fstore_n (pc := 6) (lv' := [(3, _), (0, _), (1, _), (2, _)]) dX7_fell_6 rfl (by decide) rfl ?_
    refine pl_fload_n (pc := 7) dX7_fell_7 rfl rfl ?_
    refine pj_fconst0 (pc := 8) dX7_fell_8 ?_
    refine pj_fcmp (pc := 9) dX7_fell_9 ?_
    refine pj_if_ge (pc := 10) (tgt := 16) dX7_fell_10 (by decide) (fun _ => ?_) (fun z9 => absurd (fp_ge ha0 _) z9)
    refine pl_fload_n (pc := 16) dX7_fell_16 rfl rfl ?_
    refine pl_fload_n (pc := 17) dX7_fell_17 rfl rfl ?_
    refine pj_fcmp (pc := 18) dX7_fell_18 ?_
    refine PJ.top (y := nI 0) (fp_self ha0 _) ?_
    refine pj_if_ne (pc := 19) (tgt := 25) dX7_fell_19 (by decide) (fun h => absurd h (by decide)) (fun _ => ?_)
    refine pl_fload_n (pc := 22) dX7_fell_22 rfl rfl ?_
    refine pj_f2i (pc := 23) dX7_fell_23 ?_
    refine PJ.top (y := nI a0) (fp_one ⟨a0, by omega⟩).2.1 ?_
    refine pj_iret (pc := 24) dX7_fell_24 rfl ?_
    rw [fall_2 hl ha0 er]
    exact ⟨rfl, rfl⟩
