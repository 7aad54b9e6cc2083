set_option maxRecDepth 100000
theorem HoC.k0 {M : Mem} {q : Nat} {r : Nat → Int32} (h : HoC M q r) (hw : M q = Option.some (.inr (37, []))) : r 0 = nI 0 := by
  rcases h with ⟨a, -, -, h⟩ | ⟨a, -, -, h⟩ | ⟨a, h⟩ | ⟨a, b, h⟩ | ⟨a, h⟩ | ⟨a, b, h⟩
  · exact a
  all_goals (rw [hw] at h; cases h)
def putsS (σ : MS) (s : Nat) (k h p l : Int32) : MS := sR (sR (hoS σ s k h p l) (8 * s + 3) (nI 0)) (8 * s + 4) (nI 0)
def putsE (e : XE) (s : Nat) (m : Int32) : XE := uE (uE e 2 s m) 3 s (-1)
theorem puts_row {σ : MS} {s j : Nat} {k h p l : Int32} (hj : j < 8 * s ∨ 8 * s + 7 ≤ j ∨ j = 8 * s + 2) : row (putsS σ s k h p l) j = row σ j := by
  unfold putsS hoS
  rw [rowS_ne (by omega), rowS_ne (by omega), rowS_ne (by omega), rowS_ne (by omega), rowS_ne (by omega), rowS_ne (by omega)]
def leavesS (σ : MS) (p : Nat) : MS := if per σ p 2 = nI 3 then sR (sR σ (768 + 8 * p + 3) (-1)) (768 + 8 * p + 2) (nI 2) else σ
def leavesE (σ : MS) (e : XE) (p : Nat) : XE := if per σ p 2 = nI 3 then uE e 0 (tN (per σ p 3)) (e 0 (tN (per σ p 3)) - nI 1) else e
def settlesS (σ : MS) (p s : Nat) (k h p1 l : Int32) : MS := sR (leavesS (putsS σ s k h p1 l) p) (768 + 8 * p + 2) (nI 4)
def settlesE (σ : MS) (e : XE) (p s : Nat) (k h p1 l : Int32) : XE := uE (leavesE (putsS σ s k h p1 l) (putsE e s (nI 0)) p) 1 p (leavesE (putsS σ s k h p1 l) (putsE e s (nI 0)) p 1 p + nI 1)
theorem minR {v M : Int32} : (if v < M then v else M) = (if ¬ v ≤ M then M else v) := by
  by_cases h1 : v < M
  · rw [if_pos h1, if_neg (fun z => z (Int32.le_of_lt h1))]
  · rw [if_neg h1]
    by_cases h2 : v ≤ M
    · rw [if_neg (fun z => z h2)]
      exact Int32.le_antisymm (Int32.not_lt.mp h1) h2
    · rw [if_pos h2]
set_option maxHeartbeats 600000 in
theorem x_X2_puts {g : GP} {μ : Mem} {d : Nat} {P : Nat → Prop} {F : Mem} {A : XA} {w : Nat} {S : Nat → Nat → Nat} {b : XS} {σ : MS} {e : XE}(hd : 4 ≤ d) (h : SX g P F A w S b σ e μ) {s q : Nat} {k1 h1 p1 l1 : Int32} (hs : s < 96) (hq : HoC μ q (ho4 k1 h1 p1 l1)) (hdd : DdX P A S q) (hk : ¬ k1 = nI 0) : PM g yX2_puts (ws_ yX2_puts cX2_puts 3 none) d 0 0 [.ref (A 1 w 0), .int (nI s), .ref q] μ (WQ none (SX g P F A w S b (putsS σ s k1 h1 p1 l1) (putsE e s (nI 0)))) := by
  refine PM.of (by decide +kernel) (Nat.le_of_ble_eq_true rfl) ?_
  refine PJ.ok (fun G => ?_)
  show PJ g _ _ _ _ d 0 0 0 [(0, .ref (A 1 w 0)), (1, .int (nI s)), (2, .ref q)] [] _ _
  have hne : ¬ q = A 48 w 0 := fun z => by
    have hw := h.wild.1
    rw [← z] at hw
    exact hk (hq.k0 hw)
  refine pl_aload_n (pc := 0) dX2_puts_0 rfl rfl ?_
  refine pj_getf (pc := 1) ckX2 12 q747 dX2_puts_1 (by decide) (h.r1) rfl ?_
  refine pl_iload_n (pc := 4) dX2_puts_4 rfl rfl ?_
  obtain ⟨m_5, c_5, l_5⟩ := h.L2
  refine pl_callVd (pc := 5) (As := [_]) (C1 := 0) (N1 := 0) (C2 := 0) (N2 := 0) ckJ2 mdJ2_get rfl q707 q708 q709 q129 dX2_puts_5 rfl rfl (Nat.le_of_ble_eq_true rfl) l_5.1 (k_J2_get (d := d - 1) (by omega) l_5 (j := s) (by rw [h.hz.s2]; omega) (if_pos (by rw [h.hz.s2]; omega))) (by omega) (by omega) (by omega) ?_
  obtain ⟨q_5, hm_5, hq_5, hdd_5⟩ := h.held (s := s) (by omega)
  refine pj_castS (pc := 8) ckX8 q620 dX2_puts_8 hm_5 ?_
  refine pl_aload_n (pc := 11) dX2_puts_11 rfl rfl ?_
  refine pj_putfN (pc := 12) ckX8 0 q627 dX2_puts_12 (by decide) rfl hm_5 rfl rfl (Nat.le_of_ble_eq_true rfl) ?_
  refine sxk (h.slot (by omega) hq hdd) (fun My1 y1 => ?_)
  refine pl_aload_n (pc := 15) dX2_puts_15 rfl rfl ?_
  refine pj_getf (pc := 16) ckX2 15 q753 dX2_puts_16 (by decide) (y1.r1) rfl ?_
  refine pl_iload_n (pc := 19) dX2_puts_19 rfl rfl ?_
  refine pl_aload_n (pc := 20) dX2_puts_20 rfl rfl ?_
  refine pl_aload_n (pc := 21) dX2_puts_21 rfl rfl ?_
  refine pj_getf (pc := 22) ckX2 19 q761 dX2_puts_22 (by decide) (y1.r1) rfl ?_
  refine pj_acmp_ne (pc := 25) (tgt := 36) (rx := some q) (ry := some (A 48 w 0)) dX2_puts_25 (by decide) (fun _ => ?_) (fun z => absurd (Option.some.inj z) hne)
  refine pl_iconst (pc := 36) (v := 0) dX2_puts_36 (by rfl) ?_
  refine pl_iast (pc := 37) (n := 96) dX2_puts_37 (y1.r18) (by omega) (by decide) ?_
  refine sxk (y1.p18 (by omega)) (fun My2 y2 => ?_)
  refine pl_aload_n (pc := 38) dX2_puts_38 rfl rfl ?_
  refine pj_getf (pc := 39) ckX2 16 q755 dX2_puts_39 (by decide) (y2.r1) rfl ?_
  refine pl_iload_n (pc := 42) dX2_puts_42 rfl rfl ?_
  refine pl_iconst (pc := 43) (v := 0) dX2_puts_43 (by rfl) ?_
  refine pl_iast (pc := 44) (n := 96) dX2_puts_44 (y2.r19) (by omega) (by decide) ?_
  refine sxk (y2.p19 (by omega)) (fun My3 y3 => ?_)
  refine pl_aload_n (pc := 45) dX2_puts_45 rfl rfl ?_
  refine pj_getf (pc := 46) ckX2 17 q757 dX2_puts_46 (by decide) (y3.r1) rfl ?_
  refine pl_iload_n (pc := 49) dX2_puts_49 rfl rfl ?_
  refine pj_iconst (pc := 50) (v := (-1)) dX2_puts_50 (by rfl) ?_
  refine pl_iast (pc := 51) (n := 96) dX2_puts_51 (y3.r20) (by omega) (by decide) ?_
  refine sxk (y3.p20 (by omega)) (fun My4 y4 => ?_)
  refine pl_aload_n (pc := 52) dX2_puts_52 rfl rfl ?_
  refine pj_getf (pc := 53) ckX2 18 q759 dX2_puts_53 (by decide) (y4.r1) rfl ?_
  refine pl_iload_n (pc := 56) dX2_puts_56 rfl rfl ?_
  refine pl_iconst (pc := 57) (v := 0) dX2_puts_57 (by rfl) ?_
  refine pl_zast (pc := 58) (n := 96) dX2_puts_58 (y4.r21) (by omega) (by decide) ?_
  refine sxk (y4.p21 (by omega) (v := nI 0)) (fun My5 y5 => ?_)
  refine pj_vret (pc := 59) dX2_puts_59 rfl ?_
  exact ⟨rfl, y5⟩
set_option maxHeartbeats 600000 in
theorem x_X2_puts_w {g : GP} {μ : Mem} {d : Nat} {P : Nat → Prop} {F : Mem} {A : XA} {w : Nat} {S : Nat → Nat → Nat} {b : XS} {σ : MS} {e : XE}(hd : 4 ≤ d) (h : SX g P F A w S b σ e μ) {s : Nat} {l1 : Int32} (hs : s < 96) : PM g yX2_puts (ws_ yX2_puts cX2_puts 3 none) d 0 0 [.ref (A 1 w 0), .int (nI s), .ref (A 48 w 0)] μ (WQ none (SX g P F A w S b (putsS σ s (nI 0) (-1) (-1) l1) (putsE e s (milesV (σ.2.1 4 s) (σ.2.1 3 s))))) := by
  refine PM.of (by decide +kernel) (Nat.le_of_ble_eq_true rfl) ?_
  refine PJ.ok (fun G => ?_)
  show PJ g _ _ _ _ d 0 0 0 [(0, .ref (A 1 w 0)), (1, .int (nI s)), (2, .ref (A 48 w 0))] [] _ _
  have hdd := h.wild.2
  have hq : HoC μ (A 48 w 0) (ho4 (nI 0) (-1) (-1) l1) := Or.inl ⟨rfl, rfl, rfl, h.wild.1⟩
  refine pl_aload_n (pc := 0) dX2_puts_0 rfl rfl ?_
  refine pj_getf (pc := 1) ckX2 12 q747 dX2_puts_1 (by decide) (h.r1) rfl ?_
  refine pl_iload_n (pc := 4) dX2_puts_4 rfl rfl ?_
  obtain ⟨m_5, c_5, l_5⟩ := h.L2
  refine pl_callVd (pc := 5) (As := [_]) (C1 := 0) (N1 := 0) (C2 := 0) (N2 := 0) ckJ2 mdJ2_get rfl q707 q708 q709 q129 dX2_puts_5 rfl rfl (Nat.le_of_ble_eq_true rfl) l_5.1 (k_J2_get (d := d - 1) (by omega) l_5 (j := s) (by rw [h.hz.s2]; omega) (if_pos (by rw [h.hz.s2]; omega))) (by omega) (by omega) (by omega) ?_
  obtain ⟨q_5, hm_5, hq_5, hdd_5⟩ := h.held (s := s) (by omega)
  refine pj_castS (pc := 8) ckX8 q620 dX2_puts_8 hm_5 ?_
  refine pl_aload_n (pc := 11) dX2_puts_11 rfl rfl ?_
  refine pj_putfN (pc := 12) ckX8 0 q627 dX2_puts_12 (by decide) rfl hm_5 rfl rfl (Nat.le_of_ble_eq_true rfl) ?_
  refine sxk (h.slot (by omega) hq hdd) (fun My1 y1 => ?_)
  refine pl_aload_n (pc := 15) dX2_puts_15 rfl rfl ?_
  refine pj_getf (pc := 16) ckX2 15 q753 dX2_puts_16 (by decide) (y1.r1) rfl ?_
  refine pl_iload_n (pc := 19) dX2_puts_19 rfl rfl ?_
  refine pl_aload_n (pc := 20) dX2_puts_20 rfl rfl ?_
  refine pl_aload_n (pc := 21) dX2_puts_21 rfl rfl ?_
  refine pj_getf (pc := 22) ckX2 19 q761 dX2_puts_22 (by decide) (y1.r1) rfl ?_
  refine pj_acmp_ne (pc := 25) (tgt := 36) (rx := some (A 48 w 0)) (ry := some (A 48 w 0)) dX2_puts_25 (by decide) (fun z => absurd rfl z) (fun _ => ?_)
  refine pl_aload_n (pc := 28) dX2_puts_28 rfl rfl ?_
  refine pl_iload_n (pc := 29) dX2_puts_29 rfl rfl ?_
  refine pl_callVd (pc := 30) (As := [_]) (C1 := 0) (N1 := 0) (C2 := 0) (N2 := 0) ckX2 mdX2_wanted rfl q721 q722 q723 q126 dX2_puts_30 rfl rfl (Nat.le_of_ble_eq_true rfl) (y1.r1) (x_X2_wanted (d := d - 1) (by omega) y1 (by omega)) (by omega) (by omega) (by omega) ?_
  refine pj_goto (pc := 33) (tgt := 37) dX2_puts_33 (by decide) ?_
  refine pl_iast (pc := 37) (n := 96) dX2_puts_37 (y1.r18) (by omega) (by decide) ?_
  refine sxk (y1.p18 (by omega)) (fun My2 y2 => ?_)
  refine pl_aload_n (pc := 38) dX2_puts_38 rfl rfl ?_
  refine pj_getf (pc := 39) ckX2 16 q755 dX2_puts_39 (by decide) (y2.r1) rfl ?_
  refine pl_iload_n (pc := 42) dX2_puts_42 rfl rfl ?_
  refine pl_iconst (pc := 43) (v := 0) dX2_puts_43 (by rfl) ?_
  refine pl_iast (pc := 44) (n := 96) dX2_puts_44 (y2.r19) (by omega) (by decide) ?_
  refine sxk (y2.p19 (by omega)) (fun My3 y3 => ?_)
  refine pl_aload_n (pc := 45) dX2_puts_45 rfl rfl ?_
  refine pj_getf (pc := 46) ckX2 17 q757 dX2_puts_46 (by decide) (y3.r1) rfl ?_
  refine pl_iload_n (pc := 49) dX2_puts_49 rfl rfl ?_
  refine pj_iconst (pc := 50) (v := (-1)) dX2_puts_50 (by rfl) ?_
  refine pl_iast (pc := 51) (n := 96) dX2_puts_51 (y3.r20) (by omega) (by decide) ?_
  refine sxk (y3.p20 (by omega)) (fun My4 y4 => ?_)
  refine pl_aload_n (pc := 52) dX2_puts_52 rfl rfl ?_
  refine pj_getf (pc := 53) ckX2 18 q759 dX2_puts_53 (by decide) (y4.r1) rfl ?_
  refine pl_iload_n (pc := 56) dX2_puts_56 rfl rfl ?_
  refine pl_iconst (pc := 57) (v := 0) dX2_puts_57 (by rfl) ?_
  refine pl_zast (pc := 58) (n := 96) dX2_puts_58 (y4.r21) (by omega) (by decide) ?_
  refine sxk (y4.p21 (by omega) (v := nI 0)) (fun My5 y5 => ?_)
  refine pj_vret (pc := 59) dX2_puts_59 rfl ?_
  exact ⟨rfl, y5⟩
set_option maxHeartbeats 600000 in
theorem x_X2_leaves {g : GP} {μ : Mem} {d : Nat} {P : Nat → Prop} {F : Mem} {A : XA} {w : Nat} {S : Nat → Nat → Nat} {b : XS} {σ : MS} {e : XE}(hd : 4 ≤ d) (h : SX g P F A w S b σ e μ) {p : Nat} (hp : p < S 4 w) (hb : per σ p 2 = nI 3 → ∃ o, o < S 4 w ∧ per σ p 3 = nI o) : PM g yX2_leaves (ws_ yX2_leaves cX2_leaves 2 none) d 0 0 [.ref (A 1 w 0), .ref (A 35 w p)] μ (WQ none (SX g P F A w S b (leavesS σ p) (leavesE σ e p))) := by
  refine PM.of (by decide +kernel) (Nat.le_of_ble_eq_true rfl) ?_
  refine PJ.ok (fun G => ?_)
  show PJ g _ _ _ _ d 0 0 0 [(0, .ref (A 1 w 0)), (1, .ref (A 35 w p))] [] _ _
  refine pl_aload_n (pc := 0) dX2_leaves_0 rfl rfl ?_
  refine pj_getfN (pc := 1) ckX10 3 q1074 dX2_leaves_1 (by decide) (h.r35 hp) rfl ?_
  refine pl_iconst (pc := 4) (v := 3) dX2_leaves_4 (by rfl) ?_
  refine pj_icmp_eq (pc := 5) (tgt := 9) dX2_leaves_5 (by decide) (fun c5 => ?_) (fun c5 => ?_)
  · refine pl_aload_n (pc := 9) dX2_leaves_9 rfl rfl ?_
    refine pj_getf (pc := 10) ckX2 26 q772 dX2_leaves_10 (by decide) (h.r1) rfl ?_
    refine pl_aload_n (pc := 13) dX2_leaves_13 rfl rfl ?_
    refine pj_getfN (pc := 14) ckX10 4 q1077 dX2_leaves_14 (by decide) (h.r35 hp) rfl ?_
    obtain ⟨o, ho, eo⟩ := hb c5
    refine PJ.top (y := nI o) eo ?_
    obtain ⟨m_17, c_17, l_17⟩ := h.L4
    refine pl_callVd (pc := 17) (As := [_]) (C1 := 0) (N1 := 0) (C2 := 0) (N2 := 0) ckJ2 mdJ2_get rfl q707 q708 q709 q129 dX2_leaves_17 rfl rfl (Nat.le_of_ble_eq_true rfl) l_17.1 (k_J2_get (d := d - 1) (by omega) l_17 (j := o) ho (if_pos ho)) (by omega) (by omega) (by omega) ?_
    refine pj_castS (pc := 20) ckX10 q1190 dX2_leaves_20 (h.r35 ho) ?_
    refine pj_dup (pc := 23) dX2_leaves_23 rfl ?_
    refine pj_getfN (pc := 24) ckX10 5 q1080 dX2_leaves_24 (by decide) (h.r35 ho) rfl ?_
    refine pl_iconst (pc := 27) (v := 1) dX2_leaves_27 (by rfl) ?_
    refine pj_isub (pc := 28) dX2_leaves_28 ?_
    refine pj_putfN (pc := 29) ckX10 5 q1080 dX2_leaves_29 (by decide) rfl (h.r35 ho) rfl rfl (Nat.le_of_ble_eq_true rfl) ?_
    refine sxk (h.p35_5 ho) (fun My1 y1 => ?_)
    refine pl_aload_n (pc := 32) dX2_leaves_32 rfl rfl ?_
    refine pj_iconst (pc := 33) (v := (-1)) dX2_leaves_33 (by rfl) ?_
    refine pj_putfN (pc := 34) ckX10 4 q1077 dX2_leaves_34 (by decide) rfl (y1.r35 hp) rfl rfl (Nat.le_of_ble_eq_true rfl) ?_
    refine sxk (y1.p35_4 hp) (fun My2 y2 => ?_)
    refine pl_aload_n (pc := 37) dX2_leaves_37 rfl rfl ?_
    refine pl_iconst (pc := 38) (v := 2) dX2_leaves_38 (by rfl) ?_
    refine pj_putfN (pc := 39) ckX10 3 q1074 dX2_leaves_39 (by decide) rfl (y2.r35 hp) rfl rfl (Nat.le_of_ble_eq_true rfl) ?_
    refine sxk (y2.p35_3 hp) (fun My3 y3 => ?_)
    refine pj_vret (pc := 42) dX2_leaves_42 rfl ?_
    have g_o : tN (per σ p 3) = o := by rw [eo]; exact tN_nI (by have := h.hz.2.1; omega)
    have eS : leavesS σ p = sR (sR σ (768 + 8 * p + 3) (-1)) (768 + 8 * p + 2) (nI 2) := if_pos c5
    have eE : leavesE σ e p = uE e 0 o (e 0 o - nI 1) := by unfold leavesE; rw [if_pos c5, g_o]
    rw [eS, eE]
    exact ⟨rfl, y3⟩
  · refine pj_vret (pc := 8) dX2_leaves_8 rfl ?_
    have eS : leavesS σ p = σ := if_neg c5
    have eE : leavesE σ e p = e := if_neg c5
    rw [eS, eE]
    exact ⟨rfl, h⟩
set_option maxHeartbeats 600000 in
theorem x_X2_settles {g : GP} {μ : Mem} {d : Nat} {P : Nat → Prop} {F : Mem} {A : XA} {w : Nat} {S : Nat → Nat → Nat} {b : XS} {σ : MS} {e : XE}(hd : 5 ≤ d) (h : SX g P F A w S b σ e μ) {p : Nat} (hp : p < S 4 w) {s q : Nat} {k1 h1 p1 l1 : Int32} (hs : s < 96) (hq : HoC μ q (ho4 k1 h1 p1 l1)) (hdd : DdX P A S q) (hk : ¬ k1 = nI 0) (hb : per σ p 2 = nI 3 → ∃ o, o < S 4 w ∧ per σ p 3 = nI o) : PM g yX2_settles (ws_ yX2_settles cX2_settles 4 none) d 0 0 [.ref (A 1 w 0), .ref (A 35 w p), .int (nI s), .ref q] μ (WQ none (SX g P F A w S b (settlesS σ p s k1 h1 p1 l1) (settlesE σ e p s k1 h1 p1 l1))) := by
  refine PM.of (by decide +kernel) (Nat.le_of_ble_eq_true rfl) ?_
  refine PJ.ok (fun G => ?_)
  show PJ g _ _ _ _ d 0 0 0 [(0, .ref (A 1 w 0)), (1, .ref (A 35 w p)), (2, .int (nI s)), (3, .ref q)] [] _ _
  refine pl_aload_n (pc := 0) dX2_settles_0 rfl rfl ?_
  refine pl_iload_n (pc := 1) dX2_settles_1 rfl rfl ?_
  refine pl_aload_n (pc := 2) dX2_settles_2 rfl rfl ?_
  refine pl_callVWv (pc := 3) (As := [_, _]) (C1 := 0) (N1 := 0) (C2 := 0) (N2 := 0) ckX2 mdX2_puts rfl q703 q704 q705 q126 dX2_settles_3 rfl rfl (Nat.le_of_ble_eq_true rfl) (h.r1) (x_X2_puts (d := d - 1) (by omega) h (by omega) hq hdd hk) (by omega) (by omega) (by omega) (fun My1 y1 => ?_)
  have hb1 : per (putsS σ s k1 h1 p1 l1) p 2 = nI 3 → ∃ o, o < S 4 w ∧ per (putsS σ s k1 h1 p1 l1) p 3 = nI o := by
    rw [show per (putsS σ s k1 h1 p1 l1) p 2 = per σ p 2 from puts_row (by omega), show per (putsS σ s k1 h1 p1 l1) p 3 = per σ p 3 from puts_row (by omega)]
    exact hb
  refine pl_aload_n (pc := 6) dX2_settles_6 rfl rfl ?_
  refine pl_aload_n (pc := 7) dX2_settles_7 rfl rfl ?_
  refine pl_callVWv (pc := 8) (As := [_]) (C1 := 0) (N1 := 0) (C2 := 0) (N2 := 0) ckX2 mdX2_leaves rfl q1741 q1742 q1743 q126 dX2_settles_8 rfl rfl (Nat.le_of_ble_eq_true rfl) (y1.r1) (x_X2_leaves (d := d - 1) (by omega) y1 hp hb1) (by omega) (by omega) (by omega) (fun My2 y2 => ?_)
  refine pl_aload_n (pc := 11) dX2_settles_11 rfl rfl ?_
  refine pj_dup (pc := 12) dX2_settles_12 rfl ?_
  refine pj_getfN (pc := 13) ckX10 6 q1083 dX2_settles_13 (by decide) (y2.r35 hp) rfl ?_
  refine pl_iconst (pc := 16) (v := 1) dX2_settles_16 (by rfl) ?_
  refine pj_iadd (pc := 17) dX2_settles_17 ?_
  refine pj_putfN (pc := 18) ckX10 6 q1083 dX2_settles_18 (by decide) rfl (y2.r35 hp) rfl rfl (Nat.le_of_ble_eq_true rfl) ?_
  refine sxk (y2.p35_6 hp) (fun My3 y3 => ?_)
  refine pl_aload_n (pc := 21) dX2_settles_21 rfl rfl ?_
  refine pl_iconst (pc := 22) (v := 4) dX2_settles_22 (by rfl) ?_
  refine pj_putfN (pc := 23) ckX10 3 q1074 dX2_settles_23 (by decide) rfl (y3.r35 hp) rfl rfl (Nat.le_of_ble_eq_true rfl) ?_
  refine sxk (y3.p35_3 hp) (fun My4 y4 => ?_)
  refine pj_vret (pc := 26) dX2_settles_26 rfl ?_
  exact ⟨rfl, y4⟩
set_option maxHeartbeats 600000 in
theorem x_X10_gets {g : GP} {μ : Mem} {d : Nat} {P : Nat → Prop} {F : Mem} {A : XA} {w : Nat} {S : Nat → Nat → Nat} {b : XS} {σ : MS} {e : XE}(hd : 2 ≤ d) (h : SX g P F A w S b σ e μ) {p : Nat} (hp : p < S 4 w) {x : Int32} : PM g yX10_gets (ws_ yX10_gets cX10_gets 2 none) d 0 0 [.ref (A 35 w p), .int x] μ (WQ none (SX g P F A w S b (s_pays σ p x) e)) := by
  refine PM.of (by decide +kernel) (Nat.le_of_ble_eq_true rfl) ?_
  refine PJ.ok (fun G => ?_)
  show PJ g _ _ _ _ d 0 0 0 [(0, .ref (A 35 w p)), (1, .int x)] [] _ _
  refine pl_aload_n (pc := 0) dX10_gets_0 rfl rfl ?_
  refine pj_ldc (pc := 1) q2384 dX10_gets_1 ?_
  refine pl_aload_n (pc := 3) dX10_gets_3 rfl rfl ?_
  refine pj_getf (pc := 4) ckX10 2 q1070 dX10_gets_4 (by decide) (h.r35 hp) rfl ?_
  refine pl_iload_n (pc := 7) dX10_gets_7 rfl rfl ?_
  refine pj_iadd (pc := 8) dX10_gets_8 ?_
  refine pj_mmin (pc := 9) q2385 dX10_gets_9 (by omega) (Nat.le_of_ble_eq_true rfl) ?_
  refine pj_putf (pc := 12) ckX10 2 q1070 dX10_gets_12 (by decide) rfl (h.r35 hp) rfl rfl (Nat.le_of_ble_eq_true rfl) ?_
  refine sxk (h.p35_2 hp) (fun My1 y1 => ?_)
  refine pj_vret (pc := 15) dX10_gets_15 rfl ?_
  exact ⟨rfl, by unfold s_pays; rw [← minR]; exact y1⟩
set_option maxHeartbeats 600000 in
theorem x_X10_isHere {g : GP} {μ : Mem} {d : Nat} {P : Nat → Prop} {F : Mem} {A : XA} {w : Nat} {S : Nat → Nat → Nat} {b : XS} {σ : MS} {e : XE}(hd : 1 ≤ d) (h : SX g P F A w S b σ e μ) {p : Nat} (hp : p < S 4 w) : PM g yX10_isHere (ws_ yX10_isHere cX10_isHere 1 (some .boolean)) d 0 0 [.ref (A 35 w p)] μ (rQ (some (.int (bI (decide (nI 2 ≤ per σ p 2))))) μ) := by
  refine PM.of (by decide +kernel) (Nat.le_of_ble_eq_true rfl) ?_
  refine PJ.ok (fun G => ?_)
  show PJ g _ _ _ _ d 0 0 0 [(0, .ref (A 35 w p))] [] _ _
  refine pl_aload_n (pc := 0) dX10_isHere_0 rfl rfl ?_
  refine pj_getf (pc := 1) ckX10 3 q1073 dX10_isHere_1 (by decide) (h.r35 hp) rfl ?_
  refine pl_iconst (pc := 4) (v := 2) dX10_isHere_4 (by rfl) ?_
  refine pj_icmp_lt (pc := 5) (tgt := 12) dX10_isHere_5 (by decide) (fun c5 => ?_) (fun c5 => ?_)
  · refine pl_iconst (pc := 12) (v := 0) dX10_isHere_12 (by rfl) ?_
    refine pj_zret (pc := 13) .boolean dX10_isHere_13 rfl (by rfl) ?_
    refine ⟨?_, rfl⟩
    have e9 : decide (nI 2 ≤ per σ p 2) = false := by simp_all [Int32.not_lt, Int32.not_le]
    rw [e9]
    rfl
  · refine pl_iconst (pc := 8) (v := 1) dX10_isHere_8 (by rfl) ?_
    refine pj_goto (pc := 9) (tgt := 13) dX10_isHere_9 (by decide) ?_
    refine pj_zret (pc := 13) .boolean dX10_isHere_13 rfl (by rfl) ?_
    refine ⟨?_, rfl⟩
    have e9 : decide (nI 2 ≤ per σ p 2) = true := by simp_all [Int32.not_lt, Int32.not_le]
    rw [e9]
    rfl
