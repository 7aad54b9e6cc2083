set_option maxRecDepth 100000
section CZ
variable {g : GP} {own : String} {cc : ByteArray} {nL : Nat} {i : MI} {d C N pc : Nat} {ls : List (Nat × Value)} {rest : List Value} {μ : Mem} {Q : OC → Mem → Prop}
/-- an Integer, made or of the cache -/
def PdM (g : GP) (μ : Mem) (q : Nat) (v : Int32) : Prop := μ q = some (.inr (1, [.int v])) ∨ IcX g q v
theorem pj_castZ {q index : Nat} {v : Int32} (hv : PdM g μ q v) (hlink : Cond.classLink own index "java/lang/Integer" ∈ lw_all) (hdg : decode cc pc = .ok (.checkcast index, 3)) (kk : PJ g own cc nL i d C N (pc + 3) ls (.ref q :: rest) μ Q) : PJ g own cc nL i d C N pc ls (.ref q :: rest) μ Q := by
  rcases hv with hm | ⟨hO, -⟩
  · exact pj_castS ckJ18 hlink hdg hm kk
  · intro G p e R s m args below meth c E9 H locs cells slots K K9 B arr hl9
    have hO2 := (hO.moved E9.2.2.2.2.2.2.2.2.2.1.1.alike).kept (H1 := s.heap) (fun a ha _ => E9.2.2.2.2.2.2.2.2.2.1.2.2 a ha)
    have hO3 := hO2.kept (H1 := H) (fun a ha hA => B.2.2.2.2.2.2.1 a ha hA)
    obtain ⟨cell, c1, c2, c3, -⟩ := hO3
    exact va_castE E9.1 E9.2.1 E9.2.2.2.1 (E9.2.2.2.2.1 _ hlink) ⟨cell, c1, c2, c3⟩ hdg (kk G p e R s m args below meth c E9 H locs cells slots K K9 B arr hl9)
theorem pl_intZ {q index : Nat} {v : Int32} (hv : PdM g μ q v) (h1 : Cond.methodLink own index (⟨"java/lang/Integer", "intValue", "()I"⟩ : MethodName) ∈ lw_all) (hdg : decode cc pc = .ok (.invokevirtual index, 3)) (hd : 1 ≤ d) (hr8 : (rest.map fun v => v.category).sum ≤ 8) (kk : PJ g own cc nL i d C N (pc + 3) ls (.int v :: rest) μ Q) : PJ g own cc nL i d C N pc ls (.ref q :: rest) μ Q := by
  rcases hv with hm | hc
  · exact pl_callVd (As := []) (C1 := 0) (N1 := 0) (C2 := C) (N2 := N) ckJ18 mdJ18_intValue rfl h1 q1650 q1651 q146 hdg rfl rfl hr8 hm (k_J18_intValue (d := d - 1) hm) (by omega) (by omega) (by omega) kk
  · exact pl_callKd (C1 := 0) (N1 := 0) (C2 := C) (N2 := N) (d1 := d - 1) [] mdJ18_intValue rfl h1 q1650 q1651 q146 hdg rfl rfl hr8 hc.1 (k_J18_intValueK hc) (by omega) (by omega) (by omega) kk
end CZ
theorem SX.pd {g : GP} {P : Nat → Prop} {F : Mem} {A : XA} {S : Nat → Nat → Nat} {b : XS} {σ : MS} {e : XE} {M : Mem} (h : SX g P F A 0 S b σ e M) {j : Nat} (hj : j < S 16 0) (hj2 : j < 100) : PdM g M (A 51 0 j) (row σ (1780 + 3 * j + 1)) := by
  obtain ⟨τ, dn, fl, hR, hz, -⟩ := h
  have z := hR.2.2.2.2.2.2.2.2.2.1 j hj
  rw [show (VX 0 S b σ e, S, σ.2.2, fl).1 17 0 0 j = row σ (1780 + 3 * j + 1) from V17 hz hj2] at z
  exact z.elim (fun y => Or.inl (hR.im y)) Or.inr
theorem turn1_eq {σ : MS} {f : Nat → Int32} {v : Int32} {i o : Nat} (h : row σ (1780 + 3 * i + 0) = nI o) (ho : o < 100) : turn1 (sA σ 13 f) v i = (decide (row σ (1780 + 3 * i + 2) = 0) && (decide (nI 2 ≤ per σ o 2) && !decide (v ≤ row σ 2116 - per σ o 5))) := by
  have e0 : row (sA σ 13 f) (1780 + 3 * i) = nI o := h
  unfold turn1
  rw [e0, tN_nI (by omega)]
  rfl
set_option maxHeartbeats 600000 in
theorem x_X1_isWaitedFor {g : GP} {μ : Mem} {d : Nat} {P : Nat → Prop} {F : Mem} {A : XA} {S : Nat → Nat → Nat} {b : XS} {σ : MS} {e : XE}(hd : 325 ≤ d) (h : SX g P F A 0 S b σ e μ) {i o nw nor : Nat} (t : TieX 0 S σ e nw) (hi : i < S 12 0) (h12 : S 12 0 ≤ 100) (ho : o < S 4 0) (hio : row σ (1780 + 3 * i + 0) = nI o) : PM g yX1_isWaitedFor (ws_ yX1_isWaitedFor cX1_isWaitedFor 3 (some .boolean)) d 0 0 [.ref (A 0 0 0), .int (nI i)] μ (WQ (some (.int (bI (turn1 (sM σ (S 4 0) (S 8 0) 6 (nI 0)) (meanV σ (S 4 0) (S 8 0) 6 (nI 0)).1 i)))) (fun M => ∃ e1, E9 e e1 ∧ SX g P F A 0 S b σ e1 M)) := by
  refine PM.of (by decide +kernel) (Nat.le_of_ble_eq_true rfl) ?_
  refine PJ.ok (fun G => ?_)
  show PJ g _ _ _ _ d 0 0 0 [(0, .ref (A 0 0 0)), (1, .int (nI i))] [] _ _
  have hS4 := h.hz.2.1
  have ho9 : o < 100 := by omega
  refine pl_aload_n (pc := 0) dX1_isWaitedFor_0 rfl rfl ?_
  refine pj_getf (pc := 1) ckX1 8 q861 dX1_isWaitedFor_1 (by decide) (h.r0) rfl ?_
  refine pl_iload_n (pc := 4) dX1_isWaitedFor_4 rfl rfl ?_
  obtain ⟨m_5, c_5, l_5⟩ := h.L12
  refine pl_callVd (pc := 5) (As := [_]) (C1 := 0) (N1 := 0) (C2 := 0) (N2 := 0) ckJ2 mdJ2_get rfl q1054 q708 q709 q129 dX1_isWaitedFor_5 rfl rfl (Nat.le_of_ble_eq_true rfl) l_5.1 (k_J2_get (d := d - 1) (by omega) l_5 (j := i) hi (if_pos hi)) (by omega) (by omega) (by omega) ?_
  rw [show A 35 0 (tN (VX 0 S b σ e 13 0 0 i)) = A 35 0 o by rw [V13 h.hz (by omega), hio, tN_nI (by omega)]]
  refine pj_castS (pc := 8) ckX10 q1047 dX1_isWaitedFor_8 (h.r35 ho) ?_
  refine pj_astore_n (pc := 11) (lv' := [(2, _), (0, _), (1, _)]) dX1_isWaitedFor_11 rfl (by decide) rfl ?_
  refine pl_aload_n (pc := 12) dX1_isWaitedFor_12 rfl rfl ?_
  refine pj_getf (pc := 13) ckX1 11 q864 dX1_isWaitedFor_13 (by decide) (h.r0) rfl ?_
  refine pl_iload_n (pc := 16) dX1_isWaitedFor_16 rfl rfl ?_
  refine pl_zald (pc := 17) (n := 100) dX1_isWaitedFor_17 (h.r42) (by omega) (by decide) ?_
  refine PJ.top (h.v42 (by omega)) ?_
  refine pj_if_ne (pc := 18) (tgt := 57) dX1_isWaitedFor_18 (by decide) (fun c18 => ?_) (fun c18 => ?_)
  · refine pl_iconst (pc := 57) (v := 0) dX1_isWaitedFor_57 (by rfl) ?_
    refine pj_zret (pc := 58) .boolean dX1_isWaitedFor_58 rfl (by rfl) ?_
    exact ⟨vB0 (by rw [(turn1_eq (f := (meanV σ (S 4 0) (S 8 0) 6 (nI 0)).2) (v := (meanV σ (S 4 0) (S 8 0) 6 (nI 0)).1) hio ho9), decide_eq_false (show ¬ row σ (1780 + 3 * i + 2) = 0 from c18)]; simp), e, E9.rf, h⟩
  · refine pl_aload_n (pc := 21) dX1_isWaitedFor_21 rfl rfl ?_
    refine pl_callVd (pc := 22) (As := []) (C1 := 0) (N1 := 0) (C2 := 0) (N2 := 0) ckX10 mdX10_isHere rfl q1591 q1192 q1193 q158 dX1_isWaitedFor_22 rfl rfl (Nat.le_of_ble_eq_true rfl) (h.r35 ho) (x_X10_isHere (d := d - 1) (by omega) h ho) (by omega) (by omega) (by omega) ?_
    refine pl_if_eqB (pc := 25) (tgt := 57) dX1_isWaitedFor_25 (by decide) (fun c25 => ?_) (fun c25 => ?_)
    · refine pl_iconst (pc := 57) (v := 0) dX1_isWaitedFor_57 (by rfl) ?_
      refine pj_zret (pc := 58) .boolean dX1_isWaitedFor_58 rfl (by rfl) ?_
      exact ⟨vB0 (by rw [(turn1_eq (f := (meanV σ (S 4 0) (S 8 0) 6 (nI 0)).2) (v := (meanV σ (S 4 0) (S 8 0) 6 (nI 0)).1) hio ho9), show decide (nI 2 ≤ per σ o 2) = false from c25]; simp), e, E9.rf, h⟩
    · refine pl_aload_n (pc := 28) dX1_isWaitedFor_28 rfl rfl ?_
      refine pj_getf (pc := 29) ckX1 0 q853 dX1_isWaitedFor_29 (by decide) (h.r0) rfl ?_
      refine pj_getfN (pc := 32) ckX2 0 q726 dX1_isWaitedFor_32 (by decide) (h.r1) rfl ?_
      refine pl_aload_n (pc := 35) dX1_isWaitedFor_35 rfl rfl ?_
      refine pj_getfN (pc := 36) ckX10 9 q1091 dX1_isWaitedFor_36 (by decide) (h.r35 ho) rfl ?_
      refine pj_isub (pc := 39) dX1_isWaitedFor_39 ?_
      refine pl_aload_n (pc := 40) dX1_isWaitedFor_40 rfl rfl ?_
      refine pj_getf (pc := 41) ckX1 0 q853 dX1_isWaitedFor_41 (by decide) (h.r0) rfl ?_
      refine pl_bipush (pc := 44) (v := 6) dX1_isWaitedFor_44 (by rfl) ?_
      refine pl_iconst (pc := 46) (v := 0) dX1_isWaitedFor_46 (by rfl) ?_
      refine pl_callVWd (pc := 47) (As := [_, _]) (C1 := 0) (N1 := 0) (C2 := 0) (N2 := 0) ckX2 mdX2_means rfl q1782 q1708 q1709 q126 dX1_isWaitedFor_47 rfl rfl (Nat.le_of_ble_eq_true rfl) (h.r1) (x_X2_means (d := d - 1) (by omega) h (by omega) t.ht) (by omega) (by omega) (by omega) (fun My1 qy1 => ?_)
      obtain ⟨e_47, he_47, y1⟩ := qy1
      refine pj_icmp_ge (pc := 50) (tgt := 57) dX1_isWaitedFor_50 (by decide) (fun c50 => ?_) (fun c50 => ?_)
      · refine pl_iconst (pc := 57) (v := 0) dX1_isWaitedFor_57 (by rfl) ?_
        refine pj_zret (pc := 58) .boolean dX1_isWaitedFor_58 rfl (by rfl) ?_
        exact ⟨vB0 (by rw [(turn1_eq (f := (meanV σ (S 4 0) (S 8 0) 6 (nI 0)).2) (v := (meanV σ (S 4 0) (S 8 0) 6 (nI 0)).1) hio ho9), decide_eq_true (show (meanV σ (S 4 0) (S 8 0) 6 (nI 0)).1 ≤ row σ 2116 - per σ o 5 from c50)]; simp), e_47, he_47, y1⟩
      · refine pl_iconst (pc := 53) (v := 1) dX1_isWaitedFor_53 (by rfl) ?_
        refine pj_goto (pc := 54) (tgt := 58) dX1_isWaitedFor_54 (by decide) ?_
        refine pj_zret (pc := 58) .boolean dX1_isWaitedFor_58 rfl (by rfl) ?_
        exact ⟨vB1 (by rw [(turn1_eq (f := (meanV σ (S 4 0) (S 8 0) 6 (nI 0)).2) (v := (meanV σ (S 4 0) (S 8 0) 6 (nI 0)).1) hio ho9), decide_eq_true (show row σ (1780 + 3 * i + 2) = 0 from c18), show decide (nI 2 ≤ per σ o 2) = true from c25, decide_eq_false (show ¬ (meanV σ (S 4 0) (S 8 0) 6 (nI 0)).1 ≤ row σ 2116 - per σ o 5 from c50)]; rfl), e_47, he_47, y1⟩
/-- what a choice makes -/
def chS (σ : MS) (p c k : Nat) : MS := s_owns (sR (sR (s_holds σ c (nI 5) (nI p)) (8 * c + 5) (row (s_holds σ c (nI 5) (nI p)) (1780 + 3 * k + 1))) (1780 + 3 * k + 2) (nI 1)) p
theorem ch_rows {σ : MS} {p c k : Nat} {f : Nat → Int32} (hc : c < 96) (hp : p < 100) (hk : k < 100) :
  (∀ j, (j < 8 * c ∨ 8 * c + 7 ≤ j) → j ≠ 768 + 8 * p + 2 → j ≠ 768 + 8 * p + 3 → j ≠ 1780 + 3 * k + 2 → row (chS (sA σ 13 f) p c k) j = row σ j)
  ∧ (∀ i, i < 7 → row (chS (sA σ 13 f) p c k) (8 * c + i) = if i = 0 then nI 5 else if i = 1 then nI p else if i = 5 then row σ (1780 + 3 * k + 1) else if i = 6 then -1 else nI 0)
  ∧ row (chS (sA σ 13 f) p c k) (768 + 8 * p + 2) = nI 4 ∧ row (chS (sA σ 13 f) p c k) (768 + 8 * p + 3) = -1 ∧ row (chS (sA σ 13 f) p c k) (1780 + 3 * k + 2) = nI 1 := by
  have e1 : row (s_holds (sA σ 13 f) c (nI 5) (nI p)) (1780 + 3 * k + 1) = row σ (1780 + 3 * k + 1) := by
    unfold s_holds
    rw [rowS_ne (by omega), rowS_ne (by omega), rowS_ne (by omega), rowS_ne (by omega), rowS_ne (by omega), rowS_ne (by omega), rowS_ne (by omega)]
    exact rowP
  unfold chS
  rw [e1]
  refine ⟨fun j h1 h2 h3 h4 => ?_, fun i hi => ?_, ?_, ?_, ?_⟩
  · unfold s_owns s_holds
    rw [rowS_ne h3, rowS_ne h2, rowS_ne h4, rowS_ne (by omega), rowS_ne (by omega), rowS_ne (by omega), rowS_ne (by omega), rowS_ne (by omega), rowS_ne (by omega), rowS_ne (by omega), rowS_ne (by omega)]
    exact rowP
  · unfold s_owns s_holds
    rw [rowS_ne (by omega), rowS_ne (by omega), rowS_ne (by omega)]
    rcases (by omega : i = 0 ∨ i = 1 ∨ i = 2 ∨ i = 3 ∨ i = 4 ∨ i = 5 ∨ i = 6) with rfl | rfl | rfl | rfl | rfl | rfl | rfl <;> simp (disch := omega) [rowS_ne, rowS_eq]
  · unfold s_owns
    rw [rowS_ne (by omega), rowS_eq]
  · unfold s_owns
    rw [rowS_eq]
  · unfold s_owns
    rw [rowS_ne (by omega), rowS_ne (by omega), rowS_eq]
theorem OnR.ch {σ : MS} {p c k : Nat} : OnR σ (chS σ p c k) := OnR.rf.R.R.R.R.R.R.R.R.R.R.R
theorem choose_tie {g : GP} {P : Nat → Prop} {F : Mem} {A : XA} {w : Nat} {S : Nat → Nat → Nat} {b : XS} {σ : MS} {e e2 : XE} {M : Mem} {nl nb q nor nw p c k : Nat} {v : Int32} {f : Nat → Int32} (h : SX g P F A w S b (settlesS (sR σ (1780 + 3 * k + 2) (nI 1)) p c (nI 5) (nI p) v (-1)) (settlesE (sR σ (1780 + 3 * k + 2) (nI 1)) e2 p c (nI 5) (nI p) v (-1)) M) (he : E9 e e2) (t0 : TieX w S σ e nw) (iv : IvG σ (S 4 w) nl nb q nor nw) (hc : c < 96) (hp : p < S 4 w) (hk : k < 100) (hv : v = row σ (1780 + 3 * k + 1)) (hl : sec σ c 0 = nI 1) : SB g P F A w S b (chS (sA σ 13 f) p c k) nw M := by
  have hz := h.hz
  have hS4 := hz.2.1
  have t := t0.e9 he
  obtain ⟨m, hm, em⟩ := t.coins hp
  obtain ⟨r1, r2, r4, r5, r6⟩ := ch_rows (f := f) (σ := σ) hc (show p < 100 by omega) hk
  have h2 : per (sR σ (1780 + 3 * k + 2) (nI 1)) p 2 = per σ p 2 := rowS_ne (by omega)
  have h3 : per (sR σ (1780 + 3 * k + 2) (nI 1)) p 3 = per σ p 3 := rowS_ne (by omega)
  have hs : OnR σ (chS (sA σ 13 f) p c k) := OnR.rf.P.tr OnR.ch
  have ha : OnR (settlesS (sR σ (1780 + 3 * k + 2) (nI 1)) p c (nI 5) (nI p) v (-1)) (chS (sA σ 13 f) p c k) := (OnR.rf.R.tr OnR.settles).sy.tr hs
  refine ⟨_, h.onR (fun j hj => ?_) ha, tie_own t hz rfl iv hc hp hl (Or.inr rfl) (fun j hj g0 g1 g2 g6 g8 g7 g3 g4 g5 => ?_) ((r2 0 (by decide)).trans rfl) ((r2 1 (by decide)).trans rfl) r4 r5 ⟨m, hm, ?_⟩ ⟨fun z => absurd (show nI 5 = nI 3 from ((r2 0 (by decide)).trans rfl).symm.trans z) (by decide), ⟨0, by decide, (r2 3 (by decide)).trans rfl, fun _ => rfl⟩, by rw [hs.1 3 (by decide) (by decide) (by decide) (by decide)]; exact (t.ps hc).2.2.1, Or.inl ((r2 4 (by decide)).trans rfl)⟩ (hs.1 3 (by decide) (by decide) (by decide) (by decide)) (hs.1 4 (by decide) (by decide) (by decide) (by decide)) hs.2.2.2 (hs.2.1 23) (hs.2.1 24) (settles_ow (by omega) hc h2 h3 (fun z => ?_))⟩
  · by_cases hb : 8 * c ≤ j ∧ j < 8 * c + 7
    · obtain ⟨i, rfl⟩ : ∃ i, j = 8 * c + i := ⟨j - 8 * c, by omega⟩
      have hi2 : i ≠ 2 := fun z => by subst z; unfold mapR at hj; omega
      rw [r2 i (by omega), settles_sec hc (by omega) hi2, hv]
    · by_cases e2 : j = 768 + 8 * p + 2
      · subst e2; exact r4.trans settles_is.symm
      by_cases e3 : j = 768 + 8 * p + 3
      · subst e3; exact r5.trans (settles_boss hc (by rw [h2, h3]; exact t.boss hp)).symm
      have hsr : row (settlesS (sR σ (1780 + 3 * k + 2) (nI 1)) p c (nI 5) (nI p) v (-1)) j = row (sR σ (1780 + 3 * k + 2) (nI 1)) j := settles_row (by omega) e2 e3
      rw [hsr]
      by_cases e1 : j = 1780 + 3 * k + 2
      · subst e1
        exact r6.trans rowS_eq.symm
      · rw [r1 j (by omega) e2 e3 e1]
        exact (rowS_ne e1).symm
  · by_cases hb : 8 * c ≤ j ∧ j < 8 * c + 7
    · exact absurd hj (by unfold fr0; omega)
    · exact r1 j (by omega) g4 g5 (fun z => hj (by unfold fr0; omega))
  · exact (r1 (768 + 8 * p + 1) (by omega) (by omega) (by omega) (by omega)).trans em
  · obtain ⟨o, ho, eo⟩ := iv.hire p hp z
    exact ⟨o, by omega, eo⟩
theorem p_choose_yes {σ : MS} {n nl p c k : Nat} (hp : p < n) (hn : n ≤ 100) (hc : c < 96) (h6 : per (s0 σ) p 6 = nI k) (hk : k < 100) (hd : ¬ row (s0 σ) (1780 + 3 * k + 2) = nI 1) (h2 : decide (nI 2 ≤ per (s0 σ) p 2) = true) (hl : sec (s0 σ) c 0 = nI 1) (ht : turnV (s0 σ) n nl k = true) : p_choose σ n nl (nI p) (nI c) = (nI 1, chS (sM (s0 σ) n nl 6 (nI 0)) p c k) := by
  unfold p_choose
  rw [inN_nI hp (by omega), inN_nI hc (by decide), if_neg (by decide), if_neg (by decide), tN_nI (by omega), tN_nI (by omega)]
  dsimp only
  rw [h6, tN_nI (by omega), if_neg (Int32.not_lt.mpr (nI_pos' (by omega))), if_neg hd, h2, if_neg (by decide), if_neg (fun z => z hl), ht, if_neg (by decide)]
  rfl
set_option maxHeartbeats 600000 in
theorem x_X1_choose {g : GP} {μ : Mem} {d : Nat} {P : Nat → Prop} {F : Mem} {A : XA} {S : Nat → Nat → Nat} {b : XS} {σ : MS} {nor nw : Nat} (s : SB g P F A 0 S b σ nw μ) (iv : IvG σ (S 4 0) (S 8 0) (S 10 0) (S 6 0) nor nw) (rs : RsX σ) (ak : AkX S σ nor) (h16 : S 16 0 = S 12 0) (od : ∀ p, p < S 4 0 → per σ p 6 < 0 → per σ p 6 = -1) (cz : ∀ k, k < nor → row σ (1780 + 3 * k + 2) = nI 0 ∨ row σ (1780 + 3 * k + 2) = nI 1) (hd : 330 ≤ d) {p : Int32} {c : Int32} : PM g yX1_choose (ws_ yX1_choose cX1_choose 6 (some .int)) d 1 6 [.ref (A 0 0 0), .int p, .int c] μ (CQ ["java/lang/IndexOutOfBoundsException"] (p_choose σ (S 4 0) (S 8 0) p c) (fun τ M => SB g P F A 0 S b τ nw M)) := by
  refine PM.of (by decide +kernel) (Nat.le_of_ble_eq_true rfl) ?_
  refine PJ.ok (fun G => ?_)
  show PJ g _ _ _ _ d 1 6 0 [(0, .ref (A 0 0 0)), (1, .int p), (2, .int c)] [] _ _
  obtain ⟨ρ, hs0⟩ : ∃ ρ, ρ = sF σ 0 (nI 0) := ⟨_, rfl⟩
  have hs9 : s0 σ = ρ := hs0.symm
  have s1 := s.F0 (x := nI 0)
  rw [← hs0] at s1
  obtain ⟨e, h, t⟩ := s1
  have iv1 : IvG ρ (S 4 0) (S 8 0) (S 10 0) (S 6 0) nor nw := by rw [hs0]; exact iv.f0
  have rs1 : RsX ρ := by rw [hs0]; exact rs
  have h00 : ρ.1 0 = nI 0 := by rw [hs0]; rfl
  have hS4 := h.hz.2.1
  have hS6 := h.hz.2.2.1
  have hS8 := h.hz.2.2.2.1
  have hS10 := h.hz.2.2.2.2.1
  have ak1 : AkX S ρ nor := by rw [hs0]; exact ak.cg (fun _ _ _ => rfl)
  have od0 : ∀ p, p < S 4 0 → per ρ p 6 < 0 → per ρ p 6 = -1 := by rw [hs0]; exact od
  have cz0 : ∀ k, k < nor → row ρ (1780 + 3 * k + 2) = nI 0 ∨ row ρ (1780 + 3 * k + 2) = nI 1 := by rw [hs0]; exact cz
  have hOR := iv1.hOR
  have h12 := ak1.2.1
  cases hap_p : inN p (S 4 0) with
  | false =>
    refine pl_aload_n (pc := 0) dX1_choose_0 rfl rfl ?_
    refine pl_iload_n (pc := 1) dX1_choose_1 rfl rfl ?_
    refine pl_callVX (pc := 2) (As := [_]) (C1 := 1) (N1 := 6) (C2 := 0) (N2 := 0) (E8 := "java/lang/IndexOutOfBoundsException") ckX1 mdX1_personOf rfl q1411 q1413 qs9 q125 dX1_choose_2 rfl rfl (Nat.le_of_ble_eq_true rfl) (h.r0) (x_X1_personOf_no (d := d - 1) (by omega) h hap_p) (by omega) (by omega) (by omega) (fun q_2 M_2 hM_2 => ?_)
    refine px_out0 rfl ?_
    exact CQ.no 0 (v := nI 0) (τ := sF ρ 0 (nI 1)) (by rw [show sF ρ 0 (nI 1) = th σ 1 by rw [hs0]]; first | (simp only [p_choose, hs9, hap_p, ↓reduceIte]; first | done | rfl) | (simp [p_choose, hs9, hap_p, Int32.not_lt, Int32.not_le]; first | done | rfl)) rfl rfl (SB.mono (SB.F0 ⟨_, h, t⟩) hM_2)
  | true =>
    obtain ⟨j_p, hj_p, rfl⟩ := inN_of (by omega) hap_p
    have g_p := tN_nI (n := j_p) (by omega)
    cases hap_c : inN c 96 with
    | false =>
      refine pl_aload_n (pc := 0) dX1_choose_0 rfl rfl ?_
      refine pl_iload_n (pc := 1) dX1_choose_1 rfl rfl ?_
      refine pl_callVd (pc := 2) (As := [_]) (C1 := 0) (N1 := 0) (C2 := 1) (N2 := 6) ckX1 mdX1_personOf rfl q1411 q1413 qs9 q125 dX1_choose_2 rfl rfl (Nat.le_of_ble_eq_true rfl) (h.r0) (x_X1_personOf_ok (d := d - 1) (by omega) h (by omega)) (by omega) (by omega) (by omega) ?_
      refine pj_astore_n (pc := 5) (lv' := [(3, _), (0, _), (1, _), (2, _)]) dX1_choose_5 rfl (by decide) rfl ?_
      refine pl_aload_n (pc := 6) dX1_choose_6 rfl rfl ?_
      refine pl_iload_n (pc := 7) dX1_choose_7 rfl rfl ?_
      refine pl_callVX (pc := 8) (As := [_]) (C1 := 1) (N1 := 6) (C2 := 0) (N2 := 0) (E8 := "java/lang/IndexOutOfBoundsException") ckX1 mdX1_slotOf rfl q1239 q1241 qs7 q125 dX1_choose_8 rfl rfl (Nat.le_of_ble_eq_true rfl) (h.r0) (x_X1_slotOf_no (d := d - 1) (by omega) h hap_c) (by omega) (by omega) (by omega) (fun q_8 M_8 hM_8 => ?_)
      refine px_out0 rfl ?_
      exact CQ.no 0 (v := nI 0) (τ := sF ρ 0 (nI 1)) (by rw [show sF ρ 0 (nI 1) = th σ 1 by rw [hs0]]; first | (simp only [p_choose, hs9, hap_p, g_p, hap_c, ↓reduceIte]; first | done | rfl) | (simp [p_choose, hs9, hap_p, g_p, hap_c, Int32.not_lt, Int32.not_le]; first | done | rfl)) rfl rfl (SB.mono (SB.F0 ⟨_, h, t⟩) hM_8)
    | true =>
      obtain ⟨j_c, hj_c, rfl⟩ := inN_of (by omega) hap_c
      have g_c := tN_nI (n := j_c) (by omega)
      refine pl_aload_n (pc := 0) dX1_choose_0 rfl rfl ?_
      refine pl_iload_n (pc := 1) dX1_choose_1 rfl rfl ?_
      refine pl_callVd (pc := 2) (As := [_]) (C1 := 0) (N1 := 0) (C2 := 1) (N2 := 6) ckX1 mdX1_personOf rfl q1411 q1413 qs9 q125 dX1_choose_2 rfl rfl (Nat.le_of_ble_eq_true rfl) (h.r0) (x_X1_personOf_ok (d := d - 1) (by omega) h (by omega)) (by omega) (by omega) (by omega) ?_
      refine pj_astore_n (pc := 5) (lv' := [(3, _), (0, _), (1, _), (2, _)]) dX1_choose_5 rfl (by decide) rfl ?_
      refine pl_aload_n (pc := 6) dX1_choose_6 rfl rfl ?_
      refine pl_iload_n (pc := 7) dX1_choose_7 rfl rfl ?_
      obtain ⟨q_8, hm_8, hq_8, hdd_8⟩ := h.held (s := j_c) (by omega)
      refine pl_callVd (pc := 8) (As := [_]) (C1 := 0) (N1 := 0) (C2 := 1) (N2 := 6) ckX1 mdX1_slotOf rfl q1239 q1241 qs7 q125 dX1_choose_8 rfl rfl (Nat.le_of_ble_eq_true rfl) (h.r0) (x_X1_slotOf_ok (d := d - 1) (by omega) h (by omega)) (by omega) (by omega) (by omega) ?_
      refine pj_astore (pc := 11) (lv' := [(4, _), (3, _), (0, _), (1, _), (2, _)]) dX1_choose_11 (by decide) rfl ?_
      refine pl_aload_n (pc := 13) dX1_choose_13 rfl rfl ?_
      refine pj_getfN (pc := 14) ckX10 7 q1086 dX1_choose_14 (by decide) (h.r35 (by omega)) rfl ?_
      refine pj_iconst (pc := 17) (v := (-1)) dX1_choose_17 (by rfl) ?_
      refine pj_icmp_eq (pc := 18) (tgt := 33) dX1_choose_18 (by decide) (fun c18 => ?_) (fun c18 => ?_)
      · have d18 : per ρ j_p 6 < 0 := by rw [show per ρ j_p 6 = -1 from c18]; decide
        refine pj_iconst (pc := 33) (v := (-1)) dX1_choose_33 (by rfl) ?_
        refine pj_iret (pc := 34) dX1_choose_34 rfl ?_
        exact CQ.ok (τ := ρ) (by unfold p_choose; rw [hs9, hap_p, hap_c, if_neg (by decide), if_neg (by decide), g_p, g_c]; dsimp only; rw [if_pos d18]) (by exact h00) ⟨_, h, t⟩
      · have d18 : ¬ per ρ j_p 6 < 0 := fun z => c18 (od0 j_p hj_p z)
        obtain ⟨k6, hk6, e6⟩ := iv1.ord j_p hj_p d18
        have g6 := tN_nI (n := k6) (by omega)
        have hk12 : k6 < S 12 0 := by omega
        refine pl_aload_n (pc := 21) dX1_choose_21 rfl rfl ?_
        refine pj_getf (pc := 22) ckX1 11 q864 dX1_choose_22 (by decide) (h.r0) rfl ?_
        refine pl_aload_n (pc := 25) dX1_choose_25 rfl rfl ?_
        refine pj_getfN (pc := 26) ckX10 7 q1086 dX1_choose_26 (by decide) (h.r35 (by omega)) rfl ?_
        refine PJ.top (y := nI k6) e6 ?_
        refine pl_zald (pc := 29) (n := 100) dX1_choose_29 (h.r42) (by omega) (by decide) ?_
        refine PJ.top (h.v42 (by omega)) ?_
        refine pj_if_eq (pc := 30) (tgt := 35) dX1_choose_30 (by decide) (fun c30 => ?_) (fun c30 => ?_)
        · have f30 : ¬ row ρ (1780 + 3 * k6 + 2) = nI 1 := by rw [show row ρ (1780 + 3 * k6 + 2) = 0 from c30]; decide
          refine pl_aload_n (pc := 35) dX1_choose_35 rfl rfl ?_
          refine pl_callVd (pc := 36) (As := []) (C1 := 0) (N1 := 0) (C2 := 1) (N2 := 6) ckX10 mdX10_isHere rfl q1591 q1192 q1193 q158 dX1_choose_36 rfl rfl (Nat.le_of_ble_eq_true rfl) (h.r35 (by omega)) (x_X10_isHere (d := d - 1) (by omega) h (by omega)) (by omega) (by omega) (by omega) ?_
          refine pl_if_neB (pc := 39) (tgt := 45) dX1_choose_39 (by decide) (fun c39 => ?_) (fun c39 => ?_)
          · refine pl_aload (pc := 45) dX1_choose_45 rfl ?_
            refine pl_callVd (pc := 47) (As := []) (C1 := 0) (N1 := 0) (C2 := 1) (N2 := 6) ckX8 mdX8_isLot rfl q1698 q1699 q1700 q152 dX1_choose_47 rfl rfl (Nat.le_of_ble_eq_true rfl) hm_8 (k_X8_isLot (d := d - 1) (by omega) hm_8 hq_8) (by omega) (by omega) (by omega) ?_
            refine PJ.top (ho_isLot) ?_
            refine pl_if_neB (pc := 50) (tgt := 56) dX1_choose_50 (by decide) (fun c50 => ?_) (fun c50 => ?_)
            · refine pl_iconst (pc := 56) (v := 0) dX1_choose_56 (by rfl) ?_
              refine pj_istore (pc := 57) (lv' := [(5, _), (4, _), (3, _), (0, _), (1, _), (2, _)]) dX1_choose_57 (by decide) rfl ?_
              refine PJ.sub [0, 1, 2, 5, 4, 3] rfl ?_
              refine ind_dn (n := k6) (P := fun i => ∀ M9 e9, E9 e e9 → SX g P F A 0 S b ρ e9 M9 → anyN (turn1 (sM ρ (S 4 0) (S 8 0) 6 (nI 0)) (meanV ρ (S 4 0) (S 8 0) 6 (nI 0)).1) i = false → PJ g _ _ _ _ d 1 6 59 [(5, .int (nI i)), (4, .ref (A 34 0 j_c)), (3, .ref (A 35 0 j_p)), (2, .int (nI j_c)), (1, .int (nI j_p)), (0, .ref (A 0 0 0))] [] M9 _) (fun i hi ih M9 e9 he9 h9 an9 => ?_) 0 (Nat.zero_le _) _ e E9.rf h rfl
              refine pl_iload (pc := 59) dX1_choose_59 rfl ?_
              refine pl_aload_n (pc := 61) dX1_choose_61 rfl rfl ?_
              refine pj_getfN (pc := 62) ckX10 7 q1086 dX1_choose_62 (by decide) (h9.r35 (by omega)) rfl ?_
              refine PJ.top (y := nI k6) e6 ?_
              refine pl_icmp_ge (pc := 65) (tgt := 86) dX1_choose_65 (by decide) (by omega) (by omega) (fun c65 => ?_) (fun c65 => ?_)
              · have ei : i = k6 := by omega
                subst ei
                refine pl_aload_n (pc := 86) dX1_choose_86 rfl rfl ?_
                refine pj_getf (pc := 87) ckX1 11 q864 dX1_choose_87 (by decide) (h9.r0) rfl ?_
                refine pl_aload_n (pc := 90) dX1_choose_90 rfl rfl ?_
                refine pj_getfN (pc := 91) ckX10 7 q1086 dX1_choose_91 (by decide) (h9.r35 (by omega)) rfl ?_
                refine PJ.top (y := nI i) e6 ?_
                refine pl_iconst (pc := 94) (v := 1) dX1_choose_94 (by rfl) ?_
                refine pl_zast (pc := 95) (n := 100) dX1_choose_95 (h9.r42) (by omega) (by decide) ?_
                refine sxk (h9.p42 (by omega) (v := nI 1)) (fun My1 y1 => ?_)
                refine pl_aload_n (pc := 96) dX1_choose_96 rfl rfl ?_
                refine pj_getf (pc := 97) ckX1 0 q853 dX1_choose_97 (by decide) (y1.r0) rfl ?_
                refine pl_aload_n (pc := 100) dX1_choose_100 rfl rfl ?_
                refine pl_iload_n (pc := 101) dX1_choose_101 rfl rfl ?_
                refine pj_new (pc := 102) (C1 := 0) (N1 := 3) ckX15 q1783 q1784 q164 dX1_choose_102 _ dfX15 (by omega) (by omega) (fun q_102 hn_102 gq_102 => ?_)
                refine sxh (y1.fresh hn_102) (fun y2 => ?_)
                refine pj_dup (pc := 105) dX1_choose_105 rfl ?_
                refine pl_aload_n (pc := 106) dX1_choose_106 rfl rfl ?_
                refine pj_getfN (pc := 107) ckX10 0 q1066 dX1_choose_107 (by decide) (y2.r35 (by omega)) rfl ?_
                refine pl_aload_n (pc := 110) dX1_choose_110 rfl rfl ?_
                refine pj_getf (pc := 111) ckX1 10 q863 dX1_choose_111 (by decide) (y2.r0) rfl ?_
                refine pl_aload_n (pc := 114) dX1_choose_114 rfl rfl ?_
                refine pj_getfN (pc := 115) ckX10 7 q1086 dX1_choose_115 (by decide) (y2.r35 (by omega)) rfl ?_
                refine PJ.top (y := nI i) ((rowS_ne (by omega)).trans e6) ?_
                obtain ⟨m_118, c_118, l_118⟩ := y2.L16
                have h16k : i < S 16 0 := by rw [h16]; exact hk12
                refine pl_callVd (pc := 118) (As := [_]) (C1 := 0) (N1 := 0) (C2 := 0) (N2 := 3) ckJ2 mdJ2_get rfl q1054 q708 q709 q129 dX1_choose_118 rfl rfl (Nat.le_of_ble_eq_true rfl) l_118.1 (k_J2_get (d := d - 1) (by omega) l_118 (j := i) h16k (if_pos h16k)) (by omega) (by omega) (by omega) ?_
                have pd := y2.pd h16k (by omega)
                rw [show row (wA ρ 1 (1780 + 3 * i + 2) (nI 1)) (1780 + 3 * i + 1) = row ρ (1780 + 3 * i + 1) from rowS_ne (by omega)] at pd
                refine pj_castZ (pc := 121) pd q1785 dX1_choose_121 ?_
                refine pl_intZ (pc := 124) pd q1786 dX1_choose_124 (by omega) (Nat.le_of_ble_eq_true rfl) ?_
                refine pl_callIv (pc := 127) (As := [_, _]) (C1 := 0) (N1 := 0) (C2 := 0) (N2 := 3) mdX15_init rfl q1787 q1788 q164 dX1_choose_127 rfl rfl (Nat.le_of_ble_eq_true rfl) (k_X15_init (d := d - 1) (by omega) mset_s) (by omega) (by omega) (by omega) ?_
                refine PJ.mem mset_m ?_
                have dd_127 := y1.dd hn_102
                refine sxf (y1.fresh hn_102) mset_s (fun My3 y3 hm_127 => ?_)
                have hq_127 := (Or.inr (Or.inr (Or.inr (Or.inr (Or.inl ⟨rfl, hm_127⟩)))) : HoC My3 q_102 (ho4 (nI 5) (nI j_p) (row ρ (1780 + 3 * i + 1)) (-1)))
                refine pl_callVWv (pc := 130) (As := [_, _, _]) (C1 := 0) (N1 := 0) (C2 := 0) (N2 := 3) ckX2 mdX2_settles rfl q1795 q1738 q1739 q126 dX1_choose_130 rfl rfl (Nat.le_of_ble_eq_true rfl) (y3.r1) (x_X2_settles (d := d - 1) (by omega) y3 (by omega) hj_c hq_127 dd_127 (by decide) (fun z => by simp (disch := omega) only [per, rowS_ne] at z ⊢; exact iv1.hire j_p hj_p z)) (by omega) (by omega) (by omega) (fun My4 y4 => ?_)
                refine pl_iconst (pc := 133) (v := 1) dX1_choose_133 (by rfl) ?_
                refine pj_iret (pc := 134) dX1_choose_134 rfl ?_
                have y9 := SX.at9 (υ := settlesS (sR ρ (1780 + 3 * i + 2) (nI 1)) j_p j_c (nI 5) (nI j_p) (row ρ (1780 + 3 * i + 1)) (-1)) y4 rfl
                exact CQ.ok (τ := chS (sM ρ (S 4 0) (S 8 0) 6 (nI 0)) j_p j_c i) (by rw [p_choose_yes hj_p hS4 hj_c (by rw [hs9]; exact e6) (by omega) (by rw [hs9]; exact f30) (by rw [hs9]; exact c39) (by rw [hs9]; exact of_decide_eq_true c50) (by rw [hs9]; unfold turnV; rw [an9]; rfl), hs9]) (by exact h00) (choose_tie y9 he9 t iv1 hj_c hj_p (by omega) rfl (of_decide_eq_true c50))
              · refine pl_aload_n (pc := 68) dX1_choose_68 rfl rfl ?_
                obtain ⟨o_71, ho_71, ho2_71⟩ := iv1.of_ i (by omega)
                refine pl_iload (pc := 69) dX1_choose_69 rfl ?_
                refine pl_callVWd (pc := 71) (As := [_]) (C1 := 0) (N1 := 0) (C2 := 1) (N2 := 6) ckX1 mdX1_isWaitedFor rfl q1778 q1780 qs14 q125 dX1_choose_71 rfl rfl (Nat.le_of_ble_eq_true rfl) (h9.r0) (x_X1_isWaitedFor (d := d - 1) (by omega) h9 (t.e9 he9) (nor := nor) (i := i) (o := o_71) (by omega) (by omega) ho_71 ho2_71) (by omega) (by omega) (by omega) (fun My5 qy5 => ?_)
                obtain ⟨e_71, he_71, y5⟩ := qy5
                refine pl_if_eqB (pc := 74) (tgt := 80) dX1_choose_74 (by decide) (fun c74 => ?_) (fun c74 => ?_)
                · refine pl_iinc1 (pc := 80) (lv' := [(5, _), (4, _), (3, _), (2, _), (1, _), (0, _)]) dX1_choose_80 rfl rfl (by decide) rfl ?_
                  refine pj_goto (pc := 83) (tgt := 59) dX1_choose_83 (by decide) ?_
                  exact ih (by omega) _ e_71 (he9.tr he_71) y5 (anyN_up an9 c74)
                · refine pj_bipush (pc := 77) (v := (-4)) dX1_choose_77 (by rfl) ?_
                  refine pj_iret (pc := 79) dX1_choose_79 rfl ?_
                  have tv : turnV ρ (S 4 0) (S 8 0) k6 = false := by unfold turnV; rw [anyN_hit (i := i) (by omega) c74]; rfl
                  exact CQ.ok (τ := sM ρ (S 4 0) (S 8 0) 6 (nI 0)) (by unfold p_choose; rw [hs9, hap_p, hap_c, if_neg (by decide), if_neg (by decide), g_p, g_c]; dsimp only; rw [e6, g6, if_neg (Int32.not_lt.mpr (nI_pos' (by omega))), if_neg f30, c39, if_neg (by decide), if_neg (fun z => z (of_decide_eq_true c50)), tv, if_pos rfl]) (by exact h00) (SB.P ⟨_, y5, t.e9 (he9.tr he_71)⟩)
            · refine pj_bipush (pc := 53) (v := (-3)) dX1_choose_53 (by rfl) ?_
              refine pj_iret (pc := 55) dX1_choose_55 rfl ?_
              exact CQ.ok (τ := ρ) (by unfold p_choose; rw [hs9, hap_p, hap_c, if_neg (by decide), if_neg (by decide), g_p, g_c]; dsimp only; rw [e6, g6, if_neg (Int32.not_lt.mpr (nI_pos' (by omega))), if_neg f30, c39, if_neg (by decide), if_pos (of_decide_eq_false c50)]) (by exact h00) ⟨_, h, t⟩
          · refine pj_bipush (pc := 42) (v := (-2)) dX1_choose_42 (by rfl) ?_
            refine pj_iret (pc := 44) dX1_choose_44 rfl ?_
            exact CQ.ok (τ := ρ) (by unfold p_choose; rw [hs9, hap_p, hap_c, if_neg (by decide), if_neg (by decide), g_p, g_c]; dsimp only; rw [e6, g6, if_neg (Int32.not_lt.mpr (nI_pos' (by omega))), if_neg f30, c39, if_pos rfl]) (by exact h00) ⟨_, h, t⟩
        · have f30 : row ρ (1780 + 3 * k6 + 2) = nI 1 := (cz0 k6 hk6).resolve_left c30
          refine pj_iconst (pc := 33) (v := (-1)) dX1_choose_33 (by rfl) ?_
          refine pj_iret (pc := 34) dX1_choose_34 rfl ?_
          exact CQ.ok (τ := ρ) (by unfold p_choose; rw [hs9, hap_p, hap_c, if_neg (by decide), if_neg (by decide), g_p, g_c]; dsimp only; rw [e6, g6, if_neg (Int32.not_lt.mpr (nI_pos' (by omega))), if_pos f30]) (by exact h00) ⟨_, h, t⟩
