set_option maxRecDepth 100000
section BL
variable {w : Nat} {S : Nat → Nat → Nat} {σ τ : MS} {e : XE} {nw b : Nat}
/-- a bill goes on -/
theorem tie_bill (t : TieX w S σ e nw) (hz : SzX w S) (hb : b < S 10 w) (hr : ∀ j, ¬ fr0 j → j ≠ 1640 + 4 * b + 2 → j ≠ 1640 + 4 * b + 3 → row τ j = row σ j) (hd : DuX τ e b) (a3 : τ.2.1 3 = σ.2.1 3) (a4 : τ.2.1 4 = σ.2.1 4) (a14 : τ.2.1 14 = σ.2.1 14) (h23 : τ.1 23 = σ.1 23) (h24 : τ.1 24 = σ.1 24) : TieX w S τ e nw := by
  have z1 := hz.2.1
  have z6 := hz.2.2.1
  have z8 := hz.2.2.2.1
  have z10 := hz.2.2.2.2.1
  have s0 : ∀ j c, c < 96 → (j = 0 ∨ j = 1 ∨ j = 2 ∨ j = 3 ∨ j = 4 ∨ j = 5 ∨ j = 7) → sec τ c j = sec σ c j := fun j c hc hj => hr _ (fun z => by have := fr0_sec (c := c) (j := j) hc (by omega) z; omega) (by omega) (by omega)
  have hq : ∀ j a, a < S 4 w → (j = 1 ∨ j = 2 ∨ j = 3) → per τ a j = per σ a j := fun j a ha hj => hr _ (fun z => by have := fr0_per (p := a) (by omega) (by omega) z; omega) (by omega) (by omega)
  have lw : ∀ l j, l < S 8 w → j < 6 → lawv τ l j = lawv σ l j := fun l j hl hj => hr _ (by unfold fr0; omega) (by omega) (by omega)
  have bw : ∀ k j, k < S 10 w → k ≠ b → j < 4 → row τ (1640 + 4 * k + j) = row σ (1640 + 4 * k + j) := fun k j hk hne hj => hr _ (by unfold fr0; omega) (by omega) (by omega)
  have qw : ∀ a j, a < S 6 w → j < 15 → row τ (1720 + 15 * a + j) = row σ (1720 + 15 * a + j) := fun a j ha hj => hr _ (by unfold fr0; omega) (by omega) (by omega)
  refine ⟨tHa_cg t (fun a ha => hq 2 a ha (by decide)) (fun a ha => hq 3 a ha (by decide)) (fun _ _ => rfl), tFa_cg t (fun c hc => s0 0 c hc (by decide)) (fun c hc => s0 1 c hc (by decide)) (fun _ _ => rfl), tMi_cg t (fun c hc => s0 0 c hc (by decide)) (fun c hc => s0 7 c hc (by decide)) a3 a4 (fun _ _ => rfl), tEn_cg t (fun c hc => s0 0 c hc (by decide)) (fun c hc => s0 2 c hc (by decide)) (fun _ _ => rfl), tSa_cg t (fun l hl => lw l 4 hl (by decide)) (fun l hl => lw l 5 hl (by decide)) (fun _ _ => rfl) (fun _ _ => rfl), fun k hk => ?_, tQu_cg t qw (fun a _ _ _ => rfl), tBo_cg t (fun a ha => hq 2 a ha (by decide)) (fun a ha => hq 3 a ha (by decide)), tOw_cg t (fun c hc => s0 0 c hc (by decide)) (fun c hc => s0 1 c hc (by decide)) (fun p hp z => (hq 2 p hp (by decide)).trans z) (fun c hc => s0 3 c hc (by decide)) (fun c hc => s0 4 c hc (by decide)) (fun c hc => s0 5 c hc (by decide)) a3, tHi_cg t (fun l hl => lw l 0 hl (by decide)) (fun l hl => lw l 3 hl (by decide)) (fun j _ => by rw [a14]) (fun _ _ => rfl) (fun _ _ => rfl), tRo_cg t (fun j _ => by rw [a14]) (fun _ _ => rfl), tCo_cg t (fun a ha => hq 1 a ha (by decide)), tTr_cg t h23 h24, ?_, tGh_cg t (fun a ha => qw a 0 ha (by decide)) (fun k hk => hr _ (by unfold fr0; omega) (by omega) (by omega)) (fun _ _ => rfl)⟩
  · by_cases ek : k = b
    · subst ek; exact hd
    · have := t.due hk
      unfold DuX at this ⊢
      rw [bw k 2 hk ek (by decide), bw k 3 hk ek (by decide)]
      exact this
  · refine ⟨fun a ha => ?_, fun a ha => ?_⟩
    · obtain ⟨m, m1, m2, m3⟩ := t.ivd.1 a ha
      refine ⟨m, by rw [a3, a4]; exact m1, m2, fun z => ?_⟩
      rw [s0 0 a ha (by decide)] at z
      rw [s0 7 a ha (by decide)]
      exact m3 z
    · rw [qw a 0 ha (by decide)]
      exact t.ivd.2 a ha
end BL
section BM
variable {g : GP} {P : Nat → Prop} {F : Mem} {A : XA} {w : Nat} {S : Nat → Nat → Nat} {b : XS} {σ : MS} {e : XE} {M : Mem} {nor nw k : Nat}
theorem sub34 {a x : Int32} : (a = x + nI 34 ↔ x + nI 34 = a) := ⟨Eq.symm, Eq.symm⟩
theorem bill_no (h2 : row σ (1640 + 4 * k + 2) = nI 1 ∨ row σ (1640 + 4 * k + 2) = nI 3 ∨ ¬ row σ (1640 + 4 * k + 3) = row σ 2116) : s_reads σ k = σ := by
  unfold s_reads
  dsimp only
  by_cases h3 : row σ (1640 + 4 * k + 3) = row σ 2116
  · rw [if_neg (fun z => z h3)]
    rcases h2 with z | z | z
    · rw [if_pos z]
    · rw [if_neg (by rw [z]; decide), if_pos z]
    · exact absurd h3 z
  · rw [if_pos h3]
theorem bill_came (h3 : row σ (1640 + 4 * k + 3) = row σ 2116) (h2 : row σ (1640 + 4 * k + 2) = nI 2) : s_reads σ k = sR (sR σ 2118 (row σ 2118 - (row σ (1640 + 4 * k) + row σ (1640 + 4 * k) * nI 20 / nI 100 + row σ (1640 + 4 * k + 1)))) (1640 + 4 * k + 2) (nI 3) := by
  unfold s_reads
  dsimp only
  rw [if_neg (fun z => z h3), if_neg (by rw [h2]; decide), if_neg (by rw [h2]; decide), if_pos h2]
theorem bill_paid (h3 : row σ (1640 + 4 * k + 3) = row σ 2116) (h2 : row σ (1640 + 4 * k + 2) = nI 0) (h : ¬ row σ 2123 < row σ (1640 + 4 * k)) : s_reads σ k = sR (sR σ 2123 (row σ 2123 - row σ (1640 + 4 * k))) (1640 + 4 * k + 2) (nI 1) := by
  unfold s_reads
  dsimp only
  rw [if_neg (fun z => z h3), if_neg (by rw [h2]; decide), if_neg (by rw [h2]; decide), if_neg (by rw [h2]; decide), if_pos h]
theorem bill_back (h3 : row σ (1640 + 4 * k + 3) = row σ 2116) (h2 : row σ (1640 + 4 * k + 2) = nI 0) (h : row σ 2123 < row σ (1640 + 4 * k)) : s_reads σ k = sR (sR σ (1640 + 4 * k + 2) (nI 2)) (1640 + 4 * k + 3) (row (sR σ (1640 + 4 * k + 2) (nI 2)) 2116 + nI 34) := by
  unfold s_reads
  dsimp only
  rw [if_neg (fun z => z h3), if_neg (by rw [h2]; decide), if_neg (by rw [h2]; decide), if_neg (by rw [h2]; decide), if_neg (fun z => z h)]
end BM
section BT
variable {g : GP} {P : Nat → Prop} {F : Mem} {A : XA} {w : Nat} {S : Nat → Nat → Nat} {b : XS} {σ : MS} {e : XE} {M : Mem} {nor nw k : Nat}
/-- a bill's new state, written in whatever order -/
theorem bill_tie {τ τ1 : MS} {y : Nat} {v x : Int32} (h : SX g P F A w S b τ1 e M) (t : TieX w S σ e nw) (hk : k < S 10 w) (on1 : OnR σ τ1) (on : OnR σ τ) (hy : fr0 y) (hs : v = nI 1 ∨ v = nI 3)
    (r1 : ∀ j, row τ1 j = if j = 1640 + 4 * k + 2 then v else if j = y then x else row σ j) (r : ∀ j, row τ j = if j = 1640 + 4 * k + 2 then v else if j = y then x else row σ j) : SB g P F A w S b τ nw M := by
  have hz := h.hz
  have hS := hz.2.2.2.2.1
  refine ⟨e, h.onR (fun j _ => (r j).trans (r1 j).symm) (on1.sy.tr on), tie_bill t hz hk (fun j hj g2 g3 => ?_) ⟨fun z => ?_, fun z => ?_, ?_⟩ (on.1 3 (by decide) (by decide) (by decide) (by decide)) (on.1 4 (by decide) (by decide) (by decide) (by decide)) on.2.2.2 (on.2.1 23) (on.2.1 24)⟩
  · rw [r, if_neg g2, if_neg (fun z => hj (by rw [z]; exact hy))]
  · rw [r, if_pos rfl] at z
    rcases hs with rfl | rfl <;> exact absurd z (by decide)
  · rw [r, if_pos rfl] at z
    rcases hs with rfl | rfl <;> exact absurd z (by decide)
  · rw [r, if_pos rfl]
    rcases hs with rfl | rfl
    · exact Or.inr (Or.inl rfl)
    · exact Or.inr (Or.inr (Or.inr rfl))
theorem came_tie (h : SX g P F A w S b (sR (sR σ (1640 + 4 * k + 2) (nI 3)) 2118 (row (sR σ (1640 + 4 * k + 2) (nI 3)) 2118 - (row (sR σ (1640 + 4 * k + 2) (nI 3)) (1640 + 4 * k + 0) + row (sR σ (1640 + 4 * k + 2) (nI 3)) (1640 + 4 * k + 0) * nI 20 / nI 100 + row (sR σ (1640 + 4 * k + 2) (nI 3)) (1640 + 4 * k + 1)))) e M) (t : TieX w S σ e nw) (hk : k < S 10 w) (h3 : row σ (1640 + 4 * k + 3) = row σ 2116) (h2 : row σ (1640 + 4 * k + 2) = nI 2) : SB g P F A w S b (s_reads σ k) nw M := by
  have hz := h.hz
  have hS := hz.2.2.2.2.1
  rw [bill_came h3 h2]
  rw [rowS_ne (show (2118 : Nat) ≠ 1640 + 4 * k + 2 by omega), rowS_ne (show 1640 + 4 * k + 0 ≠ 1640 + 4 * k + 2 by omega), rowS_ne (show 1640 + 4 * k + 1 ≠ 1640 + 4 * k + 2 by omega)] at h
  refine bill_tie (y := 2118) (v := nI 3) (x := row σ 2118 - (row σ (1640 + 4 * k) + row σ (1640 + 4 * k) * nI 20 / nI 100 + row σ (1640 + 4 * k + 1))) h t hk OnR.rf.R.R OnR.rf.R.R (by unfold fr0; omega) (Or.inr rfl) (fun j => ?_) (fun j => ?_)
  · rw [rowS_if, rowS_if]
    by_cases a : j = 2118
    · subst a
      rw [if_pos rfl, if_neg (by omega), if_pos rfl]
      rfl
    · rw [if_neg a]
      by_cases c : j = 1640 + 4 * k + 2
      · rw [if_pos c, if_pos c]
      · rw [if_neg c, if_neg c, if_neg a]
  · rw [rowS_if, rowS_if]
theorem paid_tie (h : SX g P F A w S b (sR (sR σ (1640 + 4 * k + 2) (nI 1)) 2123 (row (sR σ (1640 + 4 * k + 2) (nI 1)) 2123 - row (sR σ (1640 + 4 * k + 2) (nI 1)) (1640 + 4 * k + 0))) e M) (t : TieX w S σ e nw) (hk : k < S 10 w) (h3 : row σ (1640 + 4 * k + 3) = row σ 2116) (h2 : row σ (1640 + 4 * k + 2) = nI 0) (hf : ¬ row σ 2123 < row σ (1640 + 4 * k)) : SB g P F A w S b (s_reads σ k) nw M := by
  have hz := h.hz
  have hS := hz.2.2.2.2.1
  rw [bill_paid h3 h2 hf]
  rw [rowS_ne (show (2123 : Nat) ≠ 1640 + 4 * k + 2 by omega), rowS_ne (show 1640 + 4 * k + 0 ≠ 1640 + 4 * k + 2 by omega)] at h
  refine bill_tie (y := 2123) (v := nI 1) (x := row σ 2123 - row σ (1640 + 4 * k)) h t hk OnR.rf.R.R OnR.rf.R.R (by unfold fr0; omega) (Or.inl rfl) (fun j => ?_) (fun j => ?_)
  · rw [rowS_if, rowS_if]
    by_cases a : j = 2123
    · subst a
      rw [if_pos rfl, if_neg (by omega), if_pos rfl]
      rfl
    · rw [if_neg a]
      by_cases c : j = 1640 + 4 * k + 2
      · rw [if_pos c, if_pos c]
      · rw [if_neg c, if_neg c, if_neg a]
  · rw [rowS_if, rowS_if]
theorem back_tie (h : SX g P F A w S b (sR σ (1640 + 4 * k + 2) (nI 2)) e M) (t : TieX w S σ e nw) (hk : k < S 10 w) (h3 : row σ (1640 + 4 * k + 3) = row σ 2116) (h2 : row σ (1640 + 4 * k + 2) = nI 0) (hf : row σ 2123 < row σ (1640 + 4 * k)) (hs : row σ 2116 = e 16 k + nI 34) : SB g P F A w S b (s_reads σ k) nw M := by
  have hz := h.hz
  have hS := hz.2.2.2.2.1
  rw [bill_back h3 h2 hf]
  rw [rowS_ne (show (2116 : Nat) ≠ 1640 + 4 * k + 2 by omega)]
  have on : OnR σ (sR (sR σ (1640 + 4 * k + 2) (nI 2)) (1640 + 4 * k + 3) (row σ 2116 + nI 34)) := OnR.rf.R.R
  have r2 : row (sR (sR σ (1640 + 4 * k + 2) (nI 2)) (1640 + 4 * k + 3) (row σ 2116 + nI 34)) (1640 + 4 * k + 2) = nI 2 := by
    rw [rowS_ne (by omega), rowS_eq]
  refine ⟨e, h.onR (fun j hj => rowS_ne (fun z => by subst z; unfold mapR at hj; omega)) OnR.rf.R, tie_bill t hz hk (fun j _ g2 g3 => by rw [rowS_ne g3, rowS_ne g2]) ⟨fun z => ?_, fun _ => ?_, ?_⟩ (on.1 3 (by decide) (by decide) (by decide) (by decide)) (on.1 4 (by decide) (by decide) (by decide) (by decide)) on.2.2.2 (on.2.1 23) (on.2.1 24)⟩
  · rw [r2] at z
    exact absurd z (by decide)
  · rw [rowS_eq, hs, Int32.add_assoc]
    rfl
  · exact Or.inr (Or.inr (Or.inl r2))
end BT
set_option maxHeartbeats 600000 in
theorem x_X2_reads_3 {g : GP} {μ : Mem} {d : Nat} {P : Nat → Prop} {F : Mem} {A : XA} {w : Nat} {S : Nat → Nat → Nat} {b : XS} {σ : MS} {nor nw : Nat} (hd : 1 ≤ d) (s : SB g P F A w S b σ nw μ) {k : Nat} (hk : k < S 10 w) : PM g yX2_reads_3 (ws_ yX2_reads_3 cX2_reads_3 2 none) d 0 0 [.ref (A 1 w 0), .ref (A 40 w k)] μ (WQ none (SB g P F A w S b (s_reads σ k) nw)) := by
  refine PM.of (by decide +kernel) (Nat.le_of_ble_eq_true rfl) ?_
  refine PJ.ok (fun G => ?_)
  show PJ g _ _ _ _ d 0 0 0 [(0, .ref (A 1 w 0)), (1, .ref (A 40 w k))] [] _ _
  obtain ⟨e, h, t⟩ := s
  have hS4 := h.hz.2.1
  have hS6 := h.hz.2.2.1
  have hS8 := h.hz.2.2.2.1
  have hS10 := h.hz.2.2.2.2.1
  refine pl_aload_n (pc := 0) dX2_reads_3_0 rfl rfl ?_
  refine pj_getfN (pc := 1) ckX13 3 q1551 dX2_reads_3_1 (by decide) (h.r40 hk) rfl ?_
  refine pj_if_ne (pc := 4) (tgt := 65) dX2_reads_3_4 (by decide) (fun c4 => ?_) (fun c4 => ?_)
  · refine pl_aload_n (pc := 65) dX2_reads_3_65 rfl rfl ?_
    refine pj_getfN (pc := 66) ckX13 3 q1551 dX2_reads_3_66 (by decide) (h.r40 hk) rfl ?_
    refine pl_iconst (pc := 69) (v := 2) dX2_reads_3_69 (by rfl) ?_
    refine pj_icmp_ne (pc := 70) (tgt := 121) dX2_reads_3_70 (by decide) (fun c70 => ?_) (fun c70 => ?_)
    · refine pj_vret (pc := 121) dX2_reads_3_121 rfl ?_
      have du := t.due hk
      have e9 : s_reads σ k = σ := by
        refine bill_no ?_
        rcases du.2.2 with z | z | z | z
        · first | exact absurd z c4 | exact Or.inr (Or.inr (fun q => c18 (q.symm.trans (du.1 z))))
        · exact Or.inl z
        · first | exact absurd z c70 | exact Or.inr (Or.inr (fun q => c84 (q.symm.trans (du.2.1 z))))
        · exact Or.inr (Or.inl z)
      rw [e9]
      exact ⟨rfl, e, h, t⟩
    · refine pl_aload_n (pc := 73) dX2_reads_3_73 rfl rfl ?_
      refine pj_getf (pc := 74) ckX2 0 q725 dX2_reads_3_74 (by decide) (h.r1) rfl ?_
      refine pl_aload_n (pc := 77) dX2_reads_3_77 rfl rfl ?_
      refine pj_getfN (pc := 78) ckX13 1 q1546 dX2_reads_3_78 (by decide) (h.r40 hk) rfl ?_
      refine pl_bipush (pc := 81) (v := 68) dX2_reads_3_81 (by rfl) ?_
      refine pj_iadd (pc := 83) dX2_reads_3_83 ?_
      refine pj_icmp_ne (pc := 84) (tgt := 121) dX2_reads_3_84 (by decide) (fun c84 => ?_) (fun c84 => ?_)
      · refine pj_vret (pc := 121) dX2_reads_3_121 rfl ?_
        have du := t.due hk
        have e9 : s_reads σ k = σ := by
          refine bill_no ?_
          rcases du.2.2 with z | z | z | z
          · first | exact absurd z c4 | exact Or.inr (Or.inr (fun q => c18 (q.symm.trans (du.1 z))))
          · exact Or.inl z
          · first | exact absurd z c70 | exact Or.inr (Or.inr (fun q => c84 (q.symm.trans (du.2.1 z))))
          · exact Or.inr (Or.inl z)
        rw [e9]
        exact ⟨rfl, e, h, t⟩
      · refine pl_aload_n (pc := 87) dX2_reads_3_87 rfl rfl ?_
        refine pl_iconst (pc := 88) (v := 3) dX2_reads_3_88 (by rfl) ?_
        refine pj_putfN (pc := 89) ckX13 3 q1551 dX2_reads_3_89 (by decide) rfl (h.r40 hk) rfl rfl (Nat.le_of_ble_eq_true rfl) ?_
        refine sxk (h.p40_3 hk) (fun My1 y1 => ?_)
        refine pl_aload_n (pc := 92) dX2_reads_3_92 rfl rfl ?_
        refine pj_dup (pc := 93) dX2_reads_3_93 rfl ?_
        refine pj_getf (pc := 94) ckX2 2 q729 dX2_reads_3_94 (by decide) (y1.r1) rfl ?_
        refine pl_aload_n (pc := 97) dX2_reads_3_97 rfl rfl ?_
        refine pj_getfN (pc := 98) ckX13 0 q1544 dX2_reads_3_98 (by decide) (y1.r40 hk) rfl ?_
        refine pl_aload_n (pc := 101) dX2_reads_3_101 rfl rfl ?_
        refine pj_getfN (pc := 102) ckX13 0 q1544 dX2_reads_3_102 (by decide) (y1.r40 hk) rfl ?_
        refine pl_bipush (pc := 105) (v := 20) dX2_reads_3_105 (by rfl) ?_
        refine pj_imul (pc := 107) dX2_reads_3_107 ?_
        refine pl_bipush (pc := 108) (v := 100) dX2_reads_3_108 (by rfl) ?_
        refine pj_idiv (pc := 110) dX2_reads_3_110 (by decide) ?_
        refine pj_iadd (pc := 111) dX2_reads_3_111 ?_
        refine pl_aload_n (pc := 112) dX2_reads_3_112 rfl rfl ?_
        refine pj_getfN (pc := 113) ckX13 2 q1548 dX2_reads_3_113 (by decide) (y1.r40 hk) rfl ?_
        refine pj_iadd (pc := 116) dX2_reads_3_116 ?_
        refine pj_isub (pc := 117) dX2_reads_3_117 ?_
        refine pj_putf (pc := 118) ckX2 2 q729 dX2_reads_3_118 (by decide) rfl (y1.r1) rfl rfl (Nat.le_of_ble_eq_true rfl) ?_
        refine sxk (y1.p1_2) (fun My2 y2 => ?_)
        refine pj_vret (pc := 121) dX2_reads_3_121 rfl ?_
        exact ⟨rfl, came_tie y2 t hk (((t.due hk).2.1 c70).trans c84.symm) c70⟩
  · refine pl_aload_n (pc := 7) dX2_reads_3_7 rfl rfl ?_
    refine pj_getf (pc := 8) ckX2 0 q725 dX2_reads_3_8 (by decide) (h.r1) rfl ?_
    refine pl_aload_n (pc := 11) dX2_reads_3_11 rfl rfl ?_
    refine pj_getfN (pc := 12) ckX13 1 q1546 dX2_reads_3_12 (by decide) (h.r40 hk) rfl ?_
    refine pl_bipush (pc := 15) (v := 34) dX2_reads_3_15 (by rfl) ?_
    refine pj_iadd (pc := 17) dX2_reads_3_17 ?_
    refine pj_icmp_ne (pc := 18) (tgt := 65) dX2_reads_3_18 (by decide) (fun c18 => ?_) (fun c18 => ?_)
    · refine pl_aload_n (pc := 65) dX2_reads_3_65 rfl rfl ?_
      refine pj_getfN (pc := 66) ckX13 3 q1551 dX2_reads_3_66 (by decide) (h.r40 hk) rfl ?_
      refine pl_iconst (pc := 69) (v := 2) dX2_reads_3_69 (by rfl) ?_
      refine pj_icmp_ne (pc := 70) (tgt := 121) dX2_reads_3_70 (by decide) (fun c70 => ?_) (fun c70 => ?_)
      · refine pj_vret (pc := 121) dX2_reads_3_121 rfl ?_
        have du := t.due hk
        have e9 : s_reads σ k = σ := by
          refine bill_no ?_
          rcases du.2.2 with z | z | z | z
          · first | exact absurd z c4 | exact Or.inr (Or.inr (fun q => c18 (q.symm.trans (du.1 z))))
          · exact Or.inl z
          · first | exact absurd z c70 | exact Or.inr (Or.inr (fun q => c84 (q.symm.trans (du.2.1 z))))
          · exact Or.inr (Or.inl z)
        rw [e9]
        exact ⟨rfl, e, h, t⟩
      · exact absurd (c4.symm.trans c70) (by decide)
    · refine pl_aload_n (pc := 21) dX2_reads_3_21 rfl rfl ?_
      refine pl_aload_n (pc := 22) dX2_reads_3_22 rfl rfl ?_
      refine pj_getf (pc := 23) ckX2 7 q738 dX2_reads_3_23 (by decide) (h.r1) rfl ?_
      refine pl_aload_n (pc := 26) dX2_reads_3_26 rfl rfl ?_
      refine pj_getfN (pc := 27) ckX13 0 q1544 dX2_reads_3_27 (by decide) (h.r40 hk) rfl ?_
      refine pj_icmp_lt (pc := 30) (tgt := 37) dX2_reads_3_30 (by decide) (fun c30 => ?_) (fun c30 => ?_)
      · refine pl_iconst (pc := 37) (v := 2) dX2_reads_3_37 (by rfl) ?_
        refine pj_putfN (pc := 38) ckX13 3 q1551 dX2_reads_3_38 (by decide) rfl (h.r40 hk) rfl rfl (Nat.le_of_ble_eq_true rfl) ?_
        refine sxk (h.p40_3 hk) (fun My3 y3 => ?_)
        refine pl_aload_n (pc := 41) dX2_reads_3_41 rfl rfl ?_
        refine pj_getfN (pc := 42) ckX13 3 q1551 dX2_reads_3_42 (by decide) (y3.r40 hk) rfl ?_
        refine PJ.top (y := nI 2) rowS_eq ?_
        refine pl_iconst (pc := 45) (v := 1) dX2_reads_3_45 (by rfl) ?_
        refine pj_icmp_ne (pc := 46) (tgt := 121) dX2_reads_3_46 (by decide) (fun _ => ?_) (fun z => absurd z (by decide))
        refine pj_vret (pc := 121) dX2_reads_3_121 rfl ?_
        exact ⟨rfl, back_tie y3 t hk (((t.due hk).1 c4).trans c18.symm) c4 c30 c18⟩
      · refine pl_iconst (pc := 33) (v := 1) dX2_reads_3_33 (by rfl) ?_
        refine pj_goto (pc := 34) (tgt := 38) dX2_reads_3_34 (by decide) ?_
        refine pj_putfN (pc := 38) ckX13 3 q1551 dX2_reads_3_38 (by decide) rfl (h.r40 hk) rfl rfl (Nat.le_of_ble_eq_true rfl) ?_
        refine sxk (h.p40_3 hk) (fun My4 y4 => ?_)
        refine pl_aload_n (pc := 41) dX2_reads_3_41 rfl rfl ?_
        refine pj_getfN (pc := 42) ckX13 3 q1551 dX2_reads_3_42 (by decide) (y4.r40 hk) rfl ?_
        refine PJ.top (y := nI 1) rowS_eq ?_
        refine pl_iconst (pc := 45) (v := 1) dX2_reads_3_45 (by rfl) ?_
        refine pj_icmp_ne (pc := 46) (tgt := 121) dX2_reads_3_46 (by decide) (fun z => absurd rfl z) (fun _ => ?_)
        refine pl_aload_n (pc := 49) dX2_reads_3_49 rfl rfl ?_
        refine pj_dup (pc := 50) dX2_reads_3_50 rfl ?_
        refine pj_getf (pc := 51) ckX2 7 q738 dX2_reads_3_51 (by decide) (y4.r1) rfl ?_
        refine pl_aload_n (pc := 54) dX2_reads_3_54 rfl rfl ?_
        refine pj_getfN (pc := 55) ckX13 0 q1544 dX2_reads_3_55 (by decide) (y4.r40 hk) rfl ?_
        refine pj_isub (pc := 58) dX2_reads_3_58 ?_
        refine pj_putf (pc := 59) ckX2 7 q738 dX2_reads_3_59 (by decide) rfl (y4.r1) rfl rfl (Nat.le_of_ble_eq_true rfl) ?_
        refine sxk (y4.p1_7) (fun My5 y5 => ?_)
        refine pj_goto (pc := 62) (tgt := 121) dX2_reads_3_62 (by decide) ?_
        refine pj_vret (pc := 121) dX2_reads_3_121 rfl ?_
        exact ⟨rfl, paid_tie y5 t hk (((t.due hk).1 c4).trans c18.symm) c4 c30⟩
