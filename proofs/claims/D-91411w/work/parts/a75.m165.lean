set_option maxRecDepth 100000
section TX9
variable {w : Nat} {S : Nat → Nat → Nat} {σ : MS} {e : XE} {nw : Nat}
theorem TieX.cgL {τ : MS} (h : TieX w S σ e nw) (hz : SzX w S) (hr : ∀ j, j < 2132 → ¬ fr0 j → row τ j = row σ j) (h3 : τ.2.1 3 = σ.2.1 3) (h4 : τ.2.1 4 = σ.2.1 4) (h14 : ∀ j, j < 7 * nw → τ.2.1 14 j = σ.2.1 14 j) (h23 : τ.1 23 = σ.1 23) (h24 : τ.1 24 = σ.1 24) : TieX w S τ e nw := by
  obtain ⟨z1, z2, z3, z4, z5, -⟩ := hz
  have p1 : ∀ p, p < S 4 w → per τ p 1 = per σ p 1 := fun p hp => hr _ (by omega) (by unfold fr0; omega)
  have p2 : ∀ p, p < S 4 w → per τ p 2 = per σ p 2 := fun p hp => hr _ (by omega) (by unfold fr0; omega)
  have p3 : ∀ p, p < S 4 w → per τ p 3 = per σ p 3 := fun p hp => hr _ (by omega) (by unfold fr0; omega)
  have s0 : ∀ c, c < 96 → sec τ c 0 = sec σ c 0 := fun c hc => hr _ (by omega) (by unfold fr0; omega)
  have s1 : ∀ c, c < 96 → sec τ c 1 = sec σ c 1 := fun c hc => hr _ (by omega) (by unfold fr0; omega)
  have s3 : ∀ c, c < 96 → sec τ c 3 = sec σ c 3 := fun c hc => hr _ (by omega) (by unfold fr0; omega)
  have s4 : ∀ c, c < 96 → sec τ c 4 = sec σ c 4 := fun c hc => hr _ (by omega) (by unfold fr0; omega)
  have s5 : ∀ c, c < 96 → sec τ c 5 = sec σ c 5 := fun c hc => hr _ (by omega) (by unfold fr0; omega)
  have s2 : ∀ c, c < 96 → sec τ c 2 = sec σ c 2 := fun c hc => hr _ (by omega) (by unfold fr0; omega)
  have s7 : ∀ c, c < 96 → sec τ c 7 = sec σ c 7 := fun c hc => hr _ (by omega) (by unfold fr0; omega)
  have lw : ∀ l j, l < S 8 w → j < 6 → lawv τ l j = lawv σ l j := fun l j hl hj => hr _ (by omega) (by unfold fr0; omega)
  have bw : ∀ k j, k < S 10 w → j < 4 → row τ (1640 + 4 * k + j) = row σ (1640 + 4 * k + j) := fun k j hk hj => hr _ (by omega) (by unfold fr0; omega)
  have qw : ∀ a j, a < S 6 w → j < 15 → row τ (1720 + 15 * a + j) = row σ (1720 + 15 * a + j) := fun a j ha hj => hr _ (by omega) (by unfold fr0; omega)
  refine ⟨fun p hp => ?_, fun p hp => ?_, fun c hc => ?_, fun c hc => ?_, fun l hl => ?_, fun k hk => ?_, fun a ha j hj2 hj => ?_, fun p hp z => ?_, fun c hc => ⟨fun hf p hp z => ?_, (h.ps hc).cg (s0 c hc) (s3 c hc) (s4 c hc) (s5 c hc) h3⟩, fun l hl => ?_, fun hw k hk j hj => ?_, fun p hp => ?_, ?_, ?_, tGh_cg h (fun a ha => qw a 0 ha (by decide)) (fun k hk => bw k 0 hk (by decide)) (fun _ _ => rfl)⟩
  · rw [h.hands hp]
    exact congrArg nI (cnt_cg (fun o ho => by rw [p2 o ho, p3 o ho])).symm
  · rw [h.farms hp]
    exact congrArg nI (cnt_cg (fun c hc => by rw [s0 c hc, s1 c hc])).symm
  · rw [h.miles hc, s0 c hc, s7 c hc, h3, h4]
  · rw [h.ends hc, s0 c hc, s2 c hc]
  · rw [lw l 4 hl (by decide), lw l 5 hl (by decide)]
    exact h.said hl
  · have := h.due hk
    unfold DuX at this ⊢
    rw [bw k 2 hk (by decide), bw k 3 hk (by decide)]
    exact this
  · rw [qw a 2 ha (by decide)] at hj
    rw [h.queue ha hj2 hj]
    have := qw a (3 + j) ha (by omega)
    rw [← Nat.add_assoc] at this
    exact this.symm
  · rw [p2 p hp] at z
    rw [p3 p hp]
    exact h.boss hp z
  · rw [s0 c hc] at hf
    rw [s1 c hc] at z
    rw [p2 p hp]
    exact h.own hc hf hp z
  · have := h.hist hl
    unfold HiX at this ⊢
    rw [lw l 0 hl (by decide), lw l 3 hl (by decide)]
    refine ⟨this.1, this.2.1, this.2.2.1, this.2.2.2.1, this.2.2.2.2.1, fun k hk => ?_⟩
    rw [h14 _ (by omega)]
    exact this.2.2.2.2.2 k hk
  · rw [h14 _ (by omega)]
    exact h.rows hw hk hj
  · rw [p1 p hp]
    exact h.coins hp
  · rw [h23, h24]
    exact h.2.2.2.2.2.2.2.2.2.2.2.2.1
  · exact h.ivd.cg (fun c hc => ⟨s0 c hc, s7 c hc⟩) h3 h4 (fun a ha => qw a 0 ha (by decide))
end TX9
theorem back_ivT {σ τ : MS} {n nl nb q nor nw : Nat} {a c x y : Int32} (v : IvG σ n nl nb q nor nw) (fr : FrW nw (sF (sF (s_saves σ) 23 a) 24 c) τ) (hs : ∀ j, j < 2132 → (s_saves σ).2.1 2 j = row σ j) : IvG (s_back (sF (sF τ 23 x) 24 y)) n nl nb q nor nw := by
  have v2 : IvG (sF (sF (s_saves σ) 23 a) 24 c) n nl nb q nor nw := (saves_iv v).f0.f0
  exact back_iv v2 ((fr.F (j := 23) (Or.inr (Or.inl rfl))).F (j := 24) (Or.inr (Or.inr rfl))) (fun j hj => (congrFun (fr.2.1 2 (by decide) (by decide) (by decide)) j).trans (hs j hj))
theorem TieX.tr {w : Nat} {S : Nat → Nat → Nat} {σ : MS} {e : XE} {nw : Nat} {a c : Int32} (t : TieX w S σ e nw) (h1 : a ≤ 0 ∨ ∃ k, k ≤ 1000 ∧ a = nI k) (h2 : c = -1 ∨ ∃ k, k ≤ 100 ∧ c = nI k) : TieX w S (sF (sF σ 23 a) 24 c) e nw :=
  ⟨t.1, t.2.1, t.2.2.1, t.2.2.2.1, t.2.2.2.2.1, t.2.2.2.2.2.1, t.2.2.2.2.2.2.1, t.2.2.2.2.2.2.2.1, t.2.2.2.2.2.2.2.2.1, t.2.2.2.2.2.2.2.2.2.1, t.2.2.2.2.2.2.2.2.2.2.1, t.2.2.2.2.2.2.2.2.2.2.2.1, ⟨h1, h2⟩, t.ivd, t.gh⟩
/-- sizes: only the tries' lists are others -/
def SqP (S S1 : Nat → Nat → Nat) : Prop := ∀ x y, ¬ ((x = 4 ∨ x = 6 ∨ x = 8 ∨ x = 10 ∨ x = 63) ∧ y = 1) → S1 x y = S x y
theorem SqP.rf {S : Nat → Nat → Nat} : SqP S S := fun _ _ _ => rfl
theorem VX_s0 {S S1 : Nat → Nat → Nat} {b : XS} {σ : MS} {e : XE} (h : ∀ x, S1 x 0 = S x 0) : VX 0 S1 b σ e = VX 0 S b σ e := by
  have ec : ∀ k, cNX S1 k 0 = cNX S k 0 := fun k => by
    unfold cNX
    rw [h 4, h 6, h 8, h 10]
  have ei : iNX S1 0 = iNX S 0 := by
    funext k
    unfold iNX
    rw [ec]
  unfold VX
  rw [ei]
theorem TieX.s0 {S S1 : Nat → Nat → Nat} {σ : MS} {e : XE} {nw : Nat} (t : TieX 0 S σ e nw) (h : SqP S S1) : TieX 0 S1 σ e nw := by
  have h60 : S1 60 = S 60 := funext fun a => h 60 a (by omega)
  have h61 : S1 61 = S 61 := funext fun a => h 61 a (by omega)
  have h62 : S1 62 = S 62 := funext fun a => h 62 a (by omega)
  unfold TieX GhX at t ⊢
  rw [h 4 0 (by omega), h 6 0 (by omega), h 8 0 (by omega), h 10 0 (by omega), h60, h61, h62]
  exact t
theorem mapR_lt {j : Nat} (h : mapR j) : j < 2132 := by unfold mapR at h; omega
theorem back_row {τ : MS} {j : Nat} (h : j < 2132) : row (s_back τ) j = τ.2.1 2 j := by
  show cpyF (τ.2.1 2) (τ.2.1 1) 2132 j = _
  unfold cpyF
  exact if_pos h
theorem SX.r1b {g : GP} {P : Nat → Prop} {F : Mem} {A : XA} {w : Nat} {S : Nat → Nat → Nat} {b : XS} {σ : MS} {e : XE} {M : Mem} (h : SX g P F A w S b σ e M) {y : Nat} (hy : y < 2) : M (A 1 y 0) = some (woO A y (VX w S b σ e 1 y 0)) := by
  obtain ⟨τ, dn, fl, hR, -⟩ := h
  exact hR.gt (k := 1) (w := y) (i := 0) (LvX.one (by decide) (by simp [wNX]; omega))
theorem BsX.of {g : GP} {P : Nat → Prop} {F : Mem} {A : XA} {S S1 : Nat → Nat → Nat} {b1 b2 : XS} {τ : MS} {e2 : XE} {M : Mem} {nw : Nat} (h : SX g P F A 1 S1 b1 τ e2 M) (t : TieX 1 S1 τ e2 nw) (ss : SsP S S1) (hb : ∀ k i, b2.1 k 1 i = VX 1 S1 b1 τ e2 k 1 i) : BsX S1 b2 := by
  have hz := h.hz
  refine ⟨⟨by rw [ss.2.1, ss.1 4 0 (by omega)]; exact Nat.le_refl _, by rw [ss.2.2.1, ss.1 6 0 (by omega)]; exact Nat.le_refl _, by rw [ss.2.2.2.1, ss.1 8 0 (by omega)]; exact Nat.le_refl _, by rw [ss.2.2.2.2.1, ss.1 10 0 (by omega)]; exact Nat.le_refl _⟩, fun p hp => ?_, fun a ha => ?_, fun k hk => ?_⟩
  · rw [hb, V35_0 hz hp]
  · rw [hb, V36_0 hz ha]
    exact t.gh.1 a ha
  · rw [hb, V40_0 hz hk, V40_1 hz hk]
    exact t.gh.2 k hk
theorem CsT_le {S : Nat → Nat → Nat} (hz : SzX 0 S) : CsT S ≤ 288 ∧ NsT S ≤ 22988 := by
  obtain ⟨z1, z2, z3, z4, z5, -⟩ := hz
  unfold CsT NsT
  omega
theorem p_tried_ok {σ : MS} {n nl nb q nw j : Nat} {a c w : Int32} (h1 : ¬ a < 0) (h2 : ¬ nI 1000 < a) (h3 : ¬ c < -1) (h4 : ¬ nI 100 < c) (hj : 1 ≤ j ∧ j ≤ 104) (h5 : ¬ w < 0) (h6 : w ≤ nI 5) (h7 : row (s0 σ) 2116 + nI j ≤ nI 1000) : p_tried σ n nl nb q nw a c (nI j) w = (toldV (s_weeks n nl nb q nw j (sF (sF (s_saves (s0 σ)) 23 a) 24 c)) n w, s_back (sF (sF (s_weeks n nl nb q nw j (sF (sF (s_saves (s0 σ)) 23 a) 24 c)) 23 (nI 0)) 24 (-1))) := by
  unfold p_tried triedS
  rw [if_neg h1, if_neg h2, if_neg h3, if_neg h4, if_neg (fun z => by have := (nI_ltI (by omega) (by decide)).mp z; omega), if_neg (fun z => by have := (nI_ltI (by decide) (by omega)).mp z; omega), if_neg h5, if_neg (fun z => z h6), if_neg (fun z => z h7), tN_nI (by omega)]
theorem tried_iv {σ : MS} {n nl nb q nor nw : Nat} {a c k w : Int32} (v : IvG σ n nl nb q nor nw) : IvG (p_tried σ n nl nb q nw a c k w).2 n nl nb q nor nw := by
  have v0 := v.f0 (j := 0) (x := nI 0)
  unfold p_tried
  by_cases c1 : a < 0
  · rw [if_pos c1]; with_reducible exact v0.f0
  · rw [if_neg c1]
    by_cases c2 : nI 1000 < a
    · rw [if_pos c2]; with_reducible exact v0.f0
    · rw [if_neg c2]
      by_cases c3 : c < -1
      · rw [if_pos c3]; with_reducible exact v0.f0
      · rw [if_neg c3]
        by_cases c4 : nI 100 < c
        · rw [if_pos c4]; with_reducible exact v0.f0
        · rw [if_neg c4]
          by_cases c5 : k < nI 1
          · rw [if_pos c5]; with_reducible exact v0.f0
          · rw [if_neg c5]
            by_cases c6 : nI 104 < k
            · rw [if_pos c6]; with_reducible exact v0.f0
            · rw [if_neg c6]
              by_cases c7 : w < 0
              · rw [if_pos c7]; with_reducible exact v0.f0
              · rw [if_neg c7]
                by_cases c8 : ¬ w ≤ nI 5
                · rw [if_pos c8]; with_reducible exact v0.f0
                · rw [if_neg c8]
                  by_cases c9 : ¬ row (s0 σ) 2116 + k ≤ nI 1000
                  · rw [if_pos c9]; with_reducible exact v0.f0
                  · rw [if_neg c9]
                    have fw := frw_weeks n nl nb q nw (sF (sF (s_saves (s0 σ)) 23 a) 24 c) (tN k)
                    refine back_ivT v0 fw (fun j hj => saves_2 hj)
set_option maxHeartbeats 600000 in
theorem x_X1_tried {g : GP} {μ : Mem} {d : Nat} {P : Nat → Prop} {F : Mem} {A : XA} {S : Nat → Nat → Nat} {b : XS} {σ : MS} {nor nw : Nat} (s : SB g P F A 0 S b σ nw μ) (iv : IvG σ (S 4 0) (S 8 0) (S 10 0) (S 6 0) nor nw) (rs : RsX σ) (ak : AkX S σ nor) (bs : BsX S b) (hd : 348 ≤ d) {pr : Int32} {sh : Int32} {wk : Int32} {wh : Int32} : PM g yX1_tried (ws_ yX1_tried cX1_tried 7 (some .int)) d 10688 54188 [.ref (A 0 0 0), .int pr, .int sh, .int wk, .int wh] μ (CQ ["java/lang/IllegalArgumentException", "java/lang/IllegalStateException"] (p_tried σ (S 4 0) (S 8 0) (S 10 0) (S 6 0) nw pr sh wk wh) (fun τ M => ∃ A1 S1 b1, SqP S S1 ∧ BsX S1 b1 ∧ SB g P F A1 0 S1 b1 τ nw M)) := by
  refine PM.of (by decide +kernel) (Nat.le_of_ble_eq_true rfl) ?_
  refine PJ.ok (fun G => ?_)
  show PJ g _ _ _ _ d 10688 54188 0 [(0, .ref (A 0 0 0)), (1, .int pr), (2, .int sh), (3, .int wk), (4, .int wh)] [] _ _
  obtain ⟨ρ, hs0⟩ : ∃ ρ, ρ = sF σ 0 (nI 0) := ⟨_, rfl⟩
  have hs9 : s0 σ = ρ := hs0.symm
  have s1 := s.F0 (x := nI 0)
  rw [← hs0] at s1
  obtain ⟨e, h, t⟩ := s1
  have iv1 : IvG ρ (S 4 0) (S 8 0) (S 10 0) (S 6 0) nor nw := by rw [hs0]; exact iv.f0
  have rs1 : RsX ρ := by rw [hs0]; exact rs
  have h00 : ρ.1 0 = nI 0 := by rw [hs0]; rfl
  have hS4 := h.hz.2.1
  have hS6 := h.hz.2.2.1
  have hS8 := h.hz.2.2.2.1
  have hS10 := h.hz.2.2.2.2.1
  have ak1 : AkX S ρ nor := by rw [hs0]; exact ak.cg (fun _ _ _ => rfl)
  refine pl_iload_n (pc := 0) dX1_tried_0 rfl rfl ?_
  refine pj_if_lt (pc := 1) (tgt := 48) dX1_tried_1 (by decide) (fun c1 => ?_) (fun c1 => ?_)
  · refine pl_iconst (pc := 48) (v := 0) dX1_tried_48 (by rfl) ?_
    refine pl_callSX (pc := 49) (As := [_]) (C1 := 1) (N1 := 6) (C2 := 0) (N2 := 0) (E8 := "java/lang/IllegalArgumentException") mdX1_need q1262 q1263 q125 dX1_tried_49 rfl rfl (Nat.le_of_ble_eq_true rfl) (k_X1_need_no (d := d - 1) (by omega) rfl) (by omega) (by omega) (by omega) (fun q_49 M_49 hM_49 => ?_)
    refine px_out0 rfl ?_
    exact CQ.no 0 (v := nI 0) (τ := sF ρ 0 (nI 1)) (by rw [show sF ρ 0 (nI 1) = th σ 1 by rw [hs0]]; first | (simp only [p_tried, hs9, c1, ↓reduceIte]; first | done | rfl) | (simp [p_tried, hs9, c1, Int32.not_lt, Int32.not_le]; first | done | rfl)) rfl rfl (⟨A, S, b, SqP.rf, bs, SB.mono (SB.F0 ⟨_, h, t⟩) hM_49⟩)
  · refine pl_iload_n (pc := 4) dX1_tried_4 rfl rfl ?_
    refine pl_sipush (pc := 5) (v := 1000) dX1_tried_5 (by rfl) ?_
    refine pj_icmp_gt (pc := 8) (tgt := 48) dX1_tried_8 (by decide) (fun c8 => ?_) (fun c8 => ?_)
    · refine pl_iconst (pc := 48) (v := 0) dX1_tried_48 (by rfl) ?_
      refine pl_callSX (pc := 49) (As := [_]) (C1 := 1) (N1 := 6) (C2 := 0) (N2 := 0) (E8 := "java/lang/IllegalArgumentException") mdX1_need q1262 q1263 q125 dX1_tried_49 rfl rfl (Nat.le_of_ble_eq_true rfl) (k_X1_need_no (d := d - 1) (by omega) rfl) (by omega) (by omega) (by omega) (fun q_49 M_49 hM_49 => ?_)
      refine px_out0 rfl ?_
      exact CQ.no 0 (v := nI 0) (τ := sF ρ 0 (nI 1)) (by rw [show sF ρ 0 (nI 1) = th σ 1 by rw [hs0]]; first | (simp only [p_tried, hs9, c1, c8, ↓reduceIte]; first | done | rfl) | (simp [p_tried, hs9, c1, c8, Int32.not_lt, Int32.not_le]; first | done | rfl)) rfl rfl (⟨A, S, b, SqP.rf, bs, SB.mono (SB.F0 ⟨_, h, t⟩) hM_49⟩)
    · refine pl_iload_n (pc := 11) dX1_tried_11 rfl rfl ?_
      refine pj_iconst (pc := 12) (v := (-1)) dX1_tried_12 (by rfl) ?_
      refine pj_icmp_lt (pc := 13) (tgt := 48) dX1_tried_13 (by decide) (fun c13 => ?_) (fun c13 => ?_)
      · refine pl_iconst (pc := 48) (v := 0) dX1_tried_48 (by rfl) ?_
        refine pl_callSX (pc := 49) (As := [_]) (C1 := 1) (N1 := 6) (C2 := 0) (N2 := 0) (E8 := "java/lang/IllegalArgumentException") mdX1_need q1262 q1263 q125 dX1_tried_49 rfl rfl (Nat.le_of_ble_eq_true rfl) (k_X1_need_no (d := d - 1) (by omega) rfl) (by omega) (by omega) (by omega) (fun q_49 M_49 hM_49 => ?_)
        refine px_out0 rfl ?_
        exact CQ.no 0 (v := nI 0) (τ := sF ρ 0 (nI 1)) (by rw [show sF ρ 0 (nI 1) = th σ 1 by rw [hs0]]; first | (simp only [p_tried, hs9, c1, c8, c13, ↓reduceIte]; first | done | rfl) | (simp [p_tried, hs9, c1, c8, c13, Int32.not_lt, Int32.not_le]; first | done | rfl)) rfl rfl (⟨A, S, b, SqP.rf, bs, SB.mono (SB.F0 ⟨_, h, t⟩) hM_49⟩)
      · refine pl_iload_n (pc := 16) dX1_tried_16 rfl rfl ?_
        refine pl_bipush (pc := 17) (v := 100) dX1_tried_17 (by rfl) ?_
        refine pj_icmp_gt (pc := 19) (tgt := 48) dX1_tried_19 (by decide) (fun c19 => ?_) (fun c19 => ?_)
        · refine pl_iconst (pc := 48) (v := 0) dX1_tried_48 (by rfl) ?_
          refine pl_callSX (pc := 49) (As := [_]) (C1 := 1) (N1 := 6) (C2 := 0) (N2 := 0) (E8 := "java/lang/IllegalArgumentException") mdX1_need q1262 q1263 q125 dX1_tried_49 rfl rfl (Nat.le_of_ble_eq_true rfl) (k_X1_need_no (d := d - 1) (by omega) rfl) (by omega) (by omega) (by omega) (fun q_49 M_49 hM_49 => ?_)
          refine px_out0 rfl ?_
          exact CQ.no 0 (v := nI 0) (τ := sF ρ 0 (nI 1)) (by rw [show sF ρ 0 (nI 1) = th σ 1 by rw [hs0]]; first | (simp only [p_tried, hs9, c1, c8, c13, c19, ↓reduceIte]; first | done | rfl) | (simp [p_tried, hs9, c1, c8, c13, c19, Int32.not_lt, Int32.not_le]; first | done | rfl)) rfl rfl (⟨A, S, b, SqP.rf, bs, SB.mono (SB.F0 ⟨_, h, t⟩) hM_49⟩)
        · refine pl_iload_n (pc := 22) dX1_tried_22 rfl rfl ?_
          refine pl_iconst (pc := 23) (v := 1) dX1_tried_23 (by rfl) ?_
          refine pj_icmp_lt (pc := 24) (tgt := 48) dX1_tried_24 (by decide) (fun c24 => ?_) (fun c24 => ?_)
          · refine pl_iconst (pc := 48) (v := 0) dX1_tried_48 (by rfl) ?_
            refine pl_callSX (pc := 49) (As := [_]) (C1 := 1) (N1 := 6) (C2 := 0) (N2 := 0) (E8 := "java/lang/IllegalArgumentException") mdX1_need q1262 q1263 q125 dX1_tried_49 rfl rfl (Nat.le_of_ble_eq_true rfl) (k_X1_need_no (d := d - 1) (by omega) rfl) (by omega) (by omega) (by omega) (fun q_49 M_49 hM_49 => ?_)
            refine px_out0 rfl ?_
            exact CQ.no 0 (v := nI 0) (τ := sF ρ 0 (nI 1)) (by rw [show sF ρ 0 (nI 1) = th σ 1 by rw [hs0]]; first | (simp only [p_tried, hs9, c1, c8, c13, c19, c24, ↓reduceIte]; first | done | rfl) | (simp [p_tried, hs9, c1, c8, c13, c19, c24, Int32.not_lt, Int32.not_le]; first | done | rfl)) rfl rfl (⟨A, S, b, SqP.rf, bs, SB.mono (SB.F0 ⟨_, h, t⟩) hM_49⟩)
          · refine pl_iload_n (pc := 27) dX1_tried_27 rfl rfl ?_
            refine pl_bipush (pc := 28) (v := 104) dX1_tried_28 (by rfl) ?_
            refine pj_icmp_gt (pc := 30) (tgt := 48) dX1_tried_30 (by decide) (fun c30 => ?_) (fun c30 => ?_)
            · refine pl_iconst (pc := 48) (v := 0) dX1_tried_48 (by rfl) ?_
              refine pl_callSX (pc := 49) (As := [_]) (C1 := 1) (N1 := 6) (C2 := 0) (N2 := 0) (E8 := "java/lang/IllegalArgumentException") mdX1_need q1262 q1263 q125 dX1_tried_49 rfl rfl (Nat.le_of_ble_eq_true rfl) (k_X1_need_no (d := d - 1) (by omega) rfl) (by omega) (by omega) (by omega) (fun q_49 M_49 hM_49 => ?_)
              refine px_out0 rfl ?_
              exact CQ.no 0 (v := nI 0) (τ := sF ρ 0 (nI 1)) (by rw [show sF ρ 0 (nI 1) = th σ 1 by rw [hs0]]; first | (simp only [p_tried, hs9, c1, c8, c13, c19, c24, c30, ↓reduceIte]; first | done | rfl) | (simp [p_tried, hs9, c1, c8, c13, c19, c24, c30, Int32.not_lt, Int32.not_le]; first | done | rfl)) rfl rfl (⟨A, S, b, SqP.rf, bs, SB.mono (SB.F0 ⟨_, h, t⟩) hM_49⟩)
            · refine pl_iload (pc := 33) dX1_tried_33 rfl ?_
              refine pj_if_lt (pc := 35) (tgt := 48) dX1_tried_35 (by decide) (fun c35 => ?_) (fun c35 => ?_)
              · refine pl_iconst (pc := 48) (v := 0) dX1_tried_48 (by rfl) ?_
                refine pl_callSX (pc := 49) (As := [_]) (C1 := 1) (N1 := 6) (C2 := 0) (N2 := 0) (E8 := "java/lang/IllegalArgumentException") mdX1_need q1262 q1263 q125 dX1_tried_49 rfl rfl (Nat.le_of_ble_eq_true rfl) (k_X1_need_no (d := d - 1) (by omega) rfl) (by omega) (by omega) (by omega) (fun q_49 M_49 hM_49 => ?_)
                refine px_out0 rfl ?_
                exact CQ.no 0 (v := nI 0) (τ := sF ρ 0 (nI 1)) (by rw [show sF ρ 0 (nI 1) = th σ 1 by rw [hs0]]; first | (simp only [p_tried, hs9, c1, c8, c13, c19, c24, c30, c35, ↓reduceIte]; first | done | rfl) | (simp [p_tried, hs9, c1, c8, c13, c19, c24, c30, c35, Int32.not_lt, Int32.not_le]; first | done | rfl)) rfl rfl (⟨A, S, b, SqP.rf, bs, SB.mono (SB.F0 ⟨_, h, t⟩) hM_49⟩)
              · refine pl_iload (pc := 38) dX1_tried_38 rfl ?_
                refine pl_iconst (pc := 40) (v := 5) dX1_tried_40 (by rfl) ?_
                refine pj_icmp_gt (pc := 41) (tgt := 48) dX1_tried_41 (by decide) (fun c41 => ?_) (fun c41 => ?_)
                · refine pl_iconst (pc := 48) (v := 0) dX1_tried_48 (by rfl) ?_
                  refine pl_callSX (pc := 49) (As := [_]) (C1 := 1) (N1 := 6) (C2 := 0) (N2 := 0) (E8 := "java/lang/IllegalArgumentException") mdX1_need q1262 q1263 q125 dX1_tried_49 rfl rfl (Nat.le_of_ble_eq_true rfl) (k_X1_need_no (d := d - 1) (by omega) rfl) (by omega) (by omega) (by omega) (fun q_49 M_49 hM_49 => ?_)
                  refine px_out0 rfl ?_
                  exact CQ.no 0 (v := nI 0) (τ := sF ρ 0 (nI 1)) (by rw [show sF ρ 0 (nI 1) = th σ 1 by rw [hs0]]; first | (simp only [p_tried, hs9, c1, c8, c13, c19, c24, c30, c35, c41, ↓reduceIte]; first | done | rfl) | (simp [p_tried, hs9, c1, c8, c13, c19, c24, c30, c35, c41, Int32.not_lt, Int32.not_le]; first | done | rfl)) rfl rfl (⟨A, S, b, SqP.rf, bs, SB.mono (SB.F0 ⟨_, h, t⟩) hM_49⟩)
                · refine pl_iconst (pc := 44) (v := 1) dX1_tried_44 (by rfl) ?_
                  refine pj_goto (pc := 45) (tgt := 49) dX1_tried_45 (by decide) ?_
                  refine pl_callSv (pc := 49) (As := [_]) (C1 := 0) (N1 := 0) (C2 := 10688) (N2 := 54188) mdX1_need q1262 q1263 q125 dX1_tried_49 rfl rfl (Nat.le_of_ble_eq_true rfl) (k_X1_need_ok (d := d - 1) (by omega) (by decide)) (by omega) (by omega) (by omega) ?_
                  obtain ⟨j_wk, hj_wk, rfl⟩ := inN_of (x := wk) (n := 105) (by omega) (by simp only [inN, Bool.and_eq_true, decide_eq_true_eq]; exact ⟨Int32.le_of_lt (Int32.lt_of_lt_of_le (by decide) (Int32.not_lt.mp c24)), Int32.lt_of_le_of_lt (Int32.not_lt.mp c30) (by decide)⟩)
                  have g_wk := tN_nI (n := j_wk) (by omega)
                  have hwk1 : 1 ≤ j_wk := by
                    rcases Nat.eq_zero_or_pos j_wk with z9 | z9
                    · rw [z9] at c24
                      exact absurd (show nI 0 < nI 1 by decide) c24
                    · exact z9
                  refine pl_aload_n (pc := 52) dX1_tried_52 rfl rfl ?_
                  refine pj_getf (pc := 53) ckX1 0 q853 dX1_tried_53 (by decide) (h.r0) rfl ?_
                  refine pj_getfN (pc := 56) ckX2 0 q726 dX1_tried_56 (by decide) (h.r1) rfl ?_
                  refine pl_iload_n (pc := 59) dX1_tried_59 rfl rfl ?_
                  refine pj_iadd (pc := 60) dX1_tried_60 ?_
                  refine pl_sipush (pc := 61) (v := 1000) dX1_tried_61 (by rfl) ?_
                  refine pj_icmp_gt (pc := 64) (tgt := 71) dX1_tried_64 (by decide) (fun c64 => ?_) (fun c64 => ?_)
                  · refine pl_iconst (pc := 71) (v := 0) dX1_tried_71 (by rfl) ?_
                    refine pl_callSX (pc := 72) (As := [_]) (C1 := 1) (N1 := 6) (C2 := 0) (N2 := 0) (E8 := "java/lang/IllegalStateException") mdX1_right q2331 q2332 q125 dX1_tried_72 rfl rfl (Nat.le_of_ble_eq_true rfl) (k_X1_right_no (d := d - 1) (by omega) rfl) (by omega) (by omega) (by omega) (fun q_72 M_72 hM_72 => ?_)
                    refine px_out0 rfl ?_
                    exact CQ.no 1 (v := nI 0) (τ := sF ρ 0 (nI 2)) (by rw [show sF ρ 0 (nI 2) = th σ 2 by rw [hs0]]; first | (simp only [p_tried, hs9, c1, c8, c13, c19, c24, c30, c35, c41, g_wk, c64, ↓reduceIte]; first | done | rfl) | (simp [p_tried, hs9, c1, c8, c13, c19, c24, c30, c35, c41, g_wk, c64, Int32.not_lt, Int32.not_le]; first | done | rfl)) rfl rfl (⟨A, S, b, SqP.rf, bs, SB.mono (SB.F0 ⟨_, h, t⟩) hM_72⟩)
                  · refine pl_iconst (pc := 67) (v := 1) dX1_tried_67 (by rfl) ?_
                    refine pj_goto (pc := 68) (tgt := 72) dX1_tried_68 (by decide) ?_
                    refine pl_callSv (pc := 72) (As := [_]) (C1 := 0) (N1 := 0) (C2 := 10688) (N2 := 54188) mdX1_right q2331 q2332 q125 dX1_tried_72 rfl rfl (Nat.le_of_ble_eq_true rfl) (k_X1_right_ok (d := d - 1) (by omega) (by decide)) (by omega) (by omega) (by omega) ?_
                    have hNW := iv1.hNW
                    have hwk : nw + j_wk ≤ 1000 := by
                      have z9 : nI (nw + j_wk) ≤ nI 1000 := by rw [← nI_add, ← iv1.hnw]; exact Int32.not_lt.mp c64
                      exact (nI_leI (by omega) (by decide)).mp z9
                    have hcs := CsT_le h.hz
                    refine pl_aload_n (pc := 75) dX1_tried_75 rfl rfl ?_
                    refine pj_getf (pc := 76) ckX1 1 q854 dX1_tried_76 (by decide) (h.r0) rfl ?_
                    refine pl_aload_n (pc := 79) dX1_tried_79 rfl rfl ?_
                    refine pj_getf (pc := 80) ckX1 0 q853 dX1_tried_80 (by decide) (h.r0) rfl ?_
                    refine pl_callVWd (pc := 83) (As := [_]) (C1 := (CsT S)) (N1 := (NsT S)) (C2 := 10400) (N2 := 31200) ckX2 mdX2_set rfl q1473 q1474 q1475 q126 dX1_tried_83 rfl rfl (Nat.le_of_ble_eq_true rfl) (h.r1b (y := 1) (by decide)) (x_set1 (d := d - 1) (by omega) h t iv1 ak1 bs) (by omega) (by omega) (by omega) (fun My1 qy1 => ?_)
                    obtain ⟨A1, S1, b1, e1, eA, ss, hb1, y1, t1⟩ := qy1
                    rw [← eA.2.2]
                    refine pj_astore (pc := 86) (lv' := [(5, _), (0, _), (1, _), (2, _), (3, _), (4, _)]) dX1_tried_86 (by decide) rfl ?_
                    refine pl_aload (pc := 88) dX1_tried_88 rfl ?_
                    refine pl_iload_n (pc := 90) dX1_tried_90 rfl rfl ?_
                    refine pj_putfN (pc := 91) ckX2 9 q742 dX1_tried_91 (by decide) rfl (y1.r1) rfl rfl (Nat.le_of_ble_eq_true rfl) ?_
                    refine sxk (y1.p1_9) (fun My2 y2 => ?_)
                    refine pl_aload (pc := 94) dX1_tried_94 rfl ?_
                    refine pl_iload_n (pc := 96) dX1_tried_96 rfl rfl ?_
                    refine pj_putfN (pc := 97) ckX2 10 q744 dX1_tried_97 (by decide) rfl (y2.r1) rfl rfl (Nat.le_of_ble_eq_true rfl) ?_
                    refine sxk (y2.p1_10) (fun My3 y3 => ?_)
                    refine pl_iconst (pc := 100) (v := 0) dX1_tried_100 (by rfl) ?_
                    refine pj_istore (pc := 101) (lv' := [(6, _), (5, _), (0, _), (1, _), (2, _), (3, _), (4, _)]) dX1_tried_101 (by decide) rfl ?_
                    have gT : SX g P F A1 1 S1 b1 (sF (sF (s_saves ρ) 23 pr) 24 sh) e1 _ := SX.cg y3 (fun a9 h2 _ _ => if_neg h2) (fun x hx => by rcases hx with z | z | z | z | z | z | z | z <;> subst z <;> first | rfl | exact rs1.1) rfl rfl
                    have tT : TieX 1 S1 (sF (sF (s_saves ρ) 23 pr) 24 sh) e1 nw := (t1.tr (a := pr) (c := sh) (by
                        obtain ⟨m9, hm9, em9⟩ := inN_of (x := pr) (n := 1001) (by omega) (by simp only [inN, Bool.and_eq_true, decide_eq_true_eq]; exact ⟨Int32.not_lt.mp c1, Int32.lt_of_le_of_lt (Int32.not_lt.mp c8) (by decide)⟩)
                        exact Or.inr ⟨m9, by omega, em9⟩) (by
                        by_cases z : sh = -1
                        · exact Or.inl z
                        · obtain ⟨m9, hm9, em9⟩ := inN_of (x := sh) (n := 101) (by omega) (by simp only [inN, Bool.and_eq_true, decide_eq_true_eq]; exact ⟨ge0_of c13 z, Int32.lt_of_le_of_lt (Int32.not_lt.mp c19) (by decide)⟩)
                          exact Or.inr ⟨m9, by omega, em9⟩)).cg gT.hz (fun _ _ => rfl) rfl rfl (fun _ _ => rfl) rfl rfl
                    have ivT : IvG (sF (sF (s_saves ρ) 23 pr) 24 sh) (S1 4 1) (S1 8 1) (S1 10 1) (S1 6 1) nor nw := by rw [ss.2.1, ss.2.2.2.1, ss.2.2.2.2.1, ss.2.2.1]; exact ((saves_iv iv1).f0).f0
                    refine PJ.widen (C1 := 100 * (104 - 0)) (N1 := 300 * (104 - 0)) (by omega) (by omega) ?_
                    refine PJ.sub [0, 1, 6, 5] rfl ?_
                    refine ind_dn (n := j_wk) (P := fun i => ∀ M9 τ, τ = s_weeks (S1 4 1) (S1 8 1) (S1 10 1) (S1 6 1) nw i (sF (sF (s_saves ρ) 23 pr) 24 sh) → SB g P F A1 1 S1 b1 τ (nw + i) M9 → IvG τ (S1 4 1) (S1 8 1) (S1 10 1) (S1 6 1) nor (nw + i) → τ.1 = ((sF (sF (s_saves ρ) 23 pr) 24 sh)).1 → PJ g _ _ _ _ d (100 * (104 - i)) (300 * (104 - i)) 103 [(6, .int (nI i)), (5, .ref (A1 1 1 0)), (4, .int wh), (3, .int (nI j_wk))] [] M9 _) (fun i hi ih M9 τ hτ s9 iv9 f9 => ?_) 0 (Nat.zero_le _) _ (sF (sF (s_saves ρ) 23 pr) 24 sh) (by unfold s_weeks; rw [uq_0]) ⟨_, gT, tT⟩ ivT rfl
                    obtain ⟨e9, h9, t9⟩ := s9
                    have hS41 := h9.hz.2.1
                    refine pl_iload (pc := 103) dX1_tried_103 rfl ?_
                    refine pl_iload_n (pc := 105) dX1_tried_105 rfl rfl ?_
                    refine pl_icmp_ge (pc := 106) (tgt := 120) dX1_tried_106 (by decide) (by omega) (by omega) (fun c106 => ?_) (fun c106 => ?_)
                    · refine pl_aload (pc := 120) dX1_tried_120 rfl ?_
                      refine pl_iload (pc := 122) dX1_tried_122 rfl ?_
                      refine pl_callSd (pc := 124) (As := [_, _]) (C1 := 0) (N1 := 0) (C2 := (100 * (104 - i))) (N2 := (300 * (104 - i))) mdX1_told q2473 q2474 q125 dX1_tried_124 rfl rfl (Nat.le_of_ble_eq_true rfl) (x_X1_told (d := d - 1) (by omega) h9) (by omega) (by omega) (by omega) ?_
                      refine pj_iret (pc := 127) dX1_tried_127 rfl ?_
                      have ei : i = j_wk := by omega
                      subst ei
                      rw [ss.2.1, ss.2.2.2.1, ss.2.2.2.2.1, ss.2.2.1] at hτ
                      have fw := frw_weeks (S 4 0) (S 8 0) (S 10 0) (S 6 0) nw (sF (sF (s_saves ρ) 23 pr) 24 sh) i
                      rw [← hτ] at fw
                      have hS8e : S1 8 1 = S1 8 0 := by rw [ss.2.2.2.1, ss.1 8 0 (by omega)]
                      have e2 : τ.2.1 2 = (s_saves ρ).2.1 2 := fw.2.1 2 (by decide) (by decide) (by decide)
                      have er : ∀ j, j < 2132 → row (s_back (sF (sF τ 23 (nI 0)) 24 (-1))) j = row ρ j := fun j hj => (back_row hj).trans ((congrFun e2 j).trans (saves_2 hj))
                      have ea : ∀ a, a ≠ 1 → a ≠ 2 → a ≠ 13 → a ≠ 14 → ((s_back (sF (sF τ 23 (nI 0)) 24 (-1)))).2.1 a = ρ.2.1 a := fun a h1 h2 h3 h4 => (if_neg h1).trans ((fw.2.1 a h1 h3 h4).trans (if_neg h2))
                      obtain ⟨b2, hb2, g2⟩ := h9.toZero (b := b) (σ := ρ) (e := e) (ss.sz h.hz).2 hS8e (fun k i => by rw [hb1, VX_s0 (fun x => ss.1 x 0 (by omega))]) (fun a h1 h2 h3 h4 => (fw.2.1 a h1 h3 h4).trans (if_neg h2)) fw.2.2.1
                      have g3 := g2.cgR (σ1 := (s_back (sF (sF τ 23 (nI 0)) 24 (-1)))) (fun j hj => er j (mapR_lt hj)) ea (fun x hx => by rcases hx with z | z | z | z | z | z | z | z <;> subst z <;> first | exact rs1.2.1.symm | exact rs1.2.2.symm | exact congrFun f9 9 | exact congrFun f9 13 | exact congrFun f9 29 | exact congrFun f9 28 | exact congrFun f9 31 | exact congrFun f9 7) fw.2.2.1
                      have t3 : TieX 0 S1 (s_back (sF (sF τ 23 (nI 0)) 24 (-1))) e nw := (t.s0 ss.1).cgL (ss.sz h.hz).2 (fun j hj _ => er j hj) (ea 3 (by decide) (by decide) (by decide) (by decide)) (ea 4 (by decide) (by decide) (by decide) (by decide)) (fun j hj => fw.2.2.2 j hj) rs1.2.1.symm rs1.2.2.symm
                      refine CQ.ok (τ := (s_back (sF (sF τ 23 (nI 0)) 24 (-1)))) (by rw [p_tried_ok c1 c8 c13 c19 ⟨hwk1, by omega⟩ c35 (Int32.not_lt.mp c41) (by rw [hs9]; exact Int32.not_lt.mp c64), hs9, ← hτ, ss.2.1]) ((congrFun f9 0).trans h00) ⟨A1, S1, b2, ss.1, BsX.of h9 t9 ss hb2, _, g3, t3⟩
                    · refine pl_aload (pc := 109) dX1_tried_109 rfl ?_
                      refine pl_callVWv (pc := 111) (As := []) (C1 := (S1 4 1)) (N1 := (3 * S1 4 1)) (C2 := (100 * (104 - (i + 1)))) (N2 := (300 * (104 - (i + 1)))) ckX2 mdX2_passes rfl q2349 q2350 q2351 q126 dX1_tried_111 rfl rfl (Nat.le_of_ble_eq_true rfl) (h9.r1) (x_X2_passes (d := d - 1) (by omega) ⟨_, h9, t9⟩ iv9 (by omega) (Or.inl (by rw [f9]; exact rs1.1))) (by omega) (by omega) (by omega) (fun My4 qy4 => ?_)
                      refine pl_iinc1 (pc := 114) (lv' := [(6, _), (5, _), (4, _), (3, _)]) dX1_tried_114 rfl rfl (by decide) rfl ?_
                      refine pj_goto (pc := 117) (tgt := 103) dX1_tried_117 (by decide) ?_
                      exact ih (by omega) _ _ (by unfold s_weeks; rw [uq_s]; show _ = s_goes _ _ _ _ _ (s_weeks _ _ _ _ _ i _); rw [← hτ]) qy4 (goes_iv iv9 (by omega)) (goes_1.trans f9)
