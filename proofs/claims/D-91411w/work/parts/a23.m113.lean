set_option maxRecDepth 100000
/-- a law is in force now: it was, at the end of the week -/
theorem was_now {σ : MS} {e : XE} {nw l : Nat} (h : HiX σ e nw l) (hn : nw < 1000) : isForceV (lawv σ l 0) = true ↔ WasB (e 4 l) (e 5 l) (nI nw) = true := by
  obtain ⟨c1, c2, c3, c4, c5, -⟩ := h
  rcases c1 with s | s | s | s | s
  · have e4 := c2 (Or.inl s)
    rw [s, e4]
    exact ⟨fun z => absurd z (by decide), fun z => by simp [WasB] at z⟩
  · have e4 := c2 (Or.inr s)
    rw [s, e4]
    exact ⟨fun z => absurd z (by decide), fun z => by simp [WasB] at z⟩
  · obtain ⟨e4, f, hf, ef⟩ := c3 (Or.inl s)
    have e5 := c4 (by rw [s]; decide)
    have q1 : ¬ nI f = -1 := fun z => nI_m1 (by omega) z.symm
    have q2 : ¬ nI nw < nI f := fun z => by have := (nI_ltI (by omega) (by omega)).mp z; omega
    rw [s, e4, ef, e5]
    exact ⟨fun _ => by simp [WasB, q1, q2], fun _ => by decide⟩
  · obtain ⟨e4, f, hf, ef⟩ := c3 (Or.inr (Or.inl s))
    have e5 := c4 (by rw [s]; decide)
    have q1 : ¬ nI f = -1 := fun z => nI_m1 (by omega) z.symm
    have q2 : ¬ nI nw < nI f := fun z => by have := (nI_ltI (by omega) (by omega)).mp z; omega
    rw [s, e4, ef, e5]
    exact ⟨fun _ => by simp [WasB, q1, q2], fun _ => by decide⟩
  · obtain ⟨u, hu, eu⟩ := c5 s
    have q1 : ¬ nI u = -1 := fun z => nI_m1 (by omega) z.symm
    have q2 : nI u ≤ nI nw := (nI_leI (by omega) (by omega)).mpr hu
    rw [s, eu]
    exact ⟨fun z => absurd z (by decide), fun z => by simp [WasB, q1, q2] at z⟩
section TK
variable {w : Nat} {S : Nat → Nat → Nat} {σ : MS} {e e1 : XE} {nw nor : Nat}
/-- a week is over -/
theorem tie_tick (t : TieX w S σ e nw) (hz : SzX w S) (hn : nw < 1000) (ho : ∀ a, a ≠ 7 → e1 a = e a) (h7 : w = 0 → ∀ k, k < nw + 1 → ∀ j, j < 6 → e1 7 (6 * k + j) = (t171 (S 4 w) (S 8 w) nw σ).2.1 14 (7 * k + j)) : TieX w S (t171 (S 4 w) (S 8 w) nw σ) e1 (nw + 1) := by
  have z1 := hz.2.1
  have z6 := hz.2.2.1
  have z8 := hz.2.2.2.1
  have z10 := hz.2.2.2.2.1
  have hr : ∀ j, j ≠ 2116 → row (t171 (S 4 w) (S 8 w) nw σ) j = row σ j := fun j hj => (rowS_ne hj).trans (congrFun (rowsW_k (by decide)) j)
  have hk : ∀ k, k ≠ 1 → k ≠ 14 → (t171 (S 4 w) (S 8 w) nw σ).2.1 k = σ.2.1 k := fun k h1 h2 => (show (sR _ _ _).2.1 k = (rowsW (S 4 w) (S 8 w) nw σ).2.1 k by simp [sA, h1]).trans (rowsW_k h2)
  have h14 : ∀ j, (t171 (S 4 w) (S 8 w) nw σ).2.1 14 j = (rowsW (S 4 w) (S 8 w) nw σ).2.1 14 j := fun j => by simp [t171, sA]
  obtain ⟨τ, hτ⟩ : ∃ τ9, τ9 = t171 (S 4 w) (S 8 w) nw σ := ⟨_, rfl⟩
  have e23 : τ.1 23 = σ.1 23 := by rw [hτ]; rfl
  have e24 : τ.1 24 = σ.1 24 := by rw [hτ]; rfl
  rw [← hτ] at hr hk h14 h7 ⊢
  have s0 : ∀ j c, c < 96 → j < 8 → sec τ c j = sec σ c j := fun j c hc hj => hr _ (by omega)
  have hq : ∀ j a, a < S 4 w → j < 8 → per τ a j = per σ a j := fun j a ha hj => hr _ (by omega)
  have lw : ∀ l j, l < S 8 w → j < 6 → lawv τ l j = lawv σ l j := fun l j hl hj => hr _ (by omega)
  have bw : ∀ k j, k < S 10 w → j < 4 → row τ (1640 + 4 * k + j) = row σ (1640 + 4 * k + j) := fun k j hk hj => hr _ (by omega)
  have qw : ∀ a j, a < S 6 w → j < 15 → row τ (1720 + 15 * a + j) = row σ (1720 + 15 * a + j) := fun a j ha hj => hr _ (by omega)
  have a3 := hk 3 (by decide) (by decide)
  have a4 := hk 4 (by decide) (by decide)
  refine ⟨tHa_cg t (fun a ha => hq 2 a ha (by decide)) (fun a ha => hq 3 a ha (by decide)) (fun _ _ => by rw [ho 0 (by decide)]), tFa_cg t (fun c hc => s0 0 c hc (by decide)) (fun c hc => s0 1 c hc (by decide)) (fun _ _ => by rw [ho 1 (by decide)]), tMi_cg t (fun c hc => s0 0 c hc (by decide)) (fun c hc => s0 7 c hc (by decide)) a3 a4 (fun _ _ => by rw [ho 2 (by decide)]), tEn_cg t (fun c hc => s0 0 c hc (by decide)) (fun c hc => s0 2 c hc (by decide)) (fun _ _ => by rw [ho 3 (by decide)]), tSa_cg t (fun l hl => lw l 4 hl (by decide)) (fun l hl => lw l 5 hl (by decide)) (fun _ _ => by rw [ho 6 (by decide)]) (fun _ _ => by rw [ho 15 (by decide)]), tDu_cg t (fun k hk => bw k 2 hk (by decide)) (fun k hk => bw k 3 hk (by decide)) (fun _ _ => by rw [ho 16 (by decide)]), tQu_cg t qw (fun a _ _ _ => by rw [ho (10 + a) (by omega)]), tBo_cg t (fun a ha => hq 2 a ha (by decide)) (fun a ha => hq 3 a ha (by decide)), tOw_cg t (fun c hc => s0 0 c hc (by decide)) (fun c hc => s0 1 c hc (by decide)) (fun p hp z => (hq 2 p hp (by decide)).trans z) (fun c hc => s0 3 c hc (by decide)) (fun c hc => s0 4 c hc (by decide)) (fun c hc => s0 5 c hc (by decide)) a3, fun l hl => ?_, h7, tCo_cg t (fun a ha => hq 1 a ha (by decide)), tTr_cg t e23 e24, ?_, tGh_cg t (fun a ha => qw a 0 ha (by decide)) (fun k hk => bw k 0 hk (by decide)) (fun _ _ => by rw [ho 16 (by decide)])⟩
  · have hh := t.hist hl
    have wn := was_now hh hn
    obtain ⟨c1, c2, c3, c4, c5, c6⟩ := hh
    unfold HiX
    rw [lw l 0 hl (by decide), lw l 3 hl (by decide), ho 4 (by decide), ho 5 (by decide)]
    refine ⟨c1, c2, fun z => ?_, c4, fun z => ?_, fun k hk => ?_⟩
    · obtain ⟨x1, f, x2, x3⟩ := c3 z
      exact ⟨x1, f, by omega, x3⟩
    · obtain ⟨u, x2, x3⟩ := c5 z
      exact ⟨u, by omega, x3⟩
    · rw [h14, rowsW_14]
      by_cases hkn : k = nw
      · subst hkn
        rw [if_pos rfl, force_bit σ (S 8 w) (by omega) l (by omega), ← wn]
        exact ⟨fun z => z.2, fun z => ⟨hl, z⟩⟩
      · rw [if_neg (by omega), if_neg (by omega), if_neg (by omega), if_neg (by omega), if_neg (by omega), if_neg (by omega), if_neg (by omega)]
        exact c6 k (by omega)
  · exact t.ivd.cg (fun c hc => ⟨s0 0 c hc (by decide), s0 7 c hc (by decide)⟩) a3 a4 (fun a ha => qw a 0 ha (by decide))
end TK
/-- the class's row of a week -/
def wrE (σ : MS) (e : XE) (n nw : Nat) : XE := uE (uE (uE (uE (uE (uE e 7 (6 * nw) (nI (hereC σ n))) 7 (6 * nw + 1) (nI (farmsC σ 96))) 7 (6 * nw + 2) (row σ 2117)) 7 (6 * nw + 3) (row σ 2118)) 7 (6 * nw + 4) (row σ 2122)) 7 (6 * nw + 5) (row σ 2119)
theorem wrE_ne {σ : MS} {e : XE} {n nw a : Nat} (h : a ≠ 7) : wrE σ e n nw a = e a := by
  funext x
  unfold wrE
  rw [uE_ne (fun z => h z.1), uE_ne (fun z => h z.1), uE_ne (fun z => h z.1), uE_ne (fun z => h z.1), uE_ne (fun z => h z.1), uE_ne (fun z => h z.1)]
theorem wrE_7 {w : Nat} {S : Nat → Nat → Nat} {σ : MS} {e : XE} {nw nl : Nat} (t : TieX w S σ e nw) (hw : w = 0) : ∀ k, k < nw + 1 → ∀ j, j < 6 → wrE σ e (S 4 w) nw 7 (6 * k + j) = (t171 (S 4 w) nl nw σ).2.1 14 (7 * k + j) := fun k hk j hj => by
  rw [show (t171 (S 4 w) nl nw σ).2.1 14 (7 * k + j) = (rowsW (S 4 w) nl nw σ).2.1 14 (7 * k + j) by simp [t171, sA], rowsW_14]
  unfold wrE
  by_cases hkn : k = nw
  · subst hkn
    rcases (by omega : j = 0 ∨ j = 1 ∨ j = 2 ∨ j = 3 ∨ j = 4 ∨ j = 5) with rfl | rfl | rfl | rfl | rfl | rfl <;> simp (disch := omega) [uE_if]
  · rw [if_neg (by omega), if_neg (by omega), if_neg (by omega), if_neg (by omega), if_neg (by omega), if_neg (by omega), if_neg (by omega), uE_ne (by omega), uE_ne (by omega), uE_ne (by omega), uE_ne (by omega), uE_ne (by omega), uE_ne (by omega)]
    exact t.rows hw (by omega) hj
set_option maxHeartbeats 600000 in
theorem x_X2_writes {g : GP} {μ : Mem} {d : Nat} {P : Nat → Prop} {F : Mem} {A : XA} {S : Nat → Nat → Nat} {b : XS} {σ : MS} {e : XE}(hd : 6 ≤ d) (h : SX g P F A 0 S b σ e μ) {nw : Nat} (hn : row σ 2116 = nI nw) (hw : nw ≤ 1000) : PM g yX2_writes (ws_ yX2_writes cX2_writes 2 none) d 0 0 [.ref (A 1 0 0)] μ (WQ none (SX g P F A 0 S b σ (wrE σ e (S 4 0) nw))) := by
  refine PM.of (by decide +kernel) (Nat.le_of_ble_eq_true rfl) ?_
  refine PJ.ok (fun G => ?_)
  show PJ g _ _ _ _ d 0 0 0 [(0, .ref (A 1 0 0))] [] _ _
  refine pl_bipush (pc := 0) (v := 6) dX2_writes_0 (by rfl) ?_
  refine pl_aload_n (pc := 2) dX2_writes_2 rfl rfl ?_
  refine pj_getf (pc := 3) ckX2 0 q725 dX2_writes_3 (by decide) (h.r1) rfl ?_
  refine PJ.top (y := nI nw) hn ?_
  refine pl_imul (pc := 6) dX2_writes_6 ?_
  refine pj_istore_n (pc := 7) (lv' := [(1, _), (0, _)]) dX2_writes_7 rfl (by decide) rfl ?_
  refine pl_aload_n (pc := 8) dX2_writes_8 rfl rfl ?_
  refine pj_getf (pc := 9) ckX2 31 q781 dX2_writes_9 (by decide) (h.r1) rfl ?_
  refine pl_iload_n (pc := 12) dX2_writes_12 rfl rfl ?_
  refine pl_aload_n (pc := 13) dX2_writes_13 rfl rfl ?_
  refine pl_callVd (pc := 14) (As := []) (C1 := 0) (N1 := 0) (C2 := 0) (N2 := 0) ckX2 mdX2_here rfl q1720 q1187 q1188 q126 dX2_writes_14 rfl rfl (Nat.le_of_ble_eq_true rfl) (h.r1) (x_X2_here (d := d - 1) (by omega) h) (by omega) (by omega) (by omega) ?_
  refine pl_iast (pc := 17) (n := 6006) dX2_writes_17 (h.r33) (by omega) (by decide) ?_
  refine sxk (h.p33 (by omega)) (fun My1 y1 => ?_)
  refine pl_aload_n (pc := 18) dX2_writes_18 rfl rfl ?_
  refine pj_getf (pc := 19) ckX2 31 q781 dX2_writes_19 (by decide) (y1.r1) rfl ?_
  refine pl_iload_n (pc := 22) dX2_writes_22 rfl rfl ?_
  refine pl_iconst (pc := 23) (v := 1) dX2_writes_23 (by rfl) ?_
  refine pl_iadd (pc := 24) dX2_writes_24 ?_
  refine pl_aload_n (pc := 25) dX2_writes_25 rfl rfl ?_
  refine pl_callVd (pc := 26) (As := []) (C1 := 0) (N1 := 0) (C2 := 0) (N2 := 0) ckX2 mdX2_farms rfl q1719 q1196 q1197 q126 dX2_writes_26 rfl rfl (Nat.le_of_ble_eq_true rfl) (y1.r1) (x_X2_farms (d := d - 1) (by omega) y1) (by omega) (by omega) (by omega) ?_
  refine pl_iast (pc := 29) (n := 6006) dX2_writes_29 (y1.r33) (by omega) (by decide) ?_
  refine sxk (y1.p33 (by omega)) (fun My2 y2 => ?_)
  refine pl_aload_n (pc := 30) dX2_writes_30 rfl rfl ?_
  refine pj_getf (pc := 31) ckX2 31 q781 dX2_writes_31 (by decide) (y2.r1) rfl ?_
  refine pl_iload_n (pc := 34) dX2_writes_34 rfl rfl ?_
  refine pl_iconst (pc := 35) (v := 2) dX2_writes_35 (by rfl) ?_
  refine pl_iadd (pc := 36) dX2_writes_36 ?_
  refine pl_aload_n (pc := 37) dX2_writes_37 rfl rfl ?_
  refine pj_getf (pc := 38) ckX2 1 q727 dX2_writes_38 (by decide) (y2.r1) rfl ?_
  refine pl_iast (pc := 41) (n := 6006) dX2_writes_41 (y2.r33) (by omega) (by decide) ?_
  refine sxk (y2.p33 (by omega)) (fun My3 y3 => ?_)
  refine pl_aload_n (pc := 42) dX2_writes_42 rfl rfl ?_
  refine pj_getf (pc := 43) ckX2 31 q781 dX2_writes_43 (by decide) (y3.r1) rfl ?_
  refine pl_iload_n (pc := 46) dX2_writes_46 rfl rfl ?_
  refine pl_iconst (pc := 47) (v := 3) dX2_writes_47 (by rfl) ?_
  refine pl_iadd (pc := 48) dX2_writes_48 ?_
  refine pl_aload_n (pc := 49) dX2_writes_49 rfl rfl ?_
  refine pj_getf (pc := 50) ckX2 2 q729 dX2_writes_50 (by decide) (y3.r1) rfl ?_
  refine pl_iast (pc := 53) (n := 6006) dX2_writes_53 (y3.r33) (by omega) (by decide) ?_
  refine sxk (y3.p33 (by omega)) (fun My4 y4 => ?_)
  refine pl_aload_n (pc := 54) dX2_writes_54 rfl rfl ?_
  refine pj_getf (pc := 55) ckX2 31 q781 dX2_writes_55 (by decide) (y4.r1) rfl ?_
  refine pl_iload_n (pc := 58) dX2_writes_58 rfl rfl ?_
  refine pl_iconst (pc := 59) (v := 4) dX2_writes_59 (by rfl) ?_
  refine pl_iadd (pc := 60) dX2_writes_60 ?_
  refine pl_aload_n (pc := 61) dX2_writes_61 rfl rfl ?_
  refine pj_getf (pc := 62) ckX2 6 q736 dX2_writes_62 (by decide) (y4.r1) rfl ?_
  refine pl_iast (pc := 65) (n := 6006) dX2_writes_65 (y4.r33) (by omega) (by decide) ?_
  refine sxk (y4.p33 (by omega)) (fun My5 y5 => ?_)
  refine pl_aload_n (pc := 66) dX2_writes_66 rfl rfl ?_
  refine pj_getf (pc := 67) ckX2 31 q781 dX2_writes_67 (by decide) (y5.r1) rfl ?_
  refine pl_iload_n (pc := 70) dX2_writes_70 rfl rfl ?_
  refine pl_iconst (pc := 71) (v := 5) dX2_writes_71 (by rfl) ?_
  refine pl_iadd (pc := 72) dX2_writes_72 ?_
  refine pl_aload_n (pc := 73) dX2_writes_73 rfl rfl ?_
  refine pj_getf (pc := 74) ckX2 3 q731 dX2_writes_74 (by decide) (y5.r1) rfl ?_
  refine pl_iast (pc := 77) (n := 6006) dX2_writes_77 (y5.r33) (by omega) (by decide) ?_
  refine sxk (y5.p33 (by omega)) (fun My6 y6 => ?_)
  refine pj_vret (pc := 78) dX2_writes_78 rfl ?_
  exact ⟨rfl, y6⟩
theorem x_X2_writesW {g : GP} {μ : Mem} {d : Nat} {P : Nat → Prop} {F : Mem} {A : XA} {w : Nat} {S : Nat → Nat → Nat} {b : XS} {σ : MS} {e : XE} (hd : 6 ≤ d) (h : SX g P F A w S b σ e μ) (h0 : w = 0) {nw : Nat} (hn : row σ 2116 = nI nw) (hw : nw ≤ 1000) : PM g yX2_writes (ws_ yX2_writes cX2_writes 2 none) d 0 0 [.ref (A 1 w 0)] μ (WQ none (SX g P F A w S b σ (wrE σ e (S 4 w) nw))) := by
  subst h0
  exact x_X2_writes hd h hn hw
theorem tick_tie {g : GP} {P : Nat → Prop} {F : Mem} {A : XA} {w : Nat} {S : Nat → Nat → Nat} {b : XS} {σ : MS} {e e1 : XE} {M : Mem} {nw : Nat} (h : SX g P F A w S b (sR σ 2116 (row σ 2116 + nI 1)) e1 M) (t : TieX w S σ e nw) (hn : nw < 1000) (ho : ∀ a, a ≠ 7 → e1 a = e a) (h7 : w = 0 → ∀ k, k < nw + 1 → ∀ j, j < 6 → e1 7 (6 * k + j) = (t171 (S 4 w) (S 8 w) nw σ).2.1 14 (7 * k + j)) : SB g P F A w S b (t171 (S 4 w) (S 8 w) nw σ) (nw + 1) M := by
  have hr : ∀ j, row (t171 (S 4 w) (S 8 w) nw σ) j = row (sR σ 2116 (row σ 2116 + nI 1)) j := fun j => by
    show row (sR (rowsW (S 4 w) (S 8 w) nw σ) 2116 (row σ 2116 + nI 1)) j = _
    rw [rowS_if, rowS_if, show row (rowsW (S 4 w) (S 8 w) nw σ) j = row σ j from congrFun (rowsW_k (by decide)) j]
  refine ⟨e1, h.cgR (fun j _ => hr j) (fun a a1 a2 a13 a14 => ?_) (fun _ _ => rfl) rfl, tie_tick t h.hz hn ho h7⟩
  show (sR (rowsW (S 4 w) (S 8 w) nw σ) 2116 (row σ 2116 + nI 1)).2.1 a = _
  rw [wA_k a1, rowsW_k a14, wA_k a1]
/-- a lease is over -/
theorem end_tie {g : GP} {P : Nat → Prop} {F : Mem} {A : XA} {w : Nat} {S : Nat → Nat → Nat} {b : XS} {σ : MS} {e : XE} {M : Mem} {nw c : Nat} (y : SX g P F A w S b (putsS σ c (nI 1) (-1) (-1) (-1)) (putsE e c (nI 0)) M) (t : TieX w S σ e nw) (hc : c < 96) (hf : isFarmV (sec σ c 0) = false) : SB g P F A w S b (s_holds σ c (nI 1) (-1)) nw M := by
  have on : OnR σ (s_holds σ c (nI 1) (-1)) := OnR.holds
  have k0 : ∀ j, j < 7 → sec (s_holds σ c (nI 1) (-1)) c j = if j = 0 then nI 1 else if j = 1 then -1 else if j = 5 then -1 else if j = 6 then -1 else nI 0 := fun j hj => holds_sec hj
  refine ⟨putsE e c (nI 0), puts_holds hc y, tie_put t y.hz hc hf (by rw [k0 0 (by decide)]; decide) (by rw [k0 0 (by decide)]; decide) (fun j _ hj => holds_row (by omega)) ?_ (on.1 3 (by decide) (by decide) (by decide) (by decide)) (on.1 4 (by decide) (by decide) (by decide) (by decide)) on.2.2.2 (on.2.1 23) (on.2.1 24) (fun q hq => ?_) (fun q hq => ?_) (fun a a2 a3 => ?_)⟩
  · unfold PsX
    rw [k0 0 (by decide), k0 3 (by decide), k0 4 (by decide), k0 5 (by decide), on.1 3 (by decide) (by decide) (by decide) (by decide)]
    exact ⟨fun z => absurd z (by decide), ⟨0, by decide, rfl, fun _ => rfl⟩, (t.ps hc).2.2.1, Or.inl rfl⟩
  · by_cases eq : q = c
    · subst eq; simp [uE_if, putsE]; first | done | exact fun z => absurd z (by decide)
    · simp [uE_if, putsE, eq]
  · rw [k0 0 (by decide)]
    by_cases eq : q = c
    · subst eq; simp [uE_if, putsE]; first | done | exact fun z => absurd z (by decide)
    · simp [uE_if, putsE, eq]
  · simp [uE, putsE, a2, a3]
theorem end1_no {σ : MS} {c : Nat} (h : ¬ sec σ c 0 = nI 4 ∨ ¬ sec σ c 2 = row σ 2116) : end1 c σ = σ := by
  unfold end1
  by_cases h4 : sec σ c 0 = nI 4
  · rw [if_neg (fun z => z h4)]
    rcases h with h | h
    · exact absurd h4 h
    · exact if_pos h
  · exact if_pos h4
theorem end1_yes {σ : MS} {c : Nat} (h : sec σ c 0 = nI 4) (h2 : sec σ c 2 = row σ 2116) : end1 c σ = s_holds σ c (nI 1) (-1) := by
  unfold end1
  rw [if_neg (fun z => z h), if_neg (fun z => z h2)]
theorem rainz_t {σ : MS} {z nw : Nat} (h : ¬ σ.1 7 < 0) : rainz nw z σ = sR σ (2104 + z) (row σ (2104 + z) + σ.1 7) := by
  unfold rainz fallV
  rw [if_pos h]
theorem rainz_f {σ : MS} {z nw : Nat} (h : σ.1 7 = -1) : rainz nw z σ = sR σ (2104 + z) (row σ (2104 + z) + fallC σ z nw) := by
  unfold rainz fallV fallC
  rw [if_neg (fun z => z (by rw [h]; decide))]
set_option maxHeartbeats 600000 in
theorem x_X2_passes {g : GP} {μ : Mem} {d : Nat} {P : Nat → Prop} {F : Mem} {A : XA} {w : Nat} {S : Nat → Nat → Nat} {b : XS} {σ : MS} {nor nw : Nat} (hd : 346 ≤ d) (s : SB g P F A w S b σ nw μ) (iv : IvG σ (S 4 w) (S 8 w) (S 10 w) (S 6 w) nor nw) (hnw : nw < 1000) (h7 : σ.1 7 = -1 ∨ ¬ σ.1 7 < 0) : PM g yX2_passes (ws_ yX2_passes cX2_passes 2 none) d (S 4 w) (3 * S 4 w) [.ref (A 1 w 0)] μ (WQ none (SB g P F A w S b (s_goes (S 4 w) (S 8 w) (S 10 w) (S 6 w) nw σ) (nw + 1))) := by
  refine PM.of (by decide +kernel) (Nat.le_of_ble_eq_true rfl) ?_
  refine PJ.ok (fun G => ?_)
  show PJ g _ _ _ _ d (S 4 w) (3 * S 4 w) 0 [(0, .ref (A 1 w 0))] [] _ _
  obtain ⟨e, h, t⟩ := s
  have hS4 := h.hz.2.1
  have hS6 := h.hz.2.2.1
  have hS8 := h.hz.2.2.2.1
  have hS10 := h.hz.2.2.2.2.1
  refine pl_aload_n (pc := 0) dX2_passes_0 rfl rfl ?_
  refine pl_callVWv (pc := 1) (As := []) (C1 := 0) (N1 := 0) (C2 := (S 4 w)) (N2 := (3 * S 4 w)) ckX2 mdX2_lands rfl q2353 q2355 qs35 q126 dX2_passes_1 rfl rfl (Nat.le_of_ble_eq_true rfl) (h.r1) (x_X2_lands (d := d - 1) (by omega) ⟨_, h, t⟩ iv) (by omega) (by omega) (by omega) (fun My1 qy1 => ?_)
  obtain ⟨τa, ea⟩ : ∃ τ9, τ9 = s_lands σ (S 4 w) := ⟨_, rfl⟩
  rw [← ea] at qy1
  have va : IvG τa (S 4 w) (S 8 w) (S 10 w) (S 6 w) nor nw := by rw [ea]; exact lands_iv iv _ (Nat.le_refl _)
  obtain ⟨e_a, y1, ta⟩ := qy1
  refine pl_aload_n (pc := 4) dX2_passes_4 rfl rfl ?_
  refine pl_callVWv (pc := 5) (As := []) (C1 := 0) (N1 := 0) (C2 := (S 4 w)) (N2 := (3 * S 4 w)) ckX2 mdX2_reads rfl q2357 q2359 qs36 q126 dX2_passes_5 rfl rfl (Nat.le_of_ble_eq_true rfl) (y1.r1) (x_X2_reads (d := d - 1) (by omega) ⟨_, y1, ta⟩ va) (by omega) (by omega) (by omega) (fun My2 qy2 => ?_)
  obtain ⟨τb, eb⟩ : ∃ τ9, τ9 = s_letters (S 4 w) (S 8 w) (S 10 w) τa := ⟨_, rfl⟩
  rw [← eb] at qy2
  have vb : IvG τb (S 4 w) (S 8 w) (S 10 w) (S 6 w) nor nw := by rw [eb]; exact letters_iv va
  obtain ⟨e_b, y2, tb⟩ := qy2
  refine pl_iconst (pc := 8) (v := 0) dX2_passes_8 (by rfl) ?_
  refine pj_istore_n (pc := 9) (lv' := [(1, _), (0, _)]) dX2_passes_9 rfl (by decide) rfl ?_
  refine ind_dn (n := (S 6 w)) (P := fun i => ∀ M9 τ, τ = upto survey1 i τb → SB g P F A w S b τ nw M9 → IvG τ (S 4 w) (S 8 w) (S 10 w) (S 6 w) nor nw → PJ g _ _ _ _ d (S 4 w) (3 * S 4 w) 10 [(1, .int (nI i)), (0, .ref (A 1 w 0))] [] M9 _) (fun i hi ih M9 τ hτ s9 iv9 => ?_) 0 (Nat.zero_le _) _ _ rfl ⟨_, y2, tb⟩ vb
  obtain ⟨e9, h9, t9⟩ := s9
  refine pl_iload_n (pc := 10) dX2_passes_10 rfl rfl ?_
  refine pl_aload_n (pc := 11) dX2_passes_11 rfl rfl ?_
  refine pj_getf (pc := 12) ckX2 27 q774 dX2_passes_12 (by decide) (h9.r1) rfl ?_
  obtain ⟨m_15, c_15, l_15⟩ := h9.L6
  refine pl_callVd (pc := 15) (As := []) (C1 := 0) (N1 := 0) (C2 := (S 4 w)) (N2 := (3 * S 4 w)) ckJ2 mdJ2_size rfl q947 q948 q949 q129 dX2_passes_15 rfl rfl (Nat.le_of_ble_eq_true rfl) l_15.1 (k_J2_size (d := d - 1) (by omega) l_15) (by omega) (by omega) (by omega) ?_
  refine pl_icmp_ge (pc := 18) (tgt := 42) dX2_passes_18 (by decide) (by omega) (by omega) (fun c18 => ?_) (fun c18 => ?_)
  · have ei : i = S 6 w := by omega
    subst ei
    refine pl_aload_n (pc := 42) dX2_passes_42 rfl rfl ?_
    refine pl_callVWv (pc := 43) (As := []) (C1 := (S 4 w)) (N1 := (3 * S 4 w)) (C2 := 0) (N2 := 0) ckX2 mdX2_works rfl q2395 q2397 qs39 q126 dX2_passes_43 rfl rfl (Nat.le_of_ble_eq_true rfl) (h9.r1) (x_X2_works (d := d - 1) (by omega) ⟨_, h9, t9⟩ iv9) (by omega) (by omega) (by omega) (fun My3 qy3 => ?_)
    obtain ⟨τd, ed⟩ : ∃ τ9, τ9 = uq (livesI (S 4 w) (S 8 w)) (S 4 w) τ := ⟨_, rfl⟩
    rw [← ed] at qy3
    have vd : IvG τd (S 4 w) (S 8 w) (S 10 w) (S 6 w) nor nw := by rw [ed]; exact uq_iv (f := livesI (S 4 w) (S 8 w)) (m := S 4 w) (fun _ _ hi h => livesI_iv hi h) iv9 (S 4 w) (Nat.le_refl _)
    obtain ⟨e_d, y3, td⟩ := qy3
    have fd : τd.1 = σ.1 := by
      have f1 : Fr σ τa := by rw [ea]; exact fr_lands _ _
      have f2 : Fr τa τb := by rw [eb]; exact fr_letters _ _ _ _
      have f3 : Fr τb τ := by rw [hτ]; exact fr_surveysAll _ _
      have f4 : Fr τ τd := by rw [ed]; exact Fr.q (fun i τ => Fr.it Fr.rf (fr_lives _ _ _ _)) Fr.rf _
      exact (((f1.tr f2).tr f3).tr f4).1
    refine pl_iconst (pc := 46) (v := 0) dX2_passes_46 (by rfl) ?_
    refine pj_istore_n (pc := 47) (lv' := [(1, _), (0, _)]) dX2_passes_47 rfl (by decide) rfl ?_
    refine ind_dn (n := 4) (P := fun j => ∀ M9 τ1, τ1 = uq (rainz nw) j τd → τ1.1 = τd.1 → SB g P F A w S b τ1 nw M9 → IvG τ1 (S 4 w) (S 8 w) (S 10 w) (S 6 w) nor nw → PJ g _ _ _ _ d 0 0 48 [(1, .int (nI j)), (0, .ref (A 1 w 0))] [] M9 _) (fun j hj ih M8 τ1 hτ1 hf1 s8 iv8 => ?_) 0 (Nat.zero_le _) _ τd (uq_0 _ _).symm rfl ⟨_, y3, td⟩ vd
    obtain ⟨e8, h8, t8⟩ := s8
    have h71 : τ1.1 7 = σ.1 7 := by rw [hf1, fd]
    refine pl_iload_n (pc := 48) dX2_passes_48 rfl rfl ?_
    refine pl_iconst (pc := 49) (v := 4) dX2_passes_49 (by rfl) ?_
    refine pl_icmp_ge (pc := 50) (tgt := 95) dX2_passes_50 (by decide) (by omega) (by omega) (fun c50 => ?_) (fun c50 => ?_)
    · have ej : j = 4 := by omega
      subst ej
      refine pl_aload_n (pc := 95) dX2_passes_95 rfl rfl ?_
      refine pl_callVWv (pc := 96) (As := []) (C1 := 0) (N1 := 0) (C2 := 0) (N2 := 0) ckX2 mdX2_strays rfl q2419 q2421 qs44 q126 dX2_passes_96 rfl rfl (Nat.le_of_ble_eq_true rfl) (h8.r1) (x_X2_strays (d := d - 1) (by omega) ⟨_, h8, t8⟩ iv8) (by omega) (by omega) (by omega) (fun My4 qy4 => ?_)
      obtain ⟨τe, ee⟩ : ∃ τ9, τ9 = uq (stray1 (S 4 w) (S 8 w)) 96 τ1 := ⟨_, rfl⟩
      rw [← ee] at qy4
      have ve : IvG τe (S 4 w) (S 8 w) (S 10 w) (S 6 w) nor nw := by rw [ee]; exact uq_iv (f := stray1 (S 4 w) (S 8 w)) (m := 96) (fun _ _ hi h => stray1_iv hi h) iv8 96 (Nat.le_refl _)
      obtain ⟨e_e, y4, te⟩ := qy4
      refine pl_iconst (pc := 99) (v := 0) dX2_passes_99 (by rfl) ?_
      refine pj_istore_n (pc := 100) (lv' := [(1, _), (0, _)]) dX2_passes_100 rfl (by decide) rfl ?_
      refine ind_dn (n := 96) (P := fun k => ∀ M9 τ2, τ2 = uq end1 k τe → SB g P F A w S b τ2 nw M9 → IvG τ2 (S 4 w) (S 8 w) (S 10 w) (S 6 w) nor nw → PJ g _ _ _ _ d 0 0 101 [(1, .int (nI k)), (0, .ref (A 1 w 0))] [] M9 _) (fun k hk ih M7 τ2 hτ2 s7 iv7 => ?_) 0 (Nat.zero_le _) _ τe (uq_0 _ _).symm ⟨_, y4, te⟩ ve
      obtain ⟨e7, h7x, t7⟩ := s7
      refine pl_iload_n (pc := 101) dX2_passes_101 rfl rfl ?_
      refine pl_bipush (pc := 102) (v := 96) dX2_passes_102 (by rfl) ?_
      refine pl_icmp_ge (pc := 104) (tgt := 146) dX2_passes_104 (by decide) (by omega) (by omega) (fun c104 => ?_) (fun c104 => ?_)
      · have ek : k = 96 := by omega
        subst ek
        refine pl_aload_n (pc := 146) dX2_passes_146 rfl rfl ?_
        refine pj_getf (pc := 147) ckX2 0 q725 dX2_passes_147 (by decide) (h7x.r1) rfl ?_
        refine PJ.top (y := nI nw) iv7.hnw ?_
        refine pl_bipush (pc := 150) (v := 52) dX2_passes_150 (by rfl) ?_
        refine pl_irem (pc := 152) dX2_passes_152 (by omega) (by decide) (by decide) ?_
        refine pl_bipush (pc := 153) (v := 51) dX2_passes_153 (by rfl) ?_
        refine pl_icmp_ne (pc := 155) (tgt := 162) dX2_passes_155 (by decide) (by omega) (by omega) (fun c155 => ?_) (fun c155 => ?_)
        · obtain ⟨φ, hf⟩ : ∃ φ, φ = τ2 := ⟨_, rfl⟩
          have hy := h7x
          rw [← hf] at hy
          have ty : TieX w S φ e7 nw := by rw [hf]; exact t7
          have vy : IvG φ (S 4 w) (S 8 w) (S 10 w) (S 6 w) nor nw := by rw [hf]; exact iv7
          have hφ : φ = yearI (S 4 w) nw τ2 := by rw [hf]; exact (if_neg c155).symm
          refine pl_aload_n (pc := 162) dX2_passes_162 rfl rfl ?_
          refine pj_getf (pc := 163) ckX2 31 q781 dX2_passes_163 (by decide) (hy.r1) rfl ?_
          by_cases hw0 : w = 0
          · rw [if_pos hw0]
            refine pj_ifnull (pc := 166) dX2_passes_166 ?_
            refine pl_aload_n (pc := 169) dX2_passes_169 rfl rfl ?_
            refine pl_callVWv (pc := 170) (As := []) (C1 := 0) (N1 := 0) (C2 := 0) (N2 := 0) ckX2 mdX2_writes rfl q2453 q2455 qs47 q126 dX2_passes_170 rfl rfl (Nat.le_of_ble_eq_true rfl) (hy.r1) (x_X2_writesW (d := d - 1) (by omega) hy hw0 vy.hnw vy.hNW) (by omega) (by omega) (by omega) (fun My5 y5 => ?_)
            refine pl_aload_n (pc := 173) dX2_passes_173 rfl rfl ?_
            refine pj_dup (pc := 174) dX2_passes_174 rfl ?_
            refine pj_getf (pc := 175) ckX2 0 q725 dX2_passes_175 (by decide) (y5.r1) rfl ?_
            refine pl_iconst (pc := 178) (v := 1) dX2_passes_178 (by rfl) ?_
            refine pj_iadd (pc := 179) dX2_passes_179 ?_
            refine pj_putf (pc := 180) ckX2 0 q725 dX2_passes_180 (by decide) rfl (y5.r1) rfl rfl (Nat.le_of_ble_eq_true rfl) ?_
            refine sxk (y5.p1_0) (fun My6 y6 => ?_)
            refine pj_vret (pc := 183) dX2_passes_183 rfl ?_
            have eg : s_goes (S 4 w) (S 8 w) (S 10 w) (S 6 w) nw σ = t171 (S 4 w) (S 8 w) nw φ := (by unfold s_goes t12 t45 t84 t103 t151; rw [← ea, ← eb, show s_surveysAll (S 6 w) τb = τ from hτ.symm, ← ed, ← hτ1, ← ee, ← hτ2, ← hφ])
            rw [eg]
            exact ⟨rfl, tick_tie y6 ty hnw (fun a ha => wrE_ne ha) (fun h0 => wrE_7 ty h0)⟩
          · rw [if_neg hw0]
            refine pj_ifnullN (pc := 166) (tgt := 173) dX2_passes_166 (by decide) ?_
            refine pl_aload_n (pc := 173) dX2_passes_173 rfl rfl ?_
            refine pj_dup (pc := 174) dX2_passes_174 rfl ?_
            refine pj_getf (pc := 175) ckX2 0 q725 dX2_passes_175 (by decide) (hy.r1) rfl ?_
            refine pl_iconst (pc := 178) (v := 1) dX2_passes_178 (by rfl) ?_
            refine pj_iadd (pc := 179) dX2_passes_179 ?_
            refine pj_putf (pc := 180) ckX2 0 q725 dX2_passes_180 (by decide) rfl (hy.r1) rfl rfl (Nat.le_of_ble_eq_true rfl) ?_
            refine sxk (hy.p1_0) (fun My7 y7 => ?_)
            refine pj_vret (pc := 183) dX2_passes_183 rfl ?_
            have eg : s_goes (S 4 w) (S 8 w) (S 10 w) (S 6 w) nw σ = t171 (S 4 w) (S 8 w) nw φ := (by unfold s_goes t12 t45 t84 t103 t151; rw [← ea, ← eb, show s_surveysAll (S 6 w) τb = τ from hτ.symm, ← ed, ← hτ1, ← ee, ← hτ2, ← hφ])
            rw [eg]
            exact ⟨rfl, tick_tie y7 ty hnw (fun _ _ => rfl) (fun h0 => absurd h0 hw0)⟩
        · refine pl_aload_n (pc := 158) dX2_passes_158 rfl rfl ?_
          refine pl_callVWv (pc := 159) (As := []) (C1 := 0) (N1 := 0) (C2 := 0) (N2 := 0) ckX2 mdX2_harvests rfl q2446 q2448 qs46 q126 dX2_passes_159 rfl rfl (Nat.le_of_ble_eq_true rfl) (h7x.r1) (x_X2_harvests (d := d - 1) (by omega) ⟨_, h7x, t7⟩ iv7) (by omega) (by omega) (by omega) (fun My8 qy8 => ?_)
          have ey : yearI (S 4 w) nw τ2 = s_yearEnds (S 4 w) τ2 := if_pos c155
          rw [← ey] at qy8
          have vy := yearI_iv (k := nw) iv7
          obtain ⟨φ, hφ⟩ : ∃ φ, φ = yearI (S 4 w) nw τ2 := ⟨_, rfl⟩
          rw [← hφ] at qy8 vy
          obtain ⟨ey1, y8, ty⟩ := qy8
          refine pl_aload_n (pc := 162) dX2_passes_162 rfl rfl ?_
          refine pj_getf (pc := 163) ckX2 31 q781 dX2_passes_163 (by decide) (y8.r1) rfl ?_
          by_cases hw0 : w = 0
          · rw [if_pos hw0]
            refine pj_ifnull (pc := 166) dX2_passes_166 ?_
            refine pl_aload_n (pc := 169) dX2_passes_169 rfl rfl ?_
            refine pl_callVWv (pc := 170) (As := []) (C1 := 0) (N1 := 0) (C2 := 0) (N2 := 0) ckX2 mdX2_writes rfl q2453 q2455 qs47 q126 dX2_passes_170 rfl rfl (Nat.le_of_ble_eq_true rfl) (y8.r1) (x_X2_writesW (d := d - 1) (by omega) y8 hw0 vy.hnw vy.hNW) (by omega) (by omega) (by omega) (fun My9 y9 => ?_)
            refine pl_aload_n (pc := 173) dX2_passes_173 rfl rfl ?_
            refine pj_dup (pc := 174) dX2_passes_174 rfl ?_
            refine pj_getf (pc := 175) ckX2 0 q725 dX2_passes_175 (by decide) (y9.r1) rfl ?_
            refine pl_iconst (pc := 178) (v := 1) dX2_passes_178 (by rfl) ?_
            refine pj_iadd (pc := 179) dX2_passes_179 ?_
            refine pj_putf (pc := 180) ckX2 0 q725 dX2_passes_180 (by decide) rfl (y9.r1) rfl rfl (Nat.le_of_ble_eq_true rfl) ?_
            refine sxk (y9.p1_0) (fun My10 y10 => ?_)
            refine pj_vret (pc := 183) dX2_passes_183 rfl ?_
            have eg : s_goes (S 4 w) (S 8 w) (S 10 w) (S 6 w) nw σ = t171 (S 4 w) (S 8 w) nw φ := (by unfold s_goes t12 t45 t84 t103 t151; rw [← ea, ← eb, show s_surveysAll (S 6 w) τb = τ from hτ.symm, ← ed, ← hτ1, ← ee, ← hτ2, ← hφ])
            rw [eg]
            exact ⟨rfl, tick_tie y10 ty hnw (fun a ha => wrE_ne ha) (fun h0 => wrE_7 ty h0)⟩
          · rw [if_neg hw0]
            refine pj_ifnullN (pc := 166) (tgt := 173) dX2_passes_166 (by decide) ?_
            refine pl_aload_n (pc := 173) dX2_passes_173 rfl rfl ?_
            refine pj_dup (pc := 174) dX2_passes_174 rfl ?_
            refine pj_getf (pc := 175) ckX2 0 q725 dX2_passes_175 (by decide) (y8.r1) rfl ?_
            refine pl_iconst (pc := 178) (v := 1) dX2_passes_178 (by rfl) ?_
            refine pj_iadd (pc := 179) dX2_passes_179 ?_
            refine pj_putf (pc := 180) ckX2 0 q725 dX2_passes_180 (by decide) rfl (y8.r1) rfl rfl (Nat.le_of_ble_eq_true rfl) ?_
            refine sxk (y8.p1_0) (fun My11 y11 => ?_)
            refine pj_vret (pc := 183) dX2_passes_183 rfl ?_
            have eg : s_goes (S 4 w) (S 8 w) (S 10 w) (S 6 w) nw σ = t171 (S 4 w) (S 8 w) nw φ := (by unfold s_goes t12 t45 t84 t103 t151; rw [← ea, ← eb, show s_surveysAll (S 6 w) τb = τ from hτ.symm, ← ed, ← hτ1, ← ee, ← hτ2, ← hφ])
            rw [eg]
            exact ⟨rfl, tick_tie y11 ty hnw (fun _ _ => rfl) (fun h0 => absurd h0 hw0)⟩
      · refine pl_aload_n (pc := 107) dX2_passes_107 rfl rfl ?_
        refine pl_iload_n (pc := 108) dX2_passes_108 rfl rfl ?_
        obtain ⟨q_109, hm_109, hq_109, hdd_109⟩ := h7x.held (s := k) (by omega)
        refine pl_callVd (pc := 109) (As := [_]) (C1 := 0) (N1 := 0) (C2 := 0) (N2 := 0) ckX2 mdX2_at rfl q1199 q1124 q1125 q126 dX2_passes_109 rfl rfl (Nat.le_of_ble_eq_true rfl) (h7x.r1) (x_X2_at (d := d - 1) (by omega) h7x (by omega) hm_109 hq_109) (by omega) (by omega) (by omega) ?_
        refine ph_ends (pc := 112) hq_109 (fun G => dw_at G 21 rfl) (fun G => dw_at G 22 rfl) dX2_passes_112 (by omega) (Nat.le_of_ble_eq_true rfl) ?_
        refine PJ.top ho_ends ?_
        refine pl_if_eqB (pc := 115) (tgt := 140) dX2_passes_115 (by decide) (fun c115 => ?_) (fun c115 => ?_)
        · refine pl_iinc1 (pc := 140) (lv' := [(1, _), (0, _)]) dX2_passes_140 rfl rfl (by decide) rfl ?_
          refine pj_goto (pc := 143) (tgt := 101) dX2_passes_143 (by decide) ?_
          have e8 := end1_no (σ := τ2) (c := k) (Or.inl (of_decide_eq_false c115))
          exact ih (by omega) _ _ (by rw [uq_s, ← hτ2]; exact e8.symm) ⟨_, h7x, t7⟩ iv7
        · refine pl_aload_n (pc := 118) dX2_passes_118 rfl rfl ?_
          refine pj_getf (pc := 119) ckX2 17 q757 dX2_passes_119 (by decide) (h7x.r1) rfl ?_
          refine pl_iload_n (pc := 122) dX2_passes_122 rfl rfl ?_
          refine pl_iald (pc := 123) (n := 96) dX2_passes_123 (h7x.r20) (by omega) (by decide) ?_
          refine PJ.top (h7x.v20 (by omega)) ?_
          refine PJ.top (y := sec τ2 k 2) ((t7.ends (by omega)).trans (if_pos (of_decide_eq_true c115))) ?_
          refine pl_aload_n (pc := 124) dX2_passes_124 rfl rfl ?_
          refine pj_getf (pc := 125) ckX2 0 q725 dX2_passes_125 (by decide) (h7x.r1) rfl ?_
          refine pj_icmp_ne (pc := 128) (tgt := 140) dX2_passes_128 (by decide) (fun c128 => ?_) (fun c128 => ?_)
          · refine pl_iinc1 (pc := 140) (lv' := [(1, _), (0, _)]) dX2_passes_140 rfl rfl (by decide) rfl ?_
            refine pj_goto (pc := 143) (tgt := 101) dX2_passes_143 (by decide) ?_
            have e8 := end1_no (σ := τ2) (c := k) (Or.inr c128)
            exact ih (by omega) _ _ (by rw [uq_s, ← hτ2]; exact e8.symm) ⟨_, h7x, t7⟩ iv7
          · refine pl_aload_n (pc := 131) dX2_passes_131 rfl rfl ?_
            refine pl_iload_n (pc := 132) dX2_passes_132 rfl rfl ?_
            refine pl_aload_n (pc := 133) dX2_passes_133 rfl rfl ?_
            refine pj_getf (pc := 134) ckX2 20 q763 dX2_passes_134 (by decide) (h7x.r1) rfl ?_
            have hl_137 : HoC _ (A 49 w 0) (ho4 (nI 1) (-1) (-1) (-1)) := Or.inr (Or.inl ⟨rfl, rfl, rfl, h7x.lot.1⟩)
            refine pl_callVWv (pc := 137) (As := [_, _]) (C1 := 0) (N1 := 0) (C2 := 0) (N2 := 0) ckX2 mdX2_puts rfl q703 q704 q705 q126 dX2_passes_137 rfl rfl (Nat.le_of_ble_eq_true rfl) (h7x.r1) (x_X2_puts (d := d - 1) (by omega) h7x (by omega) hl_137 h7x.lot.2 (by decide)) (by omega) (by omega) (by omega) (fun My12 y12 => ?_)
            refine pl_iinc1 (pc := 140) (lv' := [(1, _), (0, _)]) dX2_passes_140 rfl rfl (by decide) rfl ?_
            refine pj_goto (pc := 143) (tgt := 101) dX2_passes_143 (by decide) ?_
            have c0 : sec τ2 k 0 = nI 4 := of_decide_eq_true c115
            have e8 := end1_yes c0 c128
            have v8 := end1_iv (c := k) (by omega) iv7
            rw [e8] at v8
            exact ih (by omega) _ _ (by rw [uq_s, ← hτ2]; exact e8.symm) (end_tie y12 t7 (by omega) (by rw [c0]; decide)) v8
    · refine pl_aload_n (pc := 53) dX2_passes_53 rfl rfl ?_
      refine pj_getf (pc := 54) ckX2 22 q766 dX2_passes_54 (by decide) (h8.r1) rfl ?_
      refine pl_iload_n (pc := 57) dX2_passes_57 rfl rfl ?_
      refine pj_dup2_11 (pc := 58) dX2_passes_58 rfl rfl ?_
      refine pl_iald (pc := 59) (n := 4) dX2_passes_59 (h8.r22) (by omega) (by decide) ?_
      refine PJ.top (h8.v22 (by omega)) ?_
      refine pl_aload_n (pc := 60) dX2_passes_60 rfl rfl ?_
      refine pj_getf (pc := 61) ckX2 11 q745 dX2_passes_61 (by decide) (h8.r1) rfl ?_
      rcases h7 with h7 | h7
      · refine PJ.top (y := (-1 : Int32)) (h71.trans h7) ?_
        refine pj_iconst (pc := 64) (v := (-1)) dX2_passes_64 (by rfl) ?_
        refine pj_icmp_eq (pc := 65) (tgt := 75) dX2_passes_65 (by decide) (fun _ => ?_) (fun z9 => absurd rfl z9)
        refine pl_aload_n (pc := 75) dX2_passes_75 rfl rfl ?_
        refine pj_getf (pc := 76) ckX2 21 q764 dX2_passes_76 (by decide) (h8.r1) rfl ?_
        obtain ⟨mn, fl, hrn, hfl⟩ := h8.rain iv8.rns
        refine pl_iload_n (pc := 79) dX2_passes_79 rfl rfl ?_
        refine pl_aload_n (pc := 80) dX2_passes_80 rfl rfl ?_
        refine pj_getf (pc := 81) ckX2 0 q725 dX2_passes_81 (by decide) (h8.r1) rfl ?_
        refine PJ.top (y := nI nw) iv8.hnw ?_
        refine pl_callVd (pc := 84) (As := [_, _]) (C1 := 0) (N1 := 0) (C2 := 0) (N2 := 0) ckX7 mdX7_fell rfl q2418 q1304 q1305 q151 dX2_passes_84 rfl rfl (Nat.le_of_ble_eq_true rfl) hrn.1 (k_X7_fell (d := d - 1) (by omega) (z := j) (wk := nw) (by omega) (by omega) hrn hfl) (by omega) (by omega) (by omega) ?_
        refine pj_iadd (pc := 87) dX2_passes_87 ?_
        refine pl_iast (pc := 88) (n := 4) dX2_passes_88 (h8.r22) (by omega) (by decide) ?_
        refine sxk (h8.p22 (by omega)) (fun My13 y13 => ?_)
        refine pl_iinc1 (pc := 89) (lv' := [(1, _), (0, _)]) dX2_passes_89 rfl rfl (by decide) rfl ?_
        refine pj_goto (pc := 92) (tgt := 48) dX2_passes_92 (by decide) ?_
        have e7 : rainz nw j τ1 = (sR τ1 (2104 + j) (row τ1 (2104 + j) + fallC τ1 j nw)) := rainz_f (h71.trans h7)
        have g8 : SX g P F A w S b (sR τ1 (2104 + j) (row τ1 (2104 + j) + fallC τ1 j nw)) e8 _ := y13
        have v8 := rainz_iv (k := nw) (z := j) (by omega) iv8
        rw [e7] at v8
        exact ih (by omega) _ (sR τ1 (2104 + j) (row τ1 (2104 + j) + fallC τ1 j nw)) (by rw [uq_s, ← hτ1]; exact e7.symm) hf1 ⟨_, g8, t8.cg g8.hz (fun j hj => rowS_ne (fun z => hj (by unfold fr0; omega))) (by simp [sA]) (by simp [sA]) (fun _ _ => by simp [sA]) rfl rfl⟩ v8
      · refine pj_iconst (pc := 64) (v := (-1)) dX2_passes_64 (by rfl) ?_
        refine pj_icmp_eq (pc := 65) (tgt := 75) dX2_passes_65 (by decide) (fun z9 => absurd z9 (fun z8 => h7 (by rw [← h71, z8]; decide))) (fun _ => ?_)
        refine pl_aload_n (pc := 68) dX2_passes_68 rfl rfl ?_
        refine pj_getf (pc := 69) ckX2 11 q745 dX2_passes_69 (by decide) (h8.r1) rfl ?_
        refine pj_goto (pc := 72) (tgt := 87) dX2_passes_72 (by decide) ?_
        refine pj_iadd (pc := 87) dX2_passes_87 ?_
        refine pl_iast (pc := 88) (n := 4) dX2_passes_88 (h8.r22) (by omega) (by decide) ?_
        refine sxk (h8.p22 (by omega)) (fun My14 y14 => ?_)
        refine pl_iinc1 (pc := 89) (lv' := [(1, _), (0, _)]) dX2_passes_89 rfl rfl (by decide) rfl ?_
        refine pj_goto (pc := 92) (tgt := 48) dX2_passes_92 (by decide) ?_
        have e7 : rainz nw j τ1 = (sR τ1 (2104 + j) (row τ1 (2104 + j) + τ1.1 7)) := rainz_t (by rw [h71]; exact h7)
        have g8 : SX g P F A w S b (sR τ1 (2104 + j) (row τ1 (2104 + j) + τ1.1 7)) e8 _ := y14
        have v8 := rainz_iv (k := nw) (z := j) (by omega) iv8
        rw [e7] at v8
        exact ih (by omega) _ (sR τ1 (2104 + j) (row τ1 (2104 + j) + τ1.1 7)) (by rw [uq_s, ← hτ1]; exact e7.symm) hf1 ⟨_, g8, t8.cg g8.hz (fun j hj => rowS_ne (fun z => hj (by unfold fr0; omega))) (by simp [sA]) (by simp [sA]) (fun _ _ => by simp [sA]) rfl rfl⟩ v8
  · refine pl_aload_n (pc := 21) dX2_passes_21 rfl rfl ?_
    refine pl_aload_n (pc := 22) dX2_passes_22 rfl rfl ?_
    refine pj_getf (pc := 23) ckX2 27 q774 dX2_passes_23 (by decide) (h9.r1) rfl ?_
    refine pl_iload_n (pc := 26) dX2_passes_26 rfl rfl ?_
    obtain ⟨m_27, c_27, l_27⟩ := h9.L6
    refine pl_callVd (pc := 27) (As := [_]) (C1 := 0) (N1 := 0) (C2 := (S 4 w)) (N2 := (3 * S 4 w)) ckJ2 mdJ2_get rfl q707 q708 q709 q129 dX2_passes_27 rfl rfl (Nat.le_of_ble_eq_true rfl) l_27.1 (k_J2_get (d := d - 1) (by omega) l_27 (j := i) (by omega) (if_pos (by omega))) (by omega) (by omega) (by omega) ?_
    refine pj_castS (pc := 30) ckX11 q1483 dX2_passes_30 (h9.r36 (by omega)) ?_
    refine pl_callVWv (pc := 33) (As := [_]) (C1 := 0) (N1 := 0) (C2 := (S 4 w)) (N2 := (3 * S 4 w)) ckX2 mdX2_surveys rfl q2394 q1568 qs11 q126 dX2_passes_33 rfl rfl (Nat.le_of_ble_eq_true rfl) (h9.r1) (x_X2_surveys (d := d - 1) (by omega) ⟨_, h9, t9⟩ iv9 (by omega)) (by omega) (by omega) (by omega) (fun My15 qy15 => ?_)
    refine pl_iinc1 (pc := 36) (lv' := [(1, _), (0, _)]) dX2_passes_36 rfl rfl (by decide) rfl ?_
    refine pj_goto (pc := 39) (tgt := 10) dX2_passes_39 (by decide) ?_
    exact ih (by omega) _ _ (by show _ = s_surveys (upto _ i _) i; rw [← hτ]) qy15 (surveys_iv iv9 (by omega))
