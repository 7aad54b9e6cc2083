set_option maxRecDepth 100000
section LD
variable {w : Nat} {S : Nat → Nat → Nat} {σ τ : MS} {e : XE} {nw p : Nat}
/-- a person is something else, neither hired nor an owner before, not hired now -/
theorem tie_isF (t : TieX w S σ e nw) (hz : SzX w S) (hp : p < S 4 w) (h3 : ¬ per σ p 2 = nI 3) (h4 : ∀ c, c < 96 → isFarmV (sec σ c 0) = true → ¬ sec σ c 1 = nI p) (hr : ∀ j, ¬ fr0 j → j ≠ 768 + 8 * p + 2 → row τ j = row σ j) (t2 : ¬ per τ p 2 = nI 3) (a3 : τ.2.1 3 = σ.2.1 3) (a4 : τ.2.1 4 = σ.2.1 4) (a14 : τ.2.1 14 = σ.2.1 14) (h23 : τ.1 23 = σ.1 23) (h24 : τ.1 24 = σ.1 24) : TieX w S τ e nw := by
  have z1 := hz.2.1
  have z6 := hz.2.2.1
  have z8 := hz.2.2.2.1
  have z10 := hz.2.2.2.2.1
  have s0 : ∀ j c, c < 96 → (j = 0 ∨ j = 1 ∨ j = 2 ∨ j = 3 ∨ j = 4 ∨ j = 5 ∨ j = 7) → sec τ c j = sec σ c j := fun j c hc hj => hr _ (fun z => by have := fr0_sec (c := c) (j := j) hc (by omega) z; omega) (by omega)
  have hq : ∀ a j, a < S 4 w → (a ≠ p ∨ j ≠ 2) → (j = 1 ∨ j = 2 ∨ j = 3) → per τ a j = per σ a j := fun a j ha hne hj => hr _ (fun z => by have := fr0_per (p := a) (by omega) (by omega) z; omega) (by omega)
  have lw : ∀ l j, l < S 8 w → j < 6 → lawv τ l j = lawv σ l j := fun l j hl hj => hr _ (by unfold fr0; omega) (by omega)
  have bw : ∀ k j, k < S 10 w → j < 4 → row τ (1640 + 4 * k + j) = row σ (1640 + 4 * k + j) := fun k j hk hj => hr _ (by unfold fr0; omega) (by omega)
  have qw : ∀ a j, a < S 6 w → j < 15 → row τ (1720 + 15 * a + j) = row σ (1720 + 15 * a + j) := fun a j ha hj => hr _ (by unfold fr0; omega) (by omega)
  refine ⟨fun a ha => ?_, tFa_cg t (fun c hc => s0 0 c hc (by decide)) (fun c hc => s0 1 c hc (by decide)) (fun _ _ => rfl), tMi_cg t (fun c hc => s0 0 c hc (by decide)) (fun c hc => s0 7 c hc (by decide)) a3 a4 (fun _ _ => rfl), tEn_cg t (fun c hc => s0 0 c hc (by decide)) (fun c hc => s0 2 c hc (by decide)) (fun _ _ => rfl), tSa_cg t (fun l hl => lw l 4 hl (by decide)) (fun l hl => lw l 5 hl (by decide)) (fun _ _ => rfl) (fun _ _ => rfl), tDu_cg t (fun k hk => bw k 2 hk (by decide)) (fun k hk => bw k 3 hk (by decide)) (fun _ _ => rfl), tQu_cg t qw (fun a _ _ _ => rfl), fun a ha z => ?_, fun c hc => ⟨fun hf a ha z => ?_, (t.ps hc).cg (s0 0 c hc (by decide)) (s0 3 c hc (by decide)) (s0 4 c hc (by decide)) (s0 5 c hc (by decide)) a3⟩, tHi_cg t (fun l hl => lw l 0 hl (by decide)) (fun l hl => lw l 3 hl (by decide)) (fun j _ => by rw [a14]) (fun _ _ => rfl) (fun _ _ => rfl), tRo_cg t (fun j _ => by rw [a14]) (fun _ _ => rfl), tCo_cg t (fun a ha => hq a 1 ha (Or.inr (by decide)) (by decide)), tTr_cg t h23 h24, ?_, tGh_cg t (fun a ha => qw a 0 ha (by decide)) (fun k hk => bw k 0 hk (by decide)) (fun _ _ => rfl)⟩
  · rw [t.hands ha]
    refine congrArg nI (cnt_cg (fun x hx => ?_)).symm
    by_cases ex : x = p
    · subst ex
      have e1 : decide (per σ x 2 = nI 3) = false := decide_eq_false h3
      have e2 : decide (per τ x 2 = nI 3) = false := decide_eq_false t2
      rw [e1, e2]
      rfl
    · rw [hq x 2 hx (Or.inl ex) (by decide), hq x 3 hx (Or.inl ex) (by decide)]
  · rw [hq a 3 ha (Or.inr (by decide)) (by decide)]
    by_cases ea : a = p
    · subst ea; exact t.boss ha h3
    · rw [hq a 2 ha (Or.inl ea) (by decide)] at z
      exact t.boss ha z
  · rw [s0 0 c hc (by decide)] at hf
    rw [s0 1 c hc (by decide)] at z
    have h9 := t.own hc hf ha z
    by_cases ea : a = p
    · subst ea
      exact absurd z (h4 c hc hf)
    · rw [hq a 2 ha (Or.inl ea) (by decide)]
      exact h9
  · refine ⟨fun a ha => ?_, fun a ha => ?_⟩
    · obtain ⟨m, m1, m2, m3⟩ := t.ivd.1 a ha
      refine ⟨m, by rw [a3, a4]; exact m1, m2, fun z => ?_⟩
      rw [s0 0 a ha (by decide)] at z
      rw [s0 7 a ha (by decide)]
      exact m3 z
    · rw [qw a 0 ha (by decide)]
      exact t.ivd.2 a ha
theorem tie_is (t : TieX w S σ e nw) (hz : SzX w S) (hp : p < S 4 w) (h3 : ¬ per σ p 2 = nI 3) (h4 : ¬ per σ p 2 = nI 4) (hr : ∀ j, ¬ fr0 j → j ≠ 768 + 8 * p + 2 → row τ j = row σ j) (t2 : ¬ per τ p 2 = nI 3) (a3 : τ.2.1 3 = σ.2.1 3) (a4 : τ.2.1 4 = σ.2.1 4) (a14 : τ.2.1 14 = σ.2.1 14) (h23 : τ.1 23 = σ.1 23) (h24 : τ.1 24 = σ.1 24) : TieX w S τ e nw :=
  tie_isF t hz hp h3 (fun c hc hf z => h4 (t.own hc hf hp z)) hr t2 a3 a4 a14 h23 h24
end LD
theorem SX.SB {g : GP} {P : Nat → Prop} {F : Mem} {A : XA} {w : Nat} {S : Nat → Nat → Nat} {b : XS} {σ : MS} {e : XE} {M : Mem} {nw : Nat} (h : SX g P F A w S b σ e M) (t : TieX w S σ e nw) : SB g P F A w S b σ nw M := ⟨e, h, t⟩
set_option maxHeartbeats 600000 in
theorem x_X2_lands {g : GP} {μ : Mem} {d : Nat} {P : Nat → Prop} {F : Mem} {A : XA} {w : Nat} {S : Nat → Nat → Nat} {b : XS} {σ : MS} {nor nw : Nat} (hd : 8 ≤ d) (s : SB g P F A w S b σ nw μ) (iv : IvG σ (S 4 w) (S 8 w) (S 10 w) (S 6 w) nor nw)  : PM g yX2_lands (ws_ yX2_lands cX2_lands 2 none) d 0 0 [.ref (A 1 w 0)] μ (WQ none (SB g P F A w S b (s_lands σ (S 4 w)) nw)) := by
  refine PM.of (by decide +kernel) (Nat.le_of_ble_eq_true rfl) ?_
  refine PJ.ok (fun G => ?_)
  show PJ g _ _ _ _ d 0 0 0 [(0, .ref (A 1 w 0))] [] _ _
  obtain ⟨e, h, t⟩ := s
  have hS4 := h.hz.2.1
  have hS6 := h.hz.2.2.1
  have hS8 := h.hz.2.2.2.1
  have hS10 := h.hz.2.2.2.2.1
  refine pl_iconst (pc := 0) (v := 0) dX2_lands_0 (by rfl) ?_
  refine pj_istore_n (pc := 1) (lv' := [(1, _), (0, _)]) dX2_lands_1 rfl (by decide) rfl ?_
  refine ind_dn (n := (S 4 w)) (P := fun i => ∀ M9, SB g P F A w S b (s_lands σ i) nw M9 → PJ g _ _ _ _ d 0 0 2 [(1, .int (nI i)), (0, .ref (A 1 w 0))] [] M9 _) (fun i hi ih M9 s9 => ?_) 0 (Nat.zero_le _) _ ⟨e, h, t⟩
  have iv9 := lands_iv iv i (by omega)
  obtain ⟨e9, h9, t9⟩ := s9
  refine pl_iload_n (pc := 2) dX2_lands_2 rfl rfl ?_
  refine pl_aload_n (pc := 3) dX2_lands_3 rfl rfl ?_
  refine pj_getf (pc := 4) ckX2 26 q772 dX2_lands_4 (by decide) (h9.r1) rfl ?_
  obtain ⟨m_7, c_7, l_7⟩ := h9.L4
  refine pl_callVd (pc := 7) (As := []) (C1 := 0) (N1 := 0) (C2 := 0) (N2 := 0) ckJ2 mdJ2_size rfl q947 q948 q949 q129 dX2_lands_7 rfl rfl (Nat.le_of_ble_eq_true rfl) l_7.1 (k_J2_size (d := d - 1) (by omega) l_7) (by omega) (by omega) (by omega) ?_
  refine pl_icmp_ge (pc := 10) (tgt := 73) dX2_lands_10 (by decide) (by omega) (by omega) (fun c10 => ?_) (fun c10 => ?_)
  · refine pj_vret (pc := 73) dX2_lands_73 rfl ?_
    have ei : i = S 4 w := by omega
    subst ei
    exact ⟨rfl, _, h9, t9⟩
  · refine pl_aload_n (pc := 13) dX2_lands_13 rfl rfl ?_
    refine pj_getf (pc := 14) ckX2 26 q772 dX2_lands_14 (by decide) (h9.r1) rfl ?_
    refine pl_iload_n (pc := 17) dX2_lands_17 rfl rfl ?_
    obtain ⟨m_18, c_18, l_18⟩ := h9.L4
    refine pl_callVd (pc := 18) (As := [_]) (C1 := 0) (N1 := 0) (C2 := 0) (N2 := 0) ckJ2 mdJ2_get rfl q707 q708 q709 q129 dX2_lands_18 rfl rfl (Nat.le_of_ble_eq_true rfl) l_18.1 (k_J2_get (d := d - 1) (by omega) l_18 (j := _) (by omega) (if_pos (by omega))) (by omega) (by omega) (by omega) ?_
    refine pj_castS (pc := 21) ckX10 q1190 dX2_lands_21 (h9.r35 (by omega)) ?_
    refine pj_getfN (pc := 24) ckX10 3 q1074 dX2_lands_24 (by decide) (h9.r35 (by omega)) rfl ?_
    refine pl_iconst (pc := 27) (v := 1) dX2_lands_27 (by rfl) ?_
    refine pj_icmp_ne (pc := 28) (tgt := 67) dX2_lands_28 (by decide) (fun c28 => ?_) (fun c28 => ?_)
    · refine pl_iinc1 (pc := 67) (lv' := [(1, _), (0, _)]) dX2_lands_67 rfl rfl (by decide) rfl ?_
      refine pj_goto (pc := 70) (tgt := 2) dX2_lands_70 (by decide) ?_
      have e9 : s_lands σ (i + 1) = land1 i (s_lands σ i) := rfl
      have e8 : land1 i (s_lands σ i) = s_lands σ i := by unfold land1; rw [if_pos c28]
      refine ih (by omega) _ ?_
      rw [e9, e8]
      exact ⟨_, h9, t9⟩
    · refine pl_aload_n (pc := 31) dX2_lands_31 rfl rfl ?_
      refine pj_getf (pc := 32) ckX2 26 q772 dX2_lands_32 (by decide) (h9.r1) rfl ?_
      refine pl_iload_n (pc := 35) dX2_lands_35 rfl rfl ?_
      obtain ⟨m_36, c_36, l_36⟩ := h9.L4
      refine pl_callVd (pc := 36) (As := [_]) (C1 := 0) (N1 := 0) (C2 := 0) (N2 := 0) ckJ2 mdJ2_get rfl q707 q708 q709 q129 dX2_lands_36 rfl rfl (Nat.le_of_ble_eq_true rfl) l_36.1 (k_J2_get (d := d - 1) (by omega) l_36 (j := _) (by omega) (if_pos (by omega))) (by omega) (by omega) (by omega) ?_
      refine pj_castS (pc := 39) ckX10 q1190 dX2_lands_39 (h9.r35 (by omega)) ?_
      refine pj_getfN (pc := 42) ckX10 9 q1092 dX2_lands_42 (by decide) (h9.r35 (by omega)) rfl ?_
      refine pl_aload_n (pc := 45) dX2_lands_45 rfl rfl ?_
      refine pj_getf (pc := 46) ckX2 0 q725 dX2_lands_46 (by decide) (h9.r1) rfl ?_
      refine pj_icmp_ne (pc := 49) (tgt := 67) dX2_lands_49 (by decide) (fun c49 => ?_) (fun c49 => ?_)
      · refine pl_iinc1 (pc := 67) (lv' := [(1, _), (0, _)]) dX2_lands_67 rfl rfl (by decide) rfl ?_
        refine pj_goto (pc := 70) (tgt := 2) dX2_lands_70 (by decide) ?_
        have e9 : s_lands σ (i + 1) = land1 i (s_lands σ i) := rfl
        have e8 : land1 i (s_lands σ i) = s_lands σ i := by unfold land1; rw [if_neg (fun z => z c28), if_pos c49]
        refine ih (by omega) _ ?_
        rw [e9, e8]
        exact ⟨_, h9, t9⟩
      · refine pl_aload_n (pc := 52) dX2_lands_52 rfl rfl ?_
        refine pj_getf (pc := 53) ckX2 26 q772 dX2_lands_53 (by decide) (h9.r1) rfl ?_
        refine pl_iload_n (pc := 56) dX2_lands_56 rfl rfl ?_
        obtain ⟨m_57, c_57, l_57⟩ := h9.L4
        refine pl_callVd (pc := 57) (As := [_]) (C1 := 0) (N1 := 0) (C2 := 0) (N2 := 0) ckJ2 mdJ2_get rfl q707 q708 q709 q129 dX2_lands_57 rfl rfl (Nat.le_of_ble_eq_true rfl) l_57.1 (k_J2_get (d := d - 1) (by omega) l_57 (j := _) (by omega) (if_pos (by omega))) (by omega) (by omega) (by omega) ?_
        refine pj_castS (pc := 60) ckX10 q1190 dX2_lands_60 (h9.r35 (by omega)) ?_
        refine pl_iconst (pc := 63) (v := 2) dX2_lands_63 (by rfl) ?_
        refine pj_putfN (pc := 64) ckX10 3 q1074 dX2_lands_64 (by decide) rfl (h9.r35 (by omega)) rfl rfl (Nat.le_of_ble_eq_true rfl) ?_
        refine sxk (h9.p35_3 (by omega)) (fun My1 y1 => ?_)
        refine pl_iinc1 (pc := 67) (lv' := [(1, _), (0, _)]) dX2_lands_67 rfl rfl (by decide) rfl ?_
        refine pj_goto (pc := 70) (tgt := 2) dX2_lands_70 (by decide) ?_
        have e9 : s_lands σ (i + 1) = land1 i (s_lands σ i) := rfl
        have e8 : land1 i (s_lands σ i) = sR (s_lands σ i) (768 + 8 * i + 2) (nI 2) := by unfold land1; rw [if_neg (fun z => z c28), if_neg (fun z => z c49)]
        refine ih (by omega) _ ?_
        rw [e9, e8]
        exact y1.SB (tie_is t9 h9.hz (by omega) (by rw [show per (s_lands σ i) i 2 = nI 1 from c28]; decide) (by rw [show per (s_lands σ i) i 2 = nI 1 from c28]; decide) (fun j _ hj => rowS_ne hj) (by rw [show per (sR (s_lands σ i) (768 + 8 * i + 2) (nI 2)) i 2 = nI 2 from rowS_eq]; decide) (by simp [sA]) (by simp [sA]) (by simp [sA]) rfl rfl)
