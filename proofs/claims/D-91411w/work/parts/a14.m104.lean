set_option maxRecDepth 100000
theorem HoC.ms {μ : Mem} {a q : Nat} {r : Nat → Int32} {fs : List Value} {c : va_E} (h : HoC μ q r) (ha : μ a = Option.some (.inr (12, fs))) : HoC (mset μ a c) q r := by
  have ne : q ≠ a := fun z => by
    subst z
    rcases h with ⟨_, _, _, h⟩ | ⟨_, _, _, h⟩ | ⟨_, h⟩ | ⟨_, _, h⟩ | ⟨_, h⟩ | ⟨_, _, h⟩ <;> · rw [ha] at h; cases h
  have e : mset μ a c q = μ q := if_neg ne
  unfold HoC at h ⊢
  rw [e]
  exact h
section SXq
variable {g : GP} {own : String} {cc : ByteArray} {nL : Nat} {i : MI} {d C N pc : Nat} {ls : List (Nat × Value)} {st : List Value} {μ : Mem} {Q : OC → Mem → Prop} {P : Nat → Prop} {F : Mem} {A : XA} {w : Nat} {S : Nat → Nat → Nat} {b : XS} {σ : MS} {e : XE} {K : Mem → Prop}
theorem sxkQ (h : SX g P F A w S b σ e μ) (hK : K μ) (k : ∀ M : Mem, SX g P F A w S b σ e M → K M → PJ g own cc nL i d C N pc ls st M Q) : PJ g own cc nL i d C N pc ls st μ Q := k μ h hK
end SXq
theorem isBy3 {a b k : Int32} : (a = nI 3 ∧ b = k ∧ bI (decide (a = nI 3) && decide (b = k)) = nI 1) ∨ (¬ a = nI 3 ∧ bI (decide (a = nI 3) && decide (b = k)) = nI 0) ∨ (¬ b = k ∧ bI (decide (a = nI 3) && decide (b = k)) = nI 0) := by
  by_cases h : a = nI 3
  · by_cases h2 : b = k
    · exact Or.inl ⟨h, h2, by rw [decide_eq_true h, decide_eq_true h2]; rfl⟩
    · exact Or.inr (Or.inr ⟨h2, by rw [decide_eq_true h, decide_eq_false h2]; rfl⟩)
  · exact Or.inr (Or.inl ⟨h, by rw [decide_eq_false h]; rfl⟩)
set_option maxHeartbeats 600000 in
theorem x_X10_getsQ {g : GP} {μ : Mem} {d : Nat} {P : Nat → Prop} {F : Mem} {A : XA} {w : Nat} {S : Nat → Nat → Nat} {b : XS} {σ : MS} {e : XE}(hd : 2 ≤ d) (h : SX g P F A w S b σ e μ) {p : Nat} (hp : p < S 4 w) {x : Int32} : PM g yX10_gets (ws_ yX10_gets cX10_gets 2 none) d 0 0 [.ref (A 35 w p), .int x] μ (WQ none (fun M => SX g P F A w S b (s_pays σ p x) e M ∧ ∀ q r, HoC μ q r → HoC M q r)) := by
  refine PM.of (by decide +kernel) (Nat.le_of_ble_eq_true rfl) ?_
  refine PJ.ok (fun G => ?_)
  show PJ g _ _ _ _ d 0 0 0 [(0, .ref (A 35 w p)), (1, .int x)] [] _ _
  refine pl_aload_n (pc := 0) dX10_gets_0 rfl rfl ?_
  refine pj_ldc (pc := 1) q2384 dX10_gets_1 ?_
  refine pl_aload_n (pc := 3) dX10_gets_3 rfl rfl ?_
  refine pj_getf (pc := 4) ckX10 2 q1070 dX10_gets_4 (by decide) (h.r35 hp) rfl ?_
  refine pl_iload_n (pc := 7) dX10_gets_7 rfl rfl ?_
  refine pj_iadd (pc := 8) dX10_gets_8 ?_
  refine pj_mmin (pc := 9) q2385 dX10_gets_9 (by omega) (Nat.le_of_ble_eq_true rfl) ?_
  refine pj_putf (pc := 12) ckX10 2 q1070 dX10_gets_12 (by decide) rfl (h.r35 hp) rfl rfl (Nat.le_of_ble_eq_true rfl) ?_
  refine sxkQ (K := fun M => ∀ q r, HoC μ q r → HoC M q r) (h.p35_2 hp) (fun q r z => z.ms (h.r35 hp)) (fun My1 y1 k9 => ?_)
  refine pj_vret (pc := 15) dX10_gets_15 rfl ?_
  exact ⟨rfl, by unfold s_pays; rw [← minR]; exact y1, k9⟩
set_option maxHeartbeats 600000 in
theorem x_X2_reads_2 {g : GP} {μ : Mem} {d : Nat} {P : Nat → Prop} {F : Mem} {A : XA} {w : Nat} {S : Nat → Nat → Nat} {b : XS} {σ : MS} {nor nw : Nat} (hd : 15 ≤ d) (s : SB g P F A w S b σ nw μ) (iv : IvG σ (S 4 w) (S 8 w) (S 10 w) (S 6 w) nor nw) {k : Nat} (hk : k < S 8 w) (h2 : lawv σ k 0 = nI 2) (h4 : ¬ lawv σ k 4 = nI 0) (h5 : lawv σ k 5 = row σ 2116) : PM g yX2_reads_2 (ws_ yX2_reads_2 cX2_reads_2 5 none) d 0 0 [.ref (A 1 w 0), .int (nI k)] μ (WQ none (SB g P F A w S b (letter1 (S 4 w) k σ) nw)) := by
  refine PM.of (by decide +kernel) (Nat.le_of_ble_eq_true rfl) ?_
  refine PJ.ok (fun G => ?_)
  show PJ g _ _ _ _ d 0 0 0 [(0, .ref (A 1 w 0)), (1, .int (nI k))] [] _ _
  obtain ⟨e, h, t⟩ := s
  have hS4 := h.hz.2.1
  have hS6 := h.hz.2.2.1
  have hS8 := h.hz.2.2.2.1
  have hS10 := h.hz.2.2.2.2.1
  refine pl_aload_n (pc := 0) dX2_reads_2_0 rfl rfl ?_
  refine pj_getf (pc := 1) ckX2 28 q776 dX2_reads_2_1 (by decide) (h.r1) rfl ?_
  refine pl_iload_n (pc := 4) dX2_reads_2_4 rfl rfl ?_
  obtain ⟨m_5, c_5, l_5⟩ := h.L8
  refine pl_callVd (pc := 5) (As := [_]) (C1 := 0) (N1 := 0) (C2 := 0) (N2 := 0) ckJ2 mdJ2_get rfl q707 q708 q709 q129 dX2_reads_2_5 rfl rfl (Nat.le_of_ble_eq_true rfl) l_5.1 (k_J2_get (d := d - 1) (by omega) l_5 (j := k) hk (if_pos hk)) (by omega) (by omega) (by omega) ?_
  refine pj_castS (pc := 8) ckX12 q951 dX2_reads_2_8 (h.r38 hk) ?_
  refine pj_astore_n (pc := 11) (lv' := [(2, _), (0, _), (1, _)]) dX2_reads_2_11 rfl (by decide) rfl ?_
  refine pl_aload_n (pc := 12) dX2_reads_2_12 rfl rfl ?_
  refine pl_aload_n (pc := 13) dX2_reads_2_13 rfl rfl ?_
  refine pj_getfN (pc := 14) ckX12 7 q1510 dX2_reads_2_14 (by decide) (h.r38 hk) rfl ?_
  by_cases c4 : lawv σ k 4 = nI 1
  · refine PJ.top (y := nI 1) ((t.said hk).2.trans (if_pos c4)) ?_
    refine pj_if_eq (pc := 17) (tgt := 24) dX2_reads_2_17 (by decide) (fun h => absurd h (by decide)) (fun _ => ?_)
    refine pl_iconst (pc := 20) (v := 3) dX2_reads_2_20 (by rfl) ?_
    refine pj_goto (pc := 21) (tgt := 25) dX2_reads_2_21 (by decide) ?_
    refine pj_putfN (pc := 25) ckX12 1 q1498 dX2_reads_2_25 (by decide) rfl (h.r38 hk) rfl rfl (Nat.le_of_ble_eq_true rfl) ?_
    refine sxk (h.p38_1 hk) (fun My1 y1 => ?_)
    refine pl_aload_n (pc := 28) dX2_reads_2_28 rfl rfl ?_
    refine pj_getfN (pc := 29) ckX12 7 q1510 dX2_reads_2_29 (by decide) (y1.r38 hk) rfl ?_
    refine PJ.top (y := nI 1) ((t.said hk).2.trans (if_pos c4)) ?_
    refine pj_if_eq (pc := 32) (tgt := 36) dX2_reads_2_32 (by decide) (fun h => absurd h (by decide)) (fun _ => ?_)
    refine pj_vret (pc := 35) dX2_reads_2_35 rfl ?_
    rw [letter_yes h2 c4 h5]
    exact ⟨rfl, e, y1, tie_law t y1.hz hk (fun j _ g => rowS_ne g) (hi_yes (t.hist hk) h2 rowS_eq (rowS_ne (by omega)) (by simp [sA])) (fun _ _ => rfl) (fun _ _ => rfl) (fun _ _ _ => rfl) (by simp [sA]) (by simp [sA]) (by simp [sA]) rfl rfl⟩
  · refine PJ.top (y := nI 0) ((t.said hk).2.trans (if_neg c4)) ?_
    refine pj_if_eq (pc := 17) (tgt := 24) dX2_reads_2_17 (by decide) (fun _ => ?_) (fun h => absurd h (by decide))
    refine pl_iconst (pc := 24) (v := 4) dX2_reads_2_24 (by rfl) ?_
    refine pj_putfN (pc := 25) ckX12 1 q1498 dX2_reads_2_25 (by decide) rfl (h.r38 hk) rfl rfl (Nat.le_of_ble_eq_true rfl) ?_
    refine sxk (h.p38_1 hk) (fun My2 y2 => ?_)
    refine pl_aload_n (pc := 28) dX2_reads_2_28 rfl rfl ?_
    refine pj_getfN (pc := 29) ckX12 7 q1510 dX2_reads_2_29 (by decide) (y2.r38 hk) rfl ?_
    refine PJ.top (y := nI 0) ((t.said hk).2.trans (if_neg c4)) ?_
    refine pj_if_eq (pc := 32) (tgt := 36) dX2_reads_2_32 (by decide) (fun _ => ?_) (fun h => absurd h (by decide))
    refine pl_aload_n (pc := 36) dX2_reads_2_36 rfl rfl ?_
    refine pl_aload_n (pc := 37) dX2_reads_2_37 rfl rfl ?_
    refine pj_getf (pc := 38) ckX2 0 q725 dX2_reads_2_38 (by decide) (y2.r1) rfl ?_
    refine PJ.top (y := nI nw) ((rowS_ne (by omega)).trans iv.hnw) ?_
    refine pj_putfN (pc := 41) ckX12 3 q1503 dX2_reads_2_41 (by decide) rfl (y2.r38 hk) rfl rfl (Nat.le_of_ble_eq_true rfl) ?_
    refine sxk (y2.p38_3 hk) (fun My3 y3 => ?_)
    have t1 : TieX w S (sR σ (1568 + 6 * k) (nI 4)) (uE e 5 k (nI nw)) nw := tie_law t h.hz hk (fun j _ g => rowS_ne g) (hi_undo (t.hist hk) h2 rowS_eq (rowS_ne (by omega)) (by simp [sA]) (by have := iv.hNW; omega)) (fun x hx => uE_ne (fun z => absurd z.1 (by decide))) (fun x hx => uE_ne (fun z => hx z.2)) (fun a a4 a5 => by unfold uE; rw [if_neg a5]) (by simp [sA]) (by simp [sA]) (by simp [sA]) rfl rfl
    have v1 : IvG (sR σ (1568 + 6 * k) (nI 4)) (S 4 w) (S 8 w) (S 10 w) (S 6 w) nor nw := iv.sR1 (by unfold fr1 fr2; omega)
    have a11 : (sR σ (1568 + 6 * k) (nI 4)).2.1 11 = σ.2.1 11 := by simp [sA]
    have g1 : SX g P F A w S b (sR σ (1568 + 6 * k) (nI 4)) (uE e 5 k (nI nw)) _ := y3
    by_cases cf : σ.2.1 11 k = nI 0
    · refine pl_iconst (pc := 44) (v := 0) dX2_reads_2_44 (by rfl) ?_
      refine pj_istore_n (pc := 45) (lv' := [(3, _), (2, _), (0, _), (1, _)]) dX2_reads_2_45 rfl (by decide) rfl ?_
      refine pl_iload_n (pc := 46) dX2_reads_2_46 rfl rfl ?_
      refine pl_bipush (pc := 47) (v := 96) dX2_reads_2_47 (by rfl) ?_
      refine pj_icmp_ge (pc := 49) (tgt := 143) dX2_reads_2_49 (by decide) (fun h => absurd h (by decide)) (fun _ => ?_)
      refine pl_aload_n (pc := 52) dX2_reads_2_52 rfl rfl ?_
      refine pj_getfN (pc := 53) ckX12 0 q1496 dX2_reads_2_53 (by decide) (g1.r38 hk) rfl ?_
      obtain ⟨im_53, at_53, ft_53, him_53, hak_53, hx_53, ha_53, hf_53⟩ := g1.text (l := k) hk
      refine pj_getfN (pc := 56) ckX19 1 q1890 dX2_reads_2_56 (by decide) (him_53 _ _ hx_53) rfl ?_
      refine PJ.top (y := nI 0) (by rw [a11]; exact cf) ?_
      refine pj_if_eq (pc := 59) (tgt := 143) dX2_reads_2_59 (by decide) (fun _ => ?_) (fun h => absurd h (by decide))
      refine pj_vret (pc := 143) dX2_reads_2_143 rfl ?_
      rw [letter_undo h2 h4 c4 h5, undoes_no cf]
      exact ⟨rfl, _, g1, t1⟩
    · refine pl_iconst (pc := 44) (v := 0) dX2_reads_2_44 (by rfl) ?_
      refine pj_istore_n (pc := 45) (lv' := [(3, _), (2, _), (0, _), (1, _)]) dX2_reads_2_45 rfl (by decide) rfl ?_
      refine PJ.sub [0, 1, 3, 2] rfl ?_
      refine ind_dn (n := 96) (P := fun i => ∀ M9 τ, τ = upto (undo1 (S 4 w) k) i (sR σ (1568 + 6 * k) (nI 4)) → SB g P F A w S b τ nw M9 → IvG τ (S 4 w) (S 8 w) (S 10 w) (S 6 w) nor nw → PJ g _ _ _ _ d 0 0 46 [(3, .int (nI i)), (2, .ref (A 38 w k)), (1, .int (nI k)), (0, .ref (A 1 w 0))] [] M9 _) (fun i hi ih M9 τ hτ s9 iv9 => ?_) 0 (Nat.zero_le _) _ _ rfl ⟨_, g1, t1⟩ v1
      obtain ⟨e9, h9, t9⟩ := s9
      have b11 : τ.2.1 11 = σ.2.1 11 := by
        rw [hτ, (Fr.up (fun i τ => fr_undo1 (S 4 w) k i τ) Fr.rf i).2.1 11 (by decide) (by decide)]
        exact a11
      refine pl_iload_n (pc := 46) dX2_reads_2_46 rfl rfl ?_
      refine pl_bipush (pc := 47) (v := 96) dX2_reads_2_47 (by rfl) ?_
      refine pl_icmp_ge (pc := 49) (tgt := 143) dX2_reads_2_49 (by decide) (by omega) (by omega) (fun c49 => ?_) (fun c49 => ?_)
      · refine pj_vret (pc := 143) dX2_reads_2_143 rfl ?_
        have ei : i = 96 := by omega
        subst ei
        rw [letter_undo h2 h4 c4 h5, undoes_yes cf, ← hτ]
        exact ⟨rfl, _, h9, t9⟩
      · refine pl_aload_n (pc := 52) dX2_reads_2_52 rfl rfl ?_
        refine pj_getfN (pc := 53) ckX12 0 q1496 dX2_reads_2_53 (by decide) (h9.r38 hk) rfl ?_
        obtain ⟨im_53, at_53, ft_53, him_53, hak_53, hx_53, ha_53, hf_53⟩ := h9.text (l := k) hk
        refine pj_getfN (pc := 56) ckX19 1 q1890 dX2_reads_2_56 (by decide) (him_53 _ _ hx_53) rfl ?_
        refine pj_if_eq (pc := 59) (tgt := 143) dX2_reads_2_59 (by decide) (fun z => absurd z (by rw [b11]; exact cf)) (fun _ => ?_)
        refine pl_aload_n (pc := 62) dX2_reads_2_62 rfl rfl ?_
        refine pj_getf (pc := 63) ckX2 12 q747 dX2_reads_2_63 (by decide) (h9.r1) rfl ?_
        refine pl_iload_n (pc := 66) dX2_reads_2_66 rfl rfl ?_
        obtain ⟨m_67, c_67, l_67⟩ := h9.L2
        refine pl_callVd (pc := 67) (As := [_]) (C1 := 0) (N1 := 0) (C2 := 0) (N2 := 0) ckJ2 mdJ2_get rfl q707 q708 q709 q129 dX2_reads_2_67 rfl rfl (Nat.le_of_ble_eq_true rfl) l_67.1 (k_J2_get (d := d - 1) (by omega) l_67 (j := i) (by rw [h9.hz.s2]; omega) (if_pos (by rw [h9.hz.s2]; omega))) (by omega) (by omega) (by omega) ?_
        obtain ⟨q_67, hm_67, hq_67, hdd_67⟩ := h9.held (s := i) (by omega)
        refine pj_castS (pc := 70) ckX8 q620 dX2_reads_2_70 hm_67 ?_
        refine pl_callVd (pc := 73) (As := []) (C1 := 0) (N1 := 0) (C2 := 0) (N2 := 0) ckX8 mdX8_farm rfl q2365 q2366 q2367 q152 dX2_reads_2_73 rfl rfl (Nat.le_of_ble_eq_true rfl) hm_67 (k_X8_farm (d := d - 1) (by omega) hm_67 hq_67) (by omega) (by omega) (by omega) ?_
        by_cases cF : isFarmV (sec τ i 0) = true
        · rw [if_pos (show isFarmV (hoR τ i 0) = true from cF)]
          obtain ⟨p, hp, ep⟩ := (iv9.who i (by omega)).farm cF
          refine pj_astore (pc := 76) (lv' := [(4, _), (3, _), (2, _), (1, _), (0, _)]) dX2_reads_2_76 (by decide) rfl ?_
          refine pl_aload (pc := 78) dX2_reads_2_78 rfl ?_
          refine pj_ifnull (pc := 80) dX2_reads_2_80 ?_
          refine pl_aload (pc := 83) dX2_reads_2_83 rfl ?_
          refine pl_iload_n (pc := 85) dX2_reads_2_85 rfl rfl ?_
          refine ph_isBy (pc := 86) hq_67 (show isFarmV (hoR τ i 0) = true from cF) q2370 dX2_reads_2_86 (by omega) (Nat.le_of_ble_eq_true rfl) ?_
          rcases isBy3 (a := sec τ i 0) (b := sec τ i 6) (k := nI k) with ⟨c3, c6, e89⟩ | ⟨c3, e89⟩ | ⟨c6, e89⟩
          · refine PJ.top (y := nI 1) e89 ?_
            refine pj_if_ne (pc := 89) (tgt := 95) dX2_reads_2_89 (by decide) (fun _ => ?_) (fun h => absurd h (by decide))
            refine pl_aload_n (pc := 95) dX2_reads_2_95 rfl rfl ?_
            refine pj_getf (pc := 96) ckX2 26 q772 dX2_reads_2_96 (by decide) (h9.r1) rfl ?_
            refine pl_aload (pc := 99) dX2_reads_2_99 rfl ?_
            refine ph_holder_F (pc := 101) hq_67 (show isFarmV (hoR τ i 0) = true from cF) q2378 dX2_reads_2_101 (by omega) (Nat.le_of_ble_eq_true rfl) ?_
            refine PJ.top (y := nI p) ep ?_
            obtain ⟨m_104, c_104, l_104⟩ := h9.L4
            refine pl_callVd (pc := 104) (As := [_]) (C1 := 0) (N1 := 0) (C2 := 0) (N2 := 0) ckJ2 mdJ2_get rfl q707 q708 q709 q129 dX2_reads_2_104 rfl rfl (Nat.le_of_ble_eq_true rfl) l_104.1 (k_J2_get (d := d - 1) (by omega) l_104 (j := p) hp (if_pos hp)) (by omega) (by omega) (by omega) ?_
            refine pj_castS (pc := 107) ckX10 q1190 dX2_reads_2_107 (h9.r35 hp) ?_
            refine pl_aload (pc := 110) dX2_reads_2_110 rfl ?_
            refine ph_paid_F (pc := 112) hq_67 (show isFarmV (hoR τ i 0) = true from cF) q2379 dX2_reads_2_112 (by omega) (Nat.le_of_ble_eq_true rfl) ?_
            refine PJ.top (y := sec τ i 5) rfl ?_
            refine pl_callVWv (pc := 115) (As := [_]) (C1 := 0) (N1 := 0) (C2 := 0) (N2 := 0) ckX10 mdX10_gets rfl q2380 q2381 q2382 q158 dX2_reads_2_115 rfl rfl (Nat.le_of_ble_eq_true rfl) (h9.r35 hp) (x_X10_getsQ (d := d - 1) (by omega) h9 hp) (by omega) (by omega) (by omega) (fun My4 qy4 => ?_)
            obtain ⟨y4, kk_115⟩ := qy4
            have hk_115 := kk_115 _ _ hq_67
            refine pl_aload_n (pc := 118) dX2_reads_2_118 rfl rfl ?_
            refine pj_dup (pc := 119) dX2_reads_2_119 rfl ?_
            refine pj_getf (pc := 120) ckX2 2 q729 dX2_reads_2_120 (by decide) (y4.r1) rfl ?_
            refine pl_aload (pc := 123) dX2_reads_2_123 rfl ?_
            refine ph_paid_F (pc := 125) hk_115 (show isFarmV (hoR τ i 0) = true from cF) q2379 dX2_reads_2_125 (by omega) (Nat.le_of_ble_eq_true rfl) ?_
            refine PJ.top (y := sec τ i 5) rfl ?_
            refine pj_isub (pc := 128) dX2_reads_2_128 ?_
            refine PJ.top (y := row τ 2118 - sec τ i 5) (by show row (s_pays τ p (sec τ i 5)) 2118 - _ = _; unfold s_pays; rw [rowS_ne (by omega)]; first | done | rfl) ?_
            refine pj_putf (pc := 129) ckX2 2 q729 dX2_reads_2_129 (by decide) rfl (y4.r1) rfl rfl (Nat.le_of_ble_eq_true rfl) ?_
            refine sxk (y4.p1_2) (fun My5 y5 => ?_)
            refine pl_aload_n (pc := 132) dX2_reads_2_132 rfl rfl ?_
            refine pl_iload_n (pc := 133) dX2_reads_2_133 rfl rfl ?_
            obtain ⟨pm, hpm, epm⟩ := (t9.ps (c := i) (by omega)).1 c3
            have g7 : SX g P F A w S b (sR (s_pays τ p (sec τ i 5)) 2118 (row τ 2118 - sec τ i 5)) e9 _ := y5
            have t7 : TieX w S (sR (s_pays τ p (sec τ i 5)) 2118 (row τ 2118 - sec τ i 5)) e9 nw := t9.coin g7.hz (fun j z1 z2 => by unfold s_pays; rw [rowS_ne (fun z => z1 (by unfold fr0; omega)), rowS_ne (z2 p hp)]) (fun x hx => by
              by_cases ex : x = p
              · subst ex
                obtain ⟨m, hm, em⟩ := t9.coins hx
                obtain ⟨m1, hm1, em1⟩ := gets_in em epm hm (by omega)
                refine ⟨m1, hm1, ?_⟩
                show row (sR (s_pays τ x (sec τ i 5)) 2118 (row τ 2118 - sec τ i 5)) (768 + 8 * x + 1) = _
                unfold s_pays
                rw [rowS_ne (by omega), rowS_eq]
                exact em1
              · obtain ⟨m, hm, em⟩ := t9.coins hx
                refine ⟨m, hm, ?_⟩
                show row (sR (s_pays τ p (sec τ i 5)) 2118 (row τ 2118 - sec τ i 5)) (768 + 8 * x + 1) = _
                unfold s_pays
                rw [rowS_ne (by omega), rowS_ne (by omega)]
                exact em) (by simp [sA, s_pays]) (by simp [sA, s_pays]) (fun _ _ => by simp [sA, s_pays]) rfl rfl
            have iv7 : IvG (sR (s_pays τ p (sec τ i 5)) 2118 (row τ 2118 - sec τ i 5)) (S 4 w) (S 8 w) (S 10 w) (S 6 w) nor nw := (iv9.pays hp).sR1 (by unfold fr1 fr2; omega)
            have f0 : sec (sR (s_pays τ p (sec τ i 5)) 2118 (row τ 2118 - sec τ i 5)) i 0 = sec τ i 0 := by show row _ (8 * i + 0) = _; unfold s_pays; rw [rowS_ne (by omega), rowS_ne (by omega)]
            have f1 : sec (sR (s_pays τ p (sec τ i 5)) 2118 (row τ 2118 - sec τ i 5)) i 1 = nI p := by show row _ (8 * i + 1) = _; unfold s_pays; rw [rowS_ne (by omega), rowS_ne (by omega)]; exact ep
            refine pl_callVWv (pc := 134) (As := [_]) (C1 := 0) (N1 := 0) (C2 := 0) (N2 := 0) ckX2 mdX2_falls rfl q2386 q2387 q2388 q126 dX2_reads_2_134 rfl rfl (Nat.le_of_ble_eq_true rfl) (y5.r1) (x_X2_falls (d := d - 1) (by omega) ⟨_, g7, t7⟩ iv7 (c := i) (p := p) (by omega) hp (by rw [f0]; exact cF) f1) (by omega) (by omega) (by omega) (fun My6 qy6 => ?_)
            refine pl_iinc1 (pc := 137) (lv' := [(3, _), (4, _), (2, _), (1, _), (0, _)]) dX2_reads_2_137 rfl rfl (by decide) rfl ?_
            refine pj_goto (pc := 140) (tgt := 46) dX2_reads_2_140 (by decide) ?_
            refine PJ.sub [0, 2, 3, 4] rfl ?_
            have eu := undo_yes (n := S 4 w) (l := k) (c := i) (p := p) c3 c6 ep (by omega) (by omega)
            have ivn := undo1_iv (n := S 4 w) (l := k) (c := i) iv9 (by omega)
            rw [eu] at ivn
            exact ih (by omega) _ _ (by show _ = undo1 (S 4 w) k i (upto _ i _); rw [← hτ, eu]) qy6 ivn
          · refine PJ.top (y := nI 0) e89 ?_
            refine pj_if_ne (pc := 89) (tgt := 95) dX2_reads_2_89 (by decide) (fun h => absurd h (by decide)) (fun _ => ?_)
            refine pj_goto (pc := 92) (tgt := 137) dX2_reads_2_92 (by decide) ?_
            refine pl_iinc1 (pc := 137) (lv' := [(3, _), (4, _), (2, _), (1, _), (0, _)]) dX2_reads_2_137 rfl rfl (by decide) rfl ?_
            refine pj_goto (pc := 140) (tgt := 46) dX2_reads_2_140 (by decide) ?_
            refine PJ.sub [0, 2, 3, 4] rfl ?_
            exact ih (by omega) _ _ (by show _ = undo1 (S 4 w) k i (upto _ i _); rw [← hτ, undo_no3 c3]) ⟨_, h9, t9⟩ iv9
          · refine PJ.top (y := nI 0) e89 ?_
            refine pj_if_ne (pc := 89) (tgt := 95) dX2_reads_2_89 (by decide) (fun h => absurd h (by decide)) (fun _ => ?_)
            refine pj_goto (pc := 92) (tgt := 137) dX2_reads_2_92 (by decide) ?_
            refine pl_iinc1 (pc := 137) (lv' := [(3, _), (4, _), (2, _), (1, _), (0, _)]) dX2_reads_2_137 rfl rfl (by decide) rfl ?_
            refine pj_goto (pc := 140) (tgt := 46) dX2_reads_2_140 (by decide) ?_
            refine PJ.sub [0, 2, 3, 4] rfl ?_
            exact ih (by omega) _ _ (by show _ = undo1 (S 4 w) k i (upto _ i _); rw [← hτ, undo_no6 c6]) ⟨_, h9, t9⟩ iv9
        · rw [if_neg (show ¬ isFarmV (hoR τ i 0) = true from cF)]
          refine pj_astoreN (pc := 76) (lv' := [(4, _), (3, _), (2, _), (1, _), (0, _)]) dX2_reads_2_76 (by decide) rfl ?_
          refine pl_aloadN (pc := 78) dX2_reads_2_78 rfl ?_
          refine pj_ifnullN (pc := 80) (tgt := 137) dX2_reads_2_80 (by decide) ?_
          refine pl_iinc1 (pc := 137) (lv' := [(3, _), (4, _), (2, _), (1, _), (0, _)]) dX2_reads_2_137 rfl rfl (by decide) rfl ?_
          refine pj_goto (pc := 140) (tgt := 46) dX2_reads_2_140 (by decide) ?_
          refine PJ.sub [0, 2, 3, 4] rfl ?_
          exact ih (by omega) _ _ (by show _ = undo1 (S 4 w) k i (upto _ i _); rw [← hτ, undo_no3 (fun z => cF (by rw [z]; decide))]) ⟨_, h9, t9⟩ iv9
