set_option maxRecDepth 100000
section SXH
variable {g : GP} {own : String} {cc : ByteArray} {nL : Nat} {i : MI} {d C N pc : Nat} {ls : List (Nat × Value)} {st : List Value} {μ : Mem} {Q : OC → Mem → Prop} {P : Nat → Prop} {F : Mem} {A : XA} {w : Nat} {S : Nat → Nat → Nat} {b : XS} {σ : MS} {e : XE}
theorem sxh (h : SX g P F A w S b σ e μ) (k : SX g P F A w S b σ e μ → PJ g own cc nL i d C N pc ls st μ Q) : PJ g own cc nL i d C N pc ls st μ Q := k h
end SXH
theorem SB.P {g : GP} {P : Nat → Prop} {F : Mem} {A : XA} {w : Nat} {S : Nat → Nat → Nat} {b : XS} {σ : MS} {nw : Nat} {M : Mem} {f : Nat → Int32} (h : SB g P F A w S b σ nw M) : SB g P F A w S b (sA σ 13 f) nw M := by
  obtain ⟨e, h1, t⟩ := h
  exact ⟨e, h1.onR (fun j _ => rowP) OnR.rf.P, t.cg h1.hz (fun j _ => rowP) (by simp [sA]) (by simp [sA]) (fun j _ => by simp [sA]) rfl rfl⟩
theorem p_sells_no {σ : MS} {n nl p c : Nat} (h : ¬ (meanV σ n nl 0 (σ.2.1 3 c)).1 ≤ per σ p 1) : p_sells σ n nl p c = (-3, sA σ 13 (meanV σ n nl 0 (σ.2.1 3 c)).2) := by
  unfold p_sells
  exact if_pos h
theorem p_sells_yes {σ : MS} {n nl p c : Nat} {law : Int32} (h : (meanV σ n nl 0 (σ.2.1 3 c)).1 ≤ per σ p 1) (hl : law = if ¬ σ.1 23 ≤ 0 then -1 else lawI σ nl 0) : p_sells σ n nl p c = ((meanV σ n nl 0 (σ.2.1 3 c)).1, sellS (sA σ 13 (meanV σ n nl 0 (σ.2.1 3 c)).2) n nl p c (meanV σ n nl 0 (σ.2.1 3 c)).1 law) := by
  subst hl
  unfold p_sells
  exact if_neg (fun z => z h)
set_option maxHeartbeats 600000 in
theorem x_X2_sells {g : GP} {μ : Mem} {d : Nat} {P : Nat → Prop} {F : Mem} {A : XA} {w : Nat} {S : Nat → Nat → Nat} {b : XS} {σ : MS} {nor nw : Nat} (hd : 330 ≤ d) (s : SB g P F A w S b σ nw μ) (iv : IvG σ (S 4 w) (S 8 w) (S 10 w) (S 6 w) nor nw) {p c : Nat} (hp : p < S 4 w) (hc : c < 96) (hl : sec σ c 0 = nI 1) : PM g yX2_sells (ws_ yX2_sells cX2_sells 6 (some .int)) d 1 3 [.ref (A 1 w 0), .ref (A 35 w p), .int (nI c)] μ (WQ (some (.int (p_sells σ (S 4 w) (S 8 w) p c).1)) (SB g P F A w S b (p_sells σ (S 4 w) (S 8 w) p c).2 nw)) := by
  refine PM.of (by decide +kernel) (Nat.le_of_ble_eq_true rfl) ?_
  refine PJ.ok (fun G => ?_)
  show PJ g _ _ _ _ d 1 3 0 [(0, .ref (A 1 w 0)), (1, .ref (A 35 w p)), (2, .int (nI c))] [] _ _
  obtain ⟨e, h, t⟩ := s
  have hS4 := h.hz.2.1
  have hS6 := h.hz.2.2.1
  have hS8 := h.hz.2.2.2.1
  have hS10 := h.hz.2.2.2.2.1
  refine pl_aload_n (pc := 0) dX2_sells_0 rfl rfl ?_
  refine pl_iconst (pc := 1) (v := 0) dX2_sells_1 (by rfl) ?_
  refine pl_aload_n (pc := 2) dX2_sells_2 rfl rfl ?_
  refine pj_getf (pc := 3) ckX2 13 q749 dX2_sells_3 (by decide) (h.r1) rfl ?_
  refine pl_iload_n (pc := 6) dX2_sells_6 rfl rfl ?_
  refine pl_bald (pc := 7) (n := 96) dX2_sells_7 (h.r27) (by omega) (by decide) ?_
  refine PJ.top (h.v27 (by omega)) ?_
  refine pl_callVWd (pc := 8) (As := [_, _]) (C1 := 0) (N1 := 0) (C2 := 1) (N2 := 3) ckX2 mdX2_means rfl q1707 q1708 q1709 q126 dX2_sells_8 rfl rfl (Nat.le_of_ble_eq_true rfl) (h.r1) (x_X2_means (d := d - 1) (by omega) h (by omega) t.ht) (by omega) (by omega) (by omega) (fun My1 qy1 => ?_)
  obtain ⟨e_8, he_8, y1⟩ := qy1
  refine pj_istore_n (pc := 11) (lv' := [(3, _), (0, _), (1, _), (2, _)]) dX2_sells_11 rfl (by decide) rfl ?_
  refine pl_aload_n (pc := 12) dX2_sells_12 rfl rfl ?_
  refine pj_getfN (pc := 13) ckX10 2 q1071 dX2_sells_13 (by decide) (y1.r35 hp) rfl ?_
  refine pl_iload_n (pc := 16) dX2_sells_16 rfl rfl ?_
  refine pj_icmp_ge (pc := 17) (tgt := 23) dX2_sells_17 (by decide) (fun c17 => ?_) (fun c17 => ?_)
  · refine pl_aload_n (pc := 23) dX2_sells_23 rfl rfl ?_
    refine pj_getf (pc := 24) ckX2 9 q741 dX2_sells_24 (by decide) (y1.r1) rfl ?_
    refine pj_if_le (pc := 27) (tgt := 34) dX2_sells_27 (by decide) (fun c27 => ?_) (fun c27 => ?_)
    · refine pl_aload_n (pc := 34) dX2_sells_34 rfl rfl ?_
      refine pl_iconst (pc := 35) (v := 0) dX2_sells_35 (by rfl) ?_
      refine pl_callVd (pc := 36) (As := [_]) (C1 := 0) (N1 := 0) (C2 := 1) (N2 := 3) ckX2 mdX2_why rfl q1711 q1712 q1713 q126 dX2_sells_36 rfl rfl (Nat.le_of_ble_eq_true rfl) (y1.r1) (x_X2_why (d := d - 1) (by omega) y1 (by omega)) (by omega) (by omega) (by omega) ?_
      refine pj_istore (pc := 39) (lv' := [(4, _), (3, _), (0, _), (1, _), (2, _)]) dX2_sells_39 (by decide) rfl ?_
      refine pl_iload_n (pc := 41) dX2_sells_41 rfl rfl ?_
      refine pl_aload_n (pc := 42) dX2_sells_42 rfl rfl ?_
      refine pl_iconst (pc := 43) (v := 1) dX2_sells_43 (by rfl) ?_
      refine pl_iconst (pc := 44) (v := 0) dX2_sells_44 (by rfl) ?_
      refine pl_callVWd (pc := 45) (As := [_, _]) (C1 := 0) (N1 := 0) (C2 := 1) (N2 := 3) ckX2 mdX2_means rfl q1707 q1708 q1709 q126 dX2_sells_45 rfl rfl (Nat.le_of_ble_eq_true rfl) (y1.r1) (x_X2_means (d := d - 1) (by omega) y1 (by omega) t.ht) (by omega) (by omega) (by omega) (fun My2 qy2 => ?_)
      obtain ⟨e_45, he_45, y2⟩ := qy2
      refine pj_imul (pc := 48) dX2_sells_48 ?_
      refine pl_bipush (pc := 49) (v := 100) dX2_sells_49 (by rfl) ?_
      refine pj_idiv (pc := 51) dX2_sells_51 (by decide) ?_
      refine pj_istore (pc := 52) (lv' := [(5, _), (4, _), (3, _), (0, _), (1, _), (2, _)]) dX2_sells_52 (by decide) rfl ?_
      refine pl_aload_n (pc := 54) dX2_sells_54 rfl rfl ?_
      refine pj_dup (pc := 55) dX2_sells_55 rfl ?_
      refine pj_getfN (pc := 56) ckX10 2 q1071 dX2_sells_56 (by decide) (y2.r35 hp) rfl ?_
      refine pl_iload_n (pc := 59) dX2_sells_59 rfl rfl ?_
      refine pj_isub (pc := 60) dX2_sells_60 ?_
      refine pj_putfN (pc := 61) ckX10 2 q1071 dX2_sells_61 (by decide) rfl (y2.r35 hp) rfl rfl (Nat.le_of_ble_eq_true rfl) ?_
      refine sxk (y2.p35_2 hp) (fun My3 y3 => ?_)
      refine pl_aload_n (pc := 64) dX2_sells_64 rfl rfl ?_
      refine pj_dup (pc := 65) dX2_sells_65 rfl ?_
      refine pj_getf (pc := 66) ckX2 3 q731 dX2_sells_66 (by decide) (y3.r1) rfl ?_
      refine pl_iload (pc := 69) dX2_sells_69 rfl ?_
      refine pj_iadd (pc := 71) dX2_sells_71 ?_
      refine pj_putf (pc := 72) ckX2 3 q731 dX2_sells_72 (by decide) rfl (y3.r1) rfl rfl (Nat.le_of_ble_eq_true rfl) ?_
      refine sxk (y3.p1_3) (fun My4 y4 => ?_)
      refine pl_aload_n (pc := 75) dX2_sells_75 rfl rfl ?_
      refine pj_dup (pc := 76) dX2_sells_76 rfl ?_
      refine pj_getf (pc := 77) ckX2 2 q729 dX2_sells_77 (by decide) (y4.r1) rfl ?_
      refine pl_iload_n (pc := 80) dX2_sells_80 rfl rfl ?_
      refine pl_iload (pc := 81) dX2_sells_81 rfl ?_
      refine pj_isub (pc := 83) dX2_sells_83 ?_
      refine pj_iadd (pc := 84) dX2_sells_84 ?_
      refine pj_putf (pc := 85) ckX2 2 q729 dX2_sells_85 (by decide) rfl (y4.r1) rfl rfl (Nat.le_of_ble_eq_true rfl) ?_
      refine sxk (y4.p1_2) (fun My5 y5 => ?_)
      refine pl_aload_n (pc := 88) dX2_sells_88 rfl rfl ?_
      refine pl_aload_n (pc := 89) dX2_sells_89 rfl rfl ?_
      refine pl_iload_n (pc := 90) dX2_sells_90 rfl rfl ?_
      refine pj_new (pc := 91) (C1 := 0) (N1 := 0) ckX14 q1721 q1722 q162 dX2_sells_91 _ dfX14 (by omega) (by omega) (fun q_91 hn_91 gq_91 => ?_)
      refine sxh (y5.fresh hn_91) (fun y6 => ?_)
      refine pj_dup (pc := 94) dX2_sells_94 rfl ?_
      refine pl_aload_n (pc := 95) dX2_sells_95 rfl rfl ?_
      refine pj_getfN (pc := 96) ckX10 0 q1065 dX2_sells_96 (by decide) (y6.r35 hp) rfl ?_
      refine pl_iload_n (pc := 99) dX2_sells_99 rfl rfl ?_
      refine pl_iload (pc := 100) dX2_sells_100 rfl ?_
      refine pl_callIv (pc := 102) (As := [_, _, _]) (C1 := 0) (N1 := 0) (C2 := 0) (N2 := 0) mdX14_init rfl q1723 q1724 q162 dX2_sells_102 rfl rfl (Nat.le_of_ble_eq_true rfl) (k_X14_init (d := d - 1) (by omega) mset_s) (by omega) (by omega) (by omega) ?_
      refine PJ.mem mset_m ?_
      have dd_102 := y5.dd hn_91
      refine sxf (y5.fresh hn_91) mset_s (fun My7 y7 hm_102 => ?_)
      have hq_102 := (Or.inr (Or.inr (Or.inl ⟨rfl, hm_102⟩)) : HoC My7 q_91 (ho4 (nI 3) (nI p) (meanV σ (S 4 w) (S 8 w) 0 (σ.2.1 3 c)).1 _))
      refine pl_callVWv (pc := 105) (As := [_, _, _]) (C1 := 0) (N1 := 0) (C2 := 0) (N2 := 0) ckX2 mdX2_settles rfl q1737 q1738 q1739 q126 dX2_sells_105 rfl rfl (Nat.le_of_ble_eq_true rfl) (y7.r1) (x_X2_settles (d := d - 1) (by omega) y7 hp hc hq_102 dd_102 (by decide) (fun z => by simp (disch := omega) only [per, rowS_ne] at z ⊢; exact iv.hire p hp z)) (by omega) (by omega) (by omega) (fun My8 y8 => ?_)
      refine pl_iload_n (pc := 108) dX2_sells_108 rfl rfl ?_
      refine pj_iret (pc := 109) dX2_sells_109 rfl ?_
      have hv := c17
      have hlaw : (whyV σ (S 8 w) 0) = if ¬ σ.1 23 ≤ 0 then -1 else lawI σ (S 8 w) 0 := by rw [if_neg (fun z => z c27)]; exact why_law hS8
      have y9 : SX g P F A w S b (settlesS (payA σ p (meanV σ (S 4 w) (S 8 w) 0 (σ.2.1 3 c)).1 ((meanV σ (S 4 w) (S 8 w) 0 (σ.2.1 3 c)).1 * (meanV σ (S 4 w) (S 8 w) 1 (nI 0)).1 / nI 100)) p c (nI 3) (nI p) (meanV σ (S 4 w) (S 8 w) 0 (σ.2.1 3 c)).1 (whyV σ (S 8 w) 0)) (settlesE (payA σ p (meanV σ (S 4 w) (S 8 w) 0 (σ.2.1 3 c)).1 ((meanV σ (S 4 w) (S 8 w) 0 (σ.2.1 3 c)).1 * (meanV σ (S 4 w) (S 8 w) 1 (nI 0)).1 / nI 100)) e_45 p c (nI 3) (nI p) (meanV σ (S 4 w) (S 8 w) 0 (σ.2.1 3 c)).1 (whyV σ (S 8 w) 0)) _ := y8
      rw [p_sells_yes hv hlaw]
      exact ⟨rfl, sell_tie y9 (he_8.tr he_45) t iv hc hp hl hv (mean_in (by decide) t.tr1 t.tr2) (by rw [h.meanP (by decide)])⟩
    · refine pj_iconst (pc := 30) (v := (-1)) dX2_sells_30 (by rfl) ?_
      refine pj_goto (pc := 31) (tgt := 39) dX2_sells_31 (by decide) ?_
      refine pj_istore (pc := 39) (lv' := [(4, _), (3, _), (0, _), (1, _), (2, _)]) dX2_sells_39 (by decide) rfl ?_
      refine pl_iload_n (pc := 41) dX2_sells_41 rfl rfl ?_
      refine pl_aload_n (pc := 42) dX2_sells_42 rfl rfl ?_
      refine pl_iconst (pc := 43) (v := 1) dX2_sells_43 (by rfl) ?_
      refine pl_iconst (pc := 44) (v := 0) dX2_sells_44 (by rfl) ?_
      refine pl_callVWd (pc := 45) (As := [_, _]) (C1 := 0) (N1 := 0) (C2 := 1) (N2 := 3) ckX2 mdX2_means rfl q1707 q1708 q1709 q126 dX2_sells_45 rfl rfl (Nat.le_of_ble_eq_true rfl) (y1.r1) (x_X2_means (d := d - 1) (by omega) y1 (by omega) t.ht) (by omega) (by omega) (by omega) (fun My9 qy9 => ?_)
      obtain ⟨e_45, he_45, y9⟩ := qy9
      refine pj_imul (pc := 48) dX2_sells_48 ?_
      refine pl_bipush (pc := 49) (v := 100) dX2_sells_49 (by rfl) ?_
      refine pj_idiv (pc := 51) dX2_sells_51 (by decide) ?_
      refine pj_istore (pc := 52) (lv' := [(5, _), (4, _), (3, _), (0, _), (1, _), (2, _)]) dX2_sells_52 (by decide) rfl ?_
      refine pl_aload_n (pc := 54) dX2_sells_54 rfl rfl ?_
      refine pj_dup (pc := 55) dX2_sells_55 rfl ?_
      refine pj_getfN (pc := 56) ckX10 2 q1071 dX2_sells_56 (by decide) (y9.r35 hp) rfl ?_
      refine pl_iload_n (pc := 59) dX2_sells_59 rfl rfl ?_
      refine pj_isub (pc := 60) dX2_sells_60 ?_
      refine pj_putfN (pc := 61) ckX10 2 q1071 dX2_sells_61 (by decide) rfl (y9.r35 hp) rfl rfl (Nat.le_of_ble_eq_true rfl) ?_
      refine sxk (y9.p35_2 hp) (fun My10 y10 => ?_)
      refine pl_aload_n (pc := 64) dX2_sells_64 rfl rfl ?_
      refine pj_dup (pc := 65) dX2_sells_65 rfl ?_
      refine pj_getf (pc := 66) ckX2 3 q731 dX2_sells_66 (by decide) (y10.r1) rfl ?_
      refine pl_iload (pc := 69) dX2_sells_69 rfl ?_
      refine pj_iadd (pc := 71) dX2_sells_71 ?_
      refine pj_putf (pc := 72) ckX2 3 q731 dX2_sells_72 (by decide) rfl (y10.r1) rfl rfl (Nat.le_of_ble_eq_true rfl) ?_
      refine sxk (y10.p1_3) (fun My11 y11 => ?_)
      refine pl_aload_n (pc := 75) dX2_sells_75 rfl rfl ?_
      refine pj_dup (pc := 76) dX2_sells_76 rfl ?_
      refine pj_getf (pc := 77) ckX2 2 q729 dX2_sells_77 (by decide) (y11.r1) rfl ?_
      refine pl_iload_n (pc := 80) dX2_sells_80 rfl rfl ?_
      refine pl_iload (pc := 81) dX2_sells_81 rfl ?_
      refine pj_isub (pc := 83) dX2_sells_83 ?_
      refine pj_iadd (pc := 84) dX2_sells_84 ?_
      refine pj_putf (pc := 85) ckX2 2 q729 dX2_sells_85 (by decide) rfl (y11.r1) rfl rfl (Nat.le_of_ble_eq_true rfl) ?_
      refine sxk (y11.p1_2) (fun My12 y12 => ?_)
      refine pl_aload_n (pc := 88) dX2_sells_88 rfl rfl ?_
      refine pl_aload_n (pc := 89) dX2_sells_89 rfl rfl ?_
      refine pl_iload_n (pc := 90) dX2_sells_90 rfl rfl ?_
      refine pj_new (pc := 91) (C1 := 0) (N1 := 0) ckX14 q1721 q1722 q162 dX2_sells_91 _ dfX14 (by omega) (by omega) (fun q_91 hn_91 gq_91 => ?_)
      refine sxh (y12.fresh hn_91) (fun y13 => ?_)
      refine pj_dup (pc := 94) dX2_sells_94 rfl ?_
      refine pl_aload_n (pc := 95) dX2_sells_95 rfl rfl ?_
      refine pj_getfN (pc := 96) ckX10 0 q1065 dX2_sells_96 (by decide) (y13.r35 hp) rfl ?_
      refine pl_iload_n (pc := 99) dX2_sells_99 rfl rfl ?_
      refine pl_iload (pc := 100) dX2_sells_100 rfl ?_
      refine pl_callIv (pc := 102) (As := [_, _, _]) (C1 := 0) (N1 := 0) (C2 := 0) (N2 := 0) mdX14_init rfl q1723 q1724 q162 dX2_sells_102 rfl rfl (Nat.le_of_ble_eq_true rfl) (k_X14_init (d := d - 1) (by omega) mset_s) (by omega) (by omega) (by omega) ?_
      refine PJ.mem mset_m ?_
      have dd_102 := y12.dd hn_91
      refine sxf (y12.fresh hn_91) mset_s (fun My14 y14 hm_102 => ?_)
      have hq_102 := (Or.inr (Or.inr (Or.inl ⟨rfl, hm_102⟩)) : HoC My14 q_91 (ho4 (nI 3) (nI p) (meanV σ (S 4 w) (S 8 w) 0 (σ.2.1 3 c)).1 _))
      refine pl_callVWv (pc := 105) (As := [_, _, _]) (C1 := 0) (N1 := 0) (C2 := 0) (N2 := 0) ckX2 mdX2_settles rfl q1737 q1738 q1739 q126 dX2_sells_105 rfl rfl (Nat.le_of_ble_eq_true rfl) (y14.r1) (x_X2_settles (d := d - 1) (by omega) y14 hp hc hq_102 dd_102 (by decide) (fun z => by simp (disch := omega) only [per, rowS_ne] at z ⊢; exact iv.hire p hp z)) (by omega) (by omega) (by omega) (fun My15 y15 => ?_)
      refine pl_iload_n (pc := 108) dX2_sells_108 rfl rfl ?_
      refine pj_iret (pc := 109) dX2_sells_109 rfl ?_
      have hv := c17
      have hlaw : (-1) = if ¬ σ.1 23 ≤ 0 then -1 else lawI σ (S 8 w) 0 := by rw [if_pos c27]
      have y9 : SX g P F A w S b (settlesS (payA σ p (meanV σ (S 4 w) (S 8 w) 0 (σ.2.1 3 c)).1 ((meanV σ (S 4 w) (S 8 w) 0 (σ.2.1 3 c)).1 * (meanV σ (S 4 w) (S 8 w) 1 (nI 0)).1 / nI 100)) p c (nI 3) (nI p) (meanV σ (S 4 w) (S 8 w) 0 (σ.2.1 3 c)).1 (-1)) (settlesE (payA σ p (meanV σ (S 4 w) (S 8 w) 0 (σ.2.1 3 c)).1 ((meanV σ (S 4 w) (S 8 w) 0 (σ.2.1 3 c)).1 * (meanV σ (S 4 w) (S 8 w) 1 (nI 0)).1 / nI 100)) e_45 p c (nI 3) (nI p) (meanV σ (S 4 w) (S 8 w) 0 (σ.2.1 3 c)).1 (-1)) _ := y15
      rw [p_sells_yes hv hlaw]
      exact ⟨rfl, sell_tie y9 (he_8.tr he_45) t iv hc hp hl hv (mean_in (by decide) t.tr1 t.tr2) (by rw [h.meanP (by decide)])⟩
  · refine pj_bipush (pc := 20) (v := (-3)) dX2_sells_20 (by rfl) ?_
    refine pj_iret (pc := 22) dX2_sells_22 rfl ?_
    rw [p_sells_no c17]
    exact ⟨rfl, SB.P ⟨e_8, y1, t.e9 he_8⟩⟩
