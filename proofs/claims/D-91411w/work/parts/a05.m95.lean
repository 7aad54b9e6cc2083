set_option maxRecDepth 100000
def bR (A : XA) (w : Nat) (x : Int32 × Nat) : Value := if x.2 = 4 then .null else .ref (A 35 w (tN x.1))
section SK
variable {σ : MS} {n i : Nat} {v : Int32}
theorem seekB_k (σ : MS) (n : Nat) (v : Int32) : ∀ i, ((seekB σ n v i).1 = -1 ∧ (seekB σ n v i).2 = 4) ∨ ∃ b, b < i ∧ (seekB σ n v i).1 = nI b ∧ (seekB σ n v i).2 = hiredC σ n (nI b) ∧ (seekB σ n v i).2 < 4
  | 0 => Or.inl ⟨rfl, rfl⟩
  | i + 1 => by
    have ih := seekB_k σ n v i
    have up : ((seekB σ n v i).1 = -1 ∧ (seekB σ n v i).2 = 4) ∨ ∃ b, b < i + 1 ∧ (seekB σ n v i).1 = nI b ∧ (seekB σ n v i).2 = hiredC σ n (nI b) ∧ (seekB σ n v i).2 < 4 := by
      rcases ih with h | ⟨b, hb, e⟩
      · exact Or.inl h
      · exact Or.inr ⟨b, by omega, e⟩
    have h4 := (seekB_c σ n v i).1
    simp only [seekB]
    split
    · exact up
    · split
      · exact up
      · split
        · exact up
        · rename_i h
          exact Or.inr ⟨i, by omega, rfl, rfl, Nat.lt_of_lt_of_le (Classical.not_not.mp h) h4⟩
theorem seek_keep1 (h : ¬ per σ i 2 = nI 4) : seekB σ n v (i + 1) = seekB σ n v i := by
  simp only [seekB]
  rw [if_pos h]
theorem seek_keep2 (h : ¬ hiredC σ n (nI i) < (seekB σ n v i).2) : seekB σ n v (i + 1) = seekB σ n v i := by
  simp only [seekB]
  split
  · rfl
  · split
    · rfl
    · first | rfl | exact if_pos h
theorem seek_keep3 (h : ¬ v ≤ per σ i 1) : seekB σ n v (i + 1) = seekB σ n v i := by
  simp only [seekB]
  split
  · rfl
  · first | rfl | exact if_pos h
theorem seek_new (h1 : per σ i 2 = nI 4) (h2 : v ≤ per σ i 1) (h3 : hiredC σ n (nI i) < (seekB σ n v i).2) : seekB σ n v (i + 1) = (nI i, hiredC σ n (nI i)) := by
  simp only [seekB]
  rw [if_neg (fun z => z h1), if_neg (fun z => z h2), if_neg (fun z => z h3)]
theorem seekB_P {f : Nat → Int32} : ∀ i, seekB (sA σ 13 f) n v i = seekB σ n v i
  | 0 => rfl
  | i + 1 => by
    simp only [seekB, seekB_P i, per, hiredC, rowP]
theorem live3_no {nl p : Nat} (h2 : per σ p 2 = nI 2) (hb : (seekB σ n (meanV σ n nl 2 (nI 0)).1 n).1 = -1) : live3 n nl p σ = sM σ n nl 2 (nI 0) := by
  unfold live3
  rw [if_neg (fun z => z h2)]
  unfold s_seeks
  rw [seekB_P, hb]
  exact if_pos (by decide)
theorem live3_yes {nl p o : Nat} (h2 : per σ p 2 = nI 2) (ho : o < 100) (hb : (seekB σ n (meanV σ n nl 2 (nI 0)).1 n).1 = nI o) : live3 n nl p σ = sR (sR (sM σ n nl 2 (nI 0)) (768 + 8 * p + 2) (nI 3)) (768 + 8 * p + 3) (nI o) := by
  unfold live3
  rw [if_neg (fun z => z h2)]
  unfold s_seeks
  rw [seekB_P, hb]
  exact if_neg (fun z => z (nI_pos' (by omega)))
end SK
theorem bR_0 {A : XA} {w : Nat} {x : Int32 × Nat} (h : x.2 = 4) : bR A w x = .null := if_pos h
theorem bR_1 {A : XA} {w o : Nat} {x : Int32 × Nat} (h : x.2 < 4) (h1 : x.1 = nI o) (ho : o < 100) : bR A w x = .ref (A 35 w o) := by
  unfold bR
  rw [if_neg (by omega), h1, tN_nI (by omega)]
theorem seek_tie {g : GP} {P : Nat → Prop} {F : Mem} {A : XA} {w : Nat} {S : Nat → Nat → Nat} {b : XS} {σ : MS} {e : XE} {M : Mem} {nor nw p o : Nat} (h : SX g P F A w S b (sR (sR σ (768 + 8 * p + 3) (nI o)) (768 + 8 * p + 2) (nI 3)) (uE e 0 o (e 0 o + nI 1)) M) (t : TieX w S σ e nw) (iv : IvG σ (S 4 w) (S 8 w) (S 10 w) (S 6 w) nor nw) (hp : p < S 4 w) (ho : o < S 4 w) (h2 : per σ p 2 = nI 2) (hb : (seekB σ (S 4 w) (meanV σ (S 4 w) (S 8 w) 2 (nI 0)).1 (S 4 w)).1 = nI o) : SB g P F A w S b (live3 (S 4 w) (S 8 w) p σ) nw M := by
  have hz := h.hz
  have hS4 := hz.2.1
  rw [live3_yes h2 (by omega) hb]
  refine ⟨_, h.onR (fun j _ => ?_) (OnR.rf.R.R.sy.tr OnR.rf.P.R.R), tie_hire t hz rfl iv hp ho h2 (fun j _ g2 g3 => ?_) ?_ rowS_eq (by simp [sA]) (by simp [sA]) (by simp [sA]) rfl rfl⟩
  · by_cases j3 : j = 768 + 8 * p + 3
    · subst j3
      rw [rowS_eq, rowS_ne (by omega), rowS_eq]
    · rw [rowS_ne j3]
      by_cases j2 : j = 768 + 8 * p + 2
      · subst j2
        rw [rowS_eq, rowS_eq]
      · rw [rowS_ne j2, rowS_ne j2, rowS_ne j3]
        exact rowP
  · rw [rowS_ne g3, rowS_ne g2]
    exact rowP
  · show row _ (768 + 8 * p + 2) = _
    rw [rowS_ne (by omega), rowS_eq]
set_option maxHeartbeats 600000 in
theorem x_X2_seeks {g : GP} {μ : Mem} {d : Nat} {P : Nat → Prop} {F : Mem} {A : XA} {w : Nat} {S : Nat → Nat → Nat} {b : XS} {σ : MS} {nor nw : Nat} (hd : 325 ≤ d) (s : SB g P F A w S b σ nw μ) (iv : IvG σ (S 4 w) (S 8 w) (S 10 w) (S 6 w) nor nw) {p : Nat} (hp : p < S 4 w) (h2 : per σ p 2 = nI 2) : PM g yX2_seeks (ws_ yX2_seeks cX2_seeks 6 none) d 0 0 [.ref (A 1 w 0), .ref (A 35 w p)] μ (WQ none (SB g P F A w S b (live3 (S 4 w) (S 8 w) p σ) nw)) := by
  refine PM.of (by decide +kernel) (Nat.le_of_ble_eq_true rfl) ?_
  refine PJ.ok (fun G => ?_)
  show PJ g _ _ _ _ d 0 0 0 [(0, .ref (A 1 w 0)), (1, .ref (A 35 w p))] [] _ _
  obtain ⟨e, h, t⟩ := s
  have hS4 := h.hz.2.1
  have hS6 := h.hz.2.2.1
  have hS8 := h.hz.2.2.2.1
  have hS10 := h.hz.2.2.2.2.1
  refine pl_aload_n (pc := 0) dX2_seeks_0 rfl rfl ?_
  refine pl_iconst (pc := 1) (v := 2) dX2_seeks_1 (by rfl) ?_
  refine pl_iconst (pc := 2) (v := 0) dX2_seeks_2 (by rfl) ?_
  refine pl_callVWd (pc := 3) (As := [_, _]) (C1 := 0) (N1 := 0) (C2 := 0) (N2 := 0) ckX2 mdX2_means rfl q1707 q1708 q1709 q126 dX2_seeks_3 rfl rfl (Nat.le_of_ble_eq_true rfl) (h.r1) (x_X2_means (d := d - 1) (by omega) h (by omega) t.ht) (by omega) (by omega) (by omega) (fun My1 qy1 => ?_)
  obtain ⟨e_3, he_3, y1⟩ := qy1
  refine pj_istore_n (pc := 6) (lv' := [(2, _), (0, _), (1, _)]) dX2_seeks_6 rfl (by decide) rfl ?_
  refine pj_null (pc := 7) dX2_seeks_7 ?_
  refine pj_astore_nN (pc := 8) (lv' := [(3, _), (2, _), (0, _), (1, _)]) dX2_seeks_8 rfl (by decide) rfl ?_
  refine pl_iconst (pc := 9) (v := 0) dX2_seeks_9 (by rfl) ?_
  refine pj_istore (pc := 10) (lv' := [(4, _), (3, _), (2, _), (0, _), (1, _)]) dX2_seeks_10 (by decide) rfl ?_
  refine PJ.sub [0, 1, 2, 4, 3] rfl ?_
  refine ind_dn (n := (S 4 w)) (P := fun i => PJ g _ _ _ _ d 0 0 12 [(4, .int (nI i)), (3, bR A w (seekB σ (S 4 w) (meanV σ (S 4 w) (S 8 w) 2 (nI 0)).1 i)), (2, .int (meanV σ (S 4 w) (S 8 w) 2 (nI 0)).1), (1, .ref (A 35 w p)), (0, .ref (A 1 w 0))] [] My1 _) (fun i hi ih => ?_) 0 (Nat.zero_le _)
  refine pl_iload (pc := 12) dX2_seeks_12 rfl ?_
  refine pl_aload_n (pc := 14) dX2_seeks_14 rfl rfl ?_
  refine pj_getf (pc := 15) ckX2 26 q772 dX2_seeks_15 (by decide) (y1.r1) rfl ?_
  obtain ⟨m_18, c_18, l_18⟩ := y1.L4
  refine pl_callVd (pc := 18) (As := []) (C1 := 0) (N1 := 0) (C2 := 0) (N2 := 0) ckJ2 mdJ2_size rfl q947 q948 q949 q129 dX2_seeks_18 rfl rfl (Nat.le_of_ble_eq_true rfl) l_18.1 (k_J2_size (d := d - 1) (by omega) l_18) (by omega) (by omega) (by omega) ?_
  refine pl_icmp_ge (pc := 21) (tgt := 90) dX2_seeks_21 (by decide) (by omega) (by omega) (fun c21 => ?_) (fun c21 => ?_)
  · have ei : i = S 4 w := by omega
    subst ei
    rcases seekB_k σ (S 4 w) (meanV σ (S 4 w) (S 8 w) 2 (nI 0)).1 (S 4 w) with ⟨eb1, eb4⟩ | ⟨b1, hb1, eb1, eb2, eb3⟩
    · rw [bR_0 eb4]
      refine pl_aload_nN (pc := 90) dX2_seeks_90 rfl rfl ?_
      refine pj_ifnonnullN (pc := 91) dX2_seeks_91 ?_
      refine pj_vret (pc := 94) dX2_seeks_94 rfl ?_
      rw [live3_no h2 eb1]
      exact ⟨rfl, SB.P ⟨e_3, y1, t.e9 he_3⟩⟩
    · rw [bR_1 eb3 eb1 (by omega)]
      refine pl_aload_n (pc := 90) dX2_seeks_90 rfl rfl ?_
      refine pj_ifnonnull (pc := 91) (tgt := 95) dX2_seeks_91 (by decide) ?_
      refine pl_aload_n (pc := 95) dX2_seeks_95 rfl rfl ?_
      refine pj_dup (pc := 96) dX2_seeks_96 rfl ?_
      refine pj_getfN (pc := 97) ckX10 5 q1080 dX2_seeks_97 (by decide) (y1.r35 hb1) rfl ?_
      refine pl_iconst (pc := 100) (v := 1) dX2_seeks_100 (by rfl) ?_
      refine pj_iadd (pc := 101) dX2_seeks_101 ?_
      refine pj_putfN (pc := 102) ckX10 5 q1080 dX2_seeks_102 (by decide) rfl (y1.r35 hb1) rfl rfl (Nat.le_of_ble_eq_true rfl) ?_
      refine sxk (y1.p35_5 hb1) (fun My2 y2 => ?_)
      refine pl_aload_n (pc := 105) dX2_seeks_105 rfl rfl ?_
      refine pl_aload_n (pc := 106) dX2_seeks_106 rfl rfl ?_
      refine pj_getfN (pc := 107) ckX10 0 q1065 dX2_seeks_107 (by decide) (y2.r35 hb1) rfl ?_
      refine pj_putfN (pc := 110) ckX10 4 q1077 dX2_seeks_110 (by decide) rfl (y2.r35 hp) rfl rfl (Nat.le_of_ble_eq_true rfl) ?_
      refine sxk (y2.p35_4 hp) (fun My3 y3 => ?_)
      refine pl_aload_n (pc := 113) dX2_seeks_113 rfl rfl ?_
      refine pl_iconst (pc := 114) (v := 3) dX2_seeks_114 (by rfl) ?_
      refine pj_putfN (pc := 115) ckX10 3 q1074 dX2_seeks_115 (by decide) rfl (y3.r35 hp) rfl rfl (Nat.le_of_ble_eq_true rfl) ?_
      refine sxk (y3.p35_3 hp) (fun My4 y4 => ?_)
      refine pj_vret (pc := 118) dX2_seeks_118 rfl ?_
      exact ⟨rfl, seek_tie y4 (t.e9 he_3) iv hp hb1 h2 eb1⟩
  · refine pl_aload_n (pc := 24) dX2_seeks_24 rfl rfl ?_
    refine pj_getf (pc := 25) ckX2 26 q772 dX2_seeks_25 (by decide) (y1.r1) rfl ?_
    refine pl_iload (pc := 28) dX2_seeks_28 rfl ?_
    obtain ⟨m_30, c_30, l_30⟩ := y1.L4
    refine pl_callVd (pc := 30) (As := [_]) (C1 := 0) (N1 := 0) (C2 := 0) (N2 := 0) ckJ2 mdJ2_get rfl q707 q708 q709 q129 dX2_seeks_30 rfl rfl (Nat.le_of_ble_eq_true rfl) l_30.1 (k_J2_get (d := d - 1) (by omega) l_30 (j := _) (by omega) (if_pos (by omega))) (by omega) (by omega) (by omega) ?_
    refine pj_castS (pc := 33) ckX10 q1190 dX2_seeks_33 (y1.r35 (by omega)) ?_
    refine pj_astore (pc := 36) (lv' := [(5, _), (4, _), (3, _), (2, _), (1, _), (0, _)]) dX2_seeks_36 (by decide) rfl ?_
    refine pl_aload (pc := 38) dX2_seeks_38 rfl ?_
    refine pj_getfN (pc := 40) ckX10 3 q1074 dX2_seeks_40 (by decide) (y1.r35 (by omega)) rfl ?_
    refine pl_iconst (pc := 43) (v := 4) dX2_seeks_43 (by rfl) ?_
    refine pj_icmp_ne (pc := 44) (tgt := 84) dX2_seeks_44 (by decide) (fun c44 => ?_) (fun c44 => ?_)
    · rcases seekB_k σ (S 4 w) (meanV σ (S 4 w) (S 8 w) 2 (nI 0)).1 i with ⟨eb1, eb4⟩ | ⟨b1, hb1, eb1, eb2, eb3⟩
      · rw [bR_0 eb4]
        refine pl_iinc1 (pc := 84) (lv' := [(4, _), (5, _), (3, _), (2, _), (1, _), (0, _)]) dX2_seeks_84 rfl rfl (by decide) rfl ?_
        refine pj_goto (pc := 87) (tgt := 12) dX2_seeks_87 (by decide) ?_
        refine PJ.sub [0, 2, 3, 4, 5] rfl ?_
        have e9 := seek_keep1 (n := S 4 w) (v := (meanV σ (S 4 w) (S 8 w) 2 (nI 0)).1) c44
        have f9 : bR A w (seekB σ (S 4 w) (meanV σ (S 4 w) (S 8 w) 2 (nI 0)).1 (i + 1)) = .null := by rw [e9]; exact bR_0 eb4
        exact PJ.conv (by rw [f9]; first | done | rfl) rfl rfl (ih (by omega))
      · rw [bR_1 eb3 eb1 (by omega)]
        refine pl_iinc1 (pc := 84) (lv' := [(4, _), (5, _), (3, _), (2, _), (1, _), (0, _)]) dX2_seeks_84 rfl rfl (by decide) rfl ?_
        refine pj_goto (pc := 87) (tgt := 12) dX2_seeks_87 (by decide) ?_
        refine PJ.sub [0, 2, 3, 4, 5] rfl ?_
        have e9 := seek_keep1 (n := S 4 w) (v := (meanV σ (S 4 w) (S 8 w) 2 (nI 0)).1) c44
        have f9 : bR A w (seekB σ (S 4 w) (meanV σ (S 4 w) (S 8 w) 2 (nI 0)).1 (i + 1)) = .ref (A 35 w b1) := by rw [e9]; exact bR_1 eb3 eb1 (by omega)
        exact PJ.conv (by rw [f9]; first | done | rfl) rfl rfl (ih (by omega))
    · refine pl_aload (pc := 47) dX2_seeks_47 rfl ?_
      refine pj_getfN (pc := 49) ckX10 5 q1080 dX2_seeks_49 (by decide) (y1.r35 (by omega)) rfl ?_
      have c_i : hiredC σ (S 4 w) (nI i) ≤ S 4 w := cnt_le _ _
      refine PJ.top (y := nI (hiredC σ (S 4 w) (nI i))) ((t.e9 he_3).hands (by omega)) ?_
      refine pl_iconst (pc := 52) (v := 4) dX2_seeks_52 (by rfl) ?_
      refine pl_icmp_ge (pc := 53) (tgt := 84) dX2_seeks_53 (by decide) (by omega) (by omega) (fun c53 => ?_) (fun c53 => ?_)
      · rcases seekB_k σ (S 4 w) (meanV σ (S 4 w) (S 8 w) 2 (nI 0)).1 i with ⟨eb1, eb4⟩ | ⟨b1, hb1, eb1, eb2, eb3⟩
        · rw [bR_0 eb4]
          refine pl_iinc1 (pc := 84) (lv' := [(4, _), (5, _), (3, _), (2, _), (1, _), (0, _)]) dX2_seeks_84 rfl rfl (by decide) rfl ?_
          refine pj_goto (pc := 87) (tgt := 12) dX2_seeks_87 (by decide) ?_
          refine PJ.sub [0, 2, 3, 4, 5] rfl ?_
          have e9 := seek_keep2 (σ := σ) (n := S 4 w) (v := (meanV σ (S 4 w) (S 8 w) 2 (nI 0)).1) (i := i) (by have h9 := (seekB_c σ (S 4 w) (meanV σ (S 4 w) (S 8 w) 2 (nI 0)).1 i).1; omega)
          have f9 : bR A w (seekB σ (S 4 w) (meanV σ (S 4 w) (S 8 w) 2 (nI 0)).1 (i + 1)) = .null := by rw [e9]; exact bR_0 eb4
          exact PJ.conv (by rw [f9]; first | done | rfl) rfl rfl (ih (by omega))
        · rw [bR_1 eb3 eb1 (by omega)]
          refine pl_iinc1 (pc := 84) (lv' := [(4, _), (5, _), (3, _), (2, _), (1, _), (0, _)]) dX2_seeks_84 rfl rfl (by decide) rfl ?_
          refine pj_goto (pc := 87) (tgt := 12) dX2_seeks_87 (by decide) ?_
          refine PJ.sub [0, 2, 3, 4, 5] rfl ?_
          have e9 := seek_keep2 (σ := σ) (n := S 4 w) (v := (meanV σ (S 4 w) (S 8 w) 2 (nI 0)).1) (i := i) (by have h9 := (seekB_c σ (S 4 w) (meanV σ (S 4 w) (S 8 w) 2 (nI 0)).1 i).1; omega)
          have f9 : bR A w (seekB σ (S 4 w) (meanV σ (S 4 w) (S 8 w) 2 (nI 0)).1 (i + 1)) = .ref (A 35 w b1) := by rw [e9]; exact bR_1 eb3 eb1 (by omega)
          exact PJ.conv (by rw [f9]; first | done | rfl) rfl rfl (ih (by omega))
      · refine pl_aload (pc := 56) dX2_seeks_56 rfl ?_
        refine pj_getfN (pc := 58) ckX10 2 q1071 dX2_seeks_58 (by decide) (y1.r35 (by omega)) rfl ?_
        refine pl_iload_n (pc := 61) dX2_seeks_61 rfl rfl ?_
        refine pj_icmp_lt (pc := 62) (tgt := 84) dX2_seeks_62 (by decide) (fun c62 => ?_) (fun c62 => ?_)
        · rcases seekB_k σ (S 4 w) (meanV σ (S 4 w) (S 8 w) 2 (nI 0)).1 i with ⟨eb1, eb4⟩ | ⟨b1, hb1, eb1, eb2, eb3⟩
          · rw [bR_0 eb4]
            refine pl_iinc1 (pc := 84) (lv' := [(4, _), (5, _), (3, _), (2, _), (1, _), (0, _)]) dX2_seeks_84 rfl rfl (by decide) rfl ?_
            refine pj_goto (pc := 87) (tgt := 12) dX2_seeks_87 (by decide) ?_
            refine PJ.sub [0, 2, 3, 4, 5] rfl ?_
            have e9 := seek_keep3 (n := S 4 w) (σ := σ) (i := i) (v := (meanV σ (S 4 w) (S 8 w) 2 (nI 0)).1) (Int32.not_le.mpr c62)
            have f9 : bR A w (seekB σ (S 4 w) (meanV σ (S 4 w) (S 8 w) 2 (nI 0)).1 (i + 1)) = .null := by rw [e9]; exact bR_0 eb4
            exact PJ.conv (by rw [f9]; first | done | rfl) rfl rfl (ih (by omega))
          · rw [bR_1 eb3 eb1 (by omega)]
            refine pl_iinc1 (pc := 84) (lv' := [(4, _), (5, _), (3, _), (2, _), (1, _), (0, _)]) dX2_seeks_84 rfl rfl (by decide) rfl ?_
            refine pj_goto (pc := 87) (tgt := 12) dX2_seeks_87 (by decide) ?_
            refine PJ.sub [0, 2, 3, 4, 5] rfl ?_
            have e9 := seek_keep3 (n := S 4 w) (σ := σ) (i := i) (v := (meanV σ (S 4 w) (S 8 w) 2 (nI 0)).1) (Int32.not_le.mpr c62)
            have f9 : bR A w (seekB σ (S 4 w) (meanV σ (S 4 w) (S 8 w) 2 (nI 0)).1 (i + 1)) = .ref (A 35 w b1) := by rw [e9]; exact bR_1 eb3 eb1 (by omega)
            exact PJ.conv (by rw [f9]; first | done | rfl) rfl rfl (ih (by omega))
        · rcases seekB_k σ (S 4 w) (meanV σ (S 4 w) (S 8 w) 2 (nI 0)).1 i with ⟨eb1, eb4⟩ | ⟨b1, hb1, eb1, eb2, eb3⟩
          · rw [bR_0 eb4]
            refine pl_aload_nN (pc := 65) dX2_seeks_65 rfl rfl ?_
            refine pj_ifnullN (pc := 66) (tgt := 81) dX2_seeks_66 (by decide) ?_
            refine pl_aload (pc := 81) dX2_seeks_81 rfl ?_
            refine pj_astore_n (pc := 83) (lv' := [(3, _), (5, _), (4, _), (2, _), (1, _), (0, _)]) dX2_seeks_83 rfl (by decide) rfl ?_
            refine pl_iinc1 (pc := 84) (lv' := [(4, _), (3, _), (5, _), (2, _), (1, _), (0, _)]) dX2_seeks_84 rfl rfl (by decide) rfl ?_
            refine pj_goto (pc := 87) (tgt := 12) dX2_seeks_87 (by decide) ?_
            refine PJ.sub [0, 1, 3, 4, 5] rfl ?_
            have e9 := seek_new (n := S 4 w) (v := (meanV σ (S 4 w) (S 8 w) 2 (nI 0)).1) c44 (Int32.not_lt.mp c62) (by rw [eb4]; omega)
            have f9 : bR A w (seekB σ (S 4 w) (meanV σ (S 4 w) (S 8 w) 2 (nI 0)).1 (i + 1)) = .ref (A 35 w i) := bR_1 (by rw [e9]; show hiredC σ (S 4 w) (nI i) < 4; omega) (by rw [e9]) (by omega)
            exact PJ.conv (by rw [f9]; first | done | rfl) rfl rfl (ih (by omega))
          · rw [bR_1 eb3 eb1 (by omega)]
            refine pl_aload_n (pc := 65) dX2_seeks_65 rfl rfl ?_
            refine pj_ifnull (pc := 66) dX2_seeks_66 ?_
            refine pl_aload (pc := 69) dX2_seeks_69 rfl ?_
            refine pj_getfN (pc := 71) ckX10 5 q1080 dX2_seeks_71 (by decide) (y1.r35 (by omega)) rfl ?_
            refine PJ.top (y := nI (hiredC σ (S 4 w) (nI i))) ((t.e9 he_3).hands (by omega)) ?_
            refine pl_aload_n (pc := 74) dX2_seeks_74 rfl rfl ?_
            refine pj_getfN (pc := 75) ckX10 5 q1080 dX2_seeks_75 (by decide) (y1.r35 (show b1 < S 4 w by omega)) rfl ?_
            have c_b : hiredC σ (S 4 w) (nI b1) ≤ S 4 w := cnt_le _ _
            refine PJ.top (y := nI (hiredC σ (S 4 w) (nI b1))) ((t.e9 he_3).hands (by omega)) ?_
            refine pl_icmp_ge (pc := 78) (tgt := 84) dX2_seeks_78 (by decide) (by omega) (by omega) (fun c78 => ?_) (fun c78 => ?_)
            · refine pl_iinc1 (pc := 84) (lv' := [(4, _), (5, _), (3, _), (2, _), (1, _), (0, _)]) dX2_seeks_84 rfl rfl (by decide) rfl ?_
              refine pj_goto (pc := 87) (tgt := 12) dX2_seeks_87 (by decide) ?_
              refine PJ.sub [0, 2, 3, 4, 5] rfl ?_
              have e9 := seek_keep2 (σ := σ) (n := S 4 w) (v := (meanV σ (S 4 w) (S 8 w) 2 (nI 0)).1) (i := i) (by rw [eb2]; omega)
              have f9 : bR A w (seekB σ (S 4 w) (meanV σ (S 4 w) (S 8 w) 2 (nI 0)).1 (i + 1)) = .ref (A 35 w b1) := by rw [e9]; exact bR_1 eb3 eb1 (by omega)
              exact PJ.conv (by rw [f9]; first | done | rfl) rfl rfl (ih (by omega))
            · refine pl_aload (pc := 81) dX2_seeks_81 rfl ?_
              refine pj_astore_n (pc := 83) (lv' := [(3, _), (5, _), (4, _), (2, _), (1, _), (0, _)]) dX2_seeks_83 rfl (by decide) rfl ?_
              refine pl_iinc1 (pc := 84) (lv' := [(4, _), (3, _), (5, _), (2, _), (1, _), (0, _)]) dX2_seeks_84 rfl rfl (by decide) rfl ?_
              refine pj_goto (pc := 87) (tgt := 12) dX2_seeks_87 (by decide) ?_
              refine PJ.sub [0, 1, 3, 4, 5] rfl ?_
              have e9 := seek_new (n := S 4 w) (v := (meanV σ (S 4 w) (S 8 w) 2 (nI 0)).1) c44 (Int32.not_lt.mp c62) (by rw [eb2]; omega)
              have f9 : bR A w (seekB σ (S 4 w) (meanV σ (S 4 w) (S 8 w) 2 (nI 0)).1 (i + 1)) = .ref (A 35 w i) := bR_1 (by rw [e9]; show hiredC σ (S 4 w) (nI i) < 4; omega) (by rw [e9]) (by omega)
              exact PJ.conv (by rw [f9]; first | done | rfl) rfl rfl (ih (by omega))
