set_option maxRecDepth 100000
def live4 (p : Nat) (σ : MS) : MS := if ¬ row σ 2117 ≤ 0 then sR σ 2117 (row σ 2117 - nI 1) else (let σ := sR σ (768 + 8 * p + 4) (per σ p 4 + nI 1); sR σ 2122 (row σ 2122 + nI 1))
def live3 (n nl p : Nat) (σ : MS) : MS := if ¬ per σ p 2 = nI 2 then σ else s_seeks (sM σ n nl 2 (nI 0)) n p (meanV σ n nl 2 (nI 0)).1
def live2 (n nl p : Nat) (σ : MS) : MS := if per σ p 2 = nI 4 then σ else if bestB σ 96 < 0 then σ else (let c := tN (bestB σ 96); let v := (meanV σ n nl 0 (σ.2.1 3 c)).1; let has := per σ p 1; let σ := sM σ n nl 0 (σ.2.1 3 c); if has < v + nI 10 then σ else (p_sells σ n nl p c).2)
def live1 (n nl p : Nat) (σ : MS) : MS := let w := (meanV σ n nl 2 (nI 0)).1; let b := tN (per σ p 3); let s := per σ p 2; let has := per σ b 1; let σ := sM σ n nl 2 (nI 0); if ¬ s = nI 3 then σ else if has < w then sR (sR σ (768 + 8 * p + 2) (nI 2)) (768 + 8 * p + 3) (-1) else s_pays (s_pays σ b (-w)) p w
def s_lives (n nl p : Nat) (σ : MS) : MS := live4 p (live3 n nl p (live2 n nl p (live1 n nl p σ)))
theorem live4_iv {σ : MS} {n nl nb q nor nw p : Nat} (v : IvG σ n nl nb q nor nw) (hp : p < n) : IvG (live4 p σ) n nl nb q nor nw := by
  have hP := v.hP
  unfold live4
  split
  · exact v.sR1 (by unfold fr1 fr2; omega)
  · exact (v.sR1 (by unfold fr1 fr2; omega)).sR1 (by unfold fr1 fr2; omega)
theorem live3_iv {σ : MS} {n nl nb q nor nw p : Nat} (v : IvG σ n nl nb q nor nw) (hp : p < n) : IvG (live3 n nl p σ) n nl nb q nor nw := by
  unfold live3
  split
  · exact v
  · exact seeks_iv v.sA1 hp
theorem sells_iv {σ : MS} {n nl nb q nor nw p c : Nat} (v : IvG σ n nl nb q nor nw) (hp : p < n) (hc : c < 96) : IvG (p_sells σ n nl p c).2 n nl nb q nor nw := by
  have hP := v.hP
  unfold p_sells
  simp only []
  split
  · exact v.sA1
  · unfold sellS
    simp only []
    refine IvG.owns ?_ hp
    refine IvG.sR1 (IvG.sR1 (IvG.holdsN ?_ hc (Or.inr (Or.inr ⟨Or.inl rfl, p, hp, rfl⟩))) (by unfold fr1 fr2; omega)) (by unfold fr1 fr2; omega)
    exact IvG.sR1 (IvG.sR1 (IvG.pays v.sA1.sA1 hp) (by unfold fr1 fr2; omega)) (by unfold fr1 fr2; omega)
theorem live2_iv {σ : MS} {n nl nb q nor nw p : Nat} (v : IvG σ n nl nb q nor nw) (hp : p < n) : IvG (live2 n nl p σ) n nl nb q nor nw := by
  unfold live2
  split
  · exact v
  · split
    · exact v
    · rename_i h
      rcases bestB_c σ 96 with e | ⟨b, hb, e⟩
      · rw [e] at h
        exact absurd (show (-1 : Int32) < 0 by decide) h
      · simp only []
        split
        · exact v.sA1
        · rw [e, tN_nI (by omega)]
          exact sells_iv v.sA1 hp hb
theorem live1_iv {σ : MS} {n nl nb q nor nw p : Nat} (v : IvG σ n nl nb q nor nw) (hp : p < n) : IvG (live1 n nl p σ) n nl nb q nor nw := by
  unfold live1
  simp only []
  split
  · exact v.sA1
  · rename_i h
    obtain ⟨o, ho, e⟩ := v.hire p hp (Classical.not_not.mp h)
    have hP := v.hP
    split
    · exact v.sA1.per2 hp (fun h => absurd h (by decide))
    · rw [e, tN_nI (by omega)]
      exact (v.sA1.pays ho).pays hp
theorem lives_iv {σ : MS} {n nl nb q nor nw p : Nat} (v : IvG σ n nl nb q nor nw) (hp : p < n) : IvG (s_lives n nl p σ) n nl nb q nor nw :=
  live4_iv (live3_iv (live2_iv (live1_iv v hp) hp) hp) hp
set_option maxHeartbeats 4000000 in
theorem w_X9_lives {g : GP} {ad : Nat → Nat} {μ : Mem} {σ : MS} {d : Nat} {p : Nat} {n nl nb q nor nw : Nat} (hd : 6 ≤ d) (hA : Inj ad 18) (iv : IvG σ n nl nb q nor nw) (hp : p < n) : PM g yX9_lives (ws_ yX9_lives cX9_lives 4 none) d 0 0 [.ref (ad 0), .int (nI p)] (mm g ad μ σ) (rQ none (mm g ad μ (s_lives n nl p σ))) := by
  refine PM.of (by decide +kernel) (Nat.le_of_ble_eq_true rfl) ?_
  show PJ g _ _ _ _ d 0 0 0 [(0, .ref (ad 0)), (1, .int (nI p))] [] _ _
  have key4 : ∀ (σ : MS) (wg : Int32), IvG σ n nl nb q nor nw → PJ g yX9_lives.cls cX9_lives 4 (none, yX9_lives.name, []) d 0 0 134 [(2, .int wg), (1, .int (nI p)), (0, .ref (ad 0))] [] (mm g ad μ σ) (rQ none (mm g ad μ (live4 p σ))) := by
    intro σ wg iv
    refine pl_aload_n (pc := 134) dX9_lives_134 rfl rfl ?_
    refine pj_getf (pc := 135) ckX9 1 q2517 dX9_lives_135 (by decide) (mm_o hA) rfl ?_
    refine pl_sipush (pc := 138) (v := 2117) dX9_lives_138 (by rfl) ?_
    refine pl_iald (pc := 141) (n := 2132) dX9_lives_141 (mm_a hA 1 (by decide) (by decide)) (by omega) (by decide) ?_
    refine pj_if_le (pc := 142) (tgt := 160) dX9_lives_142 (by decide) (fun c142 => ?_) (fun c142 => ?_)
    · refine pl_aload_n (pc := 160) dX9_lives_160 rfl rfl ?_
      refine pl_iload_n (pc := 161) dX9_lives_161 rfl rfl ?_
      refine pl_iconst (pc := 162) (v := 4) dX9_lives_162 (by rfl) ?_
      refine pl_aload_n (pc := 163) dX9_lives_163 rfl rfl ?_
      refine pl_iload_n (pc := 164) dX9_lives_164 rfl rfl ?_
      refine pl_iconst (pc := 165) (v := 4) dX9_lives_165 (by rfl) ?_
      refine pl_callVd (pc := 166) (As := [_, _]) (C2 := 0) (N2 := 0) ckX9 mdX9_per rfl q2713 q2715 qs59 q154 dX9_lives_166 rfl rfl (Nat.le_of_ble_eq_true rfl) (mm_o hA) (w_X9_per (d := d - 1) (by omega) hA (by omega) (by decide)) (by omega) (by decide) (by decide) ?_
      refine pl_iconst (pc := 169) (v := 1) dX9_lives_169 (by rfl) ?_
      refine pj_iadd (pc := 170) dX9_lives_170 ?_
      refine pl_callVv (pc := 171) (As := [_, _, _]) (C2 := 0) (N2 := 0) ckX9 mdX9_setPer rfl q2701 q2703 qs57 q154 dX9_lives_171 rfl rfl (Nat.le_of_ble_eq_true rfl) (mm_o hA) (w_X9_setPer (d := d - 1) (by omega) hA (by omega) (by decide)) (by omega) (by decide) (by decide) ?_
      refine pl_aload_n (pc := 174) dX9_lives_174 rfl rfl ?_
      refine pj_getf (pc := 175) ckX9 1 q2517 dX9_lives_175 (by decide) (mm_o hA) rfl ?_
      refine pl_sipush (pc := 178) (v := 2122) dX9_lives_178 (by rfl) ?_
      refine pj_dup2_11 (pc := 181) dX9_lives_181 rfl rfl ?_
      refine pl_iald (pc := 182) (n := 2132) dX9_lives_182 (mm_a hA 1 (by decide) (by decide)) (by omega) (by decide) ?_
      refine pl_iconst (pc := 183) (v := 1) dX9_lives_183 (by rfl) ?_
      refine pj_iadd (pc := 184) dX9_lives_184 ?_
      refine pm_iast (pc := 185) 1 hA (by decide) (by decide) rfl dX9_lives_185 (show _ < 2132 by omega) (by decide) ?_
      refine pj_vret (pc := 186) dX9_lives_186 rfl ?_
      exact ⟨rfl, congrArg (mm g ad μ) (by simp [live4, c142])⟩
    · refine pl_aload_n (pc := 145) dX9_lives_145 rfl rfl ?_
      refine pj_getf (pc := 146) ckX9 1 q2517 dX9_lives_146 (by decide) (mm_o hA) rfl ?_
      refine pl_sipush (pc := 149) (v := 2117) dX9_lives_149 (by rfl) ?_
      refine pj_dup2_11 (pc := 152) dX9_lives_152 rfl rfl ?_
      refine pl_iald (pc := 153) (n := 2132) dX9_lives_153 (mm_a hA 1 (by decide) (by decide)) (by omega) (by decide) ?_
      refine pl_iconst (pc := 154) (v := 1) dX9_lives_154 (by rfl) ?_
      refine pj_isub (pc := 155) dX9_lives_155 ?_
      refine pm_iast (pc := 156) 1 hA (by decide) (by decide) rfl dX9_lives_156 (show _ < 2132 by omega) (by decide) ?_
      refine pj_goto (pc := 157) (tgt := 186) dX9_lives_157 (by decide) ?_
      refine pj_vret (pc := 186) dX9_lives_186 rfl ?_
      exact ⟨rfl, congrArg (mm g ad μ) (by simp [live4, c142])⟩
  have key3 : ∀ (σ : MS) (wg : Int32), IvG σ n nl nb q nor nw → PJ g yX9_lives.cls cX9_lives 4 (none, yX9_lives.name, []) d 0 0 113 [(2, .int wg), (1, .int (nI p)), (0, .ref (ad 0))] [] (mm g ad μ σ) (rQ none (mm g ad μ (live4 p (live3 n nl p σ)))) := by
    intro σ wg iv
    refine pl_aload_n (pc := 113) dX9_lives_113 rfl rfl ?_
    refine pl_iload_n (pc := 114) dX9_lives_114 rfl rfl ?_
    refine pl_iconst (pc := 115) (v := 2) dX9_lives_115 (by rfl) ?_
    refine pl_callVd (pc := 116) (As := [_, _]) (C2 := 0) (N2 := 0) ckX9 mdX9_per rfl q2713 q2715 qs59 q154 dX9_lives_116 rfl rfl (Nat.le_of_ble_eq_true rfl) (mm_o hA) (w_X9_per (d := d - 1) (by omega) hA (by omega) (by decide)) (by omega) (by decide) (by decide) ?_
    refine pl_iconst (pc := 119) (v := 2) dX9_lives_119 (by rfl) ?_
    refine pj_icmp_ne (pc := 120) (tgt := 134) dX9_lives_120 (by decide) (fun c120 => ?_) (fun c120 => ?_)
    · have iv9 := live3_iv iv hp
      refine PJ.conv rfl rfl (congrArg (mm g ad μ) (show _ = live3 n nl p σ by first | (simp [live3, c120]; done) | (simp [live3, c120]; rfl))) (key4 _ _ iv9)
    · refine pl_aload_n (pc := 123) dX9_lives_123 rfl rfl ?_
      refine pl_iload_n (pc := 124) dX9_lives_124 rfl rfl ?_
      refine pl_aload_n (pc := 125) dX9_lives_125 rfl rfl ?_
      refine pl_iconst (pc := 126) (v := 2) dX9_lives_126 (by rfl) ?_
      refine pl_iconst (pc := 127) (v := 0) dX9_lives_127 (by rfl) ?_
      refine pl_callVd (pc := 128) (As := [_, _]) (C2 := 0) (N2 := 0) ckX9 mdX9_meaning rfl q2926 q2928 qs92 q154 dX9_lives_128 rfl rfl (Nat.le_of_ble_eq_true rfl) (mm_o hA) (w_X9_meaning (d := d - 1) (by omega) hA iv.hn iv.hP iv.hl iv.hL iv.hw (by omega)) (by omega) (by decide) (by decide) ?_
      refine pl_callVv (pc := 131) (As := [_, _]) (C2 := 0) (N2 := 0) ckX9 mdX9_seeks rfl q3127 q3129 qs119 q154 dX9_lives_131 rfl rfl (Nat.le_of_ble_eq_true rfl) (mm_o hA) (w_X9_seeks (d := d - 1) (by omega) hA iv.sA1 hp) (by omega) (by decide) (by decide) ?_
      have iv9 := live3_iv iv hp
      refine PJ.conv rfl rfl (congrArg (mm g ad μ) (show _ = live3 n nl p σ by first | (simp [live3, eq_true c120]; done) | (simp [live3, eq_true c120]; rfl))) (key4 _ _ iv9)
  have key2 : ∀ (σ : MS) (wg : Int32), IvG σ n nl nb q nor nw → PJ g yX9_lives.cls cX9_lives 4 (none, yX9_lives.name, []) d 0 0 64 [(2, .int wg), (1, .int (nI p)), (0, .ref (ad 0))] [] (mm g ad μ σ) (rQ none (mm g ad μ (live4 p (live3 n nl p (live2 n nl p σ))))) := by
    intro σ wg iv
    refine pl_aload_n (pc := 64) dX9_lives_64 rfl rfl ?_
    refine pl_iload_n (pc := 65) dX9_lives_65 rfl rfl ?_
    refine pl_iconst (pc := 66) (v := 2) dX9_lives_66 (by rfl) ?_
    refine pl_callVd (pc := 67) (As := [_, _]) (C2 := 0) (N2 := 0) ckX9 mdX9_per rfl q2713 q2715 qs59 q154 dX9_lives_67 rfl rfl (Nat.le_of_ble_eq_true rfl) (mm_o hA) (w_X9_per (d := d - 1) (by omega) hA (by omega) (by decide)) (by omega) (by decide) (by decide) ?_
    refine pl_iconst (pc := 70) (v := 4) dX9_lives_70 (by rfl) ?_
    refine pj_icmp_eq (pc := 71) (tgt := 113) dX9_lives_71 (by decide) (fun c71 => ?_) (fun c71 => ?_)
    · have iv9 := live2_iv iv hp
      refine PJ.conv rfl rfl (congrArg (mm g ad μ) (show _ = live2 n nl p σ by first | (simp [live2, eq_true c71]; done) | (simp [live2, eq_true c71]; rfl))) (key3 _ _ iv9)
    · refine pl_aload_n (pc := 74) dX9_lives_74 rfl rfl ?_
      refine pl_callVd (pc := 75) (As := []) (C2 := 0) (N2 := 0) ckX9 mdX9_bestLot rfl q3123 q3125 qs118 q154 dX9_lives_75 rfl rfl (Nat.le_of_ble_eq_true rfl) (mm_o hA) (w_X9_bestLot (d := d - 1) (by omega) hA) (by omega) (by decide) (by decide) ?_
      rcases bestB_c σ 96 with hs78 | hs78
      · refine PJ.top (y := -1) hs78 ?_
        refine pj_istore_n (pc := 78) (lv' := [(3, _), (2, _), (1, _), (0, _)]) dX9_lives_78 rfl (by decide) rfl ?_
        refine pl_iload_n (pc := 79) dX9_lives_79 rfl rfl ?_
        refine pj_if_lt (pc := 80) (tgt := 113) dX9_lives_80 (by decide) (fun _ => ?_) (fun h => absurd h (by decide))
        refine PJ.sub [1, 2, 3] rfl ?_
        have iv9 := live2_iv iv hp
        refine PJ.conv rfl rfl (congrArg (mm g ad μ) (show _ = live2 n nl p σ by first | (simp [live2, c71, hs78]; done) | (simp [live2, c71, hs78]; rfl))) (key3 _ _ iv9)
      · obtain ⟨b, hb, eb⟩ := hs78
        have g_b := tN_nI (n := b) (by omega)
        have p_b : ¬ nI b < 0 := Int32.not_lt.mpr (nI_pos' (by omega))
        refine PJ.top (y := nI b) eb ?_
        refine pj_istore_n (pc := 78) (lv' := [(3, _), (2, _), (1, _), (0, _)]) dX9_lives_78 rfl (by decide) rfl ?_
        refine pl_iload_n (pc := 79) dX9_lives_79 rfl rfl ?_
        refine pl_if_ltN (pc := 80) dX9_lives_80 ⟨113, by decide⟩ (by omega) ?_
        refine pl_aload_n (pc := 83) dX9_lives_83 rfl rfl ?_
        refine pl_iconst (pc := 84) (v := 0) dX9_lives_84 (by rfl) ?_
        refine pl_aload_n (pc := 85) dX9_lives_85 rfl rfl ?_
        refine pj_getf (pc := 86) ckX9 3 q2519 dX9_lives_86 (by decide) (mm_o hA) rfl ?_
        refine pl_iload_n (pc := 89) dX9_lives_89 rfl rfl ?_
        refine pl_iald (pc := 90) (n := 96) dX9_lives_90 (mm_a hA 3 (by decide) (by decide)) (by omega) (by decide) ?_
        refine pl_callVd (pc := 91) (As := [_, _]) (C2 := 0) (N2 := 0) ckX9 mdX9_meaning rfl q2926 q2928 qs92 q154 dX9_lives_91 rfl rfl (Nat.le_of_ble_eq_true rfl) (mm_o hA) (w_X9_meaning (d := d - 1) (by omega) hA iv.hn iv.hP iv.hl iv.hL iv.hw (by omega)) (by omega) (by decide) (by decide) ?_
        refine pl_bipush (pc := 94) (v := 10) dX9_lives_94 (by rfl) ?_
        refine pj_iadd (pc := 96) dX9_lives_96 ?_
        refine pl_aload_n (pc := 97) dX9_lives_97 rfl rfl ?_
        refine pl_iload_n (pc := 98) dX9_lives_98 rfl rfl ?_
        refine pl_iconst (pc := 99) (v := 1) dX9_lives_99 (by rfl) ?_
        refine pl_callVd (pc := 100) (As := [_, _]) (C2 := 0) (N2 := 0) ckX9 mdX9_per rfl q2713 q2715 qs59 q154 dX9_lives_100 rfl rfl (Nat.le_of_ble_eq_true rfl) (mm_o hA) (w_X9_per (d := d - 1) (by omega) hA (by omega) (by decide)) (by omega) (by decide) (by decide) ?_
        refine PJ.top (y := per σ p 1) rfl ?_
        refine pj_icmp_gt (pc := 103) (tgt := 113) dX9_lives_103 (by decide) (fun c103 => ?_) (fun c103 => ?_)
        · refine PJ.sub [1, 2, 3] rfl ?_
          have iv9 := live2_iv iv hp
          refine PJ.conv rfl rfl (congrArg (mm g ad μ) (show _ = live2 n nl p σ by first | (simp [live2, c71, eb, g_b, p_b, c103]; done) | (simp [live2, c71, eb, g_b, p_b, c103]; rfl))) (key3 _ _ iv9)
        · refine pl_aload_n (pc := 106) dX9_lives_106 rfl rfl ?_
          refine pl_iload_n (pc := 107) dX9_lives_107 rfl rfl ?_
          refine pl_iload_n (pc := 108) dX9_lives_108 rfl rfl ?_
          refine pl_callVd (pc := 109) (As := [_, _]) (C2 := 0) (N2 := 0) ckX9 mdX9_sells rfl q3002 q3004 qs102 q154 dX9_lives_109 rfl rfl (Nat.le_of_ble_eq_true rfl) (mm_o hA) (w_X9_sells (d := d - 1) (by omega) hA iv.hn iv.hP iv.hl iv.hL (Wc_cg (σ := σ) rfl rfl rfl iv.hw) (by omega) (by omega)) (by omega) (by decide) (by decide) ?_
          refine pj_pop (pc := 112) dX9_lives_112 rfl ?_
          refine PJ.sub [1, 2, 3] rfl ?_
          have iv9 := live2_iv iv hp
          refine PJ.conv rfl rfl (congrArg (mm g ad μ) (show _ = live2 n nl p σ by first | (simp [live2, c71, eb, g_b, p_b, c103]; done) | (simp [live2, c71, eb, g_b, p_b, c103]; rfl))) (key3 _ _ iv9)
  refine pl_aload_n (pc := 0) dX9_lives_0 rfl rfl ?_
  refine pl_iconst (pc := 1) (v := 2) dX9_lives_1 (by rfl) ?_
  refine pl_iconst (pc := 2) (v := 0) dX9_lives_2 (by rfl) ?_
  refine pl_callVd (pc := 3) (As := [_, _]) (C2 := 0) (N2 := 0) ckX9 mdX9_meaning rfl q2926 q2928 qs92 q154 dX9_lives_3 rfl rfl (Nat.le_of_ble_eq_true rfl) (mm_o hA) (w_X9_meaning (d := d - 1) (by omega) hA iv.hn iv.hP iv.hl iv.hL iv.hw (by omega)) (by omega) (by decide) (by decide) ?_
  refine pj_istore_n (pc := 6) (lv' := [(2, _), (0, _), (1, _)]) dX9_lives_6 rfl (by decide) rfl ?_
  refine pl_aload_n (pc := 7) dX9_lives_7 rfl rfl ?_
  refine pl_iload_n (pc := 8) dX9_lives_8 rfl rfl ?_
  refine pl_iconst (pc := 9) (v := 2) dX9_lives_9 (by rfl) ?_
  refine pl_callVd (pc := 10) (As := [_, _]) (C2 := 0) (N2 := 0) ckX9 mdX9_per rfl q2713 q2715 qs59 q154 dX9_lives_10 rfl rfl (Nat.le_of_ble_eq_true rfl) (mm_o hA) (w_X9_per (d := d - 1) (by omega) hA (by omega) (by decide)) (by omega) (by decide) (by decide) ?_
  refine PJ.top (y := per σ p 2) rfl ?_
  refine pl_iconst (pc := 13) (v := 3) dX9_lives_13 (by rfl) ?_
  refine pj_icmp_ne (pc := 14) (tgt := 64) dX9_lives_14 (by decide) (fun c14 => ?_) (fun c14 => ?_)
  · refine PJ.sub [0, 2, 1] rfl ?_
    have iv9 := live1_iv iv hp
    refine PJ.conv rfl rfl (congrArg (mm g ad μ) (show _ = live1 n nl p σ by first | (simp [live1, c14]; done) | (simp [live1, c14]; rfl))) (key2 _ _ iv9)
  · refine pl_aload_n (pc := 17) dX9_lives_17 rfl rfl ?_
    refine pl_iload_n (pc := 18) dX9_lives_18 rfl rfl ?_
    refine pl_iconst (pc := 19) (v := 3) dX9_lives_19 (by rfl) ?_
    refine pl_callVd (pc := 20) (As := [_, _]) (C2 := 0) (N2 := 0) ckX9 mdX9_per rfl q2713 q2715 qs59 q154 dX9_lives_20 rfl rfl (Nat.le_of_ble_eq_true rfl) (mm_o hA) (w_X9_per (d := d - 1) (by omega) hA (by omega) (by decide)) (by omega) (by decide) (by decide) ?_
    obtain ⟨o, ho, eo⟩ := iv.hire p hp c14
    have g_o := tN_nI (n := o) (by omega)
    refine PJ.top (y := nI o) eo ?_
    refine pj_istore_n (pc := 23) (lv' := [(3, _), (2, _), (0, _), (1, _)]) dX9_lives_23 rfl (by decide) rfl ?_
    refine pl_aload_n (pc := 24) dX9_lives_24 rfl rfl ?_
    refine pl_iload_n (pc := 25) dX9_lives_25 rfl rfl ?_
    refine pl_iconst (pc := 26) (v := 1) dX9_lives_26 (by rfl) ?_
    refine pl_callVd (pc := 27) (As := [_, _]) (C2 := 0) (N2 := 0) ckX9 mdX9_per rfl q2713 q2715 qs59 q154 dX9_lives_27 rfl rfl (Nat.le_of_ble_eq_true rfl) (mm_o hA) (w_X9_per (d := d - 1) (by omega) hA (by omega) (by decide)) (by omega) (by decide) (by decide) ?_
    refine PJ.top (y := per σ o 1) rfl ?_
    refine pl_iload_n (pc := 30) dX9_lives_30 rfl rfl ?_
    refine pj_icmp_lt (pc := 31) (tgt := 50) dX9_lives_31 (by decide) (fun c31 => ?_) (fun c31 => ?_)
    · refine pl_aload_n (pc := 50) dX9_lives_50 rfl rfl ?_
      refine pl_iload_n (pc := 51) dX9_lives_51 rfl rfl ?_
      refine pl_iconst (pc := 52) (v := 2) dX9_lives_52 (by rfl) ?_
      refine pl_iconst (pc := 53) (v := 2) dX9_lives_53 (by rfl) ?_
      refine pl_callVv (pc := 54) (As := [_, _, _]) (C2 := 0) (N2 := 0) ckX9 mdX9_setPer rfl q2701 q2703 qs57 q154 dX9_lives_54 rfl rfl (Nat.le_of_ble_eq_true rfl) (mm_o hA) (w_X9_setPer (d := d - 1) (by omega) hA (by omega) (by decide)) (by omega) (by decide) (by decide) ?_
      refine pl_aload_n (pc := 57) dX9_lives_57 rfl rfl ?_
      refine pl_iload_n (pc := 58) dX9_lives_58 rfl rfl ?_
      refine pl_iconst (pc := 59) (v := 3) dX9_lives_59 (by rfl) ?_
      refine pj_iconst (pc := 60) (v := (-1)) dX9_lives_60 (by rfl) ?_
      refine pl_callVv (pc := 61) (As := [_, _, _]) (C2 := 0) (N2 := 0) ckX9 mdX9_setPer rfl q2701 q2703 qs57 q154 dX9_lives_61 rfl rfl (Nat.le_of_ble_eq_true rfl) (mm_o hA) (w_X9_setPer (d := d - 1) (by omega) hA (by omega) (by decide)) (by omega) (by decide) (by decide) ?_
      refine PJ.sub [1, 3, 2] rfl ?_
      have iv9 := live1_iv iv hp
      refine PJ.conv rfl rfl (congrArg (mm g ad μ) (show _ = live1 n nl p σ by first | (simp [live1, eq_true c14, eo, g_o, c31]; done) | (simp [live1, eq_true c14, eo, g_o, c31]; rfl))) (key2 _ _ iv9)
    · refine pl_aload_n (pc := 34) dX9_lives_34 rfl rfl ?_
      refine pl_iload_n (pc := 35) dX9_lives_35 rfl rfl ?_
      refine pl_iload_n (pc := 36) dX9_lives_36 rfl rfl ?_
      refine pj_ineg (pc := 37) dX9_lives_37 ?_
      refine pl_callVv (pc := 38) (As := [_, _]) (C2 := 0) (N2 := 0) ckX9 mdX9_pays rfl q3006 q3008 qs103 q154 dX9_lives_38 rfl rfl (Nat.le_of_ble_eq_true rfl) (mm_o hA) (w_X9_pays (d := d - 1) (by omega) hA (by omega)) (by omega) (by decide) (by decide) ?_
      refine pl_aload_n (pc := 41) dX9_lives_41 rfl rfl ?_
      refine pl_iload_n (pc := 42) dX9_lives_42 rfl rfl ?_
      refine pl_iload_n (pc := 43) dX9_lives_43 rfl rfl ?_
      refine pl_callVv (pc := 44) (As := [_, _]) (C2 := 0) (N2 := 0) ckX9 mdX9_pays rfl q3006 q3008 qs103 q154 dX9_lives_44 rfl rfl (Nat.le_of_ble_eq_true rfl) (mm_o hA) (w_X9_pays (d := d - 1) (by omega) hA (by omega)) (by omega) (by decide) (by decide) ?_
      refine pj_goto (pc := 47) (tgt := 64) dX9_lives_47 (by decide) ?_
      refine PJ.sub [1, 3, 2] rfl ?_
      have iv9 := live1_iv iv hp
      refine PJ.conv rfl rfl (congrArg (mm g ad μ) (show _ = live1 n nl p σ by first | (simp [live1, eq_true c14, eo, g_o, c31]; done) | (simp [live1, eq_true c14, eo, g_o, c31]; rfl))) (key2 _ _ iv9)
