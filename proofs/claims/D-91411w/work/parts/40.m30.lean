set_option maxRecDepth 100000
def fac : Nat → Nat
  | 0 => 1
  | n + 1 => (n + 1) * fac n
theorem fac_pos : ∀ n, 0 < fac n
  | 0 => by decide
  | n + 1 => Nat.mul_pos (by omega) (fac_pos n)
theorem fac_lt : ∀ n, n < 13 → fac n < 2147483648 := by decide
theorem fac_div (k : Nat) : fac (k + 1) / (k + 1) = fac k := Nat.mul_div_cancel_left _ (by omega)
def shfA (pl i : Nat) (σ : MS) : MS := sR σ (2092 + (pl + i)) (row σ (2092 + (pl + i) + 1))
def drawF : Nat → Nat → MS → MS
  | 0, _, σ => σ
  | k + 1, L, σ => drawF k (L % fac k) (upto (shfA (L / fac k)) (k - L / fac k) (let σ1 := sR σ (2080 + tN (row σ 2131)) (row σ (2092 + L / fac k)); sR σ1 2131 (row σ1 2131 + nI 1)))
theorem drawF_s {k L dr : Nat} {σ : MS} (h : row σ 2131 = nI dr) (hd : dr < 100) : drawF (k + 1) L σ = drawF k (L % fac k) (upto (shfA (L / fac k)) (k - L / fac k) (sR (sR σ (2080 + dr) (row σ (2092 + L / fac k))) 2131 (row (sR σ (2080 + dr) (row σ (2092 + L / fac k))) 2131 + nI 1))) := by
  simp only [drawF]
  rw [h, tN_nI (by omega)]
theorem shfA_row {pl j : Nat} {σ : MS} (hj : 2104 ≤ j) : ∀ m, pl + m ≤ 12 → row (upto (shfA pl) m σ) j = row σ j
  | 0, _ => rfl
  | m + 1, h => (rowS_ne (by omega)).trans (shfA_row hj m (by omega))
def p_draw (σ : MS) (ak : Nat) (v : Int32) : Int32 × MS :=
  if v < 0 then (nI 0, th σ 1) else if ¬ v < nI (fac ak) then (nI 0, th σ 1) else (nI ak, sR (drawF ak (tN v) (s0 σ)) 2130 (nI 0))
set_option maxHeartbeats 4000000 in
theorem w_X9_ask {g : GP} {ad : Nat → Nat} {μ : Mem} {σ : MS} {d : Nat} {p : Int32} {n ak dr : Nat} (hd : 3 ≤ d) (hA : Inj ad 18) (hn : row σ 2124 = nI n) (hP : n ≤ 100) (has : row σ 2130 = nI ak) (hdr : row σ 2131 = nI dr) (hAD : ak + dr ≤ 12) : PM g yX9_ask (ws_ yX9_ask cX9_ask 3 (some .int)) d 0 0 [.ref (ad 0), .int p] (mm g ad μ σ) (rQ (some (.int ((p_ask σ n ak dr p).1))) (mm g ad μ ((p_ask σ n ak dr p).2))) := by
  refine PM.of (by decide +kernel) (Nat.le_of_ble_eq_true rfl) ?_
  show PJ g _ _ _ _ d 0 0 0 [(0, .ref (ad 0)), (1, .int p)] [] _ _
  refine pl_aload_n (pc := 0) dX9_ask_0 rfl rfl ?_
  refine pl_iconst (pc := 1) (v := 0) dX9_ask_1 (by rfl) ?_
  refine pm_putI (pc := 2) 0 hA q2516 dX9_ask_2 (by decide) rfl (by rfl) (by rfl) rfl ?_
  refine pl_aload_n (pc := 5) dX9_ask_5 rfl rfl ?_
  refine pl_aload_n (pc := 6) dX9_ask_6 rfl rfl ?_
  refine pl_iload_n (pc := 7) dX9_ask_7 rfl rfl ?_
  refine pl_callVd (pc := 8) (As := [_]) (C2 := 0) (N2 := 0) ckX9 mdX9_isPerson rfl q2709 q2711 qs58 q154 dX9_ask_8 rfl rfl (Nat.le_of_ble_eq_true rfl) (mm_o hA) (w_X9_isPerson (d := d - 1) (by omega) hA (by first | omega | assumption | exact hn | exact hl | exact hb | exact hq | exact hdr | exact has)) (by omega) (by decide) (by decide) ?_
  refine pl_if_neB (pc := 11) (tgt := 18) dX9_ask_11 (by decide) (fun c11 => ?_) (fun c11 => ?_)
  · obtain ⟨j_p, hj_p, rfl⟩ := inN_of (by omega) c11
    have f_p := inN_nI hj_p (by omega)
    have g_p := nI_clamp (n := j_p) (by omega)
    refine pl_iconst (pc := 18) (v := 0) dX9_ask_18 (by rfl) ?_
    refine pl_iconst (pc := 19) (v := 1) dX9_ask_19 (by rfl) ?_
    refine pl_callVd (pc := 20) (As := [_, _]) (C2 := 0) (N2 := 0) ckX9 mdX9_bad rfl q2631 q2633 qs50 q154 dX9_ask_20 rfl rfl (Nat.le_of_ble_eq_true rfl) (mm_o hA) (w_bad_0 (d := d - 1) (by omega) hA) (by omega) (by decide) (by decide) ?_
    refine pj_if_eq (pc := 23) (tgt := 28) dX9_ask_23 (by decide) (fun _ => ?_) (fun h => absurd h (by decide))
    refine pl_aload_n (pc := 28) dX9_ask_28 rfl rfl ?_
    refine pl_iload_n (pc := 29) dX9_ask_29 rfl rfl ?_
    refine pl_callVd (pc := 30) (As := [_]) (C2 := 0) (N2 := 0) ckX9 mdX9_isHere rfl q2784 q2786 qs71 q154 dX9_ask_30 rfl rfl (Nat.le_of_ble_eq_true rfl) (mm_o hA) (w_X9_isHere (d := d - 1) (by omega) hA (by first | omega | assumption | exact hn | exact hl | exact hb | exact hq | exact hdr | exact has)) (by omega) (by decide) (by decide) ?_
    refine pl_if_neB (pc := 33) (tgt := 38) dX9_ask_33 (by decide) (fun c33 => ?_) (fun c33 => ?_)
    · refine pl_iconst (pc := 38) (v := 0) dX9_ask_38 (by rfl) ?_
      refine pj_istore_n (pc := 39) (lv' := [(2, _), (0, _), (1, _)]) dX9_ask_39 rfl (by decide) rfl ?_
      refine PJ.sub [0, 2, 1] rfl ?_
      refine ind_dn (n := ak) (P := fun i => anyN (fun k => decide (row (s0 σ) (2092 + k) = nI j_p)) i = false → PJ g _ _ _ _ d 0 0 40 [(2, .int (nI i)), (1, .int (nI j_p)), (0, .ref (ad 0))] [] (mm g ad μ (s0 σ)) _) (fun i hi ih hv => ?_) 0 (Nat.zero_le _) (rfl)
      refine pl_iload_n (pc := 40) dX9_ask_40 rfl rfl ?_
      refine pl_aload_n (pc := 41) dX9_ask_41 rfl rfl ?_
      refine pj_getf (pc := 42) ckX9 1 q2517 dX9_ask_42 (by decide) (mm_o hA) rfl ?_
      refine pl_sipush (pc := 45) (v := 2130) dX9_ask_45 (by rfl) ?_
      refine pl_iald (pc := 48) (n := 2132) dX9_ask_48 (mm_a hA 1 (by decide) (by decide)) (by omega) (by decide) ?_
      refine PJ.top (y := nI _) (has) ?_
      refine pl_icmp_ge (pc := 49) (tgt := 75) dX9_ask_49 (by decide) (by omega) (by omega) (fun c49 => ?_) (fun c49 => ?_)
      · have e8 : ak = i := by omega
        have nask : askedV (s0 σ) ak (nI j_p) = false := by rw [e8]; exact hv
        refine pl_iconst (pc := 75) (v := 0) dX9_ask_75 (by rfl) ?_
        refine pj_istore_n (pc := 76) (lv' := [(2, _), (1, _), (0, _)]) dX9_ask_76 rfl (by decide) rfl ?_
        refine ind_dn (n := dr) (P := fun i => anyN (fun k => decide (row (s0 σ) (2080 + k) = nI j_p)) i = false → PJ g _ _ _ _ d 0 0 77 [(2, .int (nI i)), (1, .int (nI j_p)), (0, .ref (ad 0))] [] (mm g ad μ (s0 σ)) _) (fun i hi ih hv => ?_) 0 (Nat.zero_le _) (rfl)
        refine pl_iload_n (pc := 77) dX9_ask_77 rfl rfl ?_
        refine pl_aload_n (pc := 78) dX9_ask_78 rfl rfl ?_
        refine pj_getf (pc := 79) ckX9 1 q2517 dX9_ask_79 (by decide) (mm_o hA) rfl ?_
        refine pl_sipush (pc := 82) (v := 2131) dX9_ask_82 (by rfl) ?_
        refine pl_iald (pc := 85) (n := 2132) dX9_ask_85 (mm_a hA 1 (by decide) (by decide)) (by omega) (by decide) ?_
        refine PJ.top (y := nI _) (hdr) ?_
        refine pl_icmp_ge (pc := 86) (tgt := 112) dX9_ask_86 (by decide) (by omega) (by omega) (fun c86 => ?_) (fun c86 => ?_)
        · have e9 : dr = i := by omega
          have nacr : acreV (s0 σ) dr (nI j_p) = false := by rw [e9]; exact hv
          refine pl_aload_n (pc := 112) dX9_ask_112 rfl rfl ?_
          refine pj_getf (pc := 113) ckX9 1 q2517 dX9_ask_113 (by decide) (mm_o hA) rfl ?_
          refine pl_sipush (pc := 116) (v := 2130) dX9_ask_116 (by rfl) ?_
          refine pl_iald (pc := 119) (n := 2132) dX9_ask_119 (mm_a hA 1 (by decide) (by decide)) (by omega) (by decide) ?_
          refine PJ.top (y := nI _) (has) ?_
          refine pl_aload_n (pc := 120) dX9_ask_120 rfl rfl ?_
          refine pj_getf (pc := 121) ckX9 1 q2517 dX9_ask_121 (by decide) (mm_o hA) rfl ?_
          refine pl_sipush (pc := 124) (v := 2131) dX9_ask_124 (by rfl) ?_
          refine pl_iald (pc := 127) (n := 2132) dX9_ask_127 (mm_a hA 1 (by decide) (by decide)) (by omega) (by decide) ?_
          refine PJ.top (y := nI _) (hdr) ?_
          refine pl_iadd (pc := 128) dX9_ask_128 ?_
          refine pl_bipush (pc := 129) (v := 12) dX9_ask_129 (by rfl) ?_
          refine pl_icmp_ne (pc := 131) (tgt := 137) dX9_ask_131 (by decide) (by omega) (by omega) (fun c131 => ?_) (fun c131 => ?_)
          · refine pl_aload_n (pc := 137) dX9_ask_137 rfl rfl ?_
            refine pj_getf (pc := 138) ckX9 1 q2517 dX9_ask_138 (by decide) (mm_o hA) rfl ?_
            refine pl_sipush (pc := 141) (v := 2092) dX9_ask_141 (by rfl) ?_
            refine pl_aload_n (pc := 144) dX9_ask_144 rfl rfl ?_
            refine pj_getf (pc := 145) ckX9 1 q2517 dX9_ask_145 (by decide) (mm_o hA) rfl ?_
            refine pl_sipush (pc := 148) (v := 2130) dX9_ask_148 (by rfl) ?_
            refine pl_iald (pc := 151) (n := 2132) dX9_ask_151 (mm_a hA 1 (by decide) (by decide)) (by omega) (by decide) ?_
            refine PJ.top (y := nI _) (has) ?_
            refine pl_iadd (pc := 152) dX9_ask_152 ?_
            refine pl_iload_n (pc := 153) dX9_ask_153 rfl rfl ?_
            refine pm_iast (pc := 154) 1 hA (by decide) (by decide) rfl dX9_ask_154 (show _ < 2132 by omega) (by decide) ?_
            refine pl_aload_n (pc := 155) dX9_ask_155 rfl rfl ?_
            refine pj_getf (pc := 156) ckX9 1 q2517 dX9_ask_156 (by decide) (mm_o hA) rfl ?_
            refine pl_sipush (pc := 159) (v := 2130) dX9_ask_159 (by rfl) ?_
            refine pj_dup2_11 (pc := 162) dX9_ask_162 rfl rfl ?_
            refine pl_iald (pc := 163) (n := 2132) dX9_ask_163 (mm_a hA 1 (by decide) (by decide)) (by omega) (by decide) ?_
            refine pl_iconst (pc := 164) (v := 1) dX9_ask_164 (by rfl) ?_
            refine pj_iadd (pc := 165) dX9_ask_165 ?_
            refine pm_iast (pc := 166) 1 hA (by decide) (by decide) rfl dX9_ask_166 (show _ < 2132 by omega) (by decide) ?_
            refine pl_aload_n (pc := 167) dX9_ask_167 rfl rfl ?_
            refine pj_getf (pc := 168) ckX9 1 q2517 dX9_ask_168 (by decide) (mm_o hA) rfl ?_
            refine pl_sipush (pc := 171) (v := 2130) dX9_ask_171 (by rfl) ?_
            refine pl_iald (pc := 174) (n := 2132) dX9_ask_174 (mm_a hA 1 (by decide) (by decide)) (by omega) (by decide) ?_
            refine pj_iret (pc := 175) dX9_ask_175 rfl ?_
            exact ⟨vIe (by simp [p_ask, c11, f_p, g_p, c33, nask, nacr, c131]) rfl, congrArg (mm g ad μ) (by simp [p_ask, c11, f_p, g_p, c33, nask, nacr, c131])⟩
          · refine pj_bipush (pc := 134) (v := (-3)) dX9_ask_134 (by rfl) ?_
            refine pj_iret (pc := 136) dX9_ask_136 rfl ?_
            exact ⟨vIe (by simp [p_ask, c11, f_p, g_p, c33, nask, nacr, eq_true c131]) rfl, congrArg (mm g ad μ) (by simp [p_ask, c11, f_p, g_p, c33, nask, nacr, eq_true c131])⟩
        · refine pl_aload_n (pc := 89) dX9_ask_89 rfl rfl ?_
          refine pj_getf (pc := 90) ckX9 1 q2517 dX9_ask_90 (by decide) (mm_o hA) rfl ?_
          refine pl_sipush (pc := 93) (v := 2080) dX9_ask_93 (by rfl) ?_
          refine pl_iload_n (pc := 96) dX9_ask_96 rfl rfl ?_
          refine pl_iadd (pc := 97) dX9_ask_97 ?_
          refine pl_iald (pc := 98) (n := 2132) dX9_ask_98 (mm_a hA 1 (by decide) (by decide)) (by omega) (by decide) ?_
          refine pl_iload_n (pc := 99) dX9_ask_99 rfl rfl ?_
          refine pj_icmp_ne (pc := 100) (tgt := 106) dX9_ask_100 (by decide) (fun c100 => ?_) (fun c100 => ?_)
          · refine pl_iinc1 (pc := 106) (lv' := [(2, _), (1, _), (0, _)]) dX9_ask_106 rfl rfl (by decide) rfl ?_
            refine pj_goto (pc := 109) (tgt := 77) dX9_ask_109 (by decide) ?_
            exact ih (by omega) (anyN_up hv (decide_eq_false c100))
          · have hit : acreV (s0 σ) dr (nI j_p) = true := anyN_hit (p := fun k => decide (row (s0 σ) (2080 + k) = nI j_p)) c86 (decide_eq_true c100)
            refine pj_bipush (pc := 103) (v := (-2)) dX9_ask_103 (by rfl) ?_
            refine pj_iret (pc := 105) dX9_ask_105 rfl ?_
            exact ⟨vIe (by simp [p_ask, c11, f_p, g_p, c33, nask, hit]) rfl, congrArg (mm g ad μ) (by simp [p_ask, c11, f_p, g_p, c33, nask, hit])⟩
      · refine pl_aload_n (pc := 52) dX9_ask_52 rfl rfl ?_
        refine pj_getf (pc := 53) ckX9 1 q2517 dX9_ask_53 (by decide) (mm_o hA) rfl ?_
        refine pl_sipush (pc := 56) (v := 2092) dX9_ask_56 (by rfl) ?_
        refine pl_iload_n (pc := 59) dX9_ask_59 rfl rfl ?_
        refine pl_iadd (pc := 60) dX9_ask_60 ?_
        refine pl_iald (pc := 61) (n := 2132) dX9_ask_61 (mm_a hA 1 (by decide) (by decide)) (by omega) (by decide) ?_
        refine pl_iload_n (pc := 62) dX9_ask_62 rfl rfl ?_
        refine pj_icmp_ne (pc := 63) (tgt := 69) dX9_ask_63 (by decide) (fun c63 => ?_) (fun c63 => ?_)
        · refine pl_iinc1 (pc := 69) (lv' := [(2, _), (1, _), (0, _)]) dX9_ask_69 rfl rfl (by decide) rfl ?_
          refine pj_goto (pc := 72) (tgt := 40) dX9_ask_72 (by decide) ?_
          exact ih (by omega) (anyN_up hv (decide_eq_false c63))
        · have hit : askedV (s0 σ) ak (nI j_p) = true := anyN_hit (p := fun k => decide (row (s0 σ) (2092 + k) = nI j_p)) c49 (decide_eq_true c63)
          refine pj_bipush (pc := 66) (v := (-2)) dX9_ask_66 (by rfl) ?_
          refine pj_iret (pc := 68) dX9_ask_68 rfl ?_
          exact ⟨vIe (by simp [p_ask, c11, f_p, g_p, c33, hit]) rfl, congrArg (mm g ad μ) (by simp [p_ask, c11, f_p, g_p, c33, hit])⟩
    · refine pj_iconst (pc := 36) (v := (-1)) dX9_ask_36 (by rfl) ?_
      refine pj_iret (pc := 37) dX9_ask_37 rfl ?_
      exact ⟨vIe (by simp [p_ask, c11, f_p, g_p, c33]) rfl, congrArg (mm g ad μ) (by simp [p_ask, c11, f_p, g_p, c33])⟩
  · refine pl_iconst (pc := 14) (v := 1) dX9_ask_14 (by rfl) ?_
    refine pj_goto (pc := 15) (tgt := 19) dX9_ask_15 (by decide) ?_
    refine pl_iconst (pc := 19) (v := 1) dX9_ask_19 (by rfl) ?_
    refine pl_callVd (pc := 20) (As := [_, _]) (C2 := 0) (N2 := 0) ckX9 mdX9_bad rfl q2631 q2633 qs50 q154 dX9_ask_20 rfl rfl (Nat.le_of_ble_eq_true rfl) (mm_o hA) (w_bad_1 (d := d - 1) (by omega) hA) (by omega) (by decide) (by decide) ?_
    refine pj_if_eq (pc := 23) (tgt := 28) dX9_ask_23 (by decide) (fun h => absurd h (by decide)) (fun _ => ?_)
    refine pl_iconst (pc := 26) (v := 0) dX9_ask_26 (by rfl) ?_
    refine pj_iret (pc := 27) dX9_ask_27 rfl ?_
    exact ⟨vIe (by simp [p_ask, c11]) rfl, congrArg (mm g ad μ) (by simp [p_ask, c11])⟩
set_option maxHeartbeats 4000000 in
theorem w_X9_draw {g : GP} {ad : Nat → Nat} {μ : Mem} {σ : MS} {d : Nat} {v : Int32} {ak dr : Nat} (hd : 2 ≤ d) (hA : Inj ad 18) (has : row σ 2130 = nI ak) (hdr : row σ 2131 = nI dr) (hAD : ak + dr ≤ 12) : PM g yX9_draw (ws_ yX9_draw cX9_draw 8 (some .int)) d 0 0 [.ref (ad 0), .int v] (mm g ad μ σ) (rQ (some (.int ((p_draw σ ak v).1))) (mm g ad μ ((p_draw σ ak v).2))) := by
  refine PM.of (by decide +kernel) (Nat.le_of_ble_eq_true rfl) ?_
  show PJ g _ _ _ _ d 0 0 0 [(0, .ref (ad 0)), (1, .int v)] [] _ _
  have key : ∀ (k L dr : Nat) (σ : MS), row σ 2131 = nI dr → k + dr ≤ 12 → L < fac k → PJ g yX9_draw.cls cX9_draw 8 (some .int, yX9_draw.name, []) d 0 0 66 [(5, .int (nI k)), (4, .int (nI L)), (3, .int (nI (fac k))), (2, .int (nI ak)), (1, .int v), (0, .ref (ad 0))] [] (mm g ad μ σ) (rQ (some (.int (nI ak))) (mm g ad μ (sR (drawF k L σ) 2130 (nI 0)))) := by
    intro k
    induction k with
    | zero =>
      intro L dr σ hdr hk hL
      refine pl_iload (pc := 66) dX9_draw_66 rfl ?_
      refine pj_if_le (pc := 68) (tgt := 177) dX9_draw_68 (by decide) (fun _ => ?_) (fun h => absurd h (by decide))
      refine pl_aload_n (pc := 177) dX9_draw_177 rfl rfl ?_
      refine pj_getf (pc := 178) ckX9 1 q2517 dX9_draw_178 (by decide) (mm_o hA) rfl ?_
      refine pl_sipush (pc := 181) (v := 2130) dX9_draw_181 (by rfl) ?_
      refine pl_iconst (pc := 184) (v := 0) dX9_draw_184 (by rfl) ?_
      refine pm_iast (pc := 185) 1 hA (by decide) (by decide) rfl dX9_draw_185 (show _ < 2132 by omega) (by decide) ?_
      refine pl_iload_n (pc := 186) dX9_draw_186 rfl rfl ?_
      refine pj_iret (pc := 187) dX9_draw_187 rfl ?_
      exact ⟨rfl, rfl⟩
    | succ k ihk =>
      intro L dr σ hdr hk hL
      have fk0 := fac_pos k
      have fk1 := fac_lt k (by omega)
      have fk2 := fac_lt (k + 1) (by omega)
      have hpl : L / fac k < k + 1 := Nat.div_lt_of_lt_mul (by rw [Nat.mul_comm]; exact hL)
      have hml : L % fac k < fac k := Nat.mod_lt _ fk0
      refine pl_iload (pc := 66) dX9_draw_66 rfl ?_
      refine pl_if_leN (pc := 68) (tgt := 177) dX9_draw_68 (by decide) (by omega) (fun c68 => ?_) (fun c68 => ?_)
      · exact absurd c68 (by omega)
      · refine pl_iload_n (pc := 71) dX9_draw_71 rfl rfl ?_
        refine pl_iload (pc := 72) dX9_draw_72 rfl ?_
        refine pl_idiv (pc := 74) dX9_draw_74 fk2 (by omega) (by omega) ?_
        refine PJ.top (y := nI (fac k)) (by rw [fac_div]) ?_
        refine pj_istore_n (pc := 75) (lv' := [(3, _), (5, _), (4, _), (2, _), (1, _), (0, _)]) dX9_draw_75 rfl (by decide) rfl ?_
        refine pl_iload (pc := 76) dX9_draw_76 rfl ?_
        refine pl_iload_n (pc := 78) dX9_draw_78 rfl rfl ?_
        refine pl_idiv (pc := 79) dX9_draw_79 (by omega) fk0 fk1 ?_
        refine pj_istore (pc := 80) (lv' := [(6, _), (3, _), (5, _), (4, _), (2, _), (1, _), (0, _)]) dX9_draw_80 (by decide) rfl ?_
        refine pl_iload (pc := 82) dX9_draw_82 rfl ?_
        refine pl_iload_n (pc := 84) dX9_draw_84 rfl rfl ?_
        refine pl_irem (pc := 85) dX9_draw_85 (by omega) fk0 fk1 ?_
        refine pj_istore (pc := 86) (lv' := [(4, _), (6, _), (3, _), (5, _), (2, _), (1, _), (0, _)]) dX9_draw_86 (by decide) rfl ?_
        refine pl_aload_n (pc := 88) dX9_draw_88 rfl rfl ?_
        refine pj_getf (pc := 89) ckX9 1 q2517 dX9_draw_89 (by decide) (mm_o hA) rfl ?_
        refine pl_sipush (pc := 92) (v := 2080) dX9_draw_92 (by rfl) ?_
        refine pl_aload_n (pc := 95) dX9_draw_95 rfl rfl ?_
        refine pj_getf (pc := 96) ckX9 1 q2517 dX9_draw_96 (by decide) (mm_o hA) rfl ?_
        refine pl_sipush (pc := 99) (v := 2131) dX9_draw_99 (by rfl) ?_
        refine pl_iald (pc := 102) (n := 2132) dX9_draw_102 (mm_a hA 1 (by decide) (by decide)) (by omega) (by decide) ?_
        refine PJ.top (y := nI _) (hdr) ?_
        refine pl_iadd (pc := 103) dX9_draw_103 ?_
        refine pl_aload_n (pc := 104) dX9_draw_104 rfl rfl ?_
        refine pj_getf (pc := 105) ckX9 1 q2517 dX9_draw_105 (by decide) (mm_o hA) rfl ?_
        refine pl_sipush (pc := 108) (v := 2092) dX9_draw_108 (by rfl) ?_
        refine pl_iload (pc := 111) dX9_draw_111 rfl ?_
        refine pl_iadd (pc := 113) dX9_draw_113 ?_
        refine pl_iald (pc := 114) (n := 2132) dX9_draw_114 (mm_a hA 1 (by decide) (by decide)) (by omega) (by decide) ?_
        refine pm_iast (pc := 115) 1 hA (by decide) (by decide) rfl dX9_draw_115 (show _ < 2132 by omega) (by decide) ?_
        refine pl_aload_n (pc := 116) dX9_draw_116 rfl rfl ?_
        refine pj_getf (pc := 117) ckX9 1 q2517 dX9_draw_117 (by decide) (mm_o hA) rfl ?_
        refine pl_sipush (pc := 120) (v := 2131) dX9_draw_120 (by rfl) ?_
        refine pj_dup2_11 (pc := 123) dX9_draw_123 rfl rfl ?_
        refine pl_iald (pc := 124) (n := 2132) dX9_draw_124 (mm_a hA 1 (by decide) (by decide)) (by omega) (by decide) ?_
        refine pl_iconst (pc := 125) (v := 1) dX9_draw_125 (by rfl) ?_
        refine pj_iadd (pc := 126) dX9_draw_126 ?_
        refine pm_iast (pc := 127) 1 hA (by decide) (by decide) rfl dX9_draw_127 (show _ < 2132 by omega) (by decide) ?_
        refine pl_iload (pc := 128) dX9_draw_128 rfl ?_
        refine pj_istore (pc := 130) (lv' := [(7, _), (4, _), (6, _), (3, _), (5, _), (2, _), (1, _), (0, _)]) dX9_draw_130 (by decide) rfl ?_
        refine PJ.sub [0, 2, 4, 1, 3, 5, 6, 7] rfl ?_
        refine ind_dn (n := (k - L / fac k)) (P := fun i => PJ g _ _ _ _ d 0 0 132 [(7, .int (nI (L / fac k + i))), (6, .int (nI (L / fac k))), (5, .int (nI (k + 1))), (4, .int (nI (L % fac k))), (3, .int (nI (fac k))), (2, .int (nI ak)), (1, .int v), (0, .ref (ad 0))] [] (mm g ad μ (upto (shfA (L / fac k)) i (sR (sR σ (2080 + dr) (row σ (2092 + L / fac k))) 2131 (row (sR σ (2080 + dr) (row σ (2092 + L / fac k))) 2131 + nI 1)))) _) (fun i hi ih => ?_) 0 (Nat.zero_le _)
        refine pl_iload (pc := 132) dX9_draw_132 rfl ?_
        refine pl_iload (pc := 134) dX9_draw_134 rfl ?_
        refine pl_iconst (pc := 136) (v := 1) dX9_draw_136 (by rfl) ?_
        refine pl_isub (pc := 137) dX9_draw_137 (by omega) ?_
        refine pl_icmp_ge (pc := 138) (tgt := 171) dX9_draw_138 (by decide) (by omega) (by omega) (fun c138 => ?_) (fun c138 => ?_)
        · have e9 : k - L / fac k = i := by omega
          subst e9
          refine pl_iinc (pc := 171) (lv' := [(5, _), (7, _), (6, _), (4, _), (3, _), (2, _), (1, _), (0, _)]) dX9_draw_171 rfl (pk_m1 _) (by decide) rfl ?_
          refine pj_goto (pc := 174) (tgt := 66) dX9_draw_174 (by decide) ?_
          refine PJ.sub [0, 3, 4, 5, 6, 7] rfl ?_
          rw [drawF_s hdr (by omega)]
          exact ihk _ (dr + 1) _ ((shfA_row (by omega) _ (by omega)).trans (rowS_eq.trans (by rw [rowS_ne (by omega), hdr, nI_add]))) (by omega) hml
        · refine pl_aload_n (pc := 141) dX9_draw_141 rfl rfl ?_
          refine pj_getf (pc := 142) ckX9 1 q2517 dX9_draw_142 (by decide) (mm_o hA) rfl ?_
          refine pl_sipush (pc := 145) (v := 2092) dX9_draw_145 (by rfl) ?_
          refine pl_iload (pc := 148) dX9_draw_148 rfl ?_
          refine pl_iadd (pc := 150) dX9_draw_150 ?_
          refine pl_aload_n (pc := 151) dX9_draw_151 rfl rfl ?_
          refine pj_getf (pc := 152) ckX9 1 q2517 dX9_draw_152 (by decide) (mm_o hA) rfl ?_
          refine pl_sipush (pc := 155) (v := 2092) dX9_draw_155 (by rfl) ?_
          refine pl_iload (pc := 158) dX9_draw_158 rfl ?_
          refine pl_iadd (pc := 160) dX9_draw_160 ?_
          refine pl_iconst (pc := 161) (v := 1) dX9_draw_161 (by rfl) ?_
          refine pl_iadd (pc := 162) dX9_draw_162 ?_
          refine pl_iald (pc := 163) (n := 2132) dX9_draw_163 (mm_a hA 1 (by decide) (by decide)) (by omega) (by decide) ?_
          refine pm_iast (pc := 164) 1 hA (by decide) (by decide) rfl dX9_draw_164 (show _ < 2132 by omega) (by decide) ?_
          refine pl_iinc1 (pc := 165) (lv' := [(7, _), (6, _), (5, _), (4, _), (3, _), (2, _), (1, _), (0, _)]) dX9_draw_165 rfl rfl (by decide) rfl ?_
          refine pj_goto (pc := 168) (tgt := 132) dX9_draw_168 (by decide) ?_
          exact ih (by omega)
  refine pl_aload_n (pc := 0) dX9_draw_0 rfl rfl ?_
  refine pl_iconst (pc := 1) (v := 0) dX9_draw_1 (by rfl) ?_
  refine pm_putI (pc := 2) 0 hA q2516 dX9_draw_2 (by decide) rfl (by rfl) (by rfl) rfl ?_
  refine pl_aload_n (pc := 5) dX9_draw_5 rfl rfl ?_
  refine pj_getf (pc := 6) ckX9 1 q2517 dX9_draw_6 (by decide) (mm_o hA) rfl ?_
  refine pl_sipush (pc := 9) (v := 2130) dX9_draw_9 (by rfl) ?_
  refine pl_iald (pc := 12) (n := 2132) dX9_draw_12 (mm_a hA 1 (by decide) (by decide)) (by omega) (by decide) ?_
  refine PJ.top (y := nI _) (has) ?_
  refine pj_istore_n (pc := 13) (lv' := [(2, _), (0, _), (1, _)]) dX9_draw_13 rfl (by decide) rfl ?_
  refine pl_iconst (pc := 14) (v := 1) dX9_draw_14 (by rfl) ?_
  refine pj_istore_n (pc := 15) (lv' := [(3, _), (2, _), (0, _), (1, _)]) dX9_draw_15 rfl (by decide) rfl ?_
  refine pl_iconst (pc := 16) (v := 2) dX9_draw_16 (by rfl) ?_
  refine pj_istore (pc := 17) (lv' := [(4, _), (3, _), (2, _), (0, _), (1, _)]) dX9_draw_17 (by decide) rfl ?_
  refine PJ.sub [0, 1, 2, 4, 3] rfl ?_
  refine ind_dn (n := ak) (P := fun i => (i = 0 ∨ i + 1 ≤ ak) → PJ g _ _ _ _ d 0 0 19 [(4, .int (nI (i + 2))), (3, .int (nI (fac (i + 1)))), (2, .int (nI ak)), (1, .int v), (0, .ref (ad 0))] [] (mm g ad μ (s0 σ)) _) (fun i hi ih hv => ?_) 0 (Nat.zero_le _) (Or.inl rfl)
  refine pl_iload (pc := 19) dX9_draw_19 rfl ?_
  refine pl_iload_n (pc := 21) dX9_draw_21 rfl rfl ?_
  refine pl_icmp_gt (pc := 22) (tgt := 36) dX9_draw_22 (by decide) (by omega) (by omega) (fun c22 => ?_) (fun c22 => ?_)
  · have fa : fac (i + 1) = fac ak := by
      rcases (by omega : ak = i + 1 ∨ (i = 0 ∧ (ak = 0 ∨ ak = 1))) with h | ⟨h1, h2⟩
      · rw [h]
      · subst h1
        rcases h2 with h | h <;> rw [h] <;> rfl
    rw [fa]
    refine pl_aload_n (pc := 36) dX9_draw_36 rfl rfl ?_
    refine pl_iload_n (pc := 37) dX9_draw_37 rfl rfl ?_
    refine pj_if_lt (pc := 38) (tgt := 46) dX9_draw_38 (by decide) (fun c38 => ?_) (fun c38 => ?_)
    · refine pl_iconst (pc := 46) (v := 1) dX9_draw_46 (by rfl) ?_
      refine pj_goto (pc := 47) (tgt := 51) dX9_draw_47 (by decide) ?_
      refine pl_iconst (pc := 51) (v := 1) dX9_draw_51 (by rfl) ?_
      refine pl_callVd (pc := 52) (As := [_, _]) (C2 := 0) (N2 := 0) ckX9 mdX9_bad rfl q2631 q2633 qs50 q154 dX9_draw_52 rfl rfl (Nat.le_of_ble_eq_true rfl) (mm_o hA) (w_bad_1 (d := d - 1) (by omega) hA) (by omega) (by decide) (by decide) ?_
      refine pj_if_eq (pc := 55) (tgt := 60) dX9_draw_55 (by decide) (fun h => absurd h (by decide)) (fun _ => ?_)
      refine pl_iconst (pc := 58) (v := 0) dX9_draw_58 (by rfl) ?_
      refine pj_iret (pc := 59) dX9_draw_59 rfl ?_
      exact ⟨vIe (by simp [p_draw, c22, c38]) rfl, congrArg (mm g ad μ) (by simp [p_draw, c22, c38])⟩
    · refine pl_iload_n (pc := 41) dX9_draw_41 rfl rfl ?_
      refine pl_iload_n (pc := 42) dX9_draw_42 rfl rfl ?_
      refine pj_icmp_lt (pc := 43) (tgt := 50) dX9_draw_43 (by decide) (fun c43 => ?_) (fun c43 => ?_)
      · refine pl_iconst (pc := 50) (v := 0) dX9_draw_50 (by rfl) ?_
        refine pl_iconst (pc := 51) (v := 1) dX9_draw_51 (by rfl) ?_
        refine pl_callVd (pc := 52) (As := [_, _]) (C2 := 0) (N2 := 0) ckX9 mdX9_bad rfl q2631 q2633 qs50 q154 dX9_draw_52 rfl rfl (Nat.le_of_ble_eq_true rfl) (mm_o hA) (w_bad_0 (d := d - 1) (by omega) hA) (by omega) (by decide) (by decide) ?_
        refine pj_if_eq (pc := 55) (tgt := 60) dX9_draw_55 (by decide) (fun _ => ?_) (fun h => absurd h (by decide))
        obtain ⟨j_v, hj_v, rfl⟩ := nI_of c38
        have g_v := tN_nI hj_v
        have hvl : j_v < fac ak := by
          have h9 := c43
          exact (nI_ltI hj_v (fac_lt ak (by omega))).mp h9
        refine pl_iload_n (pc := 60) dX9_draw_60 rfl rfl ?_
        refine pj_istore (pc := 61) (lv' := [(4, _), (3, _), (2, _), (1, _), (0, _)]) dX9_draw_61 (by decide) rfl ?_
        refine pl_iload_n (pc := 63) dX9_draw_63 rfl rfl ?_
        refine pj_istore (pc := 64) (lv' := [(5, _), (4, _), (3, _), (2, _), (1, _), (0, _)]) dX9_draw_64 (by decide) rfl ?_
        have e7 : p_draw σ ak (nI j_v) = (nI ak, sR (drawF ak j_v (s0 σ)) 2130 (nI 0)) := by simp [p_draw, c22, c38, c43, g_v]
        rw [e7]
        exact key ak j_v dr (s0 σ) hdr (by omega) hvl
      · refine pl_iconst (pc := 46) (v := 1) dX9_draw_46 (by rfl) ?_
        refine pj_goto (pc := 47) (tgt := 51) dX9_draw_47 (by decide) ?_
        refine pl_iconst (pc := 51) (v := 1) dX9_draw_51 (by rfl) ?_
        refine pl_callVd (pc := 52) (As := [_, _]) (C2 := 0) (N2 := 0) ckX9 mdX9_bad rfl q2631 q2633 qs50 q154 dX9_draw_52 rfl rfl (Nat.le_of_ble_eq_true rfl) (mm_o hA) (w_bad_1 (d := d - 1) (by omega) hA) (by omega) (by decide) (by decide) ?_
        refine pj_if_eq (pc := 55) (tgt := 60) dX9_draw_55 (by decide) (fun h => absurd h (by decide)) (fun _ => ?_)
        refine pl_iconst (pc := 58) (v := 0) dX9_draw_58 (by rfl) ?_
        refine pj_iret (pc := 59) dX9_draw_59 rfl ?_
        exact ⟨vIe (by simp [p_draw, c22, c38, c43]) rfl, congrArg (mm g ad μ) (by simp [p_draw, c22, c38, c43])⟩
  · refine pl_iload_n (pc := 25) dX9_draw_25 rfl rfl ?_
    refine pl_iload (pc := 26) dX9_draw_26 rfl ?_
    refine pl_imul (pc := 28) dX9_draw_28 ?_
    refine pj_istore_n (pc := 29) (lv' := [(3, _), (4, _), (2, _), (1, _), (0, _)]) dX9_draw_29 rfl (by decide) rfl ?_
    refine pl_iinc1 (pc := 30) (lv' := [(4, _), (3, _), (2, _), (1, _), (0, _)]) dX9_draw_30 rfl rfl (by decide) rfl ?_
    refine pj_goto (pc := 33) (tgt := 19) dX9_draw_33 (by decide) ?_
    exact PJ.conv (by rw [Nat.mul_comm]; rfl) rfl rfl (ih (by omega) (Or.inr (by omega)))
