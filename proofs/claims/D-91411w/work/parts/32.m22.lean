set_option maxRecDepth 100000
set_option maxHeartbeats 4000000 in
theorem w_X9_strays {g : GP} {ad : Nat → Nat} {μ : Mem} {σ : MS} {d : Nat} {c : Nat} {n nl nb q nor nw : Nat} (hd : 5 ≤ d) (hA : Inj ad 18) (iv : IvG σ n nl nb q nor nw) (hc : c < 96) : PM g yX9_strays (ws_ yX9_strays cX9_strays 7 none) d 0 0 [.ref (ad 0), .int (nI c)] (mm g ad μ σ) (rQ none (mm g ad μ (s_strays n nl c σ))) := by
  refine PM.of (by decide +kernel) (Nat.le_of_ble_eq_true rfl) ?_
  show PJ g _ _ _ _ d 0 0 0 [(0, .ref (ad 0)), (1, .int (nI c))] [] _ _
  refine pl_aload_n (pc := 0) dX9_strays_0 rfl rfl ?_
  refine pl_iload_n (pc := 1) dX9_strays_1 rfl rfl ?_
  refine pl_iconst (pc := 2) (v := 0) dX9_strays_2 (by rfl) ?_
  refine pl_callVd (pc := 3) (As := [_, _]) (C2 := 0) (N2 := 0) ckX9 mdX9_sec rfl q2635 q2637 qs51 q154 dX9_strays_3 rfl rfl (Nat.le_of_ble_eq_true rfl) (mm_o hA) (w_X9_sec (d := d - 1) (by omega) hA (by omega) (by decide)) (by omega) (by decide) (by decide) ?_
  refine pl_callSd (pc := 6) (As := [_]) (C2 := 0) (N2 := 0) mdX9_isPasture q2678 q2679 q154 dX9_strays_6 rfl rfl (Nat.le_of_ble_eq_true rfl) (w_X9_isPasture (d := d - 1) (by omega)) (by omega) (by decide) (by decide) ?_
  refine pl_if_eqB (pc := 9) (tgt := 33) dX9_strays_9 (by decide) (fun c9 => ?_) (fun c9 => ?_)
  · refine pj_vret (pc := 33) dX9_strays_33 rfl ?_
    exact ⟨rfl, congrArg (mm g ad μ) (by first | (simp [s_strays, strayS, c9]; done) | (simp [s_strays, strayS, c9]; rfl))⟩
  · refine pl_aload_n (pc := 12) dX9_strays_12 rfl rfl ?_
    refine pl_iload_n (pc := 13) dX9_strays_13 rfl rfl ?_
    refine pl_iconst (pc := 14) (v := 3) dX9_strays_14 (by rfl) ?_
    refine pl_callVd (pc := 15) (As := [_, _]) (C2 := 0) (N2 := 0) ckX9 mdX9_sec rfl q2635 q2637 qs51 q154 dX9_strays_15 rfl rfl (Nat.le_of_ble_eq_true rfl) (mm_o hA) (w_X9_sec (d := d - 1) (by omega) hA (by omega) (by decide)) (by omega) (by decide) (by decide) ?_
    refine pl_bipush (pc := 18) (v := 8) dX9_strays_18 (by rfl) ?_
    refine pj_icmp_lt (pc := 20) (tgt := 33) dX9_strays_20 (by decide) (fun c20 => ?_) (fun c20 => ?_)
    · refine pj_vret (pc := 33) dX9_strays_33 rfl ?_
      exact ⟨rfl, congrArg (mm g ad μ) (by first | (simp [s_strays, strayS, c9, c20]; done) | (simp [s_strays, strayS, c9, c20]; rfl))⟩
    · refine pl_aload_n (pc := 23) dX9_strays_23 rfl rfl ?_
      refine pl_iload_n (pc := 24) dX9_strays_24 rfl rfl ?_
      refine pl_iconst (pc := 25) (v := 4) dX9_strays_25 (by rfl) ?_
      refine pl_callVd (pc := 26) (As := [_, _]) (C2 := 0) (N2 := 0) ckX9 mdX9_sec rfl q2635 q2637 qs51 q154 dX9_strays_26 rfl rfl (Nat.le_of_ble_eq_true rfl) (mm_o hA) (w_X9_sec (d := d - 1) (by omega) hA (by omega) (by decide)) (by omega) (by decide) (by decide) ?_
      refine pl_iconst (pc := 29) (v := 1) dX9_strays_29 (by rfl) ?_
      refine pj_icmp_ne (pc := 30) (tgt := 34) dX9_strays_30 (by decide) (fun c30 => ?_) (fun c30 => ?_)
      · refine pl_aload_n (pc := 34) dX9_strays_34 rfl rfl ?_
        refine pl_iload_n (pc := 35) dX9_strays_35 rfl rfl ?_
        refine pl_iconst (pc := 36) (v := 3) dX9_strays_36 (by rfl) ?_
        refine pl_callVd (pc := 37) (As := [_, _]) (C2 := 0) (N2 := 0) ckX9 mdX9_sec rfl q2635 q2637 qs51 q154 dX9_strays_37 rfl rfl (Nat.le_of_ble_eq_true rfl) (mm_o hA) (w_X9_sec (d := d - 1) (by omega) hA (by omega) (by decide)) (by omega) (by decide) (by decide) ?_
        refine pl_bipush (pc := 40) (v := 8) dX9_strays_40 (by rfl) ?_
        refine pj_idiv (pc := 42) dX9_strays_42 (by decide) ?_
        refine pj_istore_n (pc := 43) (lv' := [(2, _), (0, _), (1, _)]) dX9_strays_43 rfl (by decide) rfl ?_
        refine pl_aload_n (pc := 44) dX9_strays_44 rfl rfl ?_
        refine pl_iload_n (pc := 45) dX9_strays_45 rfl rfl ?_
        refine pl_iconst (pc := 46) (v := 1) dX9_strays_46 (by rfl) ?_
        refine pl_callVd (pc := 47) (As := [_, _]) (C2 := 0) (N2 := 0) ckX9 mdX9_sec rfl q2635 q2637 qs51 q154 dX9_strays_47 rfl rfl (Nat.le_of_ble_eq_true rfl) (mm_o hA) (w_X9_sec (d := d - 1) (by omega) hA (by omega) (by decide)) (by omega) (by decide) (by decide) ?_
        have hP := iv.hP
        obtain ⟨p, hp, ep⟩ := (iv.who c hc).past c9
        have g_p := tN_nI (n := p) (by omega)
        refine PJ.top (y := nI p) ep ?_
        refine pj_istore_n (pc := 50) (lv' := [(3, _), (2, _), (0, _), (1, _)]) dX9_strays_50 rfl (by decide) rfl ?_
        refine pj_iconst (pc := 51) (v := (-1)) dX9_strays_51 (by rfl) ?_
        refine pj_istore (pc := 52) (lv' := [(4, _), (3, _), (2, _), (0, _), (1, _)]) dX9_strays_52 (by decide) rfl ?_
        refine pl_iconst (pc := 54) (v := 0) dX9_strays_54 (by rfl) ?_
        refine pj_istore (pc := 55) (lv' := [(5, _), (4, _), (3, _), (2, _), (0, _), (1, _)]) dX9_strays_55 (by decide) rfl ?_
        refine PJ.sub [0, 1, 2, 3, 5, 4] rfl ?_
        refine ind_dn (n := 4) (P := fun i => PJ g _ _ _ _ d 0 0 57 [(5, .int (nI i)), (4, .int (strayB σ c (nI p) i)), (3, .int (nI p)), (2, .int (sec σ c 3 / nI 8)), (1, .int (nI c)), (0, .ref (ad 0))] [] (mm g ad μ σ) _) (fun i hi ih => ?_) 0 (Nat.zero_le _)
        refine pl_iload (pc := 57) dX9_strays_57 rfl ?_
        refine pl_iconst (pc := 59) (v := 4) dX9_strays_59 (by rfl) ?_
        refine pl_icmp_ge (pc := 60) (tgt := 115) dX9_strays_60 (by decide) (by omega) (by omega) (fun c60 => ?_) (fun c60 => ?_)
        · rw [show strayB σ c (nI p) i = strayB σ c (nI p) 4 from congrArg (strayB σ c (nI p)) (by omega : i = 4)]
          rcases strayB_c (σ := σ) (p := nI p) hc 4 with hs115 | hs115
          · rw [hs115]
            refine pl_iload (pc := 115) dX9_strays_115 rfl ?_
            refine pj_if_ge (pc := 117) (tgt := 136) dX9_strays_117 (by decide) (fun h => absurd h (by decide)) (fun _ => ?_)
            refine pl_aload_n (pc := 120) dX9_strays_120 rfl rfl ?_
            refine pj_getf (pc := 121) ckX9 1 q2517 dX9_strays_121 (by decide) (mm_o hA) rfl ?_
            refine pl_bipush (pc := 124) (v := 8) dX9_strays_124 (by rfl) ?_
            refine pl_iload_n (pc := 126) dX9_strays_126 rfl rfl ?_
            refine pl_imul (pc := 127) dX9_strays_127 ?_
            refine pl_iconst (pc := 128) (v := 3) dX9_strays_128 (by rfl) ?_
            refine pl_iadd (pc := 129) dX9_strays_129 ?_
            refine pj_dup2_11 (pc := 130) dX9_strays_130 rfl rfl ?_
            refine pl_iald (pc := 131) (n := 2132) dX9_strays_131 (mm_a hA 1 (by decide) (by decide)) (by omega) (by decide) ?_
            refine pl_iload_n (pc := 132) dX9_strays_132 rfl rfl ?_
            refine pj_isub (pc := 133) dX9_strays_133 ?_
            refine pm_iast (pc := 134) 1 hA (by decide) (by decide) rfl dX9_strays_134 (show _ < 2132 by omega) (by decide) ?_
            refine pj_vret (pc := 135) dX9_strays_135 rfl ?_
            exact ⟨rfl, congrArg (mm g ad μ) (by first | (simp [s_strays, strayS, c9, c20, c30, ep, g_p, hs115]; done) | (simp [s_strays, strayS, c9, c20, c30, ep, g_p, hs115]; rfl))⟩
          · obtain ⟨b, hb, eb, hf⟩ := hs115
            obtain ⟨o, ho, eo⟩ := (iv.who b hb).farm hf
            have g_b := tN_nI (n := b) (by omega)
            have g_o := tN_nI (n := o) (by omega)
            have p_b : (0 : Int32) ≤ nI b := nI_pos' (by omega)
            have e_o : ∀ x, row (s_pays (sM σ n nl 4 (nI 0)) p x) (8 * b + 1) = nI o := fun x => (rowS_ne (by omega)).trans eo
            rw [eb]
            refine pl_iload (pc := 115) dX9_strays_115 rfl ?_
            refine pj_if_ge (pc := 117) (tgt := 136) dX9_strays_117 (by decide) (fun _ => ?_) (fun h => absurd (nI_pos' (by omega)) h)
            refine pl_aload_n (pc := 136) dX9_strays_136 rfl rfl ?_
            refine pl_iconst (pc := 137) (v := 4) dX9_strays_137 (by rfl) ?_
            refine pl_iconst (pc := 138) (v := 0) dX9_strays_138 (by rfl) ?_
            refine pl_callVd (pc := 139) (As := [_, _]) (C2 := 0) (N2 := 0) ckX9 mdX9_meaning rfl q2926 q2928 qs92 q154 dX9_strays_139 rfl rfl (Nat.le_of_ble_eq_true rfl) (mm_o hA) (w_X9_meaning (d := d - 1) (by omega) hA iv.hn iv.hP iv.hl iv.hL iv.hw (by omega)) (by omega) (by decide) (by decide) ?_
            refine pl_iload_n (pc := 142) dX9_strays_142 rfl rfl ?_
            refine pj_imul (pc := 143) dX9_strays_143 ?_
            refine pj_istore (pc := 144) (lv' := [(5, _), (4, _), (3, _), (2, _), (1, _), (0, _)]) dX9_strays_144 (by decide) rfl ?_
            refine pl_iload (pc := 146) dX9_strays_146 rfl ?_
            refine pl_aload_n (pc := 148) dX9_strays_148 rfl rfl ?_
            refine pl_iload_n (pc := 149) dX9_strays_149 rfl rfl ?_
            refine pl_iconst (pc := 150) (v := 1) dX9_strays_150 (by rfl) ?_
            refine pl_callVd (pc := 151) (As := [_, _]) (C2 := 0) (N2 := 0) ckX9 mdX9_per rfl q2713 q2715 qs59 q154 dX9_strays_151 rfl rfl (Nat.le_of_ble_eq_true rfl) (mm_o hA) (w_X9_per (d := d - 1) (by omega) hA (by omega) (by decide)) (by omega) (by decide) (by decide) ?_
            refine PJ.top (y := per σ p 1) rfl ?_
            refine pj_icmp_ge (pc := 154) (tgt := 162) dX9_strays_154 (by decide) (fun c154 => ?_) (fun c154 => ?_)
            · refine pl_aload_n (pc := 162) dX9_strays_162 rfl rfl ?_
              refine pl_iload_n (pc := 163) dX9_strays_163 rfl rfl ?_
              refine pl_iconst (pc := 164) (v := 1) dX9_strays_164 (by rfl) ?_
              refine pl_callVd (pc := 165) (As := [_, _]) (C2 := 0) (N2 := 0) ckX9 mdX9_per rfl q2713 q2715 qs59 q154 dX9_strays_165 rfl rfl (Nat.le_of_ble_eq_true rfl) (mm_o hA) (w_X9_per (d := d - 1) (by omega) hA (by omega) (by decide)) (by omega) (by decide) (by decide) ?_
              refine PJ.top (y := per σ p 1) rfl ?_
              refine pj_istore (pc := 168) (lv' := [(6, _), (5, _), (4, _), (3, _), (2, _), (1, _), (0, _)]) dX9_strays_168 (by decide) rfl ?_
              refine pl_aload_n (pc := 170) dX9_strays_170 rfl rfl ?_
              refine pl_iload_n (pc := 171) dX9_strays_171 rfl rfl ?_
              refine pl_iload (pc := 172) dX9_strays_172 rfl ?_
              refine pj_ineg (pc := 174) dX9_strays_174 ?_
              refine pl_callVv (pc := 175) (As := [_, _]) (C2 := 0) (N2 := 0) ckX9 mdX9_pays rfl q3006 q3008 qs103 q154 dX9_strays_175 rfl rfl (Nat.le_of_ble_eq_true rfl) (mm_o hA) (w_X9_pays (d := d - 1) (by omega) hA (by omega)) (by omega) (by decide) (by decide) ?_
              refine pl_aload_n (pc := 178) dX9_strays_178 rfl rfl ?_
              refine pl_aload_n (pc := 179) dX9_strays_179 rfl rfl ?_
              refine pl_iload (pc := 180) dX9_strays_180 rfl ?_
              refine pl_iconst (pc := 182) (v := 1) dX9_strays_182 (by rfl) ?_
              refine pl_callVd (pc := 183) (As := [_, _]) (C2 := 0) (N2 := 0) ckX9 mdX9_sec rfl q2635 q2637 qs51 q154 dX9_strays_183 rfl rfl (Nat.le_of_ble_eq_true rfl) (mm_o hA) (w_X9_sec (d := d - 1) (by omega) hA (by omega) (by decide)) (by omega) (by decide) (by decide) ?_
              refine PJ.top (y := nI _) (e_o _) ?_
              refine pl_iload (pc := 186) dX9_strays_186 rfl ?_
              refine pl_callVv (pc := 188) (As := [_, _]) (C2 := 0) (N2 := 0) ckX9 mdX9_pays rfl q3006 q3008 qs103 q154 dX9_strays_188 rfl rfl (Nat.le_of_ble_eq_true rfl) (mm_o hA) (w_X9_pays (d := d - 1) (by omega) hA (by omega)) (by omega) (by decide) (by decide) ?_
              refine pj_vret (pc := 191) dX9_strays_191 rfl ?_
              exact ⟨rfl, congrArg (mm g ad μ) (by first | (simp [s_strays, strayS, c9, c20, c30, ep, g_p, eb, g_b, e_o, g_o, p_b, c154]; done) | (simp [s_strays, strayS, c9, c20, c30, ep, g_p, eb, g_b, e_o, g_o, p_b, c154]; rfl))⟩
            · refine pl_iload (pc := 157) dX9_strays_157 rfl ?_
              refine pj_goto (pc := 159) (tgt := 168) dX9_strays_159 (by decide) ?_
              refine pj_istore (pc := 168) (lv' := [(6, _), (5, _), (4, _), (3, _), (2, _), (1, _), (0, _)]) dX9_strays_168 (by decide) rfl ?_
              refine pl_aload_n (pc := 170) dX9_strays_170 rfl rfl ?_
              refine pl_iload_n (pc := 171) dX9_strays_171 rfl rfl ?_
              refine pl_iload (pc := 172) dX9_strays_172 rfl ?_
              refine pj_ineg (pc := 174) dX9_strays_174 ?_
              refine pl_callVv (pc := 175) (As := [_, _]) (C2 := 0) (N2 := 0) ckX9 mdX9_pays rfl q3006 q3008 qs103 q154 dX9_strays_175 rfl rfl (Nat.le_of_ble_eq_true rfl) (mm_o hA) (w_X9_pays (d := d - 1) (by omega) hA (by omega)) (by omega) (by decide) (by decide) ?_
              refine pl_aload_n (pc := 178) dX9_strays_178 rfl rfl ?_
              refine pl_aload_n (pc := 179) dX9_strays_179 rfl rfl ?_
              refine pl_iload (pc := 180) dX9_strays_180 rfl ?_
              refine pl_iconst (pc := 182) (v := 1) dX9_strays_182 (by rfl) ?_
              refine pl_callVd (pc := 183) (As := [_, _]) (C2 := 0) (N2 := 0) ckX9 mdX9_sec rfl q2635 q2637 qs51 q154 dX9_strays_183 rfl rfl (Nat.le_of_ble_eq_true rfl) (mm_o hA) (w_X9_sec (d := d - 1) (by omega) hA (by omega) (by decide)) (by omega) (by decide) (by decide) ?_
              refine PJ.top (y := nI _) (e_o _) ?_
              refine pl_iload (pc := 186) dX9_strays_186 rfl ?_
              refine pl_callVv (pc := 188) (As := [_, _]) (C2 := 0) (N2 := 0) ckX9 mdX9_pays rfl q3006 q3008 qs103 q154 dX9_strays_188 rfl rfl (Nat.le_of_ble_eq_true rfl) (mm_o hA) (w_X9_pays (d := d - 1) (by omega) hA (by omega)) (by omega) (by decide) (by decide) ?_
              refine pj_vret (pc := 191) dX9_strays_191 rfl ?_
              exact ⟨rfl, congrArg (mm g ad μ) (by first | (simp [s_strays, strayS, c9, c20, c30, ep, g_p, eb, g_b, e_o, g_o, p_b, c154]; done) | (simp [s_strays, strayS, c9, c20, c30, ep, g_p, eb, g_b, e_o, g_o, p_b, c154]; rfl))⟩
        · refine pl_iload (pc := 63) dX9_strays_63 rfl ?_
          refine pj_if_ge (pc := 65) (tgt := 115) dX9_strays_65 (by decide) (fun c65 => ?_) (fun c65 => ?_)
          · rw [show strayB σ c (nI p) i = strayB σ c (nI p) 4 from ((strayB_stay c65 (4 - i)).symm.trans (congrArg (strayB σ c (nI p)) (by omega : i + (4 - i) = 4)))]
            rcases strayB_c (σ := σ) (p := nI p) hc 4 with hs115 | hs115
            · rw [hs115]
              refine pl_iload (pc := 115) dX9_strays_115 rfl ?_
              refine pj_if_ge (pc := 117) (tgt := 136) dX9_strays_117 (by decide) (fun h => absurd h (by decide)) (fun _ => ?_)
              refine pl_aload_n (pc := 120) dX9_strays_120 rfl rfl ?_
              refine pj_getf (pc := 121) ckX9 1 q2517 dX9_strays_121 (by decide) (mm_o hA) rfl ?_
              refine pl_bipush (pc := 124) (v := 8) dX9_strays_124 (by rfl) ?_
              refine pl_iload_n (pc := 126) dX9_strays_126 rfl rfl ?_
              refine pl_imul (pc := 127) dX9_strays_127 ?_
              refine pl_iconst (pc := 128) (v := 3) dX9_strays_128 (by rfl) ?_
              refine pl_iadd (pc := 129) dX9_strays_129 ?_
              refine pj_dup2_11 (pc := 130) dX9_strays_130 rfl rfl ?_
              refine pl_iald (pc := 131) (n := 2132) dX9_strays_131 (mm_a hA 1 (by decide) (by decide)) (by omega) (by decide) ?_
              refine pl_iload_n (pc := 132) dX9_strays_132 rfl rfl ?_
              refine pj_isub (pc := 133) dX9_strays_133 ?_
              refine pm_iast (pc := 134) 1 hA (by decide) (by decide) rfl dX9_strays_134 (show _ < 2132 by omega) (by decide) ?_
              refine pj_vret (pc := 135) dX9_strays_135 rfl ?_
              exact ⟨rfl, congrArg (mm g ad μ) (by first | (simp [s_strays, strayS, c9, c20, c30, ep, g_p, hs115]; done) | (simp [s_strays, strayS, c9, c20, c30, ep, g_p, hs115]; rfl))⟩
            · obtain ⟨b, hb, eb, hf⟩ := hs115
              obtain ⟨o, ho, eo⟩ := (iv.who b hb).farm hf
              have g_b := tN_nI (n := b) (by omega)
              have g_o := tN_nI (n := o) (by omega)
              have p_b : (0 : Int32) ≤ nI b := nI_pos' (by omega)
              have e_o : ∀ x, row (s_pays (sM σ n nl 4 (nI 0)) p x) (8 * b + 1) = nI o := fun x => (rowS_ne (by omega)).trans eo
              rw [eb]
              refine pl_iload (pc := 115) dX9_strays_115 rfl ?_
              refine pj_if_ge (pc := 117) (tgt := 136) dX9_strays_117 (by decide) (fun _ => ?_) (fun h => absurd (nI_pos' (by omega)) h)
              refine pl_aload_n (pc := 136) dX9_strays_136 rfl rfl ?_
              refine pl_iconst (pc := 137) (v := 4) dX9_strays_137 (by rfl) ?_
              refine pl_iconst (pc := 138) (v := 0) dX9_strays_138 (by rfl) ?_
              refine pl_callVd (pc := 139) (As := [_, _]) (C2 := 0) (N2 := 0) ckX9 mdX9_meaning rfl q2926 q2928 qs92 q154 dX9_strays_139 rfl rfl (Nat.le_of_ble_eq_true rfl) (mm_o hA) (w_X9_meaning (d := d - 1) (by omega) hA iv.hn iv.hP iv.hl iv.hL iv.hw (by omega)) (by omega) (by decide) (by decide) ?_
              refine pl_iload_n (pc := 142) dX9_strays_142 rfl rfl ?_
              refine pj_imul (pc := 143) dX9_strays_143 ?_
              refine pj_istore (pc := 144) (lv' := [(5, _), (4, _), (3, _), (2, _), (1, _), (0, _)]) dX9_strays_144 (by decide) rfl ?_
              refine pl_iload (pc := 146) dX9_strays_146 rfl ?_
              refine pl_aload_n (pc := 148) dX9_strays_148 rfl rfl ?_
              refine pl_iload_n (pc := 149) dX9_strays_149 rfl rfl ?_
              refine pl_iconst (pc := 150) (v := 1) dX9_strays_150 (by rfl) ?_
              refine pl_callVd (pc := 151) (As := [_, _]) (C2 := 0) (N2 := 0) ckX9 mdX9_per rfl q2713 q2715 qs59 q154 dX9_strays_151 rfl rfl (Nat.le_of_ble_eq_true rfl) (mm_o hA) (w_X9_per (d := d - 1) (by omega) hA (by omega) (by decide)) (by omega) (by decide) (by decide) ?_
              refine PJ.top (y := per σ p 1) rfl ?_
              refine pj_icmp_ge (pc := 154) (tgt := 162) dX9_strays_154 (by decide) (fun c154 => ?_) (fun c154 => ?_)
              · refine pl_aload_n (pc := 162) dX9_strays_162 rfl rfl ?_
                refine pl_iload_n (pc := 163) dX9_strays_163 rfl rfl ?_
                refine pl_iconst (pc := 164) (v := 1) dX9_strays_164 (by rfl) ?_
                refine pl_callVd (pc := 165) (As := [_, _]) (C2 := 0) (N2 := 0) ckX9 mdX9_per rfl q2713 q2715 qs59 q154 dX9_strays_165 rfl rfl (Nat.le_of_ble_eq_true rfl) (mm_o hA) (w_X9_per (d := d - 1) (by omega) hA (by omega) (by decide)) (by omega) (by decide) (by decide) ?_
                refine PJ.top (y := per σ p 1) rfl ?_
                refine pj_istore (pc := 168) (lv' := [(6, _), (5, _), (4, _), (3, _), (2, _), (1, _), (0, _)]) dX9_strays_168 (by decide) rfl ?_
                refine pl_aload_n (pc := 170) dX9_strays_170 rfl rfl ?_
                refine pl_iload_n (pc := 171) dX9_strays_171 rfl rfl ?_
                refine pl_iload (pc := 172) dX9_strays_172 rfl ?_
                refine pj_ineg (pc := 174) dX9_strays_174 ?_
                refine pl_callVv (pc := 175) (As := [_, _]) (C2 := 0) (N2 := 0) ckX9 mdX9_pays rfl q3006 q3008 qs103 q154 dX9_strays_175 rfl rfl (Nat.le_of_ble_eq_true rfl) (mm_o hA) (w_X9_pays (d := d - 1) (by omega) hA (by omega)) (by omega) (by decide) (by decide) ?_
                refine pl_aload_n (pc := 178) dX9_strays_178 rfl rfl ?_
                refine pl_aload_n (pc := 179) dX9_strays_179 rfl rfl ?_
                refine pl_iload (pc := 180) dX9_strays_180 rfl ?_
                refine pl_iconst (pc := 182) (v := 1) dX9_strays_182 (by rfl) ?_
                refine pl_callVd (pc := 183) (As := [_, _]) (C2 := 0) (N2 := 0) ckX9 mdX9_sec rfl q2635 q2637 qs51 q154 dX9_strays_183 rfl rfl (Nat.le_of_ble_eq_true rfl) (mm_o hA) (w_X9_sec (d := d - 1) (by omega) hA (by omega) (by decide)) (by omega) (by decide) (by decide) ?_
                refine PJ.top (y := nI _) (e_o _) ?_
                refine pl_iload (pc := 186) dX9_strays_186 rfl ?_
                refine pl_callVv (pc := 188) (As := [_, _]) (C2 := 0) (N2 := 0) ckX9 mdX9_pays rfl q3006 q3008 qs103 q154 dX9_strays_188 rfl rfl (Nat.le_of_ble_eq_true rfl) (mm_o hA) (w_X9_pays (d := d - 1) (by omega) hA (by omega)) (by omega) (by decide) (by decide) ?_
                refine pj_vret (pc := 191) dX9_strays_191 rfl ?_
                exact ⟨rfl, congrArg (mm g ad μ) (by first | (simp [s_strays, strayS, c9, c20, c30, ep, g_p, eb, g_b, e_o, g_o, p_b, c154]; done) | (simp [s_strays, strayS, c9, c20, c30, ep, g_p, eb, g_b, e_o, g_o, p_b, c154]; rfl))⟩
              · refine pl_iload (pc := 157) dX9_strays_157 rfl ?_
                refine pj_goto (pc := 159) (tgt := 168) dX9_strays_159 (by decide) ?_
                refine pj_istore (pc := 168) (lv' := [(6, _), (5, _), (4, _), (3, _), (2, _), (1, _), (0, _)]) dX9_strays_168 (by decide) rfl ?_
                refine pl_aload_n (pc := 170) dX9_strays_170 rfl rfl ?_
                refine pl_iload_n (pc := 171) dX9_strays_171 rfl rfl ?_
                refine pl_iload (pc := 172) dX9_strays_172 rfl ?_
                refine pj_ineg (pc := 174) dX9_strays_174 ?_
                refine pl_callVv (pc := 175) (As := [_, _]) (C2 := 0) (N2 := 0) ckX9 mdX9_pays rfl q3006 q3008 qs103 q154 dX9_strays_175 rfl rfl (Nat.le_of_ble_eq_true rfl) (mm_o hA) (w_X9_pays (d := d - 1) (by omega) hA (by omega)) (by omega) (by decide) (by decide) ?_
                refine pl_aload_n (pc := 178) dX9_strays_178 rfl rfl ?_
                refine pl_aload_n (pc := 179) dX9_strays_179 rfl rfl ?_
                refine pl_iload (pc := 180) dX9_strays_180 rfl ?_
                refine pl_iconst (pc := 182) (v := 1) dX9_strays_182 (by rfl) ?_
                refine pl_callVd (pc := 183) (As := [_, _]) (C2 := 0) (N2 := 0) ckX9 mdX9_sec rfl q2635 q2637 qs51 q154 dX9_strays_183 rfl rfl (Nat.le_of_ble_eq_true rfl) (mm_o hA) (w_X9_sec (d := d - 1) (by omega) hA (by omega) (by decide)) (by omega) (by decide) (by decide) ?_
                refine PJ.top (y := nI _) (e_o _) ?_
                refine pl_iload (pc := 186) dX9_strays_186 rfl ?_
                refine pl_callVv (pc := 188) (As := [_, _]) (C2 := 0) (N2 := 0) ckX9 mdX9_pays rfl q3006 q3008 qs103 q154 dX9_strays_188 rfl rfl (Nat.le_of_ble_eq_true rfl) (mm_o hA) (w_X9_pays (d := d - 1) (by omega) hA (by omega)) (by omega) (by decide) (by decide) ?_
                refine pj_vret (pc := 191) dX9_strays_191 rfl ?_
                exact ⟨rfl, congrArg (mm g ad μ) (by first | (simp [s_strays, strayS, c9, c20, c30, ep, g_p, eb, g_b, e_o, g_o, p_b, c154]; done) | (simp [s_strays, strayS, c9, c20, c30, ep, g_p, eb, g_b, e_o, g_o, p_b, c154]; rfl))⟩
          · refine pl_iload_n (pc := 68) dX9_strays_68 rfl rfl ?_
            refine pl_iload (pc := 69) dX9_strays_69 rfl ?_
            refine pl_callSd (pc := 71) (As := [_, _]) (C2 := 0) (N2 := 0) mdX9_beside q3135 q3136 q154 dX9_strays_71 rfl rfl (Nat.le_of_ble_eq_true rfl) (w_X9_beside (d := d - 1) (by omega) (by omega)) (by omega) (by decide) (by decide) ?_
            rcases besideV_c (w := nI i) hc with hs74 | hs74
            · refine PJ.top (y := -1) hs74 ?_
              refine pj_istore (pc := 74) (lv' := [(6, _), (5, _), (4, _), (3, _), (2, _), (1, _), (0, _)]) dX9_strays_74 (by decide) rfl ?_
              refine pl_iload (pc := 76) dX9_strays_76 rfl ?_
              refine pj_if_lt (pc := 78) (tgt := 109) dX9_strays_78 (by decide) (fun _ => ?_) (fun h => absurd h (by decide))
              refine pl_iinc1 (pc := 109) (lv' := [(5, _), (6, _), (4, _), (3, _), (2, _), (1, _), (0, _)]) dX9_strays_109 rfl rfl (by decide) rfl ?_
              refine pj_goto (pc := 112) (tgt := 57) dX9_strays_112 (by decide) ?_
              refine PJ.sub [0, 2, 3, 4, 5, 6] rfl ?_
              exact PJ.conv (by first | (simp [strayB, c60, c65, hs74]; done) | (simp [strayB, c60, c65, hs74]; rfl)) rfl rfl (ih (by omega))
            · obtain ⟨b, hb, eb⟩ := hs74
              have g_b := tN_nI (n := b) (by omega)
              have p_b : ¬ nI b < 0 := Int32.not_lt.mpr (nI_pos' (by omega))
              refine PJ.top (y := nI b) eb ?_
              refine pj_istore (pc := 74) (lv' := [(6, _), (5, _), (4, _), (3, _), (2, _), (1, _), (0, _)]) dX9_strays_74 (by decide) rfl ?_
              refine pl_iload (pc := 76) dX9_strays_76 rfl ?_
              refine pl_if_ltN (pc := 78) dX9_strays_78 ⟨109, by decide⟩ (by omega) ?_
              refine pl_aload_n (pc := 81) dX9_strays_81 rfl rfl ?_
              refine pl_iload (pc := 82) dX9_strays_82 rfl ?_
              refine pl_iconst (pc := 84) (v := 0) dX9_strays_84 (by rfl) ?_
              refine pl_callVd (pc := 85) (As := [_, _]) (C2 := 0) (N2 := 0) ckX9 mdX9_sec rfl q2635 q2637 qs51 q154 dX9_strays_85 rfl rfl (Nat.le_of_ble_eq_true rfl) (mm_o hA) (w_X9_sec (d := d - 1) (by omega) hA (by omega) (by decide)) (by omega) (by decide) (by decide) ?_
              refine pl_callSd (pc := 88) (As := [_]) (C2 := 0) (N2 := 0) mdX9_isFarm q2681 q2682 q154 dX9_strays_88 rfl rfl (Nat.le_of_ble_eq_true rfl) (w_X9_isFarm (d := d - 1) (by omega)) (by omega) (by decide) (by decide) ?_
              refine pl_if_eqB (pc := 91) (tgt := 109) dX9_strays_91 (by decide) (fun c91 => ?_) (fun c91 => ?_)
              · refine pl_iinc1 (pc := 109) (lv' := [(5, _), (6, _), (4, _), (3, _), (2, _), (1, _), (0, _)]) dX9_strays_109 rfl rfl (by decide) rfl ?_
                refine pj_goto (pc := 112) (tgt := 57) dX9_strays_112 (by decide) ?_
                refine PJ.sub [0, 2, 3, 4, 5, 6] rfl ?_
                exact PJ.conv (by first | (simp [strayB, c60, c65, eb, g_b, p_b, c91]; done) | (simp [strayB, c60, c65, eb, g_b, p_b, c91]; rfl)) rfl rfl (ih (by omega))
              · refine pl_aload_n (pc := 94) dX9_strays_94 rfl rfl ?_
                refine pl_iload (pc := 95) dX9_strays_95 rfl ?_
                refine pl_iconst (pc := 97) (v := 1) dX9_strays_97 (by rfl) ?_
                refine pl_callVd (pc := 98) (As := [_, _]) (C2 := 0) (N2 := 0) ckX9 mdX9_sec rfl q2635 q2637 qs51 q154 dX9_strays_98 rfl rfl (Nat.le_of_ble_eq_true rfl) (mm_o hA) (w_X9_sec (d := d - 1) (by omega) hA (by omega) (by decide)) (by omega) (by decide) (by decide) ?_
                refine pl_iload_n (pc := 101) dX9_strays_101 rfl rfl ?_
                refine pj_icmp_eq (pc := 102) (tgt := 109) dX9_strays_102 (by decide) (fun c102 => ?_) (fun c102 => ?_)
                · refine pl_iinc1 (pc := 109) (lv' := [(5, _), (6, _), (4, _), (3, _), (2, _), (1, _), (0, _)]) dX9_strays_109 rfl rfl (by decide) rfl ?_
                  refine pj_goto (pc := 112) (tgt := 57) dX9_strays_112 (by decide) ?_
                  refine PJ.sub [0, 2, 3, 4, 5, 6] rfl ?_
                  exact PJ.conv (by first | (simp [strayB, c60, c65, eb, g_b, p_b, c91, eq_true c102]; done) | (simp [strayB, c60, c65, eb, g_b, p_b, c91, eq_true c102]; rfl)) rfl rfl (ih (by omega))
                · refine pl_iload (pc := 105) dX9_strays_105 rfl ?_
                  refine pj_istore (pc := 107) (lv' := [(4, _), (6, _), (5, _), (3, _), (2, _), (1, _), (0, _)]) dX9_strays_107 (by decide) rfl ?_
                  refine pl_iinc1 (pc := 109) (lv' := [(5, _), (4, _), (6, _), (3, _), (2, _), (1, _), (0, _)]) dX9_strays_109 rfl rfl (by decide) rfl ?_
                  refine pj_goto (pc := 112) (tgt := 57) dX9_strays_112 (by decide) ?_
                  refine PJ.sub [0, 1, 3, 4, 5, 6] rfl ?_
                  exact PJ.conv (by first | (simp [strayB, c60, c65, eb, g_b, p_b, c91, c102]; done) | (simp [strayB, c60, c65, eb, g_b, p_b, c91, c102]; rfl)) rfl rfl (ih (by omega))
      · refine pj_vret (pc := 33) dX9_strays_33 rfl ?_
        exact ⟨rfl, congrArg (mm g ad μ) (by first | (simp [s_strays, strayS, c9, c20, eq_true c30]; done) | (simp [s_strays, strayS, c9, c20, eq_true c30]; rfl))⟩
