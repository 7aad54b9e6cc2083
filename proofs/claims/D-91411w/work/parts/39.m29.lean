set_option maxRecDepth 100000
def img1 (c : Nat) (σ : MS) : MS := wA σ 17 c (nI 200 * sec σ c 0 + (if sec σ c 0 ≤ nI 1 then nI 0 else sec σ c 1 + nI 1))
def img2 (p : Nat) (σ : MS) : MS := wA σ 17 (96 + p) (nI 8 * per σ p 1 + per σ p 2)
def sum1 (k : Nat) (σ : MS) : MS := let σ1 := sL σ 32 (σ.2.2 32 + (σ.2.1 17 k).toInt64); sL σ1 33 (σ1.2.2 33 + (σ1.2.1 17 k).toInt64 * (nI (k + 1)).toInt64)
noncomputable def imgS (n : Nat) (σ : MS) : MS := uq img2 n (uq img1 96 σ)
noncomputable def s_image (n : Nat) (σ : MS) : MS := uq sum1 (96 + n) (sL (sL (imgS n (sF (s0 σ) 31 (nI (96 + n)))) 32 0) 33 0)
noncomputable def p_image (σ : MS) (n : Nat) : Int32 × MS := ((s_image n σ).1 31, s_image n σ)
theorem img1_k {c : Nat} {σ : MS} : row (img1 c σ) = row σ ∧ (img1 c σ).1 = σ.1 := ⟨rfl, rfl⟩
theorem img2_k {c : Nat} {σ : MS} : row (img2 c σ) = row σ ∧ (img2 c σ).1 = σ.1 := ⟨rfl, rfl⟩
theorem imgq_k {f : Nat → MS → MS} (hf : ∀ c σ, row (f c σ) = row σ ∧ (f c σ).1 = σ.1) {σ : MS} : ∀ k, row (uq f k σ) = row σ ∧ (uq f k σ).1 = σ.1
  | 0 => by rw [uq_0]; exact ⟨rfl, rfl⟩
  | k + 1 => by rw [uq_s f k]; exact ⟨(hf k _).1.trans (imgq_k hf k).1, (hf k _).2.trans (imgq_k hf k).2⟩
theorem sum1_k {c : Nat} {σ : MS} : row (sum1 c σ) = row σ ∧ (sum1 c σ).1 = σ.1 := ⟨rfl, rfl⟩
def chk1 (σ : MS) (k : Nat) (x : Int64 × Int64) : Int64 × Int64 := (x.1 + (σ.2.1 17 k).toInt64, x.2 + (σ.2.1 17 k).toInt64 * (nI (k + 1)).toInt64)
noncomputable def chkV (σ : MS) (im : Nat) : Int64 × Int64 := uq (chk1 σ) im (-(σ.2.2 32), -(σ.2.2 33))
def chkA (d e : Int64) (m : Int32) : Int32 := if d = 0 then (if e = 0 then -1 else -2) else if ¬ (e - e / d * d) = 0 then -2 else if e / d < 1 then -2 else if m.toInt64 < e / d then -2 else (e / d).toInt32 - nI 1
noncomputable def p_check (σ : MS) (im : Nat) : Int32 × MS := (chkA (chkV (s0 σ) im).1 (chkV (s0 σ) im).2 ((s0 σ).1 31), s0 σ)
set_option maxHeartbeats 4000000 in
theorem w_X9_image {g : GP} {ad : Nat → Nat} {μ : Mem} {σ : MS} {d : Nat}  {n : Nat} (hd : 2 ≤ d) (hA : Inj ad 18) (hn : row σ 2124 = nI n) (hP : n ≤ 100) : PM g yX9_image (ws_ yX9_image cX9_image 2 (some .int)) d 0 0 [.ref (ad 0)] (mm g ad μ σ) (rQ (some (.int ((p_image σ n).1))) (mm g ad μ ((p_image σ n).2))) := by
  refine PM.of (by decide +kernel) (Nat.le_of_ble_eq_true rfl) ?_
  show PJ g _ _ _ _ d 0 0 0 [(0, .ref (ad 0))] [] _ _
  refine pl_aload_n (pc := 0) dX9_image_0 rfl rfl ?_
  refine pl_iconst (pc := 1) (v := 0) dX9_image_1 (by rfl) ?_
  refine pm_putI (pc := 2) 0 hA q2516 dX9_image_2 (by decide) rfl (by rfl) (by rfl) rfl ?_
  refine pl_aload_n (pc := 5) dX9_image_5 rfl rfl ?_
  refine pl_bipush (pc := 6) (v := 96) dX9_image_6 (by rfl) ?_
  refine pl_aload_n (pc := 8) dX9_image_8 rfl rfl ?_
  refine pj_getf (pc := 9) ckX9 1 q2517 dX9_image_9 (by decide) (mm_o hA) rfl ?_
  refine pl_sipush (pc := 12) (v := 2124) dX9_image_12 (by rfl) ?_
  refine pl_iald (pc := 15) (n := 2132) dX9_image_15 (mm_a hA 1 (by decide) (by decide)) (by omega) (by decide) ?_
  refine PJ.top (y := nI _) (hn) ?_
  refine pl_iadd (pc := 16) dX9_image_16 ?_
  refine pm_putI (pc := 17) 31 hA q2547 dX9_image_17 (by decide) rfl (by rfl) (by rfl) rfl ?_
  refine pl_iconst (pc := 20) (v := 0) dX9_image_20 (by rfl) ?_
  refine pj_istore_n (pc := 21) (lv' := [(1, _), (0, _)]) dX9_image_21 rfl (by decide) rfl ?_
  refine PJ.conv rfl rfl (show _ = (mm g ad μ (uq img1 0 (sF (s0 σ) 31 (nI (96 + n))))) from by rw [uq_0]; first | done | rfl) ?_
  refine ind_dn (n := 96) (P := fun i => PJ g _ _ _ _ d 0 0 22 [(1, .int (nI i)), (0, .ref (ad 0))] [] (mm g ad μ (uq img1 i (sF (s0 σ) 31 (nI (96 + n))))) _) (fun i hi ih => ?_) 0 (Nat.zero_le _)
  refine pl_iload_n (pc := 22) dX9_image_22 rfl rfl ?_
  refine pl_bipush (pc := 23) (v := 96) dX9_image_23 (by rfl) ?_
  refine pl_icmp_ge (pc := 25) (tgt := 73) dX9_image_25 (by decide) (by omega) (by omega) (fun c25 => ?_) (fun c25 => ?_)
  · have e9 : 96 = i := by omega
    subst e9
    refine pl_iconst (pc := 73) (v := 0) dX9_image_73 (by rfl) ?_
    refine pj_istore_n (pc := 74) (lv' := [(1, _), (0, _)]) dX9_image_74 rfl (by decide) rfl ?_
    refine PJ.conv rfl rfl (show _ = (mm g ad μ (uq img2 0 (uq img1 96 (sF (s0 σ) 31 (nI (96 + n)))))) from by rw [uq_0]; first | done | rfl) ?_
    refine ind_dn (n := n) (P := fun i => PJ g _ _ _ _ d 0 0 75 [(1, .int (nI i)), (0, .ref (ad 0))] [] (mm g ad μ (uq img2 i (uq img1 96 (sF (s0 σ) 31 (nI (96 + n)))))) _) (fun i hi ih => ?_) 0 (Nat.zero_le _)
    refine pl_iload_n (pc := 75) dX9_image_75 rfl rfl ?_
    refine pl_aload_n (pc := 76) dX9_image_76 rfl rfl ?_
    refine pj_getf (pc := 77) ckX9 1 q2517 dX9_image_77 (by decide) (mm_o hA) rfl ?_
    refine pl_sipush (pc := 80) (v := 2124) dX9_image_80 (by rfl) ?_
    refine pl_iald (pc := 83) (n := 2132) dX9_image_83 (mm_a hA 1 (by decide) (by decide)) (by omega) (by decide) ?_
    refine PJ.top (y := nI _) ((congrFun (imgq_k (fun c σ => img2_k) i).1 2124).trans ((congrFun (imgq_k (fun c σ => img1_k) 96).1 2124).trans hn)) ?_
    refine pl_icmp_ge (pc := 84) (tgt := 118) dX9_image_84 (by decide) (by omega) (by omega) (fun c84 => ?_) (fun c84 => ?_)
    · have e9 : i = n := by omega
      rw [e9]
      rw [show uq img2 n (uq img1 96 (sF (s0 σ) 31 (nI (96 + n)))) = imgS n (sF (s0 σ) 31 (nI (96 + n))) from rfl]
      refine pl_aload_n (pc := 118) dX9_image_118 rfl rfl ?_
      refine pj_lconst (pc := 119) (v := 0) dX9_image_119 (by rfl) ?_
      refine pm_putL (pc := 120) 32 hA q2548 dX9_image_120 (by decide) rfl rfl rfl rfl ?_
      refine pl_aload_n (pc := 123) dX9_image_123 rfl rfl ?_
      refine pj_lconst (pc := 124) (v := 0) dX9_image_124 (by rfl) ?_
      refine pm_putL (pc := 125) 33 hA q2549 dX9_image_125 (by decide) rfl rfl rfl rfl ?_
      refine pl_iconst (pc := 128) (v := 0) dX9_image_128 (by rfl) ?_
      refine pj_istore_n (pc := 129) (lv' := [(1, _), (0, _)]) dX9_image_129 rfl (by decide) rfl ?_
      refine PJ.conv rfl rfl (show _ = (mm g ad μ (uq sum1 0 (sL (sL (imgS n (sF (s0 σ) 31 (nI (96 + n)))) 32 0) 33 0))) from by rw [uq_0]; first | done | rfl) ?_
      refine ind_dn (n := (96 + n)) (P := fun i => PJ g _ _ _ _ d 0 0 130 [(1, .int (nI i)), (0, .ref (ad 0))] [] (mm g ad μ (uq sum1 i (sL (sL (imgS n (sF (s0 σ) 31 (nI (96 + n)))) 32 0) 33 0))) _) (fun i hi ih => ?_) 0 (Nat.zero_le _)
      refine pl_iload_n (pc := 130) dX9_image_130 rfl rfl ?_
      refine pl_aload_n (pc := 131) dX9_image_131 rfl rfl ?_
      refine pj_getf (pc := 132) ckX9 31 q2547 dX9_image_132 (by decide) (mm_o hA) rfl ?_
      refine PJ.top (y := nI (96 + n)) ((congrFun (imgq_k (fun c σ => sum1_k) i).2 31).trans (congrFun ((imgq_k (fun c σ => img2_k) n).2.trans (imgq_k (fun c σ => img1_k) 96).2) 31)) ?_
      refine pl_icmp_ge (pc := 135) (tgt := 181) dX9_image_135 (by decide) (by omega) (by omega) (fun c135 => ?_) (fun c135 => ?_)
      · refine pl_aload_n (pc := 181) dX9_image_181 rfl rfl ?_
        refine pj_getf (pc := 182) ckX9 31 q2547 dX9_image_182 (by decide) (mm_o hA) rfl ?_
        refine pj_iret (pc := 185) dX9_image_185 rfl ?_
        have e9 : 96 + n = i := by omega
        subst e9
        exact ⟨rfl, rfl⟩
      · refine pl_aload_n (pc := 138) dX9_image_138 rfl rfl ?_
        refine pj_dup (pc := 139) dX9_image_139 rfl ?_
        refine pj_getf (pc := 140) ckX9 32 q2548 dX9_image_140 (by decide) (mm_o hA) rfl ?_
        refine pl_aload_n (pc := 143) dX9_image_143 rfl rfl ?_
        refine pj_getf (pc := 144) ckX9 30 q2546 dX9_image_144 (by decide) (mm_o hA) rfl ?_
        refine pl_iload_n (pc := 147) dX9_image_147 rfl rfl ?_
        refine pl_iald (pc := 148) (n := 196) dX9_image_148 (mm_a hA 17 (by decide) (by decide)) (by omega) (by decide) ?_
        refine pj_i2l (pc := 149) dX9_image_149 rfl ?_
        refine pj_ladd (pc := 150) dX9_image_150 ?_
        refine pm_putL (pc := 151) 32 hA q2548 dX9_image_151 (by decide) rfl rfl rfl rfl ?_
        refine pl_aload_n (pc := 154) dX9_image_154 rfl rfl ?_
        refine pj_dup (pc := 155) dX9_image_155 rfl ?_
        refine pj_getf (pc := 156) ckX9 33 q2549 dX9_image_156 (by decide) (mm_o hA) rfl ?_
        refine pl_aload_n (pc := 159) dX9_image_159 rfl rfl ?_
        refine pj_getf (pc := 160) ckX9 30 q2546 dX9_image_160 (by decide) (mm_o hA) rfl ?_
        refine pl_iload_n (pc := 163) dX9_image_163 rfl rfl ?_
        refine pl_iald (pc := 164) (n := 196) dX9_image_164 (mm_a hA 17 (by decide) (by decide)) (by omega) (by decide) ?_
        refine pj_i2l (pc := 165) dX9_image_165 rfl ?_
        refine pl_iload_n (pc := 166) dX9_image_166 rfl rfl ?_
        refine pl_iconst (pc := 167) (v := 1) dX9_image_167 (by rfl) ?_
        refine pl_iadd (pc := 168) dX9_image_168 ?_
        refine pj_i2l (pc := 169) dX9_image_169 rfl ?_
        refine pj_lmul (pc := 170) dX9_image_170 ?_
        refine pj_ladd (pc := 171) dX9_image_171 ?_
        refine pm_putL (pc := 172) 33 hA q2549 dX9_image_172 (by decide) rfl rfl rfl rfl ?_
        refine pl_iinc1 (pc := 175) (lv' := [(1, _), (0, _)]) dX9_image_175 rfl rfl (by decide) rfl ?_
        refine pj_goto (pc := 178) (tgt := 130) dX9_image_178 (by decide) ?_
        exact PJ.conv rfl rfl (by rw [uq_s sum1 i]; first | (simp [sum1, c135]; done) | (simp [sum1, c135]; rfl)) (ih (by omega))
    · refine pl_aload_n (pc := 87) dX9_image_87 rfl rfl ?_
      refine pj_getf (pc := 88) ckX9 30 q2546 dX9_image_88 (by decide) (mm_o hA) rfl ?_
      refine pl_bipush (pc := 91) (v := 96) dX9_image_91 (by rfl) ?_
      refine pl_iload_n (pc := 93) dX9_image_93 rfl rfl ?_
      refine pl_iadd (pc := 94) dX9_image_94 ?_
      refine pl_bipush (pc := 95) (v := 8) dX9_image_95 (by rfl) ?_
      refine pl_aload_n (pc := 97) dX9_image_97 rfl rfl ?_
      refine pl_iload_n (pc := 98) dX9_image_98 rfl rfl ?_
      refine pl_iconst (pc := 99) (v := 1) dX9_image_99 (by rfl) ?_
      refine pl_callVd (pc := 100) (As := [_, _]) (C2 := 0) (N2 := 0) ckX9 mdX9_per rfl q2713 q2715 qs59 q154 dX9_image_100 rfl rfl (Nat.le_of_ble_eq_true rfl) (mm_o hA) (w_X9_per (d := d - 1) (by omega) hA (by omega) (by decide)) (by omega) (by decide) (by decide) ?_
      refine pj_imul (pc := 103) dX9_image_103 ?_
      refine pl_aload_n (pc := 104) dX9_image_104 rfl rfl ?_
      refine pl_iload_n (pc := 105) dX9_image_105 rfl rfl ?_
      refine pl_iconst (pc := 106) (v := 2) dX9_image_106 (by rfl) ?_
      refine pl_callVd (pc := 107) (As := [_, _]) (C2 := 0) (N2 := 0) ckX9 mdX9_per rfl q2713 q2715 qs59 q154 dX9_image_107 rfl rfl (Nat.le_of_ble_eq_true rfl) (mm_o hA) (w_X9_per (d := d - 1) (by omega) hA (by omega) (by decide)) (by omega) (by decide) (by decide) ?_
      refine pj_iadd (pc := 110) dX9_image_110 ?_
      refine pm_iast (pc := 111) 17 hA (by decide) (by decide) rfl dX9_image_111 (show _ < 196 by omega) (by decide) ?_
      refine pl_iinc1 (pc := 112) (lv' := [(1, _), (0, _)]) dX9_image_112 rfl rfl (by decide) rfl ?_
      refine pj_goto (pc := 115) (tgt := 75) dX9_image_115 (by decide) ?_
      exact PJ.conv rfl rfl (by rw [uq_s img2 i]; first | (simp [img2, c84]; done) | (simp [img2, c84]; rfl)) (ih (by omega))
  · refine pl_aload_n (pc := 28) dX9_image_28 rfl rfl ?_
    refine pj_getf (pc := 29) ckX9 30 q2546 dX9_image_29 (by decide) (mm_o hA) rfl ?_
    refine pl_iload_n (pc := 32) dX9_image_32 rfl rfl ?_
    refine pl_sipush (pc := 33) (v := 200) dX9_image_33 (by rfl) ?_
    refine pl_aload_n (pc := 36) dX9_image_36 rfl rfl ?_
    refine pl_iload_n (pc := 37) dX9_image_37 rfl rfl ?_
    refine pl_iconst (pc := 38) (v := 0) dX9_image_38 (by rfl) ?_
    refine pl_callVd (pc := 39) (As := [_, _]) (C2 := 0) (N2 := 0) ckX9 mdX9_sec rfl q2635 q2637 qs51 q154 dX9_image_39 rfl rfl (Nat.le_of_ble_eq_true rfl) (mm_o hA) (w_X9_sec (d := d - 1) (by omega) hA (by omega) (by decide)) (by omega) (by decide) (by decide) ?_
    refine pj_imul (pc := 42) dX9_image_42 ?_
    refine pl_aload_n (pc := 43) dX9_image_43 rfl rfl ?_
    refine pl_iload_n (pc := 44) dX9_image_44 rfl rfl ?_
    refine pl_iconst (pc := 45) (v := 0) dX9_image_45 (by rfl) ?_
    refine pl_callVd (pc := 46) (As := [_, _]) (C2 := 0) (N2 := 0) ckX9 mdX9_sec rfl q2635 q2637 qs51 q154 dX9_image_46 rfl rfl (Nat.le_of_ble_eq_true rfl) (mm_o hA) (w_X9_sec (d := d - 1) (by omega) hA (by omega) (by decide)) (by omega) (by decide) (by decide) ?_
    refine pl_iconst (pc := 49) (v := 1) dX9_image_49 (by rfl) ?_
    refine pj_icmp_le (pc := 50) (tgt := 64) dX9_image_50 (by decide) (fun c50 => ?_) (fun c50 => ?_)
    · refine pl_iconst (pc := 64) (v := 0) dX9_image_64 (by rfl) ?_
      refine pj_iadd (pc := 65) dX9_image_65 ?_
      refine pm_iast (pc := 66) 17 hA (by decide) (by decide) rfl dX9_image_66 (show _ < 196 by omega) (by decide) ?_
      refine pl_iinc1 (pc := 67) (lv' := [(1, _), (0, _)]) dX9_image_67 rfl rfl (by decide) rfl ?_
      refine pj_goto (pc := 70) (tgt := 22) dX9_image_70 (by decide) ?_
      exact PJ.conv rfl rfl (by rw [uq_s img1 i]; first | (simp [img1, c25, c50]; done) | (simp [img1, c25, c50]; rfl)) (ih (by omega))
    · refine pl_aload_n (pc := 53) dX9_image_53 rfl rfl ?_
      refine pl_iload_n (pc := 54) dX9_image_54 rfl rfl ?_
      refine pl_iconst (pc := 55) (v := 1) dX9_image_55 (by rfl) ?_
      refine pl_callVd (pc := 56) (As := [_, _]) (C2 := 0) (N2 := 0) ckX9 mdX9_sec rfl q2635 q2637 qs51 q154 dX9_image_56 rfl rfl (Nat.le_of_ble_eq_true rfl) (mm_o hA) (w_X9_sec (d := d - 1) (by omega) hA (by omega) (by decide)) (by omega) (by decide) (by decide) ?_
      refine pl_iconst (pc := 59) (v := 1) dX9_image_59 (by rfl) ?_
      refine pj_iadd (pc := 60) dX9_image_60 ?_
      refine pj_goto (pc := 61) (tgt := 65) dX9_image_61 (by decide) ?_
      refine pj_iadd (pc := 65) dX9_image_65 ?_
      refine pm_iast (pc := 66) 17 hA (by decide) (by decide) rfl dX9_image_66 (show _ < 196 by omega) (by decide) ?_
      refine pl_iinc1 (pc := 67) (lv' := [(1, _), (0, _)]) dX9_image_67 rfl rfl (by decide) rfl ?_
      refine pj_goto (pc := 70) (tgt := 22) dX9_image_70 (by decide) ?_
      exact PJ.conv rfl rfl (by rw [uq_s img1 i]; first | (simp [img1, c25, c50]; done) | (simp [img1, c25, c50]; rfl)) (ih (by omega))
set_option maxHeartbeats 4000000 in
theorem w_X9_check {g : GP} {ad : Nat → Nat} {μ : Mem} {σ : MS} {d : Nat}  {im : Nat} (hd : 1 ≤ d) (hA : Inj ad 18) (him : σ.1 31 = nI im) (hIM : im ≤ 196) : PM g yX9_check (ws_ yX9_check cX9_check 6 (some .int)) d 0 0 [.ref (ad 0)] (mm g ad μ σ) (rQ (some (.int ((p_check σ im).1))) (mm g ad μ ((p_check σ im).2))) := by
  refine PM.of (by decide +kernel) (Nat.le_of_ble_eq_true rfl) ?_
  show PJ g _ _ _ _ d 0 0 0 [(0, .ref (ad 0))] [] _ _
  refine pl_aload_n (pc := 0) dX9_check_0 rfl rfl ?_
  refine pl_iconst (pc := 1) (v := 0) dX9_check_1 (by rfl) ?_
  refine pm_putI (pc := 2) 0 hA q2516 dX9_check_2 (by decide) rfl (by rfl) (by rfl) rfl ?_
  refine pl_aload_n (pc := 5) dX9_check_5 rfl rfl ?_
  refine pj_getf (pc := 6) ckX9 32 q2548 dX9_check_6 (by decide) (mm_o hA) rfl ?_
  refine pj_lneg (pc := 9) dX9_check_9 ?_
  refine pj_lstore_n (pc := 10) (lv' := [(1, _), (0, _)]) dX9_check_10 rfl (by decide) rfl ?_
  refine pl_aload_n (pc := 11) dX9_check_11 rfl rfl ?_
  refine pj_getf (pc := 12) ckX9 33 q2549 dX9_check_12 (by decide) (mm_o hA) rfl ?_
  refine pj_lneg (pc := 15) dX9_check_15 ?_
  refine pj_lstore_n (pc := 16) (lv' := [(3, _), (1, _), (0, _)]) dX9_check_16 rfl (by decide) rfl ?_
  refine pl_iconst (pc := 17) (v := 0) dX9_check_17 (by rfl) ?_
  refine pj_istore (pc := 18) (lv' := [(5, _), (3, _), (1, _), (0, _)]) dX9_check_18 (by decide) rfl ?_
  refine PJ.conv (show _ = [(5, .int (nI 0)), (3, .long (uq (chk1 (s0 σ)) 0 (-((s0 σ).2.2 32), -((s0 σ).2.2 33))).2), (1, .long (uq (chk1 (s0 σ)) 0 (-((s0 σ).2.2 32), -((s0 σ).2.2 33))).1), (0, .ref (ad 0))] from by rw [uq_0]; first | done | rfl) rfl (show _ = (mm g ad μ (s0 σ)) from rfl) ?_
  refine ind_dn (n := im) (P := fun i => PJ g _ _ _ _ d 0 0 20 [(5, .int (nI i)), (3, .long (uq (chk1 (s0 σ)) i (-((s0 σ).2.2 32), -((s0 σ).2.2 33))).2), (1, .long (uq (chk1 (s0 σ)) i (-((s0 σ).2.2 32), -((s0 σ).2.2 33))).1), (0, .ref (ad 0))] [] (mm g ad μ (s0 σ)) _) (fun i hi ih => ?_) 0 (Nat.zero_le _)
  refine pl_iload (pc := 20) dX9_check_20 rfl ?_
  refine pl_aload_n (pc := 22) dX9_check_22 rfl rfl ?_
  refine pj_getf (pc := 23) ckX9 31 q2547 dX9_check_23 (by decide) (mm_o hA) rfl ?_
  refine PJ.top (y := nI im) him ?_
  refine pl_icmp_ge (pc := 26) (tgt := 63) dX9_check_26 (by decide) (by omega) (by omega) (fun c26 => ?_) (fun c26 => ?_)
  · have e9 : im = i := by omega
    subst e9
    generalize hd9 : (uq (chk1 (s0 σ)) im (-((s0 σ).2.2 32), -((s0 σ).2.2 33))).1 = d9
    generalize he9 : (uq (chk1 (s0 σ)) im (-((s0 σ).2.2 32), -((s0 σ).2.2 33))).2 = e9
    refine pl_lload_n (pc := 63) dX9_check_63 rfl rfl ?_
    refine pj_lconst (pc := 64) (v := 0) dX9_check_64 (by rfl) ?_
    refine pj_lcmp (pc := 65) dX9_check_65 ?_
    refine pj_if_ne (pc := 66) (tgt := 77) dX9_check_66 (by decide) (fun c66 => ?_) (fun c66 => ?_)
    · refine pl_lload_n (pc := 77) dX9_check_77 rfl rfl ?_
      refine pj_lconst (pc := 78) (v := 0) dX9_check_78 (by rfl) ?_
      refine pj_lcmp (pc := 79) dX9_check_79 ?_
      refine pj_if_eq (pc := 80) (tgt := 91) dX9_check_80 (by decide) (fun c80 => ?_) (fun c80 => ?_)
      · refine pj_bipush (pc := 91) (v := (-2)) dX9_check_91 (by rfl) ?_
        refine pj_iret (pc := 93) dX9_check_93 rfl ?_
        simp only [lg_cmp_eq, lg_cmp_gt, lg_cmp_lt, lg_cmp_le, lg_cmp_ge] at c26 c66 c80
        first | exact absurd c80 c66 | exact ⟨vIe (by show _ = chkA _ _ _; rw [show (chkV (s0 σ) im).1 = d9 from hd9, show (chkV (s0 σ) im).2 = e9 from he9]; simp [chkA, c26, c66, eq_true c80]) rfl, rfl⟩
      · refine pl_lload_n (pc := 83) dX9_check_83 rfl rfl ?_
        refine pl_lload_n (pc := 84) dX9_check_84 rfl rfl ?_
        refine pj_lrem (pc := 85) dX9_check_85 (fun z => c80 ((lg_cmp_eq _ _).mpr z)) ?_
        refine pj_lconst (pc := 86) (v := 0) dX9_check_86 (by rfl) ?_
        refine pj_lcmp (pc := 87) dX9_check_87 ?_
        refine pj_if_eq (pc := 88) (tgt := 94) dX9_check_88 (by decide) (fun c88 => ?_) (fun c88 => ?_)
        · refine pl_lload_n (pc := 94) dX9_check_94 rfl rfl ?_
          refine pl_lload_n (pc := 95) dX9_check_95 rfl rfl ?_
          refine pj_ldiv (pc := 96) dX9_check_96 (fun z => c80 ((lg_cmp_eq _ _).mpr z)) ?_
          refine pj_lconst (pc := 97) (v := 1) dX9_check_97 (by rfl) ?_
          refine pj_lcmp (pc := 98) dX9_check_98 ?_
          refine pj_if_lt (pc := 99) (tgt := 123) dX9_check_99 (by decide) (fun c99 => ?_) (fun c99 => ?_)
          · refine pj_bipush (pc := 123) (v := (-2)) dX9_check_123 (by rfl) ?_
            refine pj_iret (pc := 125) dX9_check_125 rfl ?_
            simp only [lg_cmp_eq, lg_cmp_gt, lg_cmp_lt, lg_cmp_le, lg_cmp_ge] at c26 c66 c80 c88 c99
            exact ⟨vIe (by show _ = chkA _ _ _; rw [show (chkV (s0 σ) im).1 = d9 from hd9, show (chkV (s0 σ) im).2 = e9 from he9]; simp [chkA, c26, c66, c80, eq_true c88, c99]) rfl, rfl⟩
          · refine pl_lload_n (pc := 102) dX9_check_102 rfl rfl ?_
            refine pl_lload_n (pc := 103) dX9_check_103 rfl rfl ?_
            refine pj_ldiv (pc := 104) dX9_check_104 (fun z => c80 ((lg_cmp_eq _ _).mpr z)) ?_
            refine pl_aload_n (pc := 105) dX9_check_105 rfl rfl ?_
            refine pj_getf (pc := 106) ckX9 31 q2547 dX9_check_106 (by decide) (mm_o hA) rfl ?_
            refine pj_i2l (pc := 109) dX9_check_109 rfl ?_
            refine pj_lcmp (pc := 110) dX9_check_110 ?_
            refine pj_if_gt (pc := 111) (tgt := 123) dX9_check_111 (by decide) (fun c111 => ?_) (fun c111 => ?_)
            · refine pj_bipush (pc := 123) (v := (-2)) dX9_check_123 (by rfl) ?_
              refine pj_iret (pc := 125) dX9_check_125 rfl ?_
              simp only [lg_cmp_eq, lg_cmp_gt, lg_cmp_lt, lg_cmp_le, lg_cmp_ge] at c26 c66 c80 c88 c99 c111
              exact ⟨vIe (by show _ = chkA _ _ _; rw [show (chkV (s0 σ) im).1 = d9 from hd9, show (chkV (s0 σ) im).2 = e9 from he9]; simp [chkA, c26, c66, c80, eq_true c88, c99, c111]) rfl, rfl⟩
            · refine pl_lload_n (pc := 114) dX9_check_114 rfl rfl ?_
              refine pl_lload_n (pc := 115) dX9_check_115 rfl rfl ?_
              refine pj_ldiv (pc := 116) dX9_check_116 (fun z => c80 ((lg_cmp_eq _ _).mpr z)) ?_
              refine pj_l2i (pc := 117) dX9_check_117 rfl ?_
              refine pl_iconst (pc := 118) (v := 1) dX9_check_118 (by rfl) ?_
              refine pj_isub (pc := 119) dX9_check_119 ?_
              refine pj_goto (pc := 120) (tgt := 125) dX9_check_120 (by decide) ?_
              refine pj_iret (pc := 125) dX9_check_125 rfl ?_
              simp only [lg_cmp_eq, lg_cmp_gt, lg_cmp_lt, lg_cmp_le, lg_cmp_ge] at c26 c66 c80 c88 c99 c111
              exact ⟨vIe (by show _ = chkA _ _ _; rw [show (chkV (s0 σ) im).1 = d9 from hd9, show (chkV (s0 σ) im).2 = e9 from he9]; simp [chkA, c26, c66, c80, eq_true c88, c99, c111]) rfl, rfl⟩
        · refine pj_bipush (pc := 91) (v := (-2)) dX9_check_91 (by rfl) ?_
          refine pj_iret (pc := 93) dX9_check_93 rfl ?_
          simp only [lg_cmp_eq, lg_cmp_gt, lg_cmp_lt, lg_cmp_le, lg_cmp_ge] at c26 c66 c80 c88
          exact ⟨vIe (by show _ = chkA _ _ _; rw [show (chkV (s0 σ) im).1 = d9 from hd9, show (chkV (s0 σ) im).2 = e9 from he9]; simp [chkA, c26, c66, c80, c88]) rfl, rfl⟩
    · refine pl_lload_n (pc := 69) dX9_check_69 rfl rfl ?_
      refine pj_lconst (pc := 70) (v := 0) dX9_check_70 (by rfl) ?_
      refine pj_lcmp (pc := 71) dX9_check_71 ?_
      refine pj_if_ne (pc := 72) (tgt := 77) dX9_check_72 (by decide) (fun c72 => ?_) (fun c72 => ?_)
      · refine pl_lload_n (pc := 77) dX9_check_77 rfl rfl ?_
        refine pj_lconst (pc := 78) (v := 0) dX9_check_78 (by rfl) ?_
        refine pj_lcmp (pc := 79) dX9_check_79 ?_
        refine pj_if_eq (pc := 80) (tgt := 91) dX9_check_80 (by decide) (fun c80 => ?_) (fun c80 => ?_)
        · refine pj_bipush (pc := 91) (v := (-2)) dX9_check_91 (by rfl) ?_
          refine pj_iret (pc := 93) dX9_check_93 rfl ?_
          simp only [lg_cmp_eq, lg_cmp_gt, lg_cmp_lt, lg_cmp_le, lg_cmp_ge] at c26 c66 c72 c80
          exact ⟨vIe (by show _ = chkA _ _ _; rw [show (chkV (s0 σ) im).1 = d9 from hd9, show (chkV (s0 σ) im).2 = e9 from he9]; simp [chkA, c26, eq_true c66, c72, eq_true c80]) rfl, rfl⟩
        · refine pl_lload_n (pc := 83) dX9_check_83 rfl rfl ?_
          refine pl_lload_n (pc := 84) dX9_check_84 rfl rfl ?_
          refine pj_lrem (pc := 85) dX9_check_85 (fun z => c80 ((lg_cmp_eq _ _).mpr z)) ?_
          refine pj_lconst (pc := 86) (v := 0) dX9_check_86 (by rfl) ?_
          refine pj_lcmp (pc := 87) dX9_check_87 ?_
          refine pj_if_eq (pc := 88) (tgt := 94) dX9_check_88 (by decide) (fun c88 => ?_) (fun c88 => ?_)
          · refine pl_lload_n (pc := 94) dX9_check_94 rfl rfl ?_
            refine pl_lload_n (pc := 95) dX9_check_95 rfl rfl ?_
            refine pj_ldiv (pc := 96) dX9_check_96 (fun z => c80 ((lg_cmp_eq _ _).mpr z)) ?_
            refine pj_lconst (pc := 97) (v := 1) dX9_check_97 (by rfl) ?_
            refine pj_lcmp (pc := 98) dX9_check_98 ?_
            refine pj_if_lt (pc := 99) (tgt := 123) dX9_check_99 (by decide) (fun c99 => ?_) (fun c99 => ?_)
            · refine pj_bipush (pc := 123) (v := (-2)) dX9_check_123 (by rfl) ?_
              refine pj_iret (pc := 125) dX9_check_125 rfl ?_
              simp only [lg_cmp_eq, lg_cmp_gt, lg_cmp_lt, lg_cmp_le, lg_cmp_ge] at c26 c66 c72 c80 c88 c99
              first | exact absurd c66 c80 | exact ⟨vIe (by show _ = chkA _ _ _; rw [show (chkV (s0 σ) im).1 = d9 from hd9, show (chkV (s0 σ) im).2 = e9 from he9]; simp [chkA, c26, eq_true c66, c72, c80, eq_true c88, c99]) rfl, rfl⟩
            · refine pl_lload_n (pc := 102) dX9_check_102 rfl rfl ?_
              refine pl_lload_n (pc := 103) dX9_check_103 rfl rfl ?_
              refine pj_ldiv (pc := 104) dX9_check_104 (fun z => c80 ((lg_cmp_eq _ _).mpr z)) ?_
              refine pl_aload_n (pc := 105) dX9_check_105 rfl rfl ?_
              refine pj_getf (pc := 106) ckX9 31 q2547 dX9_check_106 (by decide) (mm_o hA) rfl ?_
              refine pj_i2l (pc := 109) dX9_check_109 rfl ?_
              refine pj_lcmp (pc := 110) dX9_check_110 ?_
              refine pj_if_gt (pc := 111) (tgt := 123) dX9_check_111 (by decide) (fun c111 => ?_) (fun c111 => ?_)
              · refine pj_bipush (pc := 123) (v := (-2)) dX9_check_123 (by rfl) ?_
                refine pj_iret (pc := 125) dX9_check_125 rfl ?_
                simp only [lg_cmp_eq, lg_cmp_gt, lg_cmp_lt, lg_cmp_le, lg_cmp_ge] at c26 c66 c72 c80 c88 c99 c111
                first | exact absurd c66 c80 | exact ⟨vIe (by show _ = chkA _ _ _; rw [show (chkV (s0 σ) im).1 = d9 from hd9, show (chkV (s0 σ) im).2 = e9 from he9]; simp [chkA, c26, eq_true c66, c72, c80, eq_true c88, c99, c111]) rfl, rfl⟩
              · refine pl_lload_n (pc := 114) dX9_check_114 rfl rfl ?_
                refine pl_lload_n (pc := 115) dX9_check_115 rfl rfl ?_
                refine pj_ldiv (pc := 116) dX9_check_116 (fun z => c80 ((lg_cmp_eq _ _).mpr z)) ?_
                refine pj_l2i (pc := 117) dX9_check_117 rfl ?_
                refine pl_iconst (pc := 118) (v := 1) dX9_check_118 (by rfl) ?_
                refine pj_isub (pc := 119) dX9_check_119 ?_
                refine pj_goto (pc := 120) (tgt := 125) dX9_check_120 (by decide) ?_
                refine pj_iret (pc := 125) dX9_check_125 rfl ?_
                simp only [lg_cmp_eq, lg_cmp_gt, lg_cmp_lt, lg_cmp_le, lg_cmp_ge] at c26 c66 c72 c80 c88 c99 c111
                first | exact absurd c66 c80 | exact ⟨vIe (by show _ = chkA _ _ _; rw [show (chkV (s0 σ) im).1 = d9 from hd9, show (chkV (s0 σ) im).2 = e9 from he9]; simp [chkA, c26, eq_true c66, c72, c80, eq_true c88, c99, c111]) rfl, rfl⟩
          · refine pj_bipush (pc := 91) (v := (-2)) dX9_check_91 (by rfl) ?_
            refine pj_iret (pc := 93) dX9_check_93 rfl ?_
            simp only [lg_cmp_eq, lg_cmp_gt, lg_cmp_lt, lg_cmp_le, lg_cmp_ge] at c26 c66 c72 c80 c88
            first | exact absurd c66 c80 | exact ⟨vIe (by show _ = chkA _ _ _; rw [show (chkV (s0 σ) im).1 = d9 from hd9, show (chkV (s0 σ) im).2 = e9 from he9]; simp [chkA, c26, eq_true c66, c72, c80, c88]) rfl, rfl⟩
      · refine pj_iconst (pc := 75) (v := (-1)) dX9_check_75 (by rfl) ?_
        refine pj_iret (pc := 76) dX9_check_76 rfl ?_
        simp only [lg_cmp_eq, lg_cmp_gt, lg_cmp_lt, lg_cmp_le, lg_cmp_ge] at c26 c66 c72
        exact ⟨vIe (by show _ = chkA _ _ _; rw [show (chkV (s0 σ) im).1 = d9 from hd9, show (chkV (s0 σ) im).2 = e9 from he9]; simp [chkA, c26, eq_true c66, eq_true c72]) rfl, rfl⟩
  · refine pl_lload_n (pc := 29) dX9_check_29 rfl rfl ?_
    refine pl_aload_n (pc := 30) dX9_check_30 rfl rfl ?_
    refine pj_getf (pc := 31) ckX9 30 q2546 dX9_check_31 (by decide) (mm_o hA) rfl ?_
    refine pl_iload (pc := 34) dX9_check_34 rfl ?_
    refine pl_iald (pc := 36) (n := 196) dX9_check_36 (mm_a hA 17 (by decide) (by decide)) (by omega) (by decide) ?_
    refine pj_i2l (pc := 37) dX9_check_37 rfl ?_
    refine pj_ladd (pc := 38) dX9_check_38 ?_
    refine pj_lstore_n (pc := 39) (lv' := [(1, _), (5, _), (3, _), (0, _)]) dX9_check_39 rfl (by decide) rfl ?_
    refine pl_lload_n (pc := 40) dX9_check_40 rfl rfl ?_
    refine pl_aload_n (pc := 41) dX9_check_41 rfl rfl ?_
    refine pj_getf (pc := 42) ckX9 30 q2546 dX9_check_42 (by decide) (mm_o hA) rfl ?_
    refine pl_iload (pc := 45) dX9_check_45 rfl ?_
    refine pl_iald (pc := 47) (n := 196) dX9_check_47 (mm_a hA 17 (by decide) (by decide)) (by omega) (by decide) ?_
    refine pj_i2l (pc := 48) dX9_check_48 rfl ?_
    refine pl_iload (pc := 49) dX9_check_49 rfl ?_
    refine pl_iconst (pc := 51) (v := 1) dX9_check_51 (by rfl) ?_
    refine pl_iadd (pc := 52) dX9_check_52 ?_
    refine pj_i2l (pc := 53) dX9_check_53 rfl ?_
    refine pj_lmul (pc := 54) dX9_check_54 ?_
    refine pj_ladd (pc := 55) dX9_check_55 ?_
    refine pj_lstore_n (pc := 56) (lv' := [(3, _), (1, _), (5, _), (0, _)]) dX9_check_56 rfl (by decide) rfl ?_
    refine pl_iinc1 (pc := 57) (lv' := [(5, _), (3, _), (1, _), (0, _)]) dX9_check_57 rfl rfl (by decide) rfl ?_
    refine pj_goto (pc := 60) (tgt := 20) dX9_check_60 (by decide) ?_
    exact PJ.conv (by rw [uq_s (chk1 (s0 σ)) i]; first | (simp [chk1]; done) | (simp [chk1]; rfl)) rfl rfl (ih (by omega))
