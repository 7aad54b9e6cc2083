set_option maxRecDepth 100000
def workedV (o a b : Int32) : Int32 := if o = nI 1 then a + b else if o = nI 2 then a - b else if o = nI 3 then a * b else if o = nI 4 then (if b = 0 then nI 0 else a / b) else if o = nI 5 then (if b = 0 then nI 0 else a - a / b * b)
  else if o = nI 6 then (if b ≤ a then b else a) else if o = nI 7 then (if a ≤ b then b else a) else if o = nI 8 then (if a = b then nI 1 else nI 0) else if o = nI 9 then a &&& b else if o = nI 10 then a ||| b else if o = nI 11 then (if a = b then nI 1 else nI 0)
  else if o = nI 12 then (if b ≤ a then nI 0 else nI 1) else if o = nI 13 then (if a ≤ b then nI 0 else nI 1) else if a = b then nI 1 else nI 0
theorem nI_dec {a k : Nat} (h : k ≤ a) : nI a + (-(nI k)) = nI (a - k) := by rw [← Int32.sub_eq_add_neg, pk_sub h]
abbrev cd (σ : MS) (k : Nat) : Int32 := σ.2.1 8 k
abbrev nm (σ : MS) (k : Nat) : Int32 := σ.2.1 9 k
/-- what a told name is -/
def tolW (wk so pe gr v : Int32) : Int32 := if v = 0 then wk else if v = nI 1 then wk / nI 52 else if v = nI 2 then so else if v = nI 3 then pe else gr
/-- one code -/
def vstep (σ : MS) (wk so pe gr : Int32) (k top : Nat) (pile : Nat → Int32) : Option (Nat × (Nat → Int32)) :=
  if cd σ k = 0 then (if top < 400 then some (top + 1, upd pile top (nm σ k)) else none)
  else if cd σ k = nI 15 then (if top < 400 then some (top + 1, upd pile top (tolW wk so pe gr (nm σ k))) else none)
  else if cd σ k = nI 11 then (if 1 ≤ top ∧ top ≤ 400 then some (top, upd pile (top - 1) (nI 1 - pile (top - 1))) else none)
  else if cd σ k = nI 8 then (if 3 ≤ top ∧ top ≤ 400 then some (top - 2, upd pile (top - 2 - 1) (if pile (top - 2 - 1) = nI 1 then pile (top - 2) else pile (top - 2 + 1))) else none)
  else (if 2 ≤ top ∧ top ≤ 400 then some (top - 1, upd pile (top - 1 - 1) (workedV (cd σ k) (pile (top - 1 - 1)) (pile (top - 1)))) else none)
def vrun (σ : MS) (wk so pe gr : Int32) : Nat → Nat → Nat → (Nat → Int32) → Option (Int32 × (Nat → Int32))
  | 0, _, _, _ => none
  | n + 1, k, top, pile => if k < 4800 then (if cd σ k = nI 16 then some (pile 0, pile) else (vstep σ wk so pe gr k top pile).bind fun q => vrun σ wk so pe gr n (k + 1) q.1 q.2) else none
theorem vrun_e {σ : MS} {wk so pe gr : Int32} {n k top : Nat} {pile : Nat → Int32} {r : Int32 × (Nat → Int32)} (h : vrun σ wk so pe gr (n + 1) k top pile = some r) (hc : cd σ k = nI 16) : r = (pile 0, pile) := by
  unfold vrun at h
  by_cases hk : k < 4800
  · rw [if_pos hk, if_pos hc] at h; exact (Option.some.inj h).symm
  · rw [if_neg hk] at h; cases h
theorem vrun_k {σ : MS} {wk so pe gr : Int32} {n k top : Nat} {pile : Nat → Int32} {r : Int32 × (Nat → Int32)} (h : vrun σ wk so pe gr (n + 1) k top pile = some r) : k < 4800 := by
  unfold vrun at h
  by_cases hk : k < 4800
  · exact hk
  · rw [if_neg hk] at h; cases h
theorem vrun_s {σ : MS} {wk so pe gr : Int32} {n k top : Nat} {pile : Nat → Int32} {r : Int32 × (Nat → Int32)} (h : vrun σ wk so pe gr (n + 1) k top pile = some r) (hc : ¬ cd σ k = nI 16) : ∃ q, vstep σ wk so pe gr k top pile = some q ∧ vrun σ wk so pe gr n (k + 1) q.1 q.2 = some r := by
  unfold vrun at h
  by_cases hk : k < 4800
  · rw [if_pos hk, if_neg hc] at h
    exact Option.bind_eq_some_iff.mp h
  · rw [if_neg hk] at h; cases h
theorem vs_if {c : Prop} [Decidable c] {x q : Nat × (Nat → Int32)} (h : (if c then some x else none) = some q) : c ∧ x = q := by
  split at h
  · exact ⟨by assumption, Option.some.inj h⟩
  · cases h
set_option maxHeartbeats 4000000 in
theorem w_X9_worked {g : GP} {μ : Mem} {d : Nat} {o : Int32} {a : Int32} {b : Int32}  (hd : 1 ≤ d) : PM g yX9_worked (ws_ yX9_worked cX9_worked 3 (some .int)) d 0 0 [.int o, .int a, .int b] μ (rQ (some (.int (workedV o a b))) μ) := by
  refine PM.of (by decide +kernel) (Nat.le_of_ble_eq_true rfl) ?_
  show PJ g _ _ _ _ d 0 0 0 [(0, .int o), (1, .int a), (2, .int b)] [] _ _
  refine pl_iload_n (pc := 0) dX9_worked_0 rfl rfl ?_
  refine pl_tsw (pc := 1) 1 (tgt := 68) dX9_worked_1 (by rfl) (by decide) (by decide) (by rfl) (by decide) (fun c1_1 => ?_) (fun c1_1 => ?_)
  · refine pl_iload_n (pc := 68) dX9_worked_68 rfl rfl ?_
    refine pl_iload_n (pc := 69) dX9_worked_69 rfl rfl ?_
    refine pj_iadd (pc := 70) dX9_worked_70 ?_
    refine pj_iret (pc := 71) dX9_worked_71 rfl ?_
    exact ⟨vIe (by simp [workedV, eq_true c1_1]) rfl, rfl⟩
  refine pl_tsw (pc := 1) 2 (tgt := 72) dX9_worked_1 (by rfl) (by decide) (by decide) (by rfl) (by decide) (fun c1_2 => ?_) (fun c1_2 => ?_)
  · refine pl_iload_n (pc := 72) dX9_worked_72 rfl rfl ?_
    refine pl_iload_n (pc := 73) dX9_worked_73 rfl rfl ?_
    refine pj_isub (pc := 74) dX9_worked_74 ?_
    refine pj_iret (pc := 75) dX9_worked_75 rfl ?_
    exact ⟨vIe (by simp [workedV, c1_1, eq_true c1_2]) rfl, rfl⟩
  refine pl_tsw (pc := 1) 3 (tgt := 76) dX9_worked_1 (by rfl) (by decide) (by decide) (by rfl) (by decide) (fun c1_3 => ?_) (fun c1_3 => ?_)
  · refine pl_iload_n (pc := 76) dX9_worked_76 rfl rfl ?_
    refine pl_iload_n (pc := 77) dX9_worked_77 rfl rfl ?_
    refine pj_imul (pc := 78) dX9_worked_78 ?_
    refine pj_iret (pc := 79) dX9_worked_79 rfl ?_
    exact ⟨vIe (by simp [workedV, c1_1, c1_2, eq_true c1_3]) rfl, rfl⟩
  refine pl_tsw (pc := 1) 4 (tgt := 80) dX9_worked_1 (by rfl) (by decide) (by decide) (by rfl) (by decide) (fun c1_4 => ?_) (fun c1_4 => ?_)
  · refine pl_iload_n (pc := 80) dX9_worked_80 rfl rfl ?_
    refine pj_if_ne (pc := 81) (tgt := 88) dX9_worked_81 (by decide) (fun c81 => ?_) (fun c81 => ?_)
    · refine pl_iload_n (pc := 88) dX9_worked_88 rfl rfl ?_
      refine pl_iload_n (pc := 89) dX9_worked_89 rfl rfl ?_
      refine pj_idiv (pc := 90) dX9_worked_90 c81 ?_
      refine pj_iret (pc := 91) dX9_worked_91 rfl ?_
      exact ⟨vIe (by simp [workedV, c1_1, c1_2, c1_3, eq_true c1_4, c81]) rfl, rfl⟩
    · refine pl_iconst (pc := 84) (v := 0) dX9_worked_84 (by rfl) ?_
      refine pj_goto (pc := 85) (tgt := 91) dX9_worked_85 (by decide) ?_
      refine pj_iret (pc := 91) dX9_worked_91 rfl ?_
      exact ⟨vIe (by simp [workedV, c1_1, c1_2, c1_3, eq_true c1_4, eq_true c81]) rfl, rfl⟩
  refine pl_tsw (pc := 1) 5 (tgt := 92) dX9_worked_1 (by rfl) (by decide) (by decide) (by rfl) (by decide) (fun c1_5 => ?_) (fun c1_5 => ?_)
  · refine pl_iload_n (pc := 92) dX9_worked_92 rfl rfl ?_
    refine pj_if_ne (pc := 93) (tgt := 100) dX9_worked_93 (by decide) (fun c93 => ?_) (fun c93 => ?_)
    · refine pl_iload_n (pc := 100) dX9_worked_100 rfl rfl ?_
      refine pl_iload_n (pc := 101) dX9_worked_101 rfl rfl ?_
      refine pj_irem (pc := 102) dX9_worked_102 c93 ?_
      refine pj_iret (pc := 103) dX9_worked_103 rfl ?_
      exact ⟨vIe (by simp [workedV, c1_1, c1_2, c1_3, c1_4, eq_true c1_5, c93]) rfl, rfl⟩
    · refine pl_iconst (pc := 96) (v := 0) dX9_worked_96 (by rfl) ?_
      refine pj_goto (pc := 97) (tgt := 103) dX9_worked_97 (by decide) ?_
      refine pj_iret (pc := 103) dX9_worked_103 rfl ?_
      exact ⟨vIe (by simp [workedV, c1_1, c1_2, c1_3, c1_4, eq_true c1_5, eq_true c93]) rfl, rfl⟩
  refine pl_tsw (pc := 1) 6 (tgt := 104) dX9_worked_1 (by rfl) (by decide) (by decide) (by rfl) (by decide) (fun c1_6 => ?_) (fun c1_6 => ?_)
  · refine pl_iload_n (pc := 104) dX9_worked_104 rfl rfl ?_
    refine pl_iload_n (pc := 105) dX9_worked_105 rfl rfl ?_
    refine pj_icmp_ge (pc := 106) (tgt := 113) dX9_worked_106 (by decide) (fun c106 => ?_) (fun c106 => ?_)
    · refine pl_iload_n (pc := 113) dX9_worked_113 rfl rfl ?_
      refine pj_iret (pc := 114) dX9_worked_114 rfl ?_
      exact ⟨vIe (by simp [workedV, c1_1, c1_2, c1_3, c1_4, c1_5, eq_true c1_6, c106]) rfl, rfl⟩
    · refine pl_iload_n (pc := 109) dX9_worked_109 rfl rfl ?_
      refine pj_goto (pc := 110) (tgt := 114) dX9_worked_110 (by decide) ?_
      refine pj_iret (pc := 114) dX9_worked_114 rfl ?_
      exact ⟨vIe (by simp [workedV, c1_1, c1_2, c1_3, c1_4, c1_5, eq_true c1_6, c106]) rfl, rfl⟩
  refine pl_tsw (pc := 1) 7 (tgt := 115) dX9_worked_1 (by rfl) (by decide) (by decide) (by rfl) (by decide) (fun c1_7 => ?_) (fun c1_7 => ?_)
  · refine pl_iload_n (pc := 115) dX9_worked_115 rfl rfl ?_
    refine pl_iload_n (pc := 116) dX9_worked_116 rfl rfl ?_
    refine pj_icmp_le (pc := 117) (tgt := 124) dX9_worked_117 (by decide) (fun c117 => ?_) (fun c117 => ?_)
    · refine pl_iload_n (pc := 124) dX9_worked_124 rfl rfl ?_
      refine pj_iret (pc := 125) dX9_worked_125 rfl ?_
      exact ⟨vIe (by simp [workedV, c1_1, c1_2, c1_3, c1_4, c1_5, c1_6, eq_true c1_7, c117]) rfl, rfl⟩
    · refine pl_iload_n (pc := 120) dX9_worked_120 rfl rfl ?_
      refine pj_goto (pc := 121) (tgt := 125) dX9_worked_121 (by decide) ?_
      refine pj_iret (pc := 125) dX9_worked_125 rfl ?_
      exact ⟨vIe (by simp [workedV, c1_1, c1_2, c1_3, c1_4, c1_5, c1_6, eq_true c1_7, c117]) rfl, rfl⟩
  refine pl_tsw (pc := 1) 8 (tgt := 156) dX9_worked_1 (by rfl) (by decide) (by decide) (by rfl) (by decide) (fun c1_8 => ?_) (fun c1_8 => ?_)
  · refine pl_iload_n (pc := 156) dX9_worked_156 rfl rfl ?_
    refine pl_iload_n (pc := 157) dX9_worked_157 rfl rfl ?_
    refine pj_icmp_ne (pc := 158) (tgt := 165) dX9_worked_158 (by decide) (fun c158 => ?_) (fun c158 => ?_)
    · refine pl_iconst (pc := 165) (v := 0) dX9_worked_165 (by rfl) ?_
      refine pj_iret (pc := 166) dX9_worked_166 rfl ?_
      exact ⟨vIe (by simp [workedV, c1_1, c1_2, c1_3, c1_4, c1_5, c1_6, c1_7, eq_true c1_8, c158]) rfl, rfl⟩
    · refine pl_iconst (pc := 161) (v := 1) dX9_worked_161 (by rfl) ?_
      refine pj_goto (pc := 162) (tgt := 166) dX9_worked_162 (by decide) ?_
      refine pj_iret (pc := 166) dX9_worked_166 rfl ?_
      exact ⟨vIe (by simp [workedV, c1_1, c1_2, c1_3, c1_4, c1_5, c1_6, c1_7, eq_true c1_8, eq_true c158]) rfl, rfl⟩
  refine pl_tsw (pc := 1) 9 (tgt := 126) dX9_worked_1 (by rfl) (by decide) (by decide) (by rfl) (by decide) (fun c1_9 => ?_) (fun c1_9 => ?_)
  · refine pl_iload_n (pc := 126) dX9_worked_126 rfl rfl ?_
    refine pl_iload_n (pc := 127) dX9_worked_127 rfl rfl ?_
    refine pj_iand (pc := 128) dX9_worked_128 ?_
    refine pj_iret (pc := 129) dX9_worked_129 rfl ?_
    exact ⟨vIe (by simp [workedV, c1_1, c1_2, c1_3, c1_4, c1_5, c1_6, c1_7, c1_8, eq_true c1_9]) rfl, rfl⟩
  refine pl_tsw (pc := 1) 10 (tgt := 130) dX9_worked_1 (by rfl) (by decide) (by decide) (by rfl) (by decide) (fun c1_10 => ?_) (fun c1_10 => ?_)
  · refine pl_iload_n (pc := 130) dX9_worked_130 rfl rfl ?_
    refine pl_iload_n (pc := 131) dX9_worked_131 rfl rfl ?_
    refine pj_ior (pc := 132) dX9_worked_132 ?_
    refine pj_iret (pc := 133) dX9_worked_133 rfl ?_
    exact ⟨vIe (by simp [workedV, c1_1, c1_2, c1_3, c1_4, c1_5, c1_6, c1_7, c1_8, c1_9, eq_true c1_10]) rfl, rfl⟩
  refine pl_tsw (pc := 1) 11 (tgt := 156) dX9_worked_1 (by rfl) (by decide) (by decide) (by rfl) (by decide) (fun c1_11 => ?_) (fun c1_11 => ?_)
  · refine pl_iload_n (pc := 156) dX9_worked_156 rfl rfl ?_
    refine pl_iload_n (pc := 157) dX9_worked_157 rfl rfl ?_
    refine pj_icmp_ne (pc := 158) (tgt := 165) dX9_worked_158 (by decide) (fun c158 => ?_) (fun c158 => ?_)
    · refine pl_iconst (pc := 165) (v := 0) dX9_worked_165 (by rfl) ?_
      refine pj_iret (pc := 166) dX9_worked_166 rfl ?_
      exact ⟨vIe (by simp [workedV, c1_1, c1_2, c1_3, c1_4, c1_5, c1_6, c1_7, c1_8, c1_9, c1_10, eq_true c1_11, c158]) rfl, rfl⟩
    · refine pl_iconst (pc := 161) (v := 1) dX9_worked_161 (by rfl) ?_
      refine pj_goto (pc := 162) (tgt := 166) dX9_worked_162 (by decide) ?_
      refine pj_iret (pc := 166) dX9_worked_166 rfl ?_
      exact ⟨vIe (by simp [workedV, c1_1, c1_2, c1_3, c1_4, c1_5, c1_6, c1_7, c1_8, c1_9, c1_10, eq_true c1_11, eq_true c158]) rfl, rfl⟩
  refine pl_tsw (pc := 1) 12 (tgt := 134) dX9_worked_1 (by rfl) (by decide) (by decide) (by rfl) (by decide) (fun c1_12 => ?_) (fun c1_12 => ?_)
  · refine pl_iload_n (pc := 134) dX9_worked_134 rfl rfl ?_
    refine pl_iload_n (pc := 135) dX9_worked_135 rfl rfl ?_
    refine pj_icmp_ge (pc := 136) (tgt := 143) dX9_worked_136 (by decide) (fun c136 => ?_) (fun c136 => ?_)
    · refine pl_iconst (pc := 143) (v := 0) dX9_worked_143 (by rfl) ?_
      refine pj_iret (pc := 144) dX9_worked_144 rfl ?_
      exact ⟨vIe (by simp [workedV, c1_1, c1_2, c1_3, c1_4, c1_5, c1_6, c1_7, c1_8, c1_9, c1_10, c1_11, eq_true c1_12, c136]) rfl, rfl⟩
    · refine pl_iconst (pc := 139) (v := 1) dX9_worked_139 (by rfl) ?_
      refine pj_goto (pc := 140) (tgt := 144) dX9_worked_140 (by decide) ?_
      refine pj_iret (pc := 144) dX9_worked_144 rfl ?_
      exact ⟨vIe (by simp [workedV, c1_1, c1_2, c1_3, c1_4, c1_5, c1_6, c1_7, c1_8, c1_9, c1_10, c1_11, eq_true c1_12, c136]) rfl, rfl⟩
  refine pl_tsw (pc := 1) 13 (tgt := 145) dX9_worked_1 (by rfl) (by decide) (by decide) (by rfl) (by decide) (fun c1_13 => ?_) (fun c1_13 => ?_)
  · refine pl_iload_n (pc := 145) dX9_worked_145 rfl rfl ?_
    refine pl_iload_n (pc := 146) dX9_worked_146 rfl rfl ?_
    refine pj_icmp_le (pc := 147) (tgt := 154) dX9_worked_147 (by decide) (fun c147 => ?_) (fun c147 => ?_)
    · refine pl_iconst (pc := 154) (v := 0) dX9_worked_154 (by rfl) ?_
      refine pj_iret (pc := 155) dX9_worked_155 rfl ?_
      exact ⟨vIe (by simp [workedV, c1_1, c1_2, c1_3, c1_4, c1_5, c1_6, c1_7, c1_8, c1_9, c1_10, c1_11, c1_12, eq_true c1_13, c147]) rfl, rfl⟩
    · refine pl_iconst (pc := 150) (v := 1) dX9_worked_150 (by rfl) ?_
      refine pj_goto (pc := 151) (tgt := 155) dX9_worked_151 (by decide) ?_
      refine pj_iret (pc := 155) dX9_worked_155 rfl ?_
      exact ⟨vIe (by simp [workedV, c1_1, c1_2, c1_3, c1_4, c1_5, c1_6, c1_7, c1_8, c1_9, c1_10, c1_11, c1_12, eq_true c1_13, c147]) rfl, rfl⟩
  refine pj_tableOut (pc := 1) (tgt := 156) dX9_worked_1 (by have q0 := nI_nec c1_1; have q1 := nI_nec c1_2; have q2 := nI_nec c1_3; have q3 := nI_nec c1_4; have q4 := nI_nec c1_5; have q5 := nI_nec c1_6; have q6 := nI_nec c1_7; have q7 := nI_nec c1_8; have q8 := nI_nec c1_9; have q9 := nI_nec c1_10; have q10 := nI_nec c1_11; have q11 := nI_nec c1_12; have q12 := nI_nec c1_13; omega) (by decide) ?_
  refine pl_iload_n (pc := 156) dX9_worked_156 rfl rfl ?_
  refine pl_iload_n (pc := 157) dX9_worked_157 rfl rfl ?_
  refine pj_icmp_ne (pc := 158) (tgt := 165) dX9_worked_158 (by decide) (fun c158 => ?_) (fun c158 => ?_)
  · refine pl_iconst (pc := 165) (v := 0) dX9_worked_165 (by rfl) ?_
    refine pj_iret (pc := 166) dX9_worked_166 rfl ?_
    exact ⟨vIe (by simp [workedV, c1_1, c1_2, c1_3, c1_4, c1_5, c1_6, c1_7, c1_8, c1_9, c1_10, c1_11, c1_12, c1_13, c158]) rfl, rfl⟩
  · refine pl_iconst (pc := 161) (v := 1) dX9_worked_161 (by rfl) ?_
    refine pj_goto (pc := 162) (tgt := 166) dX9_worked_162 (by decide) ?_
    refine pj_iret (pc := 166) dX9_worked_166 rfl ?_
    exact ⟨vIe (by simp [workedV, c1_1, c1_2, c1_3, c1_4, c1_5, c1_6, c1_7, c1_8, c1_9, c1_10, c1_11, c1_12, c1_13, eq_true c158]) rfl, rfl⟩
set_option maxHeartbeats 4000000 in
theorem w_X9_value {g : GP} {ad : Nat → Nat} {μ : Mem} {σ : MS} {d : Nat} {l : Nat} {name : Nat} {wk : Int32} {so : Int32} {pe : Int32} {gr : Int32} {n ca : Nat} {r : Int32 × (Nat → Int32)} (hd : 2 ≤ d) (hA : Inj ad 18) (hl : l < 12) (hname : name < 8) (hca : σ.2.1 10 (8 * l + name) = nI ca) (hca2 : ca < 2147480000) (hv : vrun σ wk so pe gr n (400 * l + ca) 0 (σ.2.1 13) = some r) : PM g yX9_value (ws_ yX9_value cX9_value 11 (some .int)) d 0 0 [.ref (ad 0), .int (nI l), .int (nI name), .int wk, .int so, .int pe, .int gr] (mm g ad μ σ) (rQ (some (.int (r.1))) (mm g ad μ (sA σ 13 r.2))) := by
  refine PM.of (by decide +kernel) (Nat.le_of_ble_eq_true rfl) ?_
  show PJ g _ _ _ _ d 0 0 0 [(0, .ref (ad 0)), (1, .int (nI l)), (2, .int (nI name)), (3, .int wk), (4, .int so), (5, .int pe), (6, .int gr)] [] _ _
  have key : ∀ n k top pile, top ≤ 400 → vrun σ wk so pe gr n k top pile = some r → PJ g yX9_value.cls cX9_value 11 (some .int, yX9_value.name, []) d 0 0 22 [(8, .int (nI k)), (7, .int (nI top)), (6, .int gr), (5, .int pe), (4, .int so), (3, .int wk), (2, .int (nI name)), (1, .int (nI l)), (0, .ref (ad 0))] [] (mm g ad μ (sA σ 13 pile)) (rQ (some (.int r.1)) (mm g ad μ (sA σ 13 r.2))) := by
    intro n
    induction n with
    | zero => intro k top pile _ h; cases h
    | succ n ih =>
      intro k top pile htop h
      have hk := vrun_k h
      refine pl_aload_n (pc := 22) dX9_value_22 rfl rfl ?_
      refine pj_getf (pc := 23) ckX9 17 q2533 dX9_value_23 (by decide) (mm_o hA) rfl ?_
      refine pl_iload (pc := 26) dX9_value_26 rfl ?_
      refine pl_iald (pc := 28) (n := 4800) dX9_value_28 (mm_a hA 8 (by decide) (by decide)) (by omega) (by decide) ?_
      refine PJ.top (y := cd σ k) rfl ?_
      refine pl_bipush (pc := 29) (v := 16) dX9_value_29 (by rfl) ?_
      refine pj_icmp_eq (pc := 31) (tgt := 256) dX9_value_31 (by decide) (fun c31 => ?_) (fun c31 => ?_)
      · refine pl_aload_n (pc := 256) dX9_value_256 rfl rfl ?_
        refine pj_getf (pc := 257) ckX9 22 q2538 dX9_value_257 (by decide) (mm_o hA) rfl ?_
        refine pl_iconst (pc := 260) (v := 0) dX9_value_260 (by rfl) ?_
        refine pl_iald (pc := 261) (n := 400) dX9_value_261 (mm_a hA 13 (by decide) (by decide)) (by omega) (by decide) ?_
        refine PJ.top (y := pile 0) rfl ?_
        refine pj_iret (pc := 262) dX9_value_262 rfl ?_
        have hr := vrun_e h c31
        subst hr
        exact ⟨rfl, rfl⟩
      · obtain ⟨q, hs, hr⟩ := vrun_s h c31
        refine pl_aload_n (pc := 34) dX9_value_34 rfl rfl ?_
        refine pj_getf (pc := 35) ckX9 17 q2533 dX9_value_35 (by decide) (mm_o hA) rfl ?_
        refine pl_iload (pc := 38) dX9_value_38 rfl ?_
        refine pl_iald (pc := 40) (n := 4800) dX9_value_40 (mm_a hA 8 (by decide) (by decide)) (by omega) (by decide) ?_
        refine PJ.top (y := cd σ k) rfl ?_
        refine pj_istore (pc := 41) (lv' := [(9, _), (8, _), (7, _), (6, _), (5, _), (4, _), (3, _), (2, _), (1, _), (0, _)]) dX9_value_41 (by decide) rfl ?_
        refine pl_aload_n (pc := 43) dX9_value_43 rfl rfl ?_
        refine pj_getf (pc := 44) ckX9 18 q2534 dX9_value_44 (by decide) (mm_o hA) rfl ?_
        refine pl_iload (pc := 47) dX9_value_47 rfl ?_
        refine pl_iald (pc := 49) (n := 4800) dX9_value_49 (mm_a hA 9 (by decide) (by decide)) (by omega) (by decide) ?_
        refine PJ.top (y := nm σ k) rfl ?_
        refine pj_istore (pc := 50) (lv' := [(10, _), (9, _), (8, _), (7, _), (6, _), (5, _), (4, _), (3, _), (2, _), (1, _), (0, _)]) dX9_value_50 (by decide) rfl ?_
        refine pl_iload (pc := 52) dX9_value_52 rfl ?_
        refine pj_if_eq (pc := 54) (tgt := 64) dX9_value_54 (by decide) (fun c54 => ?_) (fun c54 => ?_)
        · have hs2 := hs
          simp only [vstep] at hs2
          rw [if_pos (show cd σ k = 0 from c54)] at hs2
          obtain ⟨ht, hq⟩ := vs_if hs2
          subst hq
          refine pl_aload_n (pc := 64) dX9_value_64 rfl rfl ?_
          refine pj_getf (pc := 65) ckX9 22 q2538 dX9_value_65 (by decide) (mm_o hA) rfl ?_
          refine pl_iload (pc := 68) dX9_value_68 rfl ?_
          refine pl_iload (pc := 70) dX9_value_70 rfl ?_
          refine pj_if_ne (pc := 72) (tgt := 80) dX9_value_72 (by decide) (fun c72 => ?_) (fun c72 => ?_)
          · refine pl_iload (pc := 80) dX9_value_80 rfl ?_
            refine pj_if_ne (pc := 82) (tgt := 89) dX9_value_82 (by decide) (fun c82 => ?_) (fun c82 => ?_)
            · refine pl_iload (pc := 89) dX9_value_89 rfl ?_
              refine pl_iconst (pc := 91) (v := 1) dX9_value_91 (by rfl) ?_
              refine pj_icmp_ne (pc := 92) (tgt := 102) dX9_value_92 (by decide) (fun c92 => ?_) (fun c92 => ?_)
              · refine pl_iload (pc := 102) dX9_value_102 rfl ?_
                refine pl_iconst (pc := 104) (v := 2) dX9_value_104 (by rfl) ?_
                refine pj_icmp_ne (pc := 105) (tgt := 113) dX9_value_105 (by decide) (fun c105 => ?_) (fun c105 => ?_)
                · refine pl_iload (pc := 113) dX9_value_113 rfl ?_
                  refine pl_iconst (pc := 115) (v := 3) dX9_value_115 (by rfl) ?_
                  refine pj_icmp_ne (pc := 116) (tgt := 124) dX9_value_116 (by decide) (fun c116 => ?_) (fun c116 => ?_)
                  · refine pl_iload (pc := 124) dX9_value_124 rfl ?_
                    refine pm_iast (pc := 126) 13 hA (by decide) (by decide) rfl dX9_value_126 (show _ < 400 by omega) (by decide) ?_
                    refine pl_iinc1 (pc := 127) (lv' := [(7, _), (10, _), (9, _), (8, _), (6, _), (5, _), (4, _), (3, _), (2, _), (1, _), (0, _)]) dX9_value_127 rfl rfl (by decide) rfl ?_
                    refine pj_goto (pc := 130) (tgt := 250) dX9_value_130 (by decide) ?_
                    refine pl_iinc1 (pc := 250) (lv' := [(8, _), (7, _), (10, _), (9, _), (6, _), (5, _), (4, _), (3, _), (2, _), (1, _), (0, _)]) dX9_value_250 rfl rfl (by decide) rfl ?_
                    refine pj_goto (pc := 253) (tgt := 22) dX9_value_253 (by decide) ?_
                    refine PJ.sub [0, 1, 4, 5, 6, 7, 8, 9, 10] rfl ?_
                    refine PJ.conv rfl rfl ?_ (ih _ _ _ (by show top + 1 ≤ 400; omega) hr)
                    first | exact congrArg (mm g ad μ) sA_sA | (refine congrArg (mm g ad μ) (sA_sA.trans (congrArg (sA σ 13) ?_)); first | rfl | (refine congrArg (upd _ _) ?_; first | exact absurd c54 c72 | exact absurd c72 c54 | rfl | (show _ = tolW wk so pe gr (nm σ k); simp [tolW, c31, eq_true c54, c72, c82, c92, c105, c116]; done) | exact (if_neg c191).symm | exact (if_pos c191).symm))
                  · refine pl_iload (pc := 119) dX9_value_119 rfl ?_
                    refine pj_goto (pc := 121) (tgt := 126) dX9_value_121 (by decide) ?_
                    refine pm_iast (pc := 126) 13 hA (by decide) (by decide) rfl dX9_value_126 (show _ < 400 by omega) (by decide) ?_
                    refine pl_iinc1 (pc := 127) (lv' := [(7, _), (10, _), (9, _), (8, _), (6, _), (5, _), (4, _), (3, _), (2, _), (1, _), (0, _)]) dX9_value_127 rfl rfl (by decide) rfl ?_
                    refine pj_goto (pc := 130) (tgt := 250) dX9_value_130 (by decide) ?_
                    refine pl_iinc1 (pc := 250) (lv' := [(8, _), (7, _), (10, _), (9, _), (6, _), (5, _), (4, _), (3, _), (2, _), (1, _), (0, _)]) dX9_value_250 rfl rfl (by decide) rfl ?_
                    refine pj_goto (pc := 253) (tgt := 22) dX9_value_253 (by decide) ?_
                    refine PJ.sub [0, 1, 4, 5, 6, 7, 8, 9, 10] rfl ?_
                    refine PJ.conv rfl rfl ?_ (ih _ _ _ (by show top + 1 ≤ 400; omega) hr)
                    first | exact congrArg (mm g ad μ) sA_sA | (refine congrArg (mm g ad μ) (sA_sA.trans (congrArg (sA σ 13) ?_)); first | rfl | (refine congrArg (upd _ _) ?_; first | exact absurd c54 c72 | exact absurd c72 c54 | rfl | (show _ = tolW wk so pe gr (nm σ k); simp [tolW, c31, eq_true c54, c72, c82, c92, c105, eq_true c116]; done) | exact (if_neg c191).symm | exact (if_pos c191).symm))
                · refine pl_iload (pc := 108) dX9_value_108 rfl ?_
                  refine pj_goto (pc := 110) (tgt := 126) dX9_value_110 (by decide) ?_
                  refine pm_iast (pc := 126) 13 hA (by decide) (by decide) rfl dX9_value_126 (show _ < 400 by omega) (by decide) ?_
                  refine pl_iinc1 (pc := 127) (lv' := [(7, _), (10, _), (9, _), (8, _), (6, _), (5, _), (4, _), (3, _), (2, _), (1, _), (0, _)]) dX9_value_127 rfl rfl (by decide) rfl ?_
                  refine pj_goto (pc := 130) (tgt := 250) dX9_value_130 (by decide) ?_
                  refine pl_iinc1 (pc := 250) (lv' := [(8, _), (7, _), (10, _), (9, _), (6, _), (5, _), (4, _), (3, _), (2, _), (1, _), (0, _)]) dX9_value_250 rfl rfl (by decide) rfl ?_
                  refine pj_goto (pc := 253) (tgt := 22) dX9_value_253 (by decide) ?_
                  refine PJ.sub [0, 1, 4, 5, 6, 7, 8, 9, 10] rfl ?_
                  refine PJ.conv rfl rfl ?_ (ih _ _ _ (by show top + 1 ≤ 400; omega) hr)
                  first | exact congrArg (mm g ad μ) sA_sA | (refine congrArg (mm g ad μ) (sA_sA.trans (congrArg (sA σ 13) ?_)); first | rfl | (refine congrArg (upd _ _) ?_; first | exact absurd c54 c72 | exact absurd c72 c54 | rfl | (show _ = tolW wk so pe gr (nm σ k); simp [tolW, c31, eq_true c54, c72, c82, c92, eq_true c105]; done) | exact (if_neg c191).symm | exact (if_pos c191).symm))
              · refine pl_iload_n (pc := 95) dX9_value_95 rfl rfl ?_
                refine pl_bipush (pc := 96) (v := 52) dX9_value_96 (by rfl) ?_
                refine pj_idiv (pc := 98) dX9_value_98 (by decide) ?_
                refine pj_goto (pc := 99) (tgt := 126) dX9_value_99 (by decide) ?_
                refine pm_iast (pc := 126) 13 hA (by decide) (by decide) rfl dX9_value_126 (show _ < 400 by omega) (by decide) ?_
                refine pl_iinc1 (pc := 127) (lv' := [(7, _), (10, _), (9, _), (8, _), (6, _), (5, _), (4, _), (3, _), (2, _), (1, _), (0, _)]) dX9_value_127 rfl rfl (by decide) rfl ?_
                refine pj_goto (pc := 130) (tgt := 250) dX9_value_130 (by decide) ?_
                refine pl_iinc1 (pc := 250) (lv' := [(8, _), (7, _), (10, _), (9, _), (6, _), (5, _), (4, _), (3, _), (2, _), (1, _), (0, _)]) dX9_value_250 rfl rfl (by decide) rfl ?_
                refine pj_goto (pc := 253) (tgt := 22) dX9_value_253 (by decide) ?_
                refine PJ.sub [0, 1, 4, 5, 6, 7, 8, 9, 10] rfl ?_
                refine PJ.conv rfl rfl ?_ (ih _ _ _ (by show top + 1 ≤ 400; omega) hr)
                first | exact congrArg (mm g ad μ) sA_sA | (refine congrArg (mm g ad μ) (sA_sA.trans (congrArg (sA σ 13) ?_)); first | rfl | (refine congrArg (upd _ _) ?_; first | exact absurd c54 c72 | exact absurd c72 c54 | rfl | (show _ = tolW wk so pe gr (nm σ k); simp [tolW, c31, eq_true c54, c72, c82, eq_true c92]; done) | exact (if_neg c191).symm | exact (if_pos c191).symm))
            · refine pl_iload_n (pc := 85) dX9_value_85 rfl rfl ?_
              refine pj_goto (pc := 86) (tgt := 126) dX9_value_86 (by decide) ?_
              refine pm_iast (pc := 126) 13 hA (by decide) (by decide) rfl dX9_value_126 (show _ < 400 by omega) (by decide) ?_
              refine pl_iinc1 (pc := 127) (lv' := [(7, _), (10, _), (9, _), (8, _), (6, _), (5, _), (4, _), (3, _), (2, _), (1, _), (0, _)]) dX9_value_127 rfl rfl (by decide) rfl ?_
              refine pj_goto (pc := 130) (tgt := 250) dX9_value_130 (by decide) ?_
              refine pl_iinc1 (pc := 250) (lv' := [(8, _), (7, _), (10, _), (9, _), (6, _), (5, _), (4, _), (3, _), (2, _), (1, _), (0, _)]) dX9_value_250 rfl rfl (by decide) rfl ?_
              refine pj_goto (pc := 253) (tgt := 22) dX9_value_253 (by decide) ?_
              refine PJ.sub [0, 1, 4, 5, 6, 7, 8, 9, 10] rfl ?_
              refine PJ.conv rfl rfl ?_ (ih _ _ _ (by show top + 1 ≤ 400; omega) hr)
              first | exact congrArg (mm g ad μ) sA_sA | (refine congrArg (mm g ad μ) (sA_sA.trans (congrArg (sA σ 13) ?_)); first | rfl | (refine congrArg (upd _ _) ?_; first | exact absurd c54 c72 | exact absurd c72 c54 | rfl | (show _ = tolW wk so pe gr (nm σ k); simp [tolW, c31, eq_true c54, c72, eq_true c82]; done) | exact (if_neg c191).symm | exact (if_pos c191).symm))
          · refine pl_iload (pc := 75) dX9_value_75 rfl ?_
            refine pj_goto (pc := 77) (tgt := 126) dX9_value_77 (by decide) ?_
            refine pm_iast (pc := 126) 13 hA (by decide) (by decide) rfl dX9_value_126 (show _ < 400 by omega) (by decide) ?_
            refine pl_iinc1 (pc := 127) (lv' := [(7, _), (10, _), (9, _), (8, _), (6, _), (5, _), (4, _), (3, _), (2, _), (1, _), (0, _)]) dX9_value_127 rfl rfl (by decide) rfl ?_
            refine pj_goto (pc := 130) (tgt := 250) dX9_value_130 (by decide) ?_
            refine pl_iinc1 (pc := 250) (lv' := [(8, _), (7, _), (10, _), (9, _), (6, _), (5, _), (4, _), (3, _), (2, _), (1, _), (0, _)]) dX9_value_250 rfl rfl (by decide) rfl ?_
            refine pj_goto (pc := 253) (tgt := 22) dX9_value_253 (by decide) ?_
            refine PJ.sub [0, 1, 4, 5, 6, 7, 8, 9, 10] rfl ?_
            refine PJ.conv rfl rfl ?_ (ih _ _ _ (by show top + 1 ≤ 400; omega) hr)
            first | exact congrArg (mm g ad μ) sA_sA | (refine congrArg (mm g ad μ) (sA_sA.trans (congrArg (sA σ 13) ?_)); first | rfl | (refine congrArg (upd _ _) ?_; first | exact absurd c54 c72 | exact absurd c72 c54 | rfl | (show _ = tolW wk so pe gr (nm σ k); simp [tolW, c31, eq_true c54, eq_true c72]; done) | exact (if_neg c191).symm | exact (if_pos c191).symm))
        · refine pl_iload (pc := 57) dX9_value_57 rfl ?_
          refine pl_bipush (pc := 59) (v := 15) dX9_value_59 (by rfl) ?_
          refine pj_icmp_ne (pc := 61) (tgt := 133) dX9_value_61 (by decide) (fun c61 => ?_) (fun c61 => ?_)
          · refine pl_iload (pc := 133) dX9_value_133 rfl ?_
            refine pl_bipush (pc := 135) (v := 11) dX9_value_135 (by rfl) ?_
            refine pj_icmp_ne (pc := 137) (tgt := 163) dX9_value_137 (by decide) (fun c137 => ?_) (fun c137 => ?_)
            · refine pl_iload (pc := 163) dX9_value_163 rfl ?_
              refine pl_bipush (pc := 165) (v := 8) dX9_value_165 (by rfl) ?_
              refine pj_icmp_ne (pc := 167) (tgt := 217) dX9_value_167 (by decide) (fun c167 => ?_) (fun c167 => ?_)
              · have hs2 := hs
                simp only [vstep] at hs2
                rw [if_neg (show ¬ cd σ k = 0 from c54), if_neg (show ¬ cd σ k = nI 15 from c61), if_neg (show ¬ cd σ k = nI 11 from c137), if_neg (show ¬ cd σ k = nI 8 from c167)] at hs2
                obtain ⟨⟨ht1, ht2⟩, hq⟩ := vs_if hs2
                subst hq
                refine pl_iinc (pc := 217) (lv' := [(7, _), (10, _), (9, _), (8, _), (6, _), (5, _), (4, _), (3, _), (2, _), (1, _), (0, _)]) dX9_value_217 rfl (nI_dec (k := 1) (by omega)) (by decide) rfl ?_
                refine pl_aload_n (pc := 220) dX9_value_220 rfl rfl ?_
                refine pj_getf (pc := 221) ckX9 22 q2538 dX9_value_221 (by decide) (mm_o hA) rfl ?_
                refine pl_iload (pc := 224) dX9_value_224 rfl ?_
                refine pl_iconst (pc := 226) (v := 1) dX9_value_226 (by rfl) ?_
                refine pl_isub (pc := 227) dX9_value_227 (by omega) ?_
                refine pl_iload (pc := 228) dX9_value_228 rfl ?_
                refine pl_aload_n (pc := 230) dX9_value_230 rfl rfl ?_
                refine pj_getf (pc := 231) ckX9 22 q2538 dX9_value_231 (by decide) (mm_o hA) rfl ?_
                refine pl_iload (pc := 234) dX9_value_234 rfl ?_
                refine pl_iconst (pc := 236) (v := 1) dX9_value_236 (by rfl) ?_
                refine pl_isub (pc := 237) dX9_value_237 (by omega) ?_
                refine pl_iald (pc := 238) (n := 400) dX9_value_238 (mm_a hA 13 (by decide) (by decide)) (by omega) (by decide) ?_
                refine PJ.top (y := pile (top - 1 - 1)) rfl ?_
                refine pl_aload_n (pc := 239) dX9_value_239 rfl rfl ?_
                refine pj_getf (pc := 240) ckX9 22 q2538 dX9_value_240 (by decide) (mm_o hA) rfl ?_
                refine pl_iload (pc := 243) dX9_value_243 rfl ?_
                refine pl_iald (pc := 245) (n := 400) dX9_value_245 (mm_a hA 13 (by decide) (by decide)) (by omega) (by decide) ?_
                refine PJ.top (y := pile (top - 1)) rfl ?_
                refine pl_callSd (pc := 246) (As := [_, _, _]) (C2 := 0) (N2 := 0) mdX9_worked q2960 q2961 q154 dX9_value_246 rfl rfl (Nat.le_of_ble_eq_true rfl) (w_X9_worked (d := d - 1) (by omega)) (by omega) (by decide) (by decide) ?_
                refine pm_iast (pc := 249) 13 hA (by decide) (by decide) rfl dX9_value_249 (show _ < 400 by omega) (by decide) ?_
                refine pl_iinc1 (pc := 250) (lv' := [(8, _), (7, _), (10, _), (9, _), (6, _), (5, _), (4, _), (3, _), (2, _), (1, _), (0, _)]) dX9_value_250 rfl rfl (by decide) rfl ?_
                refine pj_goto (pc := 253) (tgt := 22) dX9_value_253 (by decide) ?_
                refine PJ.sub [0, 1, 4, 5, 6, 7, 8, 9, 10] rfl ?_
                refine PJ.conv rfl rfl ?_ (ih _ _ _ (by first | exact ht2 | (show top - 2 ≤ 400; omega) | (show top - 1 ≤ 400; omega)) hr)
                first | exact congrArg (mm g ad μ) sA_sA | (refine congrArg (mm g ad μ) (sA_sA.trans (congrArg (sA σ 13) ?_)); first | rfl | (refine congrArg (upd _ _) ?_; first | exact absurd c54 c72 | exact absurd c72 c54 | rfl | (show _ = tolW wk so pe gr (nm σ k); simp [tolW, c31, c54, c61, c137, c167]; done) | exact (if_neg c191).symm | exact (if_pos c191).symm))
              · have hs2 := hs
                simp only [vstep] at hs2
                rw [if_neg (show ¬ cd σ k = 0 from c54), if_neg (show ¬ cd σ k = nI 15 from c61), if_neg (show ¬ cd σ k = nI 11 from c137), if_pos (show cd σ k = nI 8 from c167)] at hs2
                obtain ⟨⟨ht1, ht2⟩, hq⟩ := vs_if hs2
                subst hq
                refine pl_iinc (pc := 170) (lv' := [(7, _), (10, _), (9, _), (8, _), (6, _), (5, _), (4, _), (3, _), (2, _), (1, _), (0, _)]) dX9_value_170 rfl (nI_dec (k := 2) (by omega)) (by decide) rfl ?_
                refine pl_aload_n (pc := 173) dX9_value_173 rfl rfl ?_
                refine pj_getf (pc := 174) ckX9 22 q2538 dX9_value_174 (by decide) (mm_o hA) rfl ?_
                refine pl_iload (pc := 177) dX9_value_177 rfl ?_
                refine pl_iconst (pc := 179) (v := 1) dX9_value_179 (by rfl) ?_
                refine pl_isub (pc := 180) dX9_value_180 (by omega) ?_
                refine pl_aload_n (pc := 181) dX9_value_181 rfl rfl ?_
                refine pj_getf (pc := 182) ckX9 22 q2538 dX9_value_182 (by decide) (mm_o hA) rfl ?_
                refine pl_iload (pc := 185) dX9_value_185 rfl ?_
                refine pl_iconst (pc := 187) (v := 1) dX9_value_187 (by rfl) ?_
                refine pl_isub (pc := 188) dX9_value_188 (by omega) ?_
                refine pl_iald (pc := 189) (n := 400) dX9_value_189 (mm_a hA 13 (by decide) (by decide)) (by omega) (by decide) ?_
                refine PJ.top (y := pile (top - 2 - 1)) rfl ?_
                refine pl_iconst (pc := 190) (v := 1) dX9_value_190 (by rfl) ?_
                refine pj_icmp_ne (pc := 191) (tgt := 204) dX9_value_191 (by decide) (fun c191 => ?_) (fun c191 => ?_)
                · refine pl_aload_n (pc := 204) dX9_value_204 rfl rfl ?_
                  refine pj_getf (pc := 205) ckX9 22 q2538 dX9_value_205 (by decide) (mm_o hA) rfl ?_
                  refine pl_iload (pc := 208) dX9_value_208 rfl ?_
                  refine pl_iconst (pc := 210) (v := 1) dX9_value_210 (by rfl) ?_
                  refine pl_iadd (pc := 211) dX9_value_211 ?_
                  refine pl_iald (pc := 212) (n := 400) dX9_value_212 (mm_a hA 13 (by decide) (by decide)) (by omega) (by decide) ?_
                  refine PJ.top (y := pile (top - 2 + 1)) rfl ?_
                  refine pm_iast (pc := 213) 13 hA (by decide) (by decide) rfl dX9_value_213 (show _ < 400 by omega) (by decide) ?_
                  refine pj_goto (pc := 214) (tgt := 250) dX9_value_214 (by decide) ?_
                  refine pl_iinc1 (pc := 250) (lv' := [(8, _), (7, _), (10, _), (9, _), (6, _), (5, _), (4, _), (3, _), (2, _), (1, _), (0, _)]) dX9_value_250 rfl rfl (by decide) rfl ?_
                  refine pj_goto (pc := 253) (tgt := 22) dX9_value_253 (by decide) ?_
                  refine PJ.sub [0, 1, 4, 5, 6, 7, 8, 9, 10] rfl ?_
                  refine PJ.conv rfl rfl ?_ (ih _ _ _ (by first | exact ht2 | (show top - 2 ≤ 400; omega) | (show top - 1 ≤ 400; omega)) hr)
                  first | exact congrArg (mm g ad μ) sA_sA | (refine congrArg (mm g ad μ) (sA_sA.trans (congrArg (sA σ 13) ?_)); first | rfl | (refine congrArg (upd _ _) ?_; first | exact absurd c54 c72 | exact absurd c72 c54 | rfl | (show _ = tolW wk so pe gr (nm σ k); simp [tolW, c31, c54, c61, c137, eq_true c167, c191]; done) | exact (if_neg c191).symm | exact (if_pos c191).symm))
                · refine pl_aload_n (pc := 194) dX9_value_194 rfl rfl ?_
                  refine pj_getf (pc := 195) ckX9 22 q2538 dX9_value_195 (by decide) (mm_o hA) rfl ?_
                  refine pl_iload (pc := 198) dX9_value_198 rfl ?_
                  refine pl_iald (pc := 200) (n := 400) dX9_value_200 (mm_a hA 13 (by decide) (by decide)) (by omega) (by decide) ?_
                  refine PJ.top (y := pile (top - 2)) rfl ?_
                  refine pj_goto (pc := 201) (tgt := 213) dX9_value_201 (by decide) ?_
                  refine pm_iast (pc := 213) 13 hA (by decide) (by decide) rfl dX9_value_213 (show _ < 400 by omega) (by decide) ?_
                  refine pj_goto (pc := 214) (tgt := 250) dX9_value_214 (by decide) ?_
                  refine pl_iinc1 (pc := 250) (lv' := [(8, _), (7, _), (10, _), (9, _), (6, _), (5, _), (4, _), (3, _), (2, _), (1, _), (0, _)]) dX9_value_250 rfl rfl (by decide) rfl ?_
                  refine pj_goto (pc := 253) (tgt := 22) dX9_value_253 (by decide) ?_
                  refine PJ.sub [0, 1, 4, 5, 6, 7, 8, 9, 10] rfl ?_
                  refine PJ.conv rfl rfl ?_ (ih _ _ _ (by first | exact ht2 | (show top - 2 ≤ 400; omega) | (show top - 1 ≤ 400; omega)) hr)
                  first | exact congrArg (mm g ad μ) sA_sA | (refine congrArg (mm g ad μ) (sA_sA.trans (congrArg (sA σ 13) ?_)); first | rfl | (refine congrArg (upd _ _) ?_; first | exact absurd c54 c72 | exact absurd c72 c54 | rfl | (show _ = tolW wk so pe gr (nm σ k); simp [tolW, c31, c54, c61, c137, eq_true c167, eq_true c191]; done) | exact (if_neg c191).symm | exact (if_pos c191).symm))
            · have hs2 := hs
              simp only [vstep] at hs2
              rw [if_neg (show ¬ cd σ k = 0 from c54), if_neg (show ¬ cd σ k = nI 15 from c61), if_pos (show cd σ k = nI 11 from c137)] at hs2
              obtain ⟨⟨ht1, ht2⟩, hq⟩ := vs_if hs2
              subst hq
              refine pl_aload_n (pc := 140) dX9_value_140 rfl rfl ?_
              refine pj_getf (pc := 141) ckX9 22 q2538 dX9_value_141 (by decide) (mm_o hA) rfl ?_
              refine pl_iload (pc := 144) dX9_value_144 rfl ?_
              refine pl_iconst (pc := 146) (v := 1) dX9_value_146 (by rfl) ?_
              refine pl_isub (pc := 147) dX9_value_147 ht1 ?_
              refine pl_iconst (pc := 148) (v := 1) dX9_value_148 (by rfl) ?_
              refine pl_aload_n (pc := 149) dX9_value_149 rfl rfl ?_
              refine pj_getf (pc := 150) ckX9 22 q2538 dX9_value_150 (by decide) (mm_o hA) rfl ?_
              refine pl_iload (pc := 153) dX9_value_153 rfl ?_
              refine pl_iconst (pc := 155) (v := 1) dX9_value_155 (by rfl) ?_
              refine pl_isub (pc := 156) dX9_value_156 ht1 ?_
              refine pl_iald (pc := 157) (n := 400) dX9_value_157 (mm_a hA 13 (by decide) (by decide)) (by omega) (by decide) ?_
              refine PJ.top (y := pile (top - 1)) rfl ?_
              refine pj_isub (pc := 158) dX9_value_158 ?_
              refine pm_iast (pc := 159) 13 hA (by decide) (by decide) rfl dX9_value_159 (show _ < 400 by omega) (by decide) ?_
              refine pj_goto (pc := 160) (tgt := 250) dX9_value_160 (by decide) ?_
              refine pl_iinc1 (pc := 250) (lv' := [(8, _), (10, _), (9, _), (7, _), (6, _), (5, _), (4, _), (3, _), (2, _), (1, _), (0, _)]) dX9_value_250 rfl rfl (by decide) rfl ?_
              refine pj_goto (pc := 253) (tgt := 22) dX9_value_253 (by decide) ?_
              refine PJ.sub [0, 3, 4, 5, 6, 7, 8, 9, 10] rfl ?_
              refine PJ.conv rfl rfl ?_ (ih _ _ _ (by first | exact ht2 | (show top - 2 ≤ 400; omega) | (show top - 1 ≤ 400; omega)) hr)
              first | exact congrArg (mm g ad μ) sA_sA | (refine congrArg (mm g ad μ) (sA_sA.trans (congrArg (sA σ 13) ?_)); first | rfl | (refine congrArg (upd _ _) ?_; first | exact absurd c54 c72 | exact absurd c72 c54 | rfl | (show _ = tolW wk so pe gr (nm σ k); simp [tolW, c31, c54, c61, eq_true c137]; done) | exact (if_neg c191).symm | exact (if_pos c191).symm))
          · have hs2 := hs
            simp only [vstep] at hs2
            rw [if_neg (show ¬ cd σ k = 0 from c54), if_pos (show cd σ k = nI 15 from c61)] at hs2
            obtain ⟨ht, hq⟩ := vs_if hs2
            subst hq
            refine pl_aload_n (pc := 64) dX9_value_64 rfl rfl ?_
            refine pj_getf (pc := 65) ckX9 22 q2538 dX9_value_65 (by decide) (mm_o hA) rfl ?_
            refine pl_iload (pc := 68) dX9_value_68 rfl ?_
            refine pl_iload (pc := 70) dX9_value_70 rfl ?_
            refine pj_if_ne (pc := 72) (tgt := 80) dX9_value_72 (by decide) (fun c72 => ?_) (fun c72 => ?_)
            · refine pl_iload (pc := 80) dX9_value_80 rfl ?_
              refine pj_if_ne (pc := 82) (tgt := 89) dX9_value_82 (by decide) (fun c82 => ?_) (fun c82 => ?_)
              · refine pl_iload (pc := 89) dX9_value_89 rfl ?_
                refine pl_iconst (pc := 91) (v := 1) dX9_value_91 (by rfl) ?_
                refine pj_icmp_ne (pc := 92) (tgt := 102) dX9_value_92 (by decide) (fun c92 => ?_) (fun c92 => ?_)
                · refine pl_iload (pc := 102) dX9_value_102 rfl ?_
                  refine pl_iconst (pc := 104) (v := 2) dX9_value_104 (by rfl) ?_
                  refine pj_icmp_ne (pc := 105) (tgt := 113) dX9_value_105 (by decide) (fun c105 => ?_) (fun c105 => ?_)
                  · refine pl_iload (pc := 113) dX9_value_113 rfl ?_
                    refine pl_iconst (pc := 115) (v := 3) dX9_value_115 (by rfl) ?_
                    refine pj_icmp_ne (pc := 116) (tgt := 124) dX9_value_116 (by decide) (fun c116 => ?_) (fun c116 => ?_)
                    · refine pl_iload (pc := 124) dX9_value_124 rfl ?_
                      refine pm_iast (pc := 126) 13 hA (by decide) (by decide) rfl dX9_value_126 (show _ < 400 by omega) (by decide) ?_
                      refine pl_iinc1 (pc := 127) (lv' := [(7, _), (10, _), (9, _), (8, _), (6, _), (5, _), (4, _), (3, _), (2, _), (1, _), (0, _)]) dX9_value_127 rfl rfl (by decide) rfl ?_
                      refine pj_goto (pc := 130) (tgt := 250) dX9_value_130 (by decide) ?_
                      refine pl_iinc1 (pc := 250) (lv' := [(8, _), (7, _), (10, _), (9, _), (6, _), (5, _), (4, _), (3, _), (2, _), (1, _), (0, _)]) dX9_value_250 rfl rfl (by decide) rfl ?_
                      refine pj_goto (pc := 253) (tgt := 22) dX9_value_253 (by decide) ?_
                      refine PJ.sub [0, 1, 4, 5, 6, 7, 8, 9, 10] rfl ?_
                      refine PJ.conv rfl rfl ?_ (ih _ _ _ (by show top + 1 ≤ 400; omega) hr)
                      first | exact congrArg (mm g ad μ) sA_sA | (refine congrArg (mm g ad μ) (sA_sA.trans (congrArg (sA σ 13) ?_)); first | rfl | (refine congrArg (upd _ _) ?_; first | exact absurd c54 c72 | exact absurd c72 c54 | rfl | (show _ = tolW wk so pe gr (nm σ k); simp [tolW, c31, c54, eq_true c61, c72, c82, c92, c105, c116]; done) | exact (if_neg c191).symm | exact (if_pos c191).symm))
                    · refine pl_iload (pc := 119) dX9_value_119 rfl ?_
                      refine pj_goto (pc := 121) (tgt := 126) dX9_value_121 (by decide) ?_
                      refine pm_iast (pc := 126) 13 hA (by decide) (by decide) rfl dX9_value_126 (show _ < 400 by omega) (by decide) ?_
                      refine pl_iinc1 (pc := 127) (lv' := [(7, _), (10, _), (9, _), (8, _), (6, _), (5, _), (4, _), (3, _), (2, _), (1, _), (0, _)]) dX9_value_127 rfl rfl (by decide) rfl ?_
                      refine pj_goto (pc := 130) (tgt := 250) dX9_value_130 (by decide) ?_
                      refine pl_iinc1 (pc := 250) (lv' := [(8, _), (7, _), (10, _), (9, _), (6, _), (5, _), (4, _), (3, _), (2, _), (1, _), (0, _)]) dX9_value_250 rfl rfl (by decide) rfl ?_
                      refine pj_goto (pc := 253) (tgt := 22) dX9_value_253 (by decide) ?_
                      refine PJ.sub [0, 1, 4, 5, 6, 7, 8, 9, 10] rfl ?_
                      refine PJ.conv rfl rfl ?_ (ih _ _ _ (by show top + 1 ≤ 400; omega) hr)
                      first | exact congrArg (mm g ad μ) sA_sA | (refine congrArg (mm g ad μ) (sA_sA.trans (congrArg (sA σ 13) ?_)); first | rfl | (refine congrArg (upd _ _) ?_; first | exact absurd c54 c72 | exact absurd c72 c54 | rfl | (show _ = tolW wk so pe gr (nm σ k); simp [tolW, c31, c54, eq_true c61, c72, c82, c92, c105, eq_true c116]; done) | exact (if_neg c191).symm | exact (if_pos c191).symm))
                  · refine pl_iload (pc := 108) dX9_value_108 rfl ?_
                    refine pj_goto (pc := 110) (tgt := 126) dX9_value_110 (by decide) ?_
                    refine pm_iast (pc := 126) 13 hA (by decide) (by decide) rfl dX9_value_126 (show _ < 400 by omega) (by decide) ?_
                    refine pl_iinc1 (pc := 127) (lv' := [(7, _), (10, _), (9, _), (8, _), (6, _), (5, _), (4, _), (3, _), (2, _), (1, _), (0, _)]) dX9_value_127 rfl rfl (by decide) rfl ?_
                    refine pj_goto (pc := 130) (tgt := 250) dX9_value_130 (by decide) ?_
                    refine pl_iinc1 (pc := 250) (lv' := [(8, _), (7, _), (10, _), (9, _), (6, _), (5, _), (4, _), (3, _), (2, _), (1, _), (0, _)]) dX9_value_250 rfl rfl (by decide) rfl ?_
                    refine pj_goto (pc := 253) (tgt := 22) dX9_value_253 (by decide) ?_
                    refine PJ.sub [0, 1, 4, 5, 6, 7, 8, 9, 10] rfl ?_
                    refine PJ.conv rfl rfl ?_ (ih _ _ _ (by show top + 1 ≤ 400; omega) hr)
                    first | exact congrArg (mm g ad μ) sA_sA | (refine congrArg (mm g ad μ) (sA_sA.trans (congrArg (sA σ 13) ?_)); first | rfl | (refine congrArg (upd _ _) ?_; first | exact absurd c54 c72 | exact absurd c72 c54 | rfl | (show _ = tolW wk so pe gr (nm σ k); simp [tolW, c31, c54, eq_true c61, c72, c82, c92, eq_true c105]; done) | exact (if_neg c191).symm | exact (if_pos c191).symm))
                · refine pl_iload_n (pc := 95) dX9_value_95 rfl rfl ?_
                  refine pl_bipush (pc := 96) (v := 52) dX9_value_96 (by rfl) ?_
                  refine pj_idiv (pc := 98) dX9_value_98 (by decide) ?_
                  refine pj_goto (pc := 99) (tgt := 126) dX9_value_99 (by decide) ?_
                  refine pm_iast (pc := 126) 13 hA (by decide) (by decide) rfl dX9_value_126 (show _ < 400 by omega) (by decide) ?_
                  refine pl_iinc1 (pc := 127) (lv' := [(7, _), (10, _), (9, _), (8, _), (6, _), (5, _), (4, _), (3, _), (2, _), (1, _), (0, _)]) dX9_value_127 rfl rfl (by decide) rfl ?_
                  refine pj_goto (pc := 130) (tgt := 250) dX9_value_130 (by decide) ?_
                  refine pl_iinc1 (pc := 250) (lv' := [(8, _), (7, _), (10, _), (9, _), (6, _), (5, _), (4, _), (3, _), (2, _), (1, _), (0, _)]) dX9_value_250 rfl rfl (by decide) rfl ?_
                  refine pj_goto (pc := 253) (tgt := 22) dX9_value_253 (by decide) ?_
                  refine PJ.sub [0, 1, 4, 5, 6, 7, 8, 9, 10] rfl ?_
                  refine PJ.conv rfl rfl ?_ (ih _ _ _ (by show top + 1 ≤ 400; omega) hr)
                  first | exact congrArg (mm g ad μ) sA_sA | (refine congrArg (mm g ad μ) (sA_sA.trans (congrArg (sA σ 13) ?_)); first | rfl | (refine congrArg (upd _ _) ?_; first | exact absurd c54 c72 | exact absurd c72 c54 | rfl | (show _ = tolW wk so pe gr (nm σ k); simp [tolW, c31, c54, eq_true c61, c72, c82, eq_true c92]; done) | exact (if_neg c191).symm | exact (if_pos c191).symm))
              · refine pl_iload_n (pc := 85) dX9_value_85 rfl rfl ?_
                refine pj_goto (pc := 86) (tgt := 126) dX9_value_86 (by decide) ?_
                refine pm_iast (pc := 126) 13 hA (by decide) (by decide) rfl dX9_value_126 (show _ < 400 by omega) (by decide) ?_
                refine pl_iinc1 (pc := 127) (lv' := [(7, _), (10, _), (9, _), (8, _), (6, _), (5, _), (4, _), (3, _), (2, _), (1, _), (0, _)]) dX9_value_127 rfl rfl (by decide) rfl ?_
                refine pj_goto (pc := 130) (tgt := 250) dX9_value_130 (by decide) ?_
                refine pl_iinc1 (pc := 250) (lv' := [(8, _), (7, _), (10, _), (9, _), (6, _), (5, _), (4, _), (3, _), (2, _), (1, _), (0, _)]) dX9_value_250 rfl rfl (by decide) rfl ?_
                refine pj_goto (pc := 253) (tgt := 22) dX9_value_253 (by decide) ?_
                refine PJ.sub [0, 1, 4, 5, 6, 7, 8, 9, 10] rfl ?_
                refine PJ.conv rfl rfl ?_ (ih _ _ _ (by show top + 1 ≤ 400; omega) hr)
                first | exact congrArg (mm g ad μ) sA_sA | (refine congrArg (mm g ad μ) (sA_sA.trans (congrArg (sA σ 13) ?_)); first | rfl | (refine congrArg (upd _ _) ?_; first | exact absurd c54 c72 | exact absurd c72 c54 | rfl | (show _ = tolW wk so pe gr (nm σ k); simp [tolW, c31, c54, eq_true c61, c72, eq_true c82]; done) | exact (if_neg c191).symm | exact (if_pos c191).symm))
            · refine pl_iload (pc := 75) dX9_value_75 rfl ?_
              refine pj_goto (pc := 77) (tgt := 126) dX9_value_77 (by decide) ?_
              refine pm_iast (pc := 126) 13 hA (by decide) (by decide) rfl dX9_value_126 (show _ < 400 by omega) (by decide) ?_
              refine pl_iinc1 (pc := 127) (lv' := [(7, _), (10, _), (9, _), (8, _), (6, _), (5, _), (4, _), (3, _), (2, _), (1, _), (0, _)]) dX9_value_127 rfl rfl (by decide) rfl ?_
              refine pj_goto (pc := 130) (tgt := 250) dX9_value_130 (by decide) ?_
              refine pl_iinc1 (pc := 250) (lv' := [(8, _), (7, _), (10, _), (9, _), (6, _), (5, _), (4, _), (3, _), (2, _), (1, _), (0, _)]) dX9_value_250 rfl rfl (by decide) rfl ?_
              refine pj_goto (pc := 253) (tgt := 22) dX9_value_253 (by decide) ?_
              refine PJ.sub [0, 1, 4, 5, 6, 7, 8, 9, 10] rfl ?_
              refine PJ.conv rfl rfl ?_ (ih _ _ _ (by show top + 1 ≤ 400; omega) hr)
              first | exact congrArg (mm g ad μ) sA_sA | (refine congrArg (mm g ad μ) (sA_sA.trans (congrArg (sA σ 13) ?_)); first | rfl | (refine congrArg (upd _ _) ?_; first | exact absurd c54 c72 | exact absurd c72 c54 | rfl | (show _ = tolW wk so pe gr (nm σ k); simp [tolW, c31, c54, eq_true c61, eq_true c72]; done) | exact (if_neg c191).symm | exact (if_pos c191).symm))
  refine pl_iconst (pc := 0) (v := 0) dX9_value_0 (by rfl) ?_
  refine pj_istore (pc := 1) (lv' := [(7, _), (0, _), (1, _), (2, _), (3, _), (4, _), (5, _), (6, _)]) dX9_value_1 (by decide) rfl ?_
  refine pl_sipush (pc := 3) (v := 400) dX9_value_3 (by rfl) ?_
  refine pl_iload_n (pc := 6) dX9_value_6 rfl rfl ?_
  refine pl_imul (pc := 7) dX9_value_7 ?_
  refine pl_aload_n (pc := 8) dX9_value_8 rfl rfl ?_
  refine pj_getf (pc := 9) ckX9 19 q2535 dX9_value_9 (by decide) (mm_o hA) rfl ?_
  refine pl_bipush (pc := 12) (v := 8) dX9_value_12 (by rfl) ?_
  refine pl_iload_n (pc := 14) dX9_value_14 rfl rfl ?_
  refine pl_imul (pc := 15) dX9_value_15 ?_
  refine pl_iload_n (pc := 16) dX9_value_16 rfl rfl ?_
  refine pl_iadd (pc := 17) dX9_value_17 ?_
  refine pl_iald (pc := 18) (n := 96) dX9_value_18 (mm_a hA 10 (by decide) (by decide)) (by omega) (by decide) ?_
  refine PJ.top (y := nI _) (hca) ?_
  refine pl_iadd (pc := 19) dX9_value_19 ?_
  refine pj_istore (pc := 20) (lv' := [(8, _), (7, _), (0, _), (1, _), (2, _), (3, _), (4, _), (5, _), (6, _)]) dX9_value_20 (by decide) rfl ?_
  refine PJ.sub [0, 1, 8, 7, 6, 5, 4, 3, 2] rfl ?_
  exact PJ.conv rfl rfl (congrArg (mm g ad μ) sA_id.symm) (key n (400 * l + ca) 0 (σ.2.1 13) (by decide) hv)
