set_option maxRecDepth 100000
theorem lands_iv {σ : MS} {n nl nb q nor nw : Nat} (v : IvG σ n nl nb q nor nw) : ∀ k, k ≤ n → IvG (s_lands σ k) n nl nb q nor nw
  | 0, _ => v
  | k + 1, hk => by
    have ih := lands_iv v k (by omega)
    show IvG (land1 k (s_lands σ k)) n nl nb q nor nw
    unfold land1
    split
    · exact ih
    · split
      · exact ih
      · exact ih.perF (by omega) (by decide)
theorem surveysAll_iv {σ : MS} {n nl nb q nor nw : Nat} (v : IvG σ n nl nb q nor nw) : IvG (s_surveysAll q σ) n nl nb q nor nw := by
  have hQ := v.hQ
  exact upto_iv (f := survey1) (m := q) (fun i τ hi h => surveys_iv h (by omega)) v q (Nat.le_refl _)
def livesI (n nl p : Nat) (σ : MS) : MS := if decide (nI 2 ≤ per σ p 2) = false then σ else s_lives n nl p σ
def rainz (nw z : Nat) (σ : MS) : MS := sR σ (2104 + z) (row σ (2104 + z) + fallV σ z nw)
abbrev stray1 (n nl c : Nat) (σ : MS) : MS := s_strays n nl c σ
def end1 (c : Nat) (σ : MS) : MS := if ¬ sec σ c 0 = nI 4 then σ else if ¬ sec σ c 2 = row σ 2116 then σ else s_holds σ c (nI 1) (-1)
noncomputable def yearI (n nw : Nat) (σ : MS) : MS := if nw % 52 = 51 then s_yearEnds n σ else σ
def rowsW (n nl nw : Nat) (σ : MS) : MS := wA (wA (wA (wA (wA (wA (wA σ 14 (7 * nw) (nI (hereC σ n))) 14 (7 * nw + 1) (nI (farmsC σ 96))) 14 (7 * nw + 2) (row σ 2117)) 14 (7 * nw + 3) (row σ 2118)) 14 (7 * nw + 4) (row σ 2122)) 14 (7 * nw + 5) (row σ 2119)) 14 (7 * nw + 6) (forcesV σ nl)
def t171 (n nl nw : Nat) (σ : MS) : MS := sR (rowsW n nl nw σ) 2116 (row σ 2116 + nI 1)
noncomputable def t151 (n nl nw : Nat) (σ : MS) : MS := t171 n nl nw (yearI n nw σ)
noncomputable def t103 (n nl nw : Nat) (σ : MS) : MS := t151 n nl nw (uq end1 96 σ)
noncomputable def t84 (n nl nw : Nat) (σ : MS) : MS := t103 n nl nw (uq (stray1 n nl) 96 σ)
noncomputable def t45 (n nl nw : Nat) (σ : MS) : MS := t84 n nl nw (uq (rainz nw) 4 σ)
noncomputable def t12 (n nl nw : Nat) (σ : MS) : MS := t45 n nl nw (uq (livesI n nl) n σ)
noncomputable def s_goes (n nl nb q nw : Nat) (σ : MS) : MS := t12 n nl nw (s_surveysAll q (s_letters n nl nb (s_lands σ n)))
theorem livesI_iv {σ : MS} {n nl nb q nor nw p : Nat} (hp : p < n) (v : IvG σ n nl nb q nor nw) : IvG (livesI n nl p σ) n nl nb q nor nw := by
  unfold livesI
  split
  · exact v
  · exact lives_iv v hp
theorem rainz_iv {σ : MS} {n nl nb q nor nw k z : Nat} (hz : z < 4) (v : IvG σ n nl nb q nor nw) : IvG (rainz k z σ) n nl nb q nor nw := v.sR1 (by unfold fr1 fr2; omega)
theorem stray1_iv {σ : MS} {n nl nb q nor nw c : Nat} (hc : c < 96) (v : IvG σ n nl nb q nor nw) : IvG (stray1 n nl c σ) n nl nb q nor nw := strays_iv v hc
theorem end1_iv {σ : MS} {n nl nb q nor nw c : Nat} (hc : c < 96) (v : IvG σ n nl nb q nor nw) : IvG (end1 c σ) n nl nb q nor nw := by
  unfold end1
  split
  · exact v
  · split
    · exact v
    · exact v.holdsN hc (Or.inr (Or.inl rfl))
theorem yearI_iv {σ : MS} {n nl nb q nor nw k : Nat} (v : IvG σ n nl nb q nor nw) : IvG (yearI n k σ) n nl nb q nor nw := by
  unfold yearI
  split
  · exact yearEnds_iv v
  · exact v
theorem rowsW_14 {n nl nw : Nat} {σ : MS} (j : Nat) : (rowsW n nl nw σ).2.1 14 j = if j = 7 * nw + 6 then forcesV σ nl else if j = 7 * nw + 5 then row σ 2119 else if j = 7 * nw + 4 then row σ 2122 else if j = 7 * nw + 3 then row σ 2118 else if j = 7 * nw + 2 then row σ 2117 else if j = 7 * nw + 1 then nI (farmsC σ 96) else if j = 7 * nw then nI (hereC σ n) else σ.2.1 14 j := by
  simp [rowsW, sA, upd]
theorem rowsW_k {n nl nw k : Nat} {σ : MS} (hk : k ≠ 14) : (rowsW n nl nw σ).2.1 k = σ.2.1 k := by
  simp [rowsW, sA, hk]
theorem IvG.tick {σ : MS} {n nl nb q nor nw : Nat} (v : IvG σ n nl nb q nor nw) (hw : nw < 1000) : IvG (t171 n nl nw σ) n nl nb q nor (nw + 1) := by
  have hP := v.hP
  have hOR := v.hOR
  have hQ := v.hQ
  have h : ∀ j, j ≠ 2116 → row (t171 n nl nw σ) j = row σ j := fun j hj => (rowS_ne hj).trans (congrFun (rowsW_k (by decide)) j)
  have hk : ∀ k, k ≠ 1 → k ≠ 14 → (t171 n nl nw σ).2.1 k = σ.2.1 k := fun k h1 h2 => (show (sR _ _ _).2.1 k = (rowsW n nl nw σ).2.1 k by simp [sA, h1]).trans (rowsW_k h2)
  have h14 : ∀ j, (t171 n nl nw σ).2.1 14 j = (rowsW n nl nw σ).2.1 14 j := fun j => by simp [t171, sA]
  have eo : ∀ p, p < n → per (t171 n nl nw σ) p 6 = per σ p 6 := fun p hp => h _ (by omega)
  refine ⟨(h _ (by omega)).trans v.hn, v.hP, (h _ (by omega)).trans v.hl, v.hL, (h _ (by omega)).trans v.hb, v.hB, (h _ (by omega)).trans v.hq, v.hQ, (h _ (by omega)).trans v.hor, v.hOR, ?_, by omega, Wc_cg (hk 8 (by decide) (by decide)).symm (hk 9 (by decide) (by decide)).symm (hk 10 (by decide) (by decide)).symm v.hw, fun w hw => ?_, fun c hc => ?_, fun p hp => ?_, fun p hp h0 => ?_, ?_, fun o ho => ?_, fun a ha => Pinv_cg (fun j h1 h2 => h j (by omega)) (v.par a ha), fun a ha => ?_, fun z hz => by rw [hk 6 (by decide) (by decide)]; exact v.rns z hz⟩
  · show row (sR _ 2116 _) 2116 = _
    rw [rowS_eq, v.hnw, nI_add]
  · rw [h14, rowsW_14]
    by_cases e : w = nw
    · subst e
      rw [if_pos rfl]
      exact Lb_forces σ nl v.hL
    · rw [if_neg (by omega), if_neg (by omega), if_neg (by omega), if_neg (by omega), if_neg (by omega), if_neg (by omega), if_neg (by omega)]
      exact v.hF w (by omega)
  · have := v.who c hc
    unfold Who at this ⊢
    rw [show sec (t171 n nl nw σ) c 0 = sec σ c 0 from h _ (by omega), show sec (t171 n nl nw σ) c 1 = sec σ c 1 from h _ (by omega)]
    exact this
  · have := v.hire p hp
    unfold Hire at this ⊢
    rw [show per (t171 n nl nw σ) p 2 = per σ p 2 from h _ (by omega), show per (t171 n nl nw σ) p 3 = per σ p 3 from h _ (by omega)]
    exact this
  · rw [eo p hp] at h0 ⊢
    exact v.ord p hp h0
  · rw [cnt_cg (p' := isOrd σ) (fun p hp => by unfold isOrd; rw [eo p hp])]
    exact v.cor
  · obtain ⟨p, hp, e⟩ := v.of_ o ho
    exact ⟨p, hp, (h _ (by omega)).trans e⟩
  · obtain ⟨x, hx, e⟩ := v.pace a ha
    exact ⟨x, hx, (h _ (by omega)).trans e⟩
theorem goes_iv {σ : MS} {n nl nb q nor nw : Nat} (v : IvG σ n nl nb q nor nw) (hw : nw < 1000) : IvG (s_goes n nl nb q nw σ) n nl nb q nor (nw + 1) := by
  have v1 := surveysAll_iv (letters_iv (lands_iv v n (Nat.le_refl _)))
  have v2 := uq_iv (f := livesI n nl) (m := n) (fun _ _ h w => livesI_iv h w) v1 n (Nat.le_refl _)
  have v3 := uq_iv (f := rainz nw) (m := 4) (fun _ _ h w => rainz_iv h w) v2 4 (Nat.le_refl _)
  have v4 := uq_iv (f := stray1 n nl) (m := 96) (fun _ _ h w => stray1_iv h w) v3 96 (Nat.le_refl _)
  have v5 := uq_iv (f := end1) (m := 96) (fun _ _ h w => end1_iv h w) v4 96 (Nat.le_refl _)
  exact (yearI_iv v5).tick hw
/-- so many weeks -/
noncomputable def s_weeks (n nl nb q nw : Nat) : Nat → MS → MS := uq (fun k σ => s_goes n nl nb q (nw + k) σ)
theorem weeks_iv {σ : MS} {n nl nb q nor nw m : Nat} (v : IvG σ n nl nb q nor nw) (hm : nw + m ≤ 1000) : ∀ k, k ≤ m → IvG (s_weeks n nl nb q nw k σ) n nl nb q nor (nw + k)
  | 0, _ => by rw [s_weeks, uq_0]; exact v
  | k + 1, hk => by
    have ih := weeks_iv v hm k (by omega)
    unfold s_weeks at ih ⊢
    rw [uq_s _ k]
    exact goes_iv ih (by omega)
noncomputable def p_week (σ : MS) (n nl nb q nw : Nat) (w : Int32) : Int32 × MS :=
  if w < 0 then (nI 0, th σ 1) else if ¬ w ≤ nI 104 then (nI 0, th σ 1) else if ¬ row (s0 σ) 2116 + w ≤ nI 1000 then (nI 0, th σ 2)
  else (let σ1 := s_weeks n nl nb q nw (tN w) (s0 σ); (row σ1 2116, σ1))
set_option maxHeartbeats 4000000 in
theorem w_X9_goes {g : GP} {ad : Nat → Nat} {μ : Mem} {σ : MS} {d : Nat}  {n nl nb q nor nw : Nat} (hd : 7 ≤ d) (hA : Inj ad 18) (iv : IvG σ n nl nb q nor nw) (hnw9 : nw < 1000) : PM g yX9_goes (ws_ yX9_goes cX9_goes 2 none) d 0 0 [.ref (ad 0)] (mm g ad μ σ) (rQ none (mm g ad μ (s_goes n nl nb q nw σ))) := by
  refine PM.of (by decide +kernel) (Nat.le_of_ble_eq_true rfl) ?_
  show PJ g _ _ _ _ d 0 0 0 [(0, .ref (ad 0))] [] _ _
  have hP := iv.hP
  have hL := iv.hL
  have hP := iv.hP
  have hL := iv.hL
  have k171 : ∀ σ : MS, IvG σ n nl nb q nor nw → PJ g yX9_goes.cls cX9_goes 2 (none, yX9_goes.name, []) d 0 0 171 [(0, .ref (ad 0))] [] (mm g ad μ σ) (rQ none (mm g ad μ (t171 n nl nw σ))) := by
    intro σ iv
    refine pl_bipush (pc := 171) (v := 7) dX9_goes_171 (by rfl) ?_
    refine pl_aload_n (pc := 173) dX9_goes_173 rfl rfl ?_
    refine pj_getf (pc := 174) ckX9 1 q2517 dX9_goes_174 (by decide) (mm_o hA) rfl ?_
    refine pl_sipush (pc := 177) (v := 2116) dX9_goes_177 (by rfl) ?_
    refine pl_iald (pc := 180) (n := 2132) dX9_goes_180 (mm_a hA 1 (by decide) (by decide)) (by omega) (by decide) ?_
    refine PJ.top (y := nI _) (iv.hnw) ?_
    refine pl_imul (pc := 181) dX9_goes_181 ?_
    refine pj_istore_n (pc := 182) (lv' := [(1, _), (0, _)]) dX9_goes_182 rfl (by decide) rfl ?_
    refine pl_aload_n (pc := 183) dX9_goes_183 rfl rfl ?_
    refine pj_getf (pc := 184) ckX9 25 q2541 dX9_goes_184 (by decide) (mm_o hA) rfl ?_
    refine pl_iload_n (pc := 187) dX9_goes_187 rfl rfl ?_
    refine pl_aload_n (pc := 188) dX9_goes_188 rfl rfl ?_
    refine pl_callVd (pc := 189) (As := []) (C2 := 0) (N2 := 0) ckX9 mdX9_here rfl q2952 q2954 qs97 q154 dX9_goes_189 rfl rfl (Nat.le_of_ble_eq_true rfl) (mm_o hA) (w_X9_here (d := d - 1) (by omega) hA iv.hn iv.hP) (by omega) (by decide) (by decide) ?_
    refine pm_iast (pc := 192) 14 hA (by decide) (by decide) rfl dX9_goes_192 (show _ < 7007 by omega) (by decide) ?_
    refine pl_aload_n (pc := 193) dX9_goes_193 rfl rfl ?_
    refine pj_getf (pc := 194) ckX9 25 q2541 dX9_goes_194 (by decide) (mm_o hA) rfl ?_
    refine pl_iload_n (pc := 197) dX9_goes_197 rfl rfl ?_
    refine pl_iconst (pc := 198) (v := 1) dX9_goes_198 (by rfl) ?_
    refine pl_iadd (pc := 199) dX9_goes_199 ?_
    refine pl_aload_n (pc := 200) dX9_goes_200 rfl rfl ?_
    refine pl_callVd (pc := 201) (As := []) (C2 := 0) (N2 := 0) ckX9 mdX9_farms rfl q2948 q2950 qs96 q154 dX9_goes_201 rfl rfl (Nat.le_of_ble_eq_true rfl) (mm_o hA) (w_X9_farms (d := d - 1) (by omega) hA) (by omega) (by decide) (by decide) ?_
    refine pm_iast (pc := 204) 14 hA (by decide) (by decide) rfl dX9_goes_204 (show _ < 7007 by omega) (by decide) ?_
    refine pl_aload_n (pc := 205) dX9_goes_205 rfl rfl ?_
    refine pj_getf (pc := 206) ckX9 25 q2541 dX9_goes_206 (by decide) (mm_o hA) rfl ?_
    refine pl_iload_n (pc := 209) dX9_goes_209 rfl rfl ?_
    refine pl_iconst (pc := 210) (v := 2) dX9_goes_210 (by rfl) ?_
    refine pl_iadd (pc := 211) dX9_goes_211 ?_
    refine pl_aload_n (pc := 212) dX9_goes_212 rfl rfl ?_
    refine pj_getf (pc := 213) ckX9 1 q2517 dX9_goes_213 (by decide) (mm_o hA) rfl ?_
    refine pl_sipush (pc := 216) (v := 2117) dX9_goes_216 (by rfl) ?_
    refine pl_iald (pc := 219) (n := 2132) dX9_goes_219 (mm_a hA 1 (by decide) (by decide)) (by omega) (by decide) ?_
    refine pm_iast (pc := 220) 14 hA (by decide) (by decide) rfl dX9_goes_220 (show _ < 7007 by omega) (by decide) ?_
    refine pl_aload_n (pc := 221) dX9_goes_221 rfl rfl ?_
    refine pj_getf (pc := 222) ckX9 25 q2541 dX9_goes_222 (by decide) (mm_o hA) rfl ?_
    refine pl_iload_n (pc := 225) dX9_goes_225 rfl rfl ?_
    refine pl_iconst (pc := 226) (v := 3) dX9_goes_226 (by rfl) ?_
    refine pl_iadd (pc := 227) dX9_goes_227 ?_
    refine pl_aload_n (pc := 228) dX9_goes_228 rfl rfl ?_
    refine pj_getf (pc := 229) ckX9 1 q2517 dX9_goes_229 (by decide) (mm_o hA) rfl ?_
    refine pl_sipush (pc := 232) (v := 2118) dX9_goes_232 (by rfl) ?_
    refine pl_iald (pc := 235) (n := 2132) dX9_goes_235 (mm_a hA 1 (by decide) (by decide)) (by omega) (by decide) ?_
    refine pm_iast (pc := 236) 14 hA (by decide) (by decide) rfl dX9_goes_236 (show _ < 7007 by omega) (by decide) ?_
    refine pl_aload_n (pc := 237) dX9_goes_237 rfl rfl ?_
    refine pj_getf (pc := 238) ckX9 25 q2541 dX9_goes_238 (by decide) (mm_o hA) rfl ?_
    refine pl_iload_n (pc := 241) dX9_goes_241 rfl rfl ?_
    refine pl_iconst (pc := 242) (v := 4) dX9_goes_242 (by rfl) ?_
    refine pl_iadd (pc := 243) dX9_goes_243 ?_
    refine pl_aload_n (pc := 244) dX9_goes_244 rfl rfl ?_
    refine pj_getf (pc := 245) ckX9 1 q2517 dX9_goes_245 (by decide) (mm_o hA) rfl ?_
    refine pl_sipush (pc := 248) (v := 2122) dX9_goes_248 (by rfl) ?_
    refine pl_iald (pc := 251) (n := 2132) dX9_goes_251 (mm_a hA 1 (by decide) (by decide)) (by omega) (by decide) ?_
    refine pm_iast (pc := 252) 14 hA (by decide) (by decide) rfl dX9_goes_252 (show _ < 7007 by omega) (by decide) ?_
    refine pl_aload_n (pc := 253) dX9_goes_253 rfl rfl ?_
    refine pj_getf (pc := 254) ckX9 25 q2541 dX9_goes_254 (by decide) (mm_o hA) rfl ?_
    refine pl_iload_n (pc := 257) dX9_goes_257 rfl rfl ?_
    refine pl_iconst (pc := 258) (v := 5) dX9_goes_258 (by rfl) ?_
    refine pl_iadd (pc := 259) dX9_goes_259 ?_
    refine pl_aload_n (pc := 260) dX9_goes_260 rfl rfl ?_
    refine pj_getf (pc := 261) ckX9 1 q2517 dX9_goes_261 (by decide) (mm_o hA) rfl ?_
    refine pl_sipush (pc := 264) (v := 2119) dX9_goes_264 (by rfl) ?_
    refine pl_iald (pc := 267) (n := 2132) dX9_goes_267 (mm_a hA 1 (by decide) (by decide)) (by omega) (by decide) ?_
    refine pm_iast (pc := 268) 14 hA (by decide) (by decide) rfl dX9_goes_268 (show _ < 7007 by omega) (by decide) ?_
    refine pl_aload_n (pc := 269) dX9_goes_269 rfl rfl ?_
    refine pj_getf (pc := 270) ckX9 25 q2541 dX9_goes_270 (by decide) (mm_o hA) rfl ?_
    refine pl_iload_n (pc := 273) dX9_goes_273 rfl rfl ?_
    refine pl_bipush (pc := 274) (v := 6) dX9_goes_274 (by rfl) ?_
    refine pl_iadd (pc := 276) dX9_goes_276 ?_
    refine pl_aload_n (pc := 277) dX9_goes_277 rfl rfl ?_
    refine pl_callVd (pc := 278) (As := []) (C2 := 0) (N2 := 0) ckX9 mdX9_forces rfl q2930 q2932 qs93 q154 dX9_goes_278 rfl rfl (Nat.le_of_ble_eq_true rfl) (mm_o hA) (w_X9_forces (d := d - 1) (by omega) hA iv.hl iv.hL) (by omega) (by decide) (by decide) ?_
    refine pm_iast (pc := 281) 14 hA (by decide) (by decide) rfl dX9_goes_281 (show _ < 7007 by omega) (by decide) ?_
    refine pl_aload_n (pc := 282) dX9_goes_282 rfl rfl ?_
    refine pj_getf (pc := 283) ckX9 1 q2517 dX9_goes_283 (by decide) (mm_o hA) rfl ?_
    refine pl_sipush (pc := 286) (v := 2116) dX9_goes_286 (by rfl) ?_
    refine pj_dup2_11 (pc := 289) dX9_goes_289 rfl rfl ?_
    refine pl_iald (pc := 290) (n := 2132) dX9_goes_290 (mm_a hA 1 (by decide) (by decide)) (by omega) (by decide) ?_
    refine pl_iconst (pc := 291) (v := 1) dX9_goes_291 (by rfl) ?_
    refine pj_iadd (pc := 292) dX9_goes_292 ?_
    refine pm_iast (pc := 293) 1 hA (by decide) (by decide) rfl dX9_goes_293 (show _ < 2132 by omega) (by decide) ?_
    refine pj_vret (pc := 294) dX9_goes_294 rfl ?_
    exact ⟨rfl, congrArg (mm g ad μ) (by first | (simp [t171, rowsW]; done) | (simp [t171, rowsW]; rfl))⟩
  have k151 : ∀ σ : MS, IvG σ n nl nb q nor nw → PJ g yX9_goes.cls cX9_goes 2 (none, yX9_goes.name, []) d 0 0 151 [(0, .ref (ad 0))] [] (mm g ad μ σ) (rQ none (mm g ad μ (t151 n nl nw σ))) := by
    intro σ iv
    refine pl_aload_n (pc := 151) dX9_goes_151 rfl rfl ?_
    refine pj_getf (pc := 152) ckX9 1 q2517 dX9_goes_152 (by decide) (mm_o hA) rfl ?_
    refine pl_sipush (pc := 155) (v := 2116) dX9_goes_155 (by rfl) ?_
    refine pl_iald (pc := 158) (n := 2132) dX9_goes_158 (mm_a hA 1 (by decide) (by decide)) (by omega) (by decide) ?_
    refine PJ.top (y := nI _) (iv.hnw) ?_
    refine pl_bipush (pc := 159) (v := 52) dX9_goes_159 (by rfl) ?_
    refine pl_irem (pc := 161) dX9_goes_161 (by omega) (by decide) (by decide) ?_
    refine pl_bipush (pc := 162) (v := 51) dX9_goes_162 (by rfl) ?_
    refine pl_icmp_ne (pc := 164) (tgt := 171) dX9_goes_164 (by decide) (by omega) (by omega) (fun c164 => ?_) (fun c164 => ?_)
    · rw [show t151 n nl nw σ = t171 n nl nw σ from by unfold t151 yearI; rw [if_neg c164]]
      exact k171 _ iv
    · refine pl_aload_n (pc := 167) dX9_goes_167 rfl rfl ?_
      refine pl_callVv (pc := 168) (As := []) (C2 := 0) (N2 := 0) ckX9 mdX9_yearEnds rfl q3138 q3140 qs121 q154 dX9_goes_168 rfl rfl (Nat.le_of_ble_eq_true rfl) (mm_o hA) (w_X9_yearEnds (d := d - 1) (by omega) hA iv) (by omega) (by decide) (by decide) ?_
      rw [show t151 n nl nw σ = t171 n nl nw (s_yearEnds n σ) from by unfold t151 yearI; rw [if_pos c164]]
      exact k171 _ (yearEnds_iv iv)
  have k103 : ∀ σ : MS, IvG σ n nl nb q nor nw → PJ g yX9_goes.cls cX9_goes 2 (none, yX9_goes.name, []) d 0 0 103 [(0, .ref (ad 0))] [] (mm g ad μ σ) (rQ none (mm g ad μ (t103 n nl nw σ))) := by
    intro σ iv
    refine pl_iconst (pc := 103) (v := 0) dX9_goes_103 (by rfl) ?_
    refine pj_istore_n (pc := 104) (lv' := [(1, _), (0, _)]) dX9_goes_104 rfl (by decide) rfl ?_
    refine PJ.conv rfl rfl (show _ = (mm g ad μ (uq end1 0 σ)) from congrArg (mm g ad μ) (uq_0 _ _).symm) ?_
    refine ind_dn (n := 96) (P := fun i => IvG (uq end1 i σ) n nl nb q nor nw → PJ g _ _ _ _ d 0 0 105 [(1, .int (nI i)), (0, .ref (ad 0))] [] (mm g ad μ (uq end1 i σ)) _) (fun i hi ih hv => ?_) 0 (Nat.zero_le _) (by rw [uq_0]; exact iv)
    refine pl_iload_n (pc := 105) dX9_goes_105 rfl rfl ?_
    refine pl_bipush (pc := 106) (v := 96) dX9_goes_106 (by rfl) ?_
    refine pl_icmp_ge (pc := 108) (tgt := 151) dX9_goes_108 (by decide) (by omega) (by omega) (fun c108 => ?_) (fun c108 => ?_)
    · have e9 : i = 96 := by omega
      subst e9
      refine PJ.sub [1] rfl ?_
      exact k151 _ hv
    · refine pl_aload_n (pc := 111) dX9_goes_111 rfl rfl ?_
      refine pl_iload_n (pc := 112) dX9_goes_112 rfl rfl ?_
      refine pl_iconst (pc := 113) (v := 0) dX9_goes_113 (by rfl) ?_
      refine pl_callVd (pc := 114) (As := [_, _]) (C2 := 0) (N2 := 0) ckX9 mdX9_sec rfl q2635 q2637 qs51 q154 dX9_goes_114 rfl rfl (Nat.le_of_ble_eq_true rfl) (mm_o hA) (w_X9_sec (d := d - 1) (by omega) hA (by omega) (by decide)) (by omega) (by decide) (by decide) ?_
      refine pl_iconst (pc := 117) (v := 4) dX9_goes_117 (by rfl) ?_
      refine pj_icmp_ne (pc := 118) (tgt := 145) dX9_goes_118 (by decide) (fun c118 => ?_) (fun c118 => ?_)
      · refine pl_iinc1 (pc := 145) (lv' := [(1, _), (0, _)]) dX9_goes_145 rfl rfl (by decide) rfl ?_
        refine pj_goto (pc := 148) (tgt := 105) dX9_goes_148 (by decide) ?_
        exact PJ.conv rfl rfl (congrArg (mm g ad μ) (show _ = uq end1 (i + 1) σ by rw [uq_s end1 i]; first | (simp [end1, c108, c118]; done) | (simp [end1, c108, c118]; rfl))) (ih (by omega) (by rw [uq_s end1 i]; exact end1_iv (by omega) hv))
      · refine pl_aload_n (pc := 121) dX9_goes_121 rfl rfl ?_
        refine pl_iload_n (pc := 122) dX9_goes_122 rfl rfl ?_
        refine pl_iconst (pc := 123) (v := 2) dX9_goes_123 (by rfl) ?_
        refine pl_callVd (pc := 124) (As := [_, _]) (C2 := 0) (N2 := 0) ckX9 mdX9_sec rfl q2635 q2637 qs51 q154 dX9_goes_124 rfl rfl (Nat.le_of_ble_eq_true rfl) (mm_o hA) (w_X9_sec (d := d - 1) (by omega) hA (by omega) (by decide)) (by omega) (by decide) (by decide) ?_
        refine pl_aload_n (pc := 127) dX9_goes_127 rfl rfl ?_
        refine pj_getf (pc := 128) ckX9 1 q2517 dX9_goes_128 (by decide) (mm_o hA) rfl ?_
        refine pl_sipush (pc := 131) (v := 2116) dX9_goes_131 (by rfl) ?_
        refine pl_iald (pc := 134) (n := 2132) dX9_goes_134 (mm_a hA 1 (by decide) (by decide)) (by omega) (by decide) ?_
        refine pj_icmp_ne (pc := 135) (tgt := 145) dX9_goes_135 (by decide) (fun c135 => ?_) (fun c135 => ?_)
        · refine pl_iinc1 (pc := 145) (lv' := [(1, _), (0, _)]) dX9_goes_145 rfl rfl (by decide) rfl ?_
          refine pj_goto (pc := 148) (tgt := 105) dX9_goes_148 (by decide) ?_
          exact PJ.conv rfl rfl (congrArg (mm g ad μ) (show _ = uq end1 (i + 1) σ by rw [uq_s end1 i]; first | (simp [end1, c108, eq_true c118, c135]; done) | (simp [end1, c108, eq_true c118, c135]; rfl))) (ih (by omega) (by rw [uq_s end1 i]; exact end1_iv (by omega) hv))
        · refine pl_aload_n (pc := 138) dX9_goes_138 rfl rfl ?_
          refine pl_iload_n (pc := 139) dX9_goes_139 rfl rfl ?_
          refine pl_iconst (pc := 140) (v := 1) dX9_goes_140 (by rfl) ?_
          refine pj_iconst (pc := 141) (v := (-1)) dX9_goes_141 (by rfl) ?_
          refine pl_callVv (pc := 142) (As := [_, _, _]) (C2 := 0) (N2 := 0) ckX9 mdX9_holds rfl q2772 q2774 qs69 q154 dX9_goes_142 rfl rfl (Nat.le_of_ble_eq_true rfl) (mm_o hA) (w_X9_holds (d := d - 1) (by omega) hA (by omega)) (by omega) (by decide) (by decide) ?_
          refine pl_iinc1 (pc := 145) (lv' := [(1, _), (0, _)]) dX9_goes_145 rfl rfl (by decide) rfl ?_
          refine pj_goto (pc := 148) (tgt := 105) dX9_goes_148 (by decide) ?_
          exact PJ.conv rfl rfl (congrArg (mm g ad μ) (show _ = uq end1 (i + 1) σ by rw [uq_s end1 i]; first | (simp [end1, c108, eq_true c118, eq_true c135]; done) | (simp [end1, c108, eq_true c118, eq_true c135]; rfl))) (ih (by omega) (by rw [uq_s end1 i]; exact end1_iv (by omega) hv))
  have k84 : ∀ σ : MS, IvG σ n nl nb q nor nw → PJ g yX9_goes.cls cX9_goes 2 (none, yX9_goes.name, []) d 0 0 84 [(0, .ref (ad 0))] [] (mm g ad μ σ) (rQ none (mm g ad μ (t84 n nl nw σ))) := by
    intro σ iv
    refine pl_iconst (pc := 84) (v := 0) dX9_goes_84 (by rfl) ?_
    refine pj_istore_n (pc := 85) (lv' := [(1, _), (0, _)]) dX9_goes_85 rfl (by decide) rfl ?_
    refine PJ.conv rfl rfl (show _ = (mm g ad μ (uq (stray1 n nl) 0 σ)) from congrArg (mm g ad μ) (uq_0 _ _).symm) ?_
    refine ind_dn (n := 96) (P := fun i => IvG (uq (stray1 n nl) i σ) n nl nb q nor nw → PJ g _ _ _ _ d 0 0 86 [(1, .int (nI i)), (0, .ref (ad 0))] [] (mm g ad μ (uq (stray1 n nl) i σ)) _) (fun i hi ih hv => ?_) 0 (Nat.zero_le _) (by rw [uq_0]; exact iv)
    refine pl_iload_n (pc := 86) dX9_goes_86 rfl rfl ?_
    refine pl_bipush (pc := 87) (v := 96) dX9_goes_87 (by rfl) ?_
    refine pl_icmp_ge (pc := 89) (tgt := 103) dX9_goes_89 (by decide) (by omega) (by omega) (fun c89 => ?_) (fun c89 => ?_)
    · have e9 : i = 96 := by omega
      subst e9
      refine PJ.sub [1] rfl ?_
      exact k103 _ hv
    · refine pl_aload_n (pc := 92) dX9_goes_92 rfl rfl ?_
      refine pl_iload_n (pc := 93) dX9_goes_93 rfl rfl ?_
      refine pl_callVv (pc := 94) (As := [_]) (C2 := 0) (N2 := 0) ckX9 mdX9_strays rfl q3131 q3133 qs120 q154 dX9_goes_94 rfl rfl (Nat.le_of_ble_eq_true rfl) (mm_o hA) (w_X9_strays (d := d - 1) (by omega) hA hv (by omega)) (by omega) (by decide) (by decide) ?_
      refine pl_iinc1 (pc := 97) (lv' := [(1, _), (0, _)]) dX9_goes_97 rfl rfl (by decide) rfl ?_
      refine pj_goto (pc := 100) (tgt := 86) dX9_goes_100 (by decide) ?_
      exact PJ.conv rfl rfl (congrArg (mm g ad μ) (show _ = uq (stray1 n nl) (i + 1) σ by rw [uq_s (stray1 n nl) i])) (ih (by omega) (by rw [uq_s (stray1 n nl) i]; exact stray1_iv (by omega) hv))
  have k45 : ∀ σ : MS, IvG σ n nl nb q nor nw → PJ g yX9_goes.cls cX9_goes 2 (none, yX9_goes.name, []) d 0 0 45 [(0, .ref (ad 0))] [] (mm g ad μ σ) (rQ none (mm g ad μ (t45 n nl nw σ))) := by
    intro σ iv
    refine pl_iconst (pc := 45) (v := 0) dX9_goes_45 (by rfl) ?_
    refine pj_istore_n (pc := 46) (lv' := [(1, _), (0, _)]) dX9_goes_46 rfl (by decide) rfl ?_
    refine PJ.conv rfl rfl (show _ = (mm g ad μ (uq (rainz nw) 0 σ)) from congrArg (mm g ad μ) (uq_0 _ _).symm) ?_
    refine ind_dn (n := 4) (P := fun i => IvG (uq (rainz nw) i σ) n nl nb q nor nw → PJ g _ _ _ _ d 0 0 47 [(1, .int (nI i)), (0, .ref (ad 0))] [] (mm g ad μ (uq (rainz nw) i σ)) _) (fun i hi ih hv => ?_) 0 (Nat.zero_le _) (by rw [uq_0]; exact iv)
    refine pl_iload_n (pc := 47) dX9_goes_47 rfl rfl ?_
    refine pl_iconst (pc := 48) (v := 4) dX9_goes_48 (by rfl) ?_
    refine pl_icmp_ge (pc := 49) (tgt := 84) dX9_goes_49 (by decide) (by omega) (by omega) (fun c49 => ?_) (fun c49 => ?_)
    · have e9 : i = 4 := by omega
      subst e9
      refine PJ.sub [1] rfl ?_
      exact k84 _ hv
    · refine pl_aload_n (pc := 52) dX9_goes_52 rfl rfl ?_
      refine pj_getf (pc := 53) ckX9 1 q2517 dX9_goes_53 (by decide) (mm_o hA) rfl ?_
      refine pl_sipush (pc := 56) (v := 2104) dX9_goes_56 (by rfl) ?_
      refine pl_iload_n (pc := 59) dX9_goes_59 rfl rfl ?_
      refine pl_iadd (pc := 60) dX9_goes_60 ?_
      refine pj_dup2_11 (pc := 61) dX9_goes_61 rfl rfl ?_
      refine pl_iald (pc := 62) (n := 2132) dX9_goes_62 (mm_a hA 1 (by decide) (by decide)) (by omega) (by decide) ?_
      refine pl_aload_n (pc := 63) dX9_goes_63 rfl rfl ?_
      refine pl_iload_n (pc := 64) dX9_goes_64 rfl rfl ?_
      refine pl_aload_n (pc := 65) dX9_goes_65 rfl rfl ?_
      refine pj_getf (pc := 66) ckX9 1 q2517 dX9_goes_66 (by decide) (mm_o hA) rfl ?_
      refine pl_sipush (pc := 69) (v := 2116) dX9_goes_69 (by rfl) ?_
      refine pl_iald (pc := 72) (n := 2132) dX9_goes_72 (mm_a hA 1 (by decide) (by decide)) (by omega) (by decide) ?_
      refine PJ.top (y := nI _) (hv.hnw) ?_
      refine pl_callVd (pc := 73) (As := [_, _]) (C2 := 0) (N2 := 0) ckX9 mdX9_fallen rfl q2655 q2657 qs53 q154 dX9_goes_73 rfl rfl (Nat.le_of_ble_eq_true rfl) (mm_o hA) (w_X9_fallen (d := d - 1) (by omega) hA (by omega) (by omega) hv.rns) (by omega) (by decide) (by decide) ?_
      refine pj_iadd (pc := 76) dX9_goes_76 ?_
      refine pm_iast (pc := 77) 1 hA (by decide) (by decide) rfl dX9_goes_77 (show _ < 2132 by omega) (by decide) ?_
      refine pl_iinc1 (pc := 78) (lv' := [(1, _), (0, _)]) dX9_goes_78 rfl rfl (by decide) rfl ?_
      refine pj_goto (pc := 81) (tgt := 47) dX9_goes_81 (by decide) ?_
      exact PJ.conv rfl rfl (congrArg (mm g ad μ) (show _ = uq (rainz nw) (i + 1) σ by rw [uq_s (rainz nw) i]; first | (simp [rainz, c49]; done) | (simp [rainz, c49]; rfl))) (ih (by omega) (by rw [uq_s (rainz nw) i]; exact rainz_iv (by omega) hv))
  have k12 : ∀ σ : MS, IvG σ n nl nb q nor nw → PJ g yX9_goes.cls cX9_goes 2 (none, yX9_goes.name, []) d 0 0 12 [(0, .ref (ad 0))] [] (mm g ad μ σ) (rQ none (mm g ad μ (t12 n nl nw σ))) := by
    intro σ iv
    refine pl_iconst (pc := 12) (v := 0) dX9_goes_12 (by rfl) ?_
    refine pj_istore_n (pc := 13) (lv' := [(1, _), (0, _)]) dX9_goes_13 rfl (by decide) rfl ?_
    refine PJ.conv rfl rfl (show _ = (mm g ad μ (uq (livesI n nl) 0 σ)) from congrArg (mm g ad μ) (uq_0 _ _).symm) ?_
    refine ind_dn (n := n) (P := fun i => IvG (uq (livesI n nl) i σ) n nl nb q nor nw → PJ g _ _ _ _ d 0 0 14 [(1, .int (nI i)), (0, .ref (ad 0))] [] (mm g ad μ (uq (livesI n nl) i σ)) _) (fun i hi ih hv => ?_) 0 (Nat.zero_le _) (by rw [uq_0]; exact iv)
    refine pl_iload_n (pc := 14) dX9_goes_14 rfl rfl ?_
    refine pl_aload_n (pc := 15) dX9_goes_15 rfl rfl ?_
    refine pj_getf (pc := 16) ckX9 1 q2517 dX9_goes_16 (by decide) (mm_o hA) rfl ?_
    refine pl_sipush (pc := 19) (v := 2124) dX9_goes_19 (by rfl) ?_
    refine pl_iald (pc := 22) (n := 2132) dX9_goes_22 (mm_a hA 1 (by decide) (by decide)) (by omega) (by decide) ?_
    refine PJ.top (y := nI _) (hv.hn) ?_
    refine pl_icmp_ge (pc := 23) (tgt := 45) dX9_goes_23 (by decide) (by omega) (by omega) (fun c23 => ?_) (fun c23 => ?_)
    · have e9 : i = n := by omega
      subst e9
      refine PJ.sub [1] rfl ?_
      exact k45 _ hv
    · refine pl_aload_n (pc := 26) dX9_goes_26 rfl rfl ?_
      refine pl_iload_n (pc := 27) dX9_goes_27 rfl rfl ?_
      refine pl_callVd (pc := 28) (As := [_]) (C2 := 0) (N2 := 0) ckX9 mdX9_isHere rfl q2784 q2786 qs71 q154 dX9_goes_28 rfl rfl (Nat.le_of_ble_eq_true rfl) (mm_o hA) (w_X9_isHere (d := d - 1) (by omega) hA (by omega)) (by omega) (by decide) (by decide) ?_
      refine pl_if_eqB (pc := 31) (tgt := 39) dX9_goes_31 (by decide) (fun c31 => ?_) (fun c31 => ?_)
      · refine pl_iinc1 (pc := 39) (lv' := [(1, _), (0, _)]) dX9_goes_39 rfl rfl (by decide) rfl ?_
        refine pj_goto (pc := 42) (tgt := 14) dX9_goes_42 (by decide) ?_
        exact PJ.conv rfl rfl (congrArg (mm g ad μ) (show _ = uq (livesI n nl) (i + 1) σ by rw [uq_s (livesI n nl) i]; first | (simp [livesI, c23, c31]; done) | (simp [livesI, c23, c31]; rfl))) (ih (by omega) (by rw [uq_s (livesI n nl) i]; exact livesI_iv (by omega) hv))
      · refine pl_aload_n (pc := 34) dX9_goes_34 rfl rfl ?_
        refine pl_iload_n (pc := 35) dX9_goes_35 rfl rfl ?_
        refine pl_callVv (pc := 36) (As := [_]) (C2 := 0) (N2 := 0) ckX9 mdX9_lives rfl q3119 q3121 qs117 q154 dX9_goes_36 rfl rfl (Nat.le_of_ble_eq_true rfl) (mm_o hA) (w_X9_lives (d := d - 1) (by omega) hA hv (by omega)) (by omega) (by decide) (by decide) ?_
        refine pl_iinc1 (pc := 39) (lv' := [(1, _), (0, _)]) dX9_goes_39 rfl rfl (by decide) rfl ?_
        refine pj_goto (pc := 42) (tgt := 14) dX9_goes_42 (by decide) ?_
        exact PJ.conv rfl rfl (congrArg (mm g ad μ) (show _ = uq (livesI n nl) (i + 1) σ by rw [uq_s (livesI n nl) i]; first | (simp [livesI, c23, c31]; done) | (simp [livesI, c23, c31]; rfl))) (ih (by omega) (by rw [uq_s (livesI n nl) i]; exact livesI_iv (by omega) hv))
  refine pl_aload_n (pc := 0) dX9_goes_0 rfl rfl ?_
  refine pl_callVv (pc := 1) (As := []) (C2 := 0) (N2 := 0) ckX9 mdX9_lands rfl q3099 q3101 qs112 q154 dX9_goes_1 rfl rfl (Nat.le_of_ble_eq_true rfl) (mm_o hA) (w_X9_lands (d := d - 1) (by omega) hA iv.hn iv.hP iv.hnw iv.hNW) (by omega) (by decide) (by decide) ?_
  refine pl_aload_n (pc := 4) dX9_goes_4 rfl rfl ?_
  refine pl_callVv (pc := 5) (As := []) (C2 := 0) (N2 := 0) ckX9 mdX9_letters rfl q3103 q3105 qs113 q154 dX9_goes_5 rfl rfl (Nat.le_of_ble_eq_true rfl) (mm_o hA) (w_X9_letters (d := d - 1) (by omega) hA (lands_iv iv n (Nat.le_refl _))) (by omega) (by decide) (by decide) ?_
  refine pl_aload_n (pc := 8) dX9_goes_8 rfl rfl ?_
  refine pl_callVv (pc := 9) (As := []) (C2 := 0) (N2 := 0) ckX9 mdX9_surveysAll rfl q2753 q2755 qs65 q154 dX9_goes_9 rfl rfl (Nat.le_of_ble_eq_true rfl) (mm_o hA) (w_X9_surveysAll (d := d - 1) (by omega) hA (letters_iv (lands_iv iv n (Nat.le_refl _)))) (by omega) (by decide) (by decide) ?_
  exact k12 _ (surveysAll_iv (letters_iv (lands_iv iv n (Nat.le_refl _))))
theorem IvG.f0 {σ : MS} {n nl nb q nor nw j : Nat} {x : Int32} (v : IvG σ n nl nb q nor nw) : IvG (sF σ j x) n nl nb q nor nw := v.keep (fun _ _ => rfl) rfl rfl rfl rfl rfl
set_option maxHeartbeats 4000000 in
theorem w_X9_week {g : GP} {ad : Nat → Nat} {μ : Mem} {σ : MS} {d : Nat} {w : Int32} {n nl nb q nor nw : Nat} (hd : 8 ≤ d) (hA : Inj ad 18) (iv : IvG σ n nl nb q nor nw) : PM g yX9_week (ws_ yX9_week cX9_week 3 (some .int)) d 0 0 [.ref (ad 0), .int w] (mm g ad μ σ) (rQ (some (.int ((p_week σ n nl nb q nw w).1))) (mm g ad μ ((p_week σ n nl nb q nw w).2))) := by
  refine PM.of (by decide +kernel) (Nat.le_of_ble_eq_true rfl) ?_
  show PJ g _ _ _ _ d 0 0 0 [(0, .ref (ad 0)), (1, .int w)] [] _ _
  refine pl_aload_n (pc := 0) dX9_week_0 rfl rfl ?_
  refine pl_iconst (pc := 1) (v := 0) dX9_week_1 (by rfl) ?_
  refine pm_putI (pc := 2) 0 hA q2516 dX9_week_2 (by decide) rfl (by rfl) (by rfl) rfl ?_
  refine pl_aload_n (pc := 5) dX9_week_5 rfl rfl ?_
  refine pl_iload_n (pc := 6) dX9_week_6 rfl rfl ?_
  refine pj_if_lt (pc := 7) (tgt := 16) dX9_week_7 (by decide) (fun c7 => ?_) (fun c7 => ?_)
  · refine pl_iconst (pc := 16) (v := 1) dX9_week_16 (by rfl) ?_
    refine pj_goto (pc := 17) (tgt := 21) dX9_week_17 (by decide) ?_
    refine pl_iconst (pc := 21) (v := 1) dX9_week_21 (by rfl) ?_
    refine pl_callVd (pc := 22) (As := [_, _]) (C2 := 0) (N2 := 0) ckX9 mdX9_bad rfl q2631 q2633 qs50 q154 dX9_week_22 rfl rfl (Nat.le_of_ble_eq_true rfl) (mm_o hA) (w_bad_1 (d := d - 1) (by omega) hA) (by omega) (by decide) (by decide) ?_
    refine pj_if_ne (pc := 25) (tgt := 57) dX9_week_25 (by decide) (fun _ => ?_) (fun h => absurd h (by decide))
    refine pl_iconst (pc := 57) (v := 0) dX9_week_57 (by rfl) ?_
    refine pj_iret (pc := 58) dX9_week_58 rfl ?_
    exact ⟨vIe (by simp [p_week, c7]) rfl, congrArg (mm g ad μ) (by simp [p_week, c7])⟩
  · refine pl_iload_n (pc := 10) dX9_week_10 rfl rfl ?_
    refine pl_bipush (pc := 11) (v := 104) dX9_week_11 (by rfl) ?_
    refine pj_icmp_le (pc := 13) (tgt := 20) dX9_week_13 (by decide) (fun c13 => ?_) (fun c13 => ?_)
    · refine pl_iconst (pc := 20) (v := 0) dX9_week_20 (by rfl) ?_
      refine pl_iconst (pc := 21) (v := 1) dX9_week_21 (by rfl) ?_
      refine pl_callVd (pc := 22) (As := [_, _]) (C2 := 0) (N2 := 0) ckX9 mdX9_bad rfl q2631 q2633 qs50 q154 dX9_week_22 rfl rfl (Nat.le_of_ble_eq_true rfl) (mm_o hA) (w_bad_0 (d := d - 1) (by omega) hA) (by omega) (by decide) (by decide) ?_
      refine pj_if_ne (pc := 25) (tgt := 57) dX9_week_25 (by decide) (fun h => absurd h (by decide)) (fun _ => ?_)
      refine pl_aload_n (pc := 28) dX9_week_28 rfl rfl ?_
      refine pl_aload_n (pc := 29) dX9_week_29 rfl rfl ?_
      refine pj_getf (pc := 30) ckX9 1 q2517 dX9_week_30 (by decide) (mm_o hA) rfl ?_
      refine pl_sipush (pc := 33) (v := 2116) dX9_week_33 (by rfl) ?_
      refine pl_iald (pc := 36) (n := 2132) dX9_week_36 (mm_a hA 1 (by decide) (by decide)) (by omega) (by decide) ?_
      refine pl_iload_n (pc := 37) dX9_week_37 rfl rfl ?_
      refine pj_iadd (pc := 38) dX9_week_38 ?_
      refine pl_sipush (pc := 39) (v := 1000) dX9_week_39 (by rfl) ?_
      refine pj_icmp_le (pc := 42) (tgt := 49) dX9_week_42 (by decide) (fun c42 => ?_) (fun c42 => ?_)
      · refine pl_iconst (pc := 49) (v := 0) dX9_week_49 (by rfl) ?_
        refine pl_iconst (pc := 50) (v := 2) dX9_week_50 (by rfl) ?_
        refine pl_callVd (pc := 51) (As := [_, _]) (C2 := 0) (N2 := 0) ckX9 mdX9_bad rfl q2631 q2633 qs50 q154 dX9_week_51 rfl rfl (Nat.le_of_ble_eq_true rfl) (mm_o hA) (w_bad_0 (d := d - 1) (by omega) hA) (by omega) (by decide) (by decide) ?_
        refine pj_if_eq (pc := 54) (tgt := 59) dX9_week_54 (by decide) (fun _ => ?_) (fun h => absurd h (by decide))
        obtain ⟨j_w, hj_w, rfl⟩ := nI_of2 (n := 104) (M := nI 104) (by rfl) c7 c13
        have hsw : nw + j_w ≤ 1000 := (nI_leI (by omega) (by decide)).mp (by rw [← nI_add, ← (show row (s0 σ) 2116 = nI nw from iv.hnw)]; exact c42)
        have g_w := tN_nI (n := j_w) (by omega)
        refine pl_iconst (pc := 59) (v := 0) dX9_week_59 (by rfl) ?_
        refine pj_istore_n (pc := 60) (lv' := [(2, _), (0, _), (1, _)]) dX9_week_60 rfl (by decide) rfl ?_
        refine PJ.sub [0, 2, 1] rfl ?_
        refine PJ.conv rfl rfl (show _ = (mm g ad μ (s_weeks n nl nb q nw 0 (s0 σ))) from congrArg (mm g ad μ) (by rw [s_weeks, uq_0])) ?_
        refine ind_dn (n := j_w) (P := fun i => IvG (s_weeks n nl nb q nw i (s0 σ)) n nl nb q nor (nw + i) → PJ g _ _ _ _ d 0 0 61 [(2, .int (nI i)), (1, .int (nI j_w)), (0, .ref (ad 0))] [] (mm g ad μ (s_weeks n nl nb q nw i (s0 σ))) _) (fun i hi ih hv => ?_) 0 (Nat.zero_le _) (by rw [s_weeks, uq_0]; exact iv.f0)
        refine pl_iload_n (pc := 61) dX9_week_61 rfl rfl ?_
        refine pl_iload_n (pc := 62) dX9_week_62 rfl rfl ?_
        refine pl_icmp_ge (pc := 63) (tgt := 76) dX9_week_63 (by decide) (by omega) (by omega) (fun c63 => ?_) (fun c63 => ?_)
        · refine pl_aload_n (pc := 76) dX9_week_76 rfl rfl ?_
          refine pj_getf (pc := 77) ckX9 1 q2517 dX9_week_77 (by decide) (mm_o hA) rfl ?_
          refine pl_sipush (pc := 80) (v := 2116) dX9_week_80 (by rfl) ?_
          refine pl_iald (pc := 83) (n := 2132) dX9_week_83 (mm_a hA 1 (by decide) (by decide)) (by omega) (by decide) ?_
          refine pj_iret (pc := 84) dX9_week_84 rfl ?_
          have e9 : i = j_w := by omega
          subst e9
          exact ⟨vIe (by simp [p_week, c7, c13, c42, g_w, c63]) rfl, congrArg (mm g ad μ) (by simp [p_week, c7, c13, c42, g_w, c63])⟩
        · refine pl_aload_n (pc := 66) dX9_week_66 rfl rfl ?_
          refine pl_callVv (pc := 67) (As := []) (C2 := 0) (N2 := 0) ckX9 mdX9_goes rfl q3095 q3097 qs111 q154 dX9_week_67 rfl rfl (Nat.le_of_ble_eq_true rfl) (mm_o hA) (w_X9_goes (d := d - 1) (by omega) hA hv (by omega)) (by omega) (by decide) (by decide) ?_
          refine pl_iinc1 (pc := 70) (lv' := [(2, _), (1, _), (0, _)]) dX9_week_70 rfl rfl (by decide) rfl ?_
          refine pj_goto (pc := 73) (tgt := 61) dX9_week_73 (by decide) ?_
          exact PJ.conv rfl rfl (congrArg (mm g ad μ) (show _ = s_weeks n nl nb q nw (i + 1) (s0 σ) by unfold s_weeks; rw [uq_s _ i])) (ih (by omega) (by have h9 := goes_iv hv (by omega); unfold s_weeks at h9 ⊢; rw [uq_s _ i]; exact h9))
      · refine pl_iconst (pc := 45) (v := 1) dX9_week_45 (by rfl) ?_
        refine pj_goto (pc := 46) (tgt := 50) dX9_week_46 (by decide) ?_
        refine pl_iconst (pc := 50) (v := 2) dX9_week_50 (by rfl) ?_
        refine pl_callVd (pc := 51) (As := [_, _]) (C2 := 0) (N2 := 0) ckX9 mdX9_bad rfl q2631 q2633 qs50 q154 dX9_week_51 rfl rfl (Nat.le_of_ble_eq_true rfl) (mm_o hA) (w_bad_1 (d := d - 1) (by omega) hA) (by omega) (by decide) (by decide) ?_
        refine pj_if_eq (pc := 54) (tgt := 59) dX9_week_54 (by decide) (fun h => absurd h (by decide)) (fun _ => ?_)
        refine pl_iconst (pc := 57) (v := 0) dX9_week_57 (by rfl) ?_
        refine pj_iret (pc := 58) dX9_week_58 rfl ?_
        exact ⟨vIe (by simp [p_week, c7, c13, c42]) rfl, congrArg (mm g ad μ) (by simp [p_week, c7, c13, c42])⟩
    · refine pl_iconst (pc := 16) (v := 1) dX9_week_16 (by rfl) ?_
      refine pj_goto (pc := 17) (tgt := 21) dX9_week_17 (by decide) ?_
      refine pl_iconst (pc := 21) (v := 1) dX9_week_21 (by rfl) ?_
      refine pl_callVd (pc := 22) (As := [_, _]) (C2 := 0) (N2 := 0) ckX9 mdX9_bad rfl q2631 q2633 qs50 q154 dX9_week_22 rfl rfl (Nat.le_of_ble_eq_true rfl) (mm_o hA) (w_bad_1 (d := d - 1) (by omega) hA) (by omega) (by decide) (by decide) ?_
      refine pj_if_ne (pc := 25) (tgt := 57) dX9_week_25 (by decide) (fun _ => ?_) (fun h => absurd h (by decide))
      refine pl_iconst (pc := 57) (v := 0) dX9_week_57 (by rfl) ?_
      refine pj_iret (pc := 58) dX9_week_58 rfl ?_
      exact ⟨vIe (by simp [p_week, c7, c13]) rfl, congrArg (mm g ad μ) (by simp [p_week, c7, c13])⟩
