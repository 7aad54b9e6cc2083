set_option maxRecDepth 100000
/-- sealed: Lean never unfolds what is chosen -/
theorem uq_ex {α : Type} (f : Nat → α → α) : ∃ u : Nat → α → α, (∀ a, u 0 a = a) ∧ ∀ n a, u (n + 1) a = f n (u n a) := ⟨upto f, fun _ => rfl, fun _ _ => rfl⟩
noncomputable def uq {α : Type} (f : Nat → α → α) : Nat → α → α := (uq_ex f).choose
theorem uq_0 {α : Type} (f : Nat → α → α) (a : α) : uq f 0 a = a := (uq_ex f).choose_spec.1 a
theorem uq_s {α : Type} (f : Nat → α → α) (n : Nat) (a : α) : uq f (n + 1) a = f n (uq f n a) := (uq_ex f).choose_spec.2 n a
theorem uq_iv {f : Nat → MS → MS} {n nl nb q nor nw m : Nat} (hf : ∀ i τ, i < m → IvG τ n nl nb q nor nw → IvG (f i τ) n nl nb q nor nw) {σ : MS} (v : IvG σ n nl nb q nor nw) : ∀ k, k ≤ m → IvG (uq f k σ) n nl nb q nor nw
  | 0, _ => by rw [uq_0]; exact v
  | k + 1, hk => by rw [uq_s f k]; exact hf k _ (by omega) (uq_iv hf v k (by omega))
theorem seal_ex {α : Type} (a : α) : ∃ x : α, x = a := ⟨a, rfl⟩
noncomputable def sealD {α : Type} (a : α) : α := (seal_ex a).choose
theorem seal_eq {α : Type} (a : α) : sealD a = a := (seal_ex a).choose_spec
def zc (σ : MS) (z c : Nat) : Bool := decide (c % 12 / 3 = z) && !decide (sec σ c 0 ≤ nI 1)
def seen1 (z : Nat) (σ : MS) : MS := if anyN (zc σ z) 96 = false then σ else (let σ := sR σ (2108 + z) (row σ (2108 + z) + nI 1); sR σ (2112 + z) (row σ (2112 + z) + row σ (2104 + z)))
def farm1 (n c : Nat) (σ : MS) : MS := if isFarmV (sec σ c 0) = false then σ else if ¬ per σ (tN (sec σ c 1)) 2 = nI 4 then σ else (let p := tN (sec σ c 1); let v := σ.2.1 3 c * bandV (row σ (2104 + c % 12 / 3)) * nI (1 + hiredC σ n (sec σ c 1)); s_pays (sR σ 2117 (row σ 2117 + v)) p (v / nI 2))
def past1 (c : Nat) (σ : MS) : MS := if isPastV (sec σ c 0) = false then σ else (let v := sec σ c 3 + sec σ c 3 / nI 4; sR σ (8 * c + 3) (if ¬ v ≤ nI 1000 then nI 1000 else v))
def zero1 (z : Nat) (σ : MS) : MS := sR σ (2104 + z) (nI 0)
noncomputable def s_yearEnds (n : Nat) (σ : MS) : MS := uq zero1 4 (uq past1 96 (uq (farm1 n) 96 (uq seen1 4 σ)))
theorem seen1_iv {σ : MS} {n nl nb q nor nw z : Nat} (hz : z < 4) (v : IvG σ n nl nb q nor nw) : IvG (seen1 z σ) n nl nb q nor nw := by
  unfold seen1
  split
  · exact v
  · exact (v.sR1 (by unfold fr1 fr2; omega)).sR1 (by unfold fr1 fr2; omega)
theorem farm1_iv {σ : MS} {n nl nb q nor nw c : Nat} (hc : c < 96) (v : IvG σ n nl nb q nor nw) : IvG (farm1 n c σ) n nl nb q nor nw := by
  have hP := v.hP
  unfold farm1
  split
  · exact v
  · rename_i h
    obtain ⟨p, hp, e⟩ := (v.who c hc).farm (Bool.not_eq_false _ ▸ h)
    split
    · exact v
    · simp only []
      rw [e, tN_nI (by omega)]
      exact (v.sR1 (by unfold fr1 fr2; omega)).pays hp
theorem past1_iv {σ : MS} {n nl nb q nor nw c : Nat} (hc : c < 96) (v : IvG σ n nl nb q nor nw) : IvG (past1 c σ) n nl nb q nor nw := by
  unfold past1
  split
  · exact v
  · exact v.sR1 (by unfold fr1 fr2; omega)
theorem zero1_iv {σ : MS} {n nl nb q nor nw z : Nat} (hz : z < 4) (v : IvG σ n nl nb q nor nw) : IvG (zero1 z σ) n nl nb q nor nw := v.sR1 (by unfold fr1 fr2; omega)
theorem yearEnds_iv {σ : MS} {n nl nb q nor nw : Nat} (v : IvG σ n nl nb q nor nw) : IvG (s_yearEnds n σ) n nl nb q nor nw := by
  have v1 := uq_iv (f := seen1) (m := 4) (fun _ _ h w => seen1_iv h w) v 4 (Nat.le_refl _)
  have v2 := uq_iv (f := farm1 n) (m := 96) (fun _ _ h w => farm1_iv h w) v1 96 (Nat.le_refl _)
  have v3 := uq_iv (f := past1) (m := 96) (fun _ _ h w => past1_iv h w) v2 96 (Nat.le_refl _)
  have v4 := uq_iv (f := zero1) (m := 4) (fun _ _ h w => zero1_iv h w) v3 4 (Nat.le_refl _)
  unfold s_yearEnds
  exact v4
set_option maxHeartbeats 4000000 in
theorem w_X9_yearEnds {g : GP} {ad : Nat → Nat} {μ : Mem} {σ : MS} {d : Nat}  {n nl nb q nor nw : Nat} (hd : 3 ≤ d) (hA : Inj ad 18) (iv : IvG σ n nl nb q nor nw) : PM g yX9_yearEnds (ws_ yX9_yearEnds cX9_yearEnds 4 none) d 0 0 [.ref (ad 0)] (mm g ad μ σ) (rQ none (mm g ad μ (s_yearEnds n σ))) := by
  refine PM.of (by decide +kernel) (Nat.le_of_ble_eq_true rfl) ?_
  show PJ g _ _ _ _ d 0 0 0 [(0, .ref (ad 0))] [] _ _
  have hP := iv.hP
  refine pl_iconst (pc := 0) (v := 0) dX9_yearEnds_0 (by rfl) ?_
  refine pj_istore_n (pc := 1) (lv' := [(1, _), (0, _)]) dX9_yearEnds_1 rfl (by decide) rfl ?_
  refine PJ.conv rfl rfl (show _ = (mm g ad μ (uq seen1 0 σ)) from congrArg (mm g ad μ) (uq_0 _ _).symm) ?_
  refine ind_dn (n := 4) (P := fun i => IvG (uq seen1 i σ) n nl nb q nor nw → PJ g _ _ _ _ d 0 0 2 [(1, .int (nI i)), (0, .ref (ad 0))] [] (mm g ad μ (uq seen1 i σ)) _) (fun i hi ih hv => ?_) 0 (Nat.zero_le _) (by rw [uq_0]; exact iv)
  refine pl_iload_n (pc := 2) dX9_yearEnds_2 rfl rfl ?_
  refine pl_iconst (pc := 3) (v := 4) dX9_yearEnds_3 (by rfl) ?_
  refine pl_icmp_ge (pc := 4) (tgt := 101) dX9_yearEnds_4 (by decide) (by omega) (by omega) (fun c4 => ?_) (fun c4 => ?_)
  · have e9 : i = 4 := by omega
    subst e9
    refine pl_iconst (pc := 101) (v := 0) dX9_yearEnds_101 (by rfl) ?_
    refine pj_istore_n (pc := 102) (lv' := [(1, _), (0, _)]) dX9_yearEnds_102 rfl (by decide) rfl ?_
    refine PJ.conv rfl rfl (show _ = (mm g ad μ (uq (farm1 n) 0 (uq seen1 4 σ))) from congrArg (mm g ad μ) (uq_0 _ _).symm) ?_
    refine ind_dn (n := 96) (P := fun i => IvG (uq (farm1 n) i (uq seen1 4 σ)) n nl nb q nor nw → PJ g _ _ _ _ d 0 0 103 [(1, .int (nI i)), (0, .ref (ad 0))] [] (mm g ad μ (uq (farm1 n) i (uq seen1 4 σ))) _) (fun i hi ih hv => ?_) 0 (Nat.zero_le _) (by rw [uq_0]; exact hv)
    refine pl_iload_n (pc := 103) dX9_yearEnds_103 rfl rfl ?_
    refine pl_bipush (pc := 104) (v := 96) dX9_yearEnds_104 (by rfl) ?_
    refine pl_icmp_ge (pc := 106) (tgt := 207) dX9_yearEnds_106 (by decide) (by omega) (by omega) (fun c106 => ?_) (fun c106 => ?_)
    · have e9 : i = 96 := by omega
      subst e9
      refine pl_iconst (pc := 207) (v := 0) dX9_yearEnds_207 (by rfl) ?_
      refine pj_istore_n (pc := 208) (lv' := [(1, _), (0, _)]) dX9_yearEnds_208 rfl (by decide) rfl ?_
      refine PJ.conv rfl rfl (show _ = (mm g ad μ (uq past1 0 (uq (farm1 n) 96 (uq seen1 4 σ)))) from congrArg (mm g ad μ) (uq_0 _ _).symm) ?_
      refine ind_dn (n := 96) (P := fun i => IvG (uq past1 i (uq (farm1 n) 96 (uq seen1 4 σ))) n nl nb q nor nw → PJ g _ _ _ _ d 0 0 209 [(1, .int (nI i)), (0, .ref (ad 0))] [] (mm g ad μ (uq past1 i (uq (farm1 n) 96 (uq seen1 4 σ)))) _) (fun i hi ih hv => ?_) 0 (Nat.zero_le _) (by rw [uq_0]; exact hv)
      refine pl_iload_n (pc := 209) dX9_yearEnds_209 rfl rfl ?_
      refine pl_bipush (pc := 210) (v := 96) dX9_yearEnds_210 (by rfl) ?_
      refine pl_icmp_ge (pc := 212) (tgt := 277) dX9_yearEnds_212 (by decide) (by omega) (by omega) (fun c212 => ?_) (fun c212 => ?_)
      · have e9 : i = 96 := by omega
        subst e9
        refine pl_iconst (pc := 277) (v := 0) dX9_yearEnds_277 (by rfl) ?_
        refine pj_istore_n (pc := 278) (lv' := [(1, _), (0, _)]) dX9_yearEnds_278 rfl (by decide) rfl ?_
        refine PJ.conv rfl rfl (show _ = (mm g ad μ (uq zero1 0 (uq past1 96 (uq (farm1 n) 96 (uq seen1 4 σ))))) from congrArg (mm g ad μ) (uq_0 _ _).symm) ?_
        refine ind_dn (n := 4) (P := fun i => IvG (uq zero1 i (uq past1 96 (uq (farm1 n) 96 (uq seen1 4 σ)))) n nl nb q nor nw → PJ g _ _ _ _ d 0 0 279 [(1, .int (nI i)), (0, .ref (ad 0))] [] (mm g ad μ (uq zero1 i (uq past1 96 (uq (farm1 n) 96 (uq seen1 4 σ))))) _) (fun i hi ih hv => ?_) 0 (Nat.zero_le _) (by rw [uq_0]; exact hv)
        refine pl_iload_n (pc := 279) dX9_yearEnds_279 rfl rfl ?_
        refine pl_iconst (pc := 280) (v := 4) dX9_yearEnds_280 (by rfl) ?_
        refine pl_icmp_ge (pc := 281) (tgt := 301) dX9_yearEnds_281 (by decide) (by omega) (by omega) (fun c281 => ?_) (fun c281 => ?_)
        · refine pj_vret (pc := 301) dX9_yearEnds_301 rfl ?_
          have e9 : i = 4 := by omega
          subst e9
          exact ⟨rfl, rfl⟩
        · refine pl_aload_n (pc := 284) dX9_yearEnds_284 rfl rfl ?_
          refine pj_getf (pc := 285) ckX9 1 q2517 dX9_yearEnds_285 (by decide) (mm_o hA) rfl ?_
          refine pl_sipush (pc := 288) (v := 2104) dX9_yearEnds_288 (by rfl) ?_
          refine pl_iload_n (pc := 291) dX9_yearEnds_291 rfl rfl ?_
          refine pl_iadd (pc := 292) dX9_yearEnds_292 ?_
          refine pl_iconst (pc := 293) (v := 0) dX9_yearEnds_293 (by rfl) ?_
          refine pm_iast (pc := 294) 1 hA (by decide) (by decide) rfl dX9_yearEnds_294 (show _ < 2132 by omega) (by decide) ?_
          refine pl_iinc1 (pc := 295) (lv' := [(1, _), (0, _)]) dX9_yearEnds_295 rfl rfl (by decide) rfl ?_
          refine pj_goto (pc := 298) (tgt := 279) dX9_yearEnds_298 (by decide) ?_
          exact PJ.conv rfl rfl (congrArg (mm g ad μ) (show _ = uq zero1 (i + 1) (uq past1 96 (uq (farm1 n) 96 (uq seen1 4 σ))) by rw [uq_s zero1 i]; first | (simp [zero1, c281]; done) | (simp [zero1, c281]; rfl))) (ih (by omega) (by rw [uq_s zero1 i]; exact zero1_iv (by omega) hv))
      · refine pl_aload_n (pc := 215) dX9_yearEnds_215 rfl rfl ?_
        refine pl_iload_n (pc := 216) dX9_yearEnds_216 rfl rfl ?_
        refine pl_iconst (pc := 217) (v := 0) dX9_yearEnds_217 (by rfl) ?_
        refine pl_callVd (pc := 218) (As := [_, _]) (C2 := 0) (N2 := 0) ckX9 mdX9_sec rfl q2635 q2637 qs51 q154 dX9_yearEnds_218 rfl rfl (Nat.le_of_ble_eq_true rfl) (mm_o hA) (w_X9_sec (d := d - 1) (by omega) hA (by omega) (by decide)) (by omega) (by decide) (by decide) ?_
        refine pl_callSd (pc := 221) (As := [_]) (C2 := 0) (N2 := 0) mdX9_isPasture q2678 q2679 q154 dX9_yearEnds_221 rfl rfl (Nat.le_of_ble_eq_true rfl) (w_X9_isPasture (d := d - 1) (by omega)) (by omega) (by decide) (by decide) ?_
        refine pl_if_neB (pc := 224) (tgt := 230) dX9_yearEnds_224 (by decide) (fun c224 => ?_) (fun c224 => ?_)
        · refine pl_aload_n (pc := 230) dX9_yearEnds_230 rfl rfl ?_
          refine pl_iload_n (pc := 231) dX9_yearEnds_231 rfl rfl ?_
          refine pl_iconst (pc := 232) (v := 3) dX9_yearEnds_232 (by rfl) ?_
          refine pl_callVd (pc := 233) (As := [_, _]) (C2 := 0) (N2 := 0) ckX9 mdX9_sec rfl q2635 q2637 qs51 q154 dX9_yearEnds_233 rfl rfl (Nat.le_of_ble_eq_true rfl) (mm_o hA) (w_X9_sec (d := d - 1) (by omega) hA (by omega) (by decide)) (by omega) (by decide) (by decide) ?_
          refine pl_aload_n (pc := 236) dX9_yearEnds_236 rfl rfl ?_
          refine pl_iload_n (pc := 237) dX9_yearEnds_237 rfl rfl ?_
          refine pl_iconst (pc := 238) (v := 3) dX9_yearEnds_238 (by rfl) ?_
          refine pl_callVd (pc := 239) (As := [_, _]) (C2 := 0) (N2 := 0) ckX9 mdX9_sec rfl q2635 q2637 qs51 q154 dX9_yearEnds_239 rfl rfl (Nat.le_of_ble_eq_true rfl) (mm_o hA) (w_X9_sec (d := d - 1) (by omega) hA (by omega) (by decide)) (by omega) (by decide) (by decide) ?_
          refine pl_iconst (pc := 242) (v := 4) dX9_yearEnds_242 (by rfl) ?_
          refine pj_idiv (pc := 243) dX9_yearEnds_243 (by decide) ?_
          refine pj_iadd (pc := 244) dX9_yearEnds_244 ?_
          refine pj_istore_n (pc := 245) (lv' := [(2, _), (1, _), (0, _)]) dX9_yearEnds_245 rfl (by decide) rfl ?_
          refine pl_aload_n (pc := 246) dX9_yearEnds_246 rfl rfl ?_
          refine pj_getf (pc := 247) ckX9 1 q2517 dX9_yearEnds_247 (by decide) (mm_o hA) rfl ?_
          refine pl_bipush (pc := 250) (v := 8) dX9_yearEnds_250 (by rfl) ?_
          refine pl_iload_n (pc := 252) dX9_yearEnds_252 rfl rfl ?_
          refine pl_imul (pc := 253) dX9_yearEnds_253 ?_
          refine pl_iconst (pc := 254) (v := 3) dX9_yearEnds_254 (by rfl) ?_
          refine pl_iadd (pc := 255) dX9_yearEnds_255 ?_
          refine pl_iload_n (pc := 256) dX9_yearEnds_256 rfl rfl ?_
          refine pl_sipush (pc := 257) (v := 1000) dX9_yearEnds_257 (by rfl) ?_
          refine pj_icmp_le (pc := 260) (tgt := 269) dX9_yearEnds_260 (by decide) (fun c260 => ?_) (fun c260 => ?_)
          · refine pl_iload_n (pc := 269) dX9_yearEnds_269 rfl rfl ?_
            refine pm_iast (pc := 270) 1 hA (by decide) (by decide) rfl dX9_yearEnds_270 (show _ < 2132 by omega) (by decide) ?_
            refine pl_iinc1 (pc := 271) (lv' := [(1, _), (2, _), (0, _)]) dX9_yearEnds_271 rfl rfl (by decide) rfl ?_
            refine pj_goto (pc := 274) (tgt := 209) dX9_yearEnds_274 (by decide) ?_
            refine PJ.sub [0, 2] rfl ?_
            exact PJ.conv rfl rfl (congrArg (mm g ad μ) (show _ = uq past1 (i + 1) (uq (farm1 n) 96 (uq seen1 4 σ)) by rw [uq_s past1 i]; first | (simp [past1, c212, c224, c260]; done) | (simp [past1, c212, c224, c260]; rfl))) (ih (by omega) (by rw [uq_s past1 i]; exact past1_iv (by omega) hv))
          · refine pl_sipush (pc := 263) (v := 1000) dX9_yearEnds_263 (by rfl) ?_
            refine pj_goto (pc := 266) (tgt := 270) dX9_yearEnds_266 (by decide) ?_
            refine pm_iast (pc := 270) 1 hA (by decide) (by decide) rfl dX9_yearEnds_270 (show _ < 2132 by omega) (by decide) ?_
            refine pl_iinc1 (pc := 271) (lv' := [(1, _), (2, _), (0, _)]) dX9_yearEnds_271 rfl rfl (by decide) rfl ?_
            refine pj_goto (pc := 274) (tgt := 209) dX9_yearEnds_274 (by decide) ?_
            refine PJ.sub [0, 2] rfl ?_
            exact PJ.conv rfl rfl (congrArg (mm g ad μ) (show _ = uq past1 (i + 1) (uq (farm1 n) 96 (uq seen1 4 σ)) by rw [uq_s past1 i]; first | (simp [past1, c212, c224, c260]; done) | (simp [past1, c212, c224, c260]; rfl))) (ih (by omega) (by rw [uq_s past1 i]; exact past1_iv (by omega) hv))
        · refine pj_goto (pc := 227) (tgt := 271) dX9_yearEnds_227 (by decide) ?_
          refine pl_iinc1 (pc := 271) (lv' := [(1, _), (0, _)]) dX9_yearEnds_271 rfl rfl (by decide) rfl ?_
          refine pj_goto (pc := 274) (tgt := 209) dX9_yearEnds_274 (by decide) ?_
          exact PJ.conv rfl rfl (congrArg (mm g ad μ) (show _ = uq past1 (i + 1) (uq (farm1 n) 96 (uq seen1 4 σ)) by rw [uq_s past1 i]; first | (simp [past1, c212, c224]; done) | (simp [past1, c212, c224]; rfl))) (ih (by omega) (by rw [uq_s past1 i]; exact past1_iv (by omega) hv))
    · refine pl_aload_n (pc := 109) dX9_yearEnds_109 rfl rfl ?_
      refine pl_iload_n (pc := 110) dX9_yearEnds_110 rfl rfl ?_
      refine pl_iconst (pc := 111) (v := 0) dX9_yearEnds_111 (by rfl) ?_
      refine pl_callVd (pc := 112) (As := [_, _]) (C2 := 0) (N2 := 0) ckX9 mdX9_sec rfl q2635 q2637 qs51 q154 dX9_yearEnds_112 rfl rfl (Nat.le_of_ble_eq_true rfl) (mm_o hA) (w_X9_sec (d := d - 1) (by omega) hA (by omega) (by decide)) (by omega) (by decide) (by decide) ?_
      refine pl_callSd (pc := 115) (As := [_]) (C2 := 0) (N2 := 0) mdX9_isFarm q2681 q2682 q154 dX9_yearEnds_115 rfl rfl (Nat.le_of_ble_eq_true rfl) (w_X9_isFarm (d := d - 1) (by omega)) (by omega) (by decide) (by decide) ?_
      refine pl_if_eqB (pc := 118) (tgt := 201) dX9_yearEnds_118 (by decide) (fun c118 => ?_) (fun c118 => ?_)
      · refine pl_iinc1 (pc := 201) (lv' := [(1, _), (0, _)]) dX9_yearEnds_201 rfl rfl (by decide) rfl ?_
        refine pj_goto (pc := 204) (tgt := 103) dX9_yearEnds_204 (by decide) ?_
        exact PJ.conv rfl rfl (congrArg (mm g ad μ) (show _ = uq (farm1 n) (i + 1) (uq seen1 4 σ) by rw [uq_s (farm1 n) i]; first | (simp [farm1, c106, c118]; done) | (simp [farm1, c106, c118]; rfl))) (ih (by omega) (by rw [uq_s (farm1 n) i]; exact farm1_iv (by omega) hv))
      · obtain ⟨p, hp, ep⟩ := (hv.who i (by omega)).farm c118
        have g_p := tN_nI (n := p) (by omega)
        refine pl_aload_n (pc := 121) dX9_yearEnds_121 rfl rfl ?_
        refine pl_aload_n (pc := 122) dX9_yearEnds_122 rfl rfl ?_
        refine pl_iload_n (pc := 123) dX9_yearEnds_123 rfl rfl ?_
        refine pl_iconst (pc := 124) (v := 1) dX9_yearEnds_124 (by rfl) ?_
        refine pl_callVd (pc := 125) (As := [_, _]) (C2 := 0) (N2 := 0) ckX9 mdX9_sec rfl q2635 q2637 qs51 q154 dX9_yearEnds_125 rfl rfl (Nat.le_of_ble_eq_true rfl) (mm_o hA) (w_X9_sec (d := d - 1) (by omega) hA (by omega) (by decide)) (by omega) (by decide) (by decide) ?_
        refine PJ.top (y := nI _) (ep) ?_
        refine pl_iconst (pc := 128) (v := 2) dX9_yearEnds_128 (by rfl) ?_
        refine pl_callVd (pc := 129) (As := [_, _]) (C2 := 0) (N2 := 0) ckX9 mdX9_per rfl q2713 q2715 qs59 q154 dX9_yearEnds_129 rfl rfl (Nat.le_of_ble_eq_true rfl) (mm_o hA) (w_X9_per (d := d - 1) (by omega) hA (by omega) (by decide)) (by omega) (by decide) (by decide) ?_
        refine pl_iconst (pc := 132) (v := 4) dX9_yearEnds_132 (by rfl) ?_
        refine pj_icmp_eq (pc := 133) (tgt := 139) dX9_yearEnds_133 (by decide) (fun c133 => ?_) (fun c133 => ?_)
        · refine pl_aload_n (pc := 139) dX9_yearEnds_139 rfl rfl ?_
          refine pj_getf (pc := 140) ckX9 3 q2519 dX9_yearEnds_140 (by decide) (mm_o hA) rfl ?_
          refine pl_iload_n (pc := 143) dX9_yearEnds_143 rfl rfl ?_
          refine pl_iald (pc := 144) (n := 96) dX9_yearEnds_144 (mm_a hA 3 (by decide) (by decide)) (by omega) (by decide) ?_
          refine pl_aload_n (pc := 145) dX9_yearEnds_145 rfl rfl ?_
          refine pj_getf (pc := 146) ckX9 1 q2517 dX9_yearEnds_146 (by decide) (mm_o hA) rfl ?_
          refine pl_sipush (pc := 149) (v := 2104) dX9_yearEnds_149 (by rfl) ?_
          refine pl_iload_n (pc := 152) dX9_yearEnds_152 rfl rfl ?_
          refine pl_callSd (pc := 153) (As := [_]) (C2 := 0) (N2 := 0) mdX9_zoneOf q2671 q2672 q154 dX9_yearEnds_153 rfl rfl (Nat.le_of_ble_eq_true rfl) (w_X9_zoneOf (d := d - 1) (by omega) (by omega)) (by omega) (by decide) (by decide) ?_
          refine pl_iadd (pc := 156) dX9_yearEnds_156 ?_
          refine pl_iald (pc := 157) (n := 2132) dX9_yearEnds_157 (mm_a hA 1 (by decide) (by decide)) (by omega) (by decide) ?_
          refine pl_callSd (pc := 158) (As := [_]) (C2 := 0) (N2 := 0) mdX9_bandOf q3142 q3143 q154 dX9_yearEnds_158 rfl rfl (Nat.le_of_ble_eq_true rfl) (w_X9_bandOf (d := d - 1) (by omega)) (by omega) (by decide) (by decide) ?_
          refine pj_imul (pc := 161) dX9_yearEnds_161 ?_
          refine pl_iconst (pc := 162) (v := 1) dX9_yearEnds_162 (by rfl) ?_
          refine pl_aload_n (pc := 163) dX9_yearEnds_163 rfl rfl ?_
          refine pl_aload_n (pc := 164) dX9_yearEnds_164 rfl rfl ?_
          refine pl_iload_n (pc := 165) dX9_yearEnds_165 rfl rfl ?_
          refine pl_iconst (pc := 166) (v := 1) dX9_yearEnds_166 (by rfl) ?_
          refine pl_callVd (pc := 167) (As := [_, _]) (C2 := 0) (N2 := 0) ckX9 mdX9_sec rfl q2635 q2637 qs51 q154 dX9_yearEnds_167 rfl rfl (Nat.le_of_ble_eq_true rfl) (mm_o hA) (w_X9_sec (d := d - 1) (by omega) hA (by omega) (by decide)) (by omega) (by decide) (by decide) ?_
          refine PJ.top (y := nI _) (ep) ?_
          refine pl_callVd (pc := 170) (As := [_]) (C2 := 0) (N2 := 0) ckX9 mdX9_hiredBy rfl q2717 q2719 qs60 q154 dX9_yearEnds_170 rfl rfl (Nat.le_of_ble_eq_true rfl) (mm_o hA) (w_X9_hiredBy (d := d - 1) (by omega) hA hv.hn hv.hP) (by omega) (by decide) (by decide) ?_
          refine pl_iadd (pc := 173) dX9_yearEnds_173 ?_
          refine pj_imul (pc := 174) dX9_yearEnds_174 ?_
          refine pj_istore_n (pc := 175) (lv' := [(2, _), (1, _), (0, _)]) dX9_yearEnds_175 rfl (by decide) rfl ?_
          refine pl_aload_n (pc := 176) dX9_yearEnds_176 rfl rfl ?_
          refine pj_getf (pc := 177) ckX9 1 q2517 dX9_yearEnds_177 (by decide) (mm_o hA) rfl ?_
          refine pl_sipush (pc := 180) (v := 2117) dX9_yearEnds_180 (by rfl) ?_
          refine pj_dup2_11 (pc := 183) dX9_yearEnds_183 rfl rfl ?_
          refine pl_iald (pc := 184) (n := 2132) dX9_yearEnds_184 (mm_a hA 1 (by decide) (by decide)) (by omega) (by decide) ?_
          refine pl_iload_n (pc := 185) dX9_yearEnds_185 rfl rfl ?_
          refine pj_iadd (pc := 186) dX9_yearEnds_186 ?_
          refine pm_iast (pc := 187) 1 hA (by decide) (by decide) rfl dX9_yearEnds_187 (show _ < 2132 by omega) (by decide) ?_
          refine pl_aload_n (pc := 188) dX9_yearEnds_188 rfl rfl ?_
          refine pl_aload_n (pc := 189) dX9_yearEnds_189 rfl rfl ?_
          refine pl_iload_n (pc := 190) dX9_yearEnds_190 rfl rfl ?_
          refine pl_iconst (pc := 191) (v := 1) dX9_yearEnds_191 (by rfl) ?_
          refine pl_callVd (pc := 192) (As := [_, _]) (C2 := 0) (N2 := 0) ckX9 mdX9_sec rfl q2635 q2637 qs51 q154 dX9_yearEnds_192 rfl rfl (Nat.le_of_ble_eq_true rfl) (mm_o hA) (w_X9_sec (d := d - 1) (by omega) hA (by omega) (by decide)) (by omega) (by decide) (by decide) ?_
          refine PJ.top (y := nI _) ((rowS_ne (by omega)).trans ep) ?_
          refine pl_iload_n (pc := 195) dX9_yearEnds_195 rfl rfl ?_
          refine pl_iconst (pc := 196) (v := 2) dX9_yearEnds_196 (by rfl) ?_
          refine pj_idiv (pc := 197) dX9_yearEnds_197 (by decide) ?_
          refine pl_callVv (pc := 198) (As := [_, _]) (C2 := 0) (N2 := 0) ckX9 mdX9_pays rfl q3006 q3008 qs103 q154 dX9_yearEnds_198 rfl rfl (Nat.le_of_ble_eq_true rfl) (mm_o hA) (w_X9_pays (d := d - 1) (by omega) hA (by omega)) (by omega) (by decide) (by decide) ?_
          refine pl_iinc1 (pc := 201) (lv' := [(1, _), (2, _), (0, _)]) dX9_yearEnds_201 rfl rfl (by decide) rfl ?_
          refine pj_goto (pc := 204) (tgt := 103) dX9_yearEnds_204 (by decide) ?_
          refine PJ.sub [0, 2] rfl ?_
          exact PJ.conv rfl rfl (congrArg (mm g ad μ) (show _ = uq (farm1 n) (i + 1) (uq seen1 4 σ) by rw [uq_s (farm1 n) i]; first | (simp [farm1, c106, c118, ep, g_p, eq_true c133]; done) | (simp [farm1, c106, c118, ep, g_p, eq_true c133]; rfl))) (ih (by omega) (by rw [uq_s (farm1 n) i]; exact farm1_iv (by omega) hv))
        · refine pj_goto (pc := 136) (tgt := 201) dX9_yearEnds_136 (by decide) ?_
          refine pl_iinc1 (pc := 201) (lv' := [(1, _), (0, _)]) dX9_yearEnds_201 rfl rfl (by decide) rfl ?_
          refine pj_goto (pc := 204) (tgt := 103) dX9_yearEnds_204 (by decide) ?_
          exact PJ.conv rfl rfl (congrArg (mm g ad μ) (show _ = uq (farm1 n) (i + 1) (uq seen1 4 σ) by rw [uq_s (farm1 n) i]; first | (simp [farm1, c106, c118, ep, g_p, c133]; done) | (simp [farm1, c106, c118, ep, g_p, c133]; rfl))) (ih (by omega) (by rw [uq_s (farm1 n) i]; exact farm1_iv (by omega) hv))
  · refine pl_iconst (pc := 7) (v := 0) dX9_yearEnds_7 (by rfl) ?_
    refine pj_istore_n (pc := 8) (lv' := [(2, _), (1, _), (0, _)]) dX9_yearEnds_8 rfl (by decide) rfl ?_
    refine pl_iconst (pc := 9) (v := 0) dX9_yearEnds_9 (by rfl) ?_
    have ihO := ih
    have hvO := hv
    refine pj_istore_n (pc := 10) (lv' := [(3, _), (2, _), (1, _), (0, _)]) dX9_yearEnds_10 rfl (by decide) rfl ?_
    refine ind_dn (n := 96) (P := fun j => PJ g _ _ _ _ d 0 0 11 [(3, .int (nI j)), (2, .int (bI (anyN (zc (uq seen1 i σ) i) j))), (1, .int (nI i)), (0, .ref (ad 0))] [] (mm g ad μ (uq seen1 i σ)) _) (fun j hj ih => ?_) 0 (Nat.zero_le _)
    refine pl_iload_n (pc := 11) dX9_yearEnds_11 rfl rfl ?_
    refine pl_bipush (pc := 12) (v := 96) dX9_yearEnds_12 (by rfl) ?_
    refine pl_icmp_ge (pc := 14) (tgt := 51) dX9_yearEnds_14 (by decide) (by omega) (by omega) (fun c14 => ?_) (fun c14 => ?_)
    · have e8 : j = 96 := by omega
      subst e8
      refine pl_iload_n (pc := 51) dX9_yearEnds_51 rfl rfl ?_
      refine pl_if_neB (pc := 52) (tgt := 58) dX9_yearEnds_52 (by decide) (fun c52 => ?_) (fun c52 => ?_)
      · refine pl_aload_n (pc := 58) dX9_yearEnds_58 rfl rfl ?_
        refine pj_getf (pc := 59) ckX9 1 q2517 dX9_yearEnds_59 (by decide) (mm_o hA) rfl ?_
        refine pl_sipush (pc := 62) (v := 2108) dX9_yearEnds_62 (by rfl) ?_
        refine pl_iload_n (pc := 65) dX9_yearEnds_65 rfl rfl ?_
        refine pl_iadd (pc := 66) dX9_yearEnds_66 ?_
        refine pj_dup2_11 (pc := 67) dX9_yearEnds_67 rfl rfl ?_
        refine pl_iald (pc := 68) (n := 2132) dX9_yearEnds_68 (mm_a hA 1 (by decide) (by decide)) (by omega) (by decide) ?_
        refine pl_iconst (pc := 69) (v := 1) dX9_yearEnds_69 (by rfl) ?_
        refine pj_iadd (pc := 70) dX9_yearEnds_70 ?_
        refine pm_iast (pc := 71) 1 hA (by decide) (by decide) rfl dX9_yearEnds_71 (show _ < 2132 by omega) (by decide) ?_
        refine pl_aload_n (pc := 72) dX9_yearEnds_72 rfl rfl ?_
        refine pj_getf (pc := 73) ckX9 1 q2517 dX9_yearEnds_73 (by decide) (mm_o hA) rfl ?_
        refine pl_sipush (pc := 76) (v := 2112) dX9_yearEnds_76 (by rfl) ?_
        refine pl_iload_n (pc := 79) dX9_yearEnds_79 rfl rfl ?_
        refine pl_iadd (pc := 80) dX9_yearEnds_80 ?_
        refine pj_dup2_11 (pc := 81) dX9_yearEnds_81 rfl rfl ?_
        refine pl_iald (pc := 82) (n := 2132) dX9_yearEnds_82 (mm_a hA 1 (by decide) (by decide)) (by omega) (by decide) ?_
        refine pl_aload_n (pc := 83) dX9_yearEnds_83 rfl rfl ?_
        refine pj_getf (pc := 84) ckX9 1 q2517 dX9_yearEnds_84 (by decide) (mm_o hA) rfl ?_
        refine pl_sipush (pc := 87) (v := 2104) dX9_yearEnds_87 (by rfl) ?_
        refine pl_iload_n (pc := 90) dX9_yearEnds_90 rfl rfl ?_
        refine pl_iadd (pc := 91) dX9_yearEnds_91 ?_
        refine pl_iald (pc := 92) (n := 2132) dX9_yearEnds_92 (mm_a hA 1 (by decide) (by decide)) (by omega) (by decide) ?_
        refine pj_iadd (pc := 93) dX9_yearEnds_93 ?_
        refine pm_iast (pc := 94) 1 hA (by decide) (by decide) rfl dX9_yearEnds_94 (show _ < 2132 by omega) (by decide) ?_
        refine pl_iinc1 (pc := 95) (lv' := [(1, _), (3, _), (2, _), (0, _)]) dX9_yearEnds_95 rfl rfl (by decide) rfl ?_
        refine pj_goto (pc := 98) (tgt := 2) dX9_yearEnds_98 (by decide) ?_
        refine PJ.sub [0, 3] rfl ?_
        exact PJ.conv rfl rfl (congrArg (mm g ad μ) (show _ = uq seen1 (i + 1) σ by rw [uq_s seen1 i]; first | (simp [seen1, c14, c52]; done) | (simp [seen1, c14, c52]; rfl))) (ihO (by omega) (by rw [uq_s seen1 i]; exact seen1_iv (by omega) hvO))
      · refine pj_goto (pc := 55) (tgt := 95) dX9_yearEnds_55 (by decide) ?_
        refine pl_iinc1 (pc := 95) (lv' := [(1, _), (3, _), (2, _), (0, _)]) dX9_yearEnds_95 rfl rfl (by decide) rfl ?_
        refine pj_goto (pc := 98) (tgt := 2) dX9_yearEnds_98 (by decide) ?_
        refine PJ.sub [0, 3] rfl ?_
        exact PJ.conv rfl rfl (congrArg (mm g ad μ) (show _ = uq seen1 (i + 1) σ by rw [uq_s seen1 i]; first | (simp [seen1, c14, c52]; done) | (simp [seen1, c14, c52]; rfl))) (ihO (by omega) (by rw [uq_s seen1 i]; exact seen1_iv (by omega) hvO))
    · refine pl_iload_n (pc := 17) dX9_yearEnds_17 rfl rfl ?_
      refine pl_if_neB (pc := 18) (tgt := 39) dX9_yearEnds_18 (by decide) (fun c18 => ?_) (fun c18 => ?_)
      · refine pl_iconst (pc := 39) (v := 1) dX9_yearEnds_39 (by rfl) ?_
        refine pj_goto (pc := 40) (tgt := 44) dX9_yearEnds_40 (by decide) ?_
        refine pj_istore_n (pc := 44) (lv' := [(2, _), (3, _), (1, _), (0, _)]) dX9_yearEnds_44 rfl (by decide) rfl ?_
        refine pl_iinc1 (pc := 45) (lv' := [(3, _), (2, _), (1, _), (0, _)]) dX9_yearEnds_45 rfl rfl (by decide) rfl ?_
        refine pj_goto (pc := 48) (tgt := 11) dX9_yearEnds_48 (by decide) ?_
        exact PJ.conv (by first | (simp [anyN, zc, bI_t, bI_f, c14, c18]; done) | (simp [anyN, zc, bI_t, bI_f, c14, c18]; rfl)) rfl rfl (ih (by omega))
      · refine pl_iload_n (pc := 21) dX9_yearEnds_21 rfl rfl ?_
        refine pl_callSd (pc := 22) (As := [_]) (C2 := 0) (N2 := 0) mdX9_zoneOf q2671 q2672 q154 dX9_yearEnds_22 rfl rfl (Nat.le_of_ble_eq_true rfl) (w_X9_zoneOf (d := d - 1) (by omega) (by omega)) (by omega) (by decide) (by decide) ?_
        refine pl_iload_n (pc := 25) dX9_yearEnds_25 rfl rfl ?_
        refine pl_icmp_ne (pc := 26) (tgt := 43) dX9_yearEnds_26 (by decide) (by omega) (by omega) (fun c26 => ?_) (fun c26 => ?_)
        · refine pl_iconst (pc := 43) (v := 0) dX9_yearEnds_43 (by rfl) ?_
          refine pj_istore_n (pc := 44) (lv' := [(2, _), (3, _), (1, _), (0, _)]) dX9_yearEnds_44 rfl (by decide) rfl ?_
          refine pl_iinc1 (pc := 45) (lv' := [(3, _), (2, _), (1, _), (0, _)]) dX9_yearEnds_45 rfl rfl (by decide) rfl ?_
          refine pj_goto (pc := 48) (tgt := 11) dX9_yearEnds_48 (by decide) ?_
          exact PJ.conv (by first | (simp [anyN, zc, bI_t, bI_f, c14, c18, c26]; done) | (simp [anyN, zc, bI_t, bI_f, c14, c18, c26]; rfl)) rfl rfl (ih (by omega))
        · refine pl_aload_n (pc := 29) dX9_yearEnds_29 rfl rfl ?_
          refine pl_iload_n (pc := 30) dX9_yearEnds_30 rfl rfl ?_
          refine pl_iconst (pc := 31) (v := 0) dX9_yearEnds_31 (by rfl) ?_
          refine pl_callVd (pc := 32) (As := [_, _]) (C2 := 0) (N2 := 0) ckX9 mdX9_sec rfl q2635 q2637 qs51 q154 dX9_yearEnds_32 rfl rfl (Nat.le_of_ble_eq_true rfl) (mm_o hA) (w_X9_sec (d := d - 1) (by omega) hA (by omega) (by decide)) (by omega) (by decide) (by decide) ?_
          refine pl_iconst (pc := 35) (v := 1) dX9_yearEnds_35 (by rfl) ?_
          refine pj_icmp_le (pc := 36) (tgt := 43) dX9_yearEnds_36 (by decide) (fun c36 => ?_) (fun c36 => ?_)
          · refine pl_iconst (pc := 43) (v := 0) dX9_yearEnds_43 (by rfl) ?_
            refine pj_istore_n (pc := 44) (lv' := [(2, _), (3, _), (1, _), (0, _)]) dX9_yearEnds_44 rfl (by decide) rfl ?_
            refine pl_iinc1 (pc := 45) (lv' := [(3, _), (2, _), (1, _), (0, _)]) dX9_yearEnds_45 rfl rfl (by decide) rfl ?_
            refine pj_goto (pc := 48) (tgt := 11) dX9_yearEnds_48 (by decide) ?_
            exact PJ.conv (by first | (simp [anyN, zc, bI_t, bI_f, c14, c18, eq_true c26, c36]; done) | (simp [anyN, zc, bI_t, bI_f, c14, c18, eq_true c26, c36]; rfl)) rfl rfl (ih (by omega))
          · refine pl_iconst (pc := 39) (v := 1) dX9_yearEnds_39 (by rfl) ?_
            refine pj_goto (pc := 40) (tgt := 44) dX9_yearEnds_40 (by decide) ?_
            refine pj_istore_n (pc := 44) (lv' := [(2, _), (3, _), (1, _), (0, _)]) dX9_yearEnds_44 rfl (by decide) rfl ?_
            refine pl_iinc1 (pc := 45) (lv' := [(3, _), (2, _), (1, _), (0, _)]) dX9_yearEnds_45 rfl rfl (by decide) rfl ?_
            refine pj_goto (pc := 48) (tgt := 11) dX9_yearEnds_48 (by decide) ?_
            exact PJ.conv (by first | (simp [anyN, zc, bI_t, bI_f, c14, c18, eq_true c26, c36]; done) | (simp [anyN, zc, bI_t, bI_f, c14, c18, eq_true c26, c36]; rfl)) rfl rfl (ih (by omega))
