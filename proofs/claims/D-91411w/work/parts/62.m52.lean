set_option maxRecDepth 100000
theorem vcell_int (n : Nat) : ∀ cA : ClassId, vp_cell cA (n, .inl (fun _ => 0)) = arrV cA n (fun _ => defaultValue .int) := fun _ => rfl
theorem vcell_byte (n : Nat) : ∀ cA : ClassId, vp_cell cA (n, .inl (fun _ => 0)) = arrV cA n (fun _ => defaultValue .byte) := fun _ => rfl
theorem vcell_boolean (n : Nat) : ∀ cA : ClassId, vp_cell cA (n, .inl (fun _ => 0)) = arrV cA n (fun _ => defaultValue .boolean) := fun _ => rfl
def X9_zero : List Value := [.int 0, .null, .null, .null, .null, .null, .null, .int 0, .null, .int 0, .int 0, .int 0, .int 0, .int 0, .int 0, .int 0, .int 0, .null, .null, .null, .null, .null, .null, .int 0, .int 0, .null, .null, .null, .int 0, .int 0, .null, .int 0, .long 0, .long 0]
set_option maxHeartbeats 1000000 in
theorem init_loops {g : GP} {μ : Mem} {d : Nat} (hd : 1 ≤ d) {a0 : Nat} (G : OkG g) : ∀ ad : Nat → Nat, ad 0 = a0 → Inj ad 18 → (∀ k, 0 < k → k < 18 → μ (ad k) = none ∧ gF g (ad k)) → PJ g yX9_init.cls cX9_init 2 (none, yX9_init.name, []) d 0 0 162 [(0, .ref (ad 0))] [] (mm g ad μ (iniS 0 0 0 0)) (fun o M => ∃ ad : Nat → Nat, o = .inl none ∧ ad 0 = a0 ∧ Inj ad 18 ∧ (∀ k, 0 < k → k < 18 → μ (ad k) = none ∧ gF g (ad k)) ∧ M = mm g ad μ (iniS 96 12 96 1)) := by
  intro ad h0 hA hf
  refine pl_iconst (pc := 162) (v := 0) dX9_init_162 (by rfl) ?_
  refine pj_istore_n (pc := 163) (lv' := [(1, _), (0, _)]) dX9_init_163 rfl (by decide) rfl ?_
  refine ind_dn (n := 96) (P := fun i => PJ g _ _ _ _ d 0 0 164 [(1, .int (nI i)), (0, .ref (ad 0))] [] (mm g ad μ (iniS i 0 0 0)) _) (fun i hi ih => ?_) 0 (Nat.zero_le _)
  refine pl_iload_n (pc := 164) dX9_init_164 rfl rfl ?_
  refine pl_bipush (pc := 165) (v := 96) dX9_init_165 (by rfl) ?_
  refine pl_icmp_ge (pc := 167) (tgt := 220) dX9_init_167 (by decide) (by omega) (by omega) (fun c167 => ?_) (fun c167 => ?_)
  · have e96 : i = 96 := by omega
    subst e96
    refine pl_aload_n (pc := 220) dX9_init_220 rfl rfl ?_
    refine pj_getf (pc := 221) ckX9 1 q2517 dX9_init_221 (by decide) (mm_o hA) rfl ?_
    refine pl_sipush (pc := 224) (v := 2117) dX9_init_224 (by rfl) ?_
    refine pl_sipush (pc := 227) (v := 500) dX9_init_227 (by rfl) ?_
    refine pm_iast (pc := 230) 1 hA (by decide) (by decide) rfl dX9_init_230 (show _ < 2132 by omega) (by decide) ?_
    refine pl_aload_n (pc := 231) dX9_init_231 rfl rfl ?_
    refine pj_getf (pc := 232) ckX9 1 q2517 dX9_init_232 (by decide) (mm_o hA) rfl ?_
    refine pl_sipush (pc := 235) (v := 2118) dX9_init_235 (by rfl) ?_
    refine pl_sipush (pc := 238) (v := 200) dX9_init_238 (by rfl) ?_
    refine pm_iast (pc := 241) 1 hA (by decide) (by decide) rfl dX9_init_241 (show _ < 2132 by omega) (by decide) ?_
    refine PJ.conv rfl rfl (congrArg (mm g ad μ) ini_two) ?_
    refine pl_iconst (pc := 242) (v := 0) dX9_init_242 (by rfl) ?_
    refine pj_istore_n (pc := 243) (lv' := [(1, _), (0, _)]) dX9_init_243 rfl (by decide) rfl ?_
    refine ind_dn (n := 12) (P := fun i => PJ g _ _ _ _ d 0 0 244 [(1, .int (nI i)), (0, .ref (ad 0))] [] (mm g ad μ (iniS 96 i 0 1)) _) (fun i hi ih => ?_) 0 (Nat.zero_le _)
    refine pl_iload_n (pc := 244) dX9_init_244 rfl rfl ?_
    refine pl_bipush (pc := 245) (v := 12) dX9_init_245 (by rfl) ?_
    refine pl_icmp_ge (pc := 247) (tgt := 267) dX9_init_247 (by decide) (by omega) (by omega) (fun c247 => ?_) (fun c247 => ?_)
    · have e12 : i = 12 := by omega
      subst e12
      refine pl_iconst (pc := 267) (v := 0) dX9_init_267 (by rfl) ?_
      refine pj_istore_n (pc := 268) (lv' := [(1, _), (0, _)]) dX9_init_268 rfl (by decide) rfl ?_
      refine ind_dn (n := 96) (P := fun i => PJ g _ _ _ _ d 0 0 269 [(1, .int (nI i)), (0, .ref (ad 0))] [] (mm g ad μ (iniS 96 12 i 1)) _) (fun i hi ih => ?_) 0 (Nat.zero_le _)
      refine pl_iload_n (pc := 269) dX9_init_269 rfl rfl ?_
      refine pl_bipush (pc := 270) (v := 96) dX9_init_270 (by rfl) ?_
      refine pl_icmp_ge (pc := 272) (tgt := 288) dX9_init_272 (by decide) (by omega) (by omega) (fun c272 => ?_) (fun c272 => ?_)
      · refine pj_vret (pc := 288) dX9_init_288 rfl ?_
        have e96 : i = 96 := by omega
        subst e96
        exact ⟨ad, rfl, h0, hA, hf, rfl⟩
      · refine pl_aload_n (pc := 275) dX9_init_275 rfl rfl ?_
        refine pj_getf (pc := 276) ckX9 19 q2535 dX9_init_276 (by decide) (mm_o hA) rfl ?_
        refine pl_iload_n (pc := 279) dX9_init_279 rfl rfl ?_
        refine pj_iconst (pc := 280) (v := (-1)) dX9_init_280 (by rfl) ?_
        refine pm_iast (pc := 281) 10 hA (by decide) (by decide) rfl dX9_init_281 (show _ < 96 by omega) (by decide) ?_
        refine pl_iinc1 (pc := 282) (lv' := [(1, _), (0, _)]) dX9_init_282 rfl rfl (by decide) rfl ?_
        refine pj_goto (pc := 285) (tgt := 269) dX9_init_285 (by decide) ?_
        exact PJ.conv rfl rfl (congrArg (mm g ad μ) (ini_code i)) (ih (by omega))
    · refine pl_aload_n (pc := 250) dX9_init_250 rfl rfl ?_
      refine pj_getf (pc := 251) ckX9 1 q2517 dX9_init_251 (by decide) (mm_o hA) rfl ?_
      refine pl_sipush (pc := 254) (v := 2080) dX9_init_254 (by rfl) ?_
      refine pl_iload_n (pc := 257) dX9_init_257 rfl rfl ?_
      refine pl_iadd (pc := 258) dX9_init_258 ?_
      refine pj_iconst (pc := 259) (v := (-1)) dX9_init_259 (by rfl) ?_
      refine pm_iast (pc := 260) 1 hA (by decide) (by decide) rfl dX9_init_260 (show _ < 2132 by omega) (by decide) ?_
      refine pl_iinc1 (pc := 261) (lv' := [(1, _), (0, _)]) dX9_init_261 rfl rfl (by decide) rfl ?_
      refine pj_goto (pc := 264) (tgt := 244) dX9_init_264 (by decide) ?_
      exact PJ.conv rfl rfl (congrArg (mm g ad μ) ((ini_acre i).resolve_right (by omega))) (ih (by omega))
  · refine pl_aload_n (pc := 170) dX9_init_170 rfl rfl ?_
    refine pj_getf (pc := 171) ckX9 3 q2519 dX9_init_171 (by decide) (mm_o hA) rfl ?_
    refine pl_iload_n (pc := 174) dX9_init_174 rfl rfl ?_
    refine pl_iconst (pc := 175) (v := 5) dX9_init_175 (by rfl) ?_
    refine pm_iast (pc := 176) 3 hA (by decide) (by decide) rfl dX9_init_176 (show _ < 96 by omega) (by decide) ?_
    refine pl_aload_n (pc := 177) dX9_init_177 rfl rfl ?_
    refine pj_getf (pc := 178) ckX9 1 q2517 dX9_init_178 (by decide) (mm_o hA) rfl ?_
    refine pl_bipush (pc := 181) (v := 8) dX9_init_181 (by rfl) ?_
    refine pl_iload_n (pc := 183) dX9_init_183 rfl rfl ?_
    refine pl_imul (pc := 184) dX9_init_184 ?_
    refine pl_iconst (pc := 185) (v := 1) dX9_init_185 (by rfl) ?_
    refine pl_iadd (pc := 186) dX9_init_186 ?_
    refine pj_iconst (pc := 187) (v := (-1)) dX9_init_187 (by rfl) ?_
    refine pm_iast (pc := 188) 1 hA (by decide) (by decide) rfl dX9_init_188 (show _ < 2132 by omega) (by decide) ?_
    refine pl_aload_n (pc := 189) dX9_init_189 rfl rfl ?_
    refine pj_getf (pc := 190) ckX9 1 q2517 dX9_init_190 (by decide) (mm_o hA) rfl ?_
    refine pl_bipush (pc := 193) (v := 8) dX9_init_193 (by rfl) ?_
    refine pl_iload_n (pc := 195) dX9_init_195 rfl rfl ?_
    refine pl_imul (pc := 196) dX9_init_196 ?_
    refine pl_iconst (pc := 197) (v := 5) dX9_init_197 (by rfl) ?_
    refine pl_iadd (pc := 198) dX9_init_198 ?_
    refine pj_iconst (pc := 199) (v := (-1)) dX9_init_199 (by rfl) ?_
    refine pm_iast (pc := 200) 1 hA (by decide) (by decide) rfl dX9_init_200 (show _ < 2132 by omega) (by decide) ?_
    refine pl_aload_n (pc := 201) dX9_init_201 rfl rfl ?_
    refine pj_getf (pc := 202) ckX9 1 q2517 dX9_init_202 (by decide) (mm_o hA) rfl ?_
    refine pl_bipush (pc := 205) (v := 8) dX9_init_205 (by rfl) ?_
    refine pl_iload_n (pc := 207) dX9_init_207 rfl rfl ?_
    refine pl_imul (pc := 208) dX9_init_208 ?_
    refine pl_bipush (pc := 209) (v := 6) dX9_init_209 (by rfl) ?_
    refine pl_iadd (pc := 211) dX9_init_211 ?_
    refine pj_iconst (pc := 212) (v := (-1)) dX9_init_212 (by rfl) ?_
    refine pm_iast (pc := 213) 1 hA (by decide) (by decide) rfl dX9_init_213 (show _ < 2132 by omega) (by decide) ?_
    refine pl_iinc1 (pc := 214) (lv' := [(1, _), (0, _)]) dX9_init_214 rfl rfl (by decide) rfl ?_
    refine pj_goto (pc := 217) (tgt := 164) dX9_init_217 (by decide) ?_
    exact PJ.conv rfl rfl (congrArg (mm g ad μ) (ini_sec i)) (ih (by omega))
set_option maxHeartbeats 1000000 in
theorem w_X9_init {g : GP} {μ : Mem} {d : Nat} (hd : 1 ≤ d) {a0 : Nat} : PM g yX9_init (ws_ yX9_init cX9_init 2 none) d 17 27277 [.ref a0] (mset μ a0 (.inr (36, X9_zero))) (fun o M => ∃ ad : Nat → Nat, o = .inl none ∧ ad 0 = a0 ∧ Inj ad 18 ∧ (∀ k, 0 < k → k < 18 → μ (ad k) = none ∧ gF g (ad k)) ∧ M = mm g ad μ (iniS 96 12 96 1)) := by
  refine PM.of (by decide +kernel) (Nat.le_of_ble_eq_true rfl) ?_
  refine PJ.ok (fun G => ?_)
  show PJ g _ _ _ _ d 17 27277 0 [(0, .ref a0)] [] _ _
  refine pl_aload_n (pc := 0) dX9_init_0 rfl rfl ?_
  refine pj_objInit (pc := 1) q2515 q187 q188 dX9_init_1 (by omega) (by decide) ?_
  refine PJ.conv rfl rfl (show KM g μ [a0] X9_zero = _ from rfl) ?_
  have hK : KOk g μ [a0] := ⟨fun i j hi hj _ => by have : i < 1 := hi; have : j < 1 := hj; omega, fun i h0 h1 => by have : i < 1 := h1; omega⟩
  refine pl_aload_n (pc := 4) dX9_init_4 rfl rfl ?_
  refine pl_sipush (pc := 5) (v := 2132) dX9_init_5 (by rfl) ?_
  refine ki_new (pc := 8) (qs := [a0]) (fun q => [a0, q]) 0 2132 16 25145 hK rfl (fun _ => rfl) dX9_init_8 q572 rfl rfl rfl rfl (vcell_int 2132) (by decide) (by decide) (by decide) (by decide) (fun q1 hK => ?_)
  refine ki_putF (pc := 10) (qs := [a0, q1]) 1 [.int 0, .ref q1, .null, .null, .null, .null, .null, .int 0, .null, .int 0, .int 0, .int 0, .int 0, .int 0, .int 0, .int 0, .int 0, .null, .null, .null, .null, .null, .null, .int 0, .int 0, .null, .null, .null, .int 0, .int 0, .null, .int 0, .long 0, .long 0] hK (Nat.le_of_ble_eq_true rfl) rfl q2517 dX9_init_10 (by decide) rfl rfl rfl rfl rfl (Nat.le_of_ble_eq_true rfl) rfl ?_
  refine pl_aload_n (pc := 13) dX9_init_13 rfl rfl ?_
  refine pl_sipush (pc := 14) (v := 2132) dX9_init_14 (by rfl) ?_
  refine ki_new (pc := 17) (qs := [a0, q1]) (fun q => [a0, q1, q]) 0 2132 15 23013 hK rfl (fun _ => rfl) dX9_init_17 q572 rfl rfl rfl rfl (vcell_int 2132) (by decide) (by decide) (by decide) (by decide) (fun q2 hK => ?_)
  refine ki_putF (pc := 19) (qs := [a0, q1, q2]) 2 [.int 0, .ref q1, .ref q2, .null, .null, .null, .null, .int 0, .null, .int 0, .int 0, .int 0, .int 0, .int 0, .int 0, .int 0, .int 0, .null, .null, .null, .null, .null, .null, .int 0, .int 0, .null, .null, .null, .int 0, .int 0, .null, .int 0, .long 0, .long 0] hK (Nat.le_of_ble_eq_true rfl) rfl q2518 dX9_init_19 (by decide) rfl rfl rfl rfl rfl (Nat.le_of_ble_eq_true rfl) rfl ?_
  refine pl_aload_n (pc := 22) dX9_init_22 rfl rfl ?_
  refine pl_bipush (pc := 23) (v := 96) dX9_init_23 (by rfl) ?_
  refine ki_new (pc := 25) (qs := [a0, q1, q2]) (fun q => [a0, q1, q2, q]) 0 96 14 22917 hK rfl (fun _ => rfl) dX9_init_25 q572 rfl rfl rfl rfl (vcell_int 96) (by decide) (by decide) (by decide) (by decide) (fun q3 hK => ?_)
  refine ki_putF (pc := 27) (qs := [a0, q1, q2, q3]) 3 [.int 0, .ref q1, .ref q2, .ref q3, .null, .null, .null, .int 0, .null, .int 0, .int 0, .int 0, .int 0, .int 0, .int 0, .int 0, .int 0, .null, .null, .null, .null, .null, .null, .int 0, .int 0, .null, .null, .null, .int 0, .int 0, .null, .int 0, .long 0, .long 0] hK (Nat.le_of_ble_eq_true rfl) rfl q2519 dX9_init_27 (by decide) rfl rfl rfl rfl rfl (Nat.le_of_ble_eq_true rfl) rfl ?_
  refine pl_aload_n (pc := 30) dX9_init_30 rfl rfl ?_
  refine pl_bipush (pc := 31) (v := 96) dX9_init_31 (by rfl) ?_
  refine ki_new (pc := 33) (qs := [a0, q1, q2, q3]) (fun q => [a0, q1, q2, q3, q]) 3 96 13 22821 hK rfl (fun _ => rfl) dX9_init_33 q573 rfl rfl rfl rfl (vcell_boolean 96) (by decide) (by decide) (by decide) (by decide) (fun q4 hK => ?_)
  refine ki_putF (pc := 35) (qs := [a0, q1, q2, q3, q4]) 4 [.int 0, .ref q1, .ref q2, .ref q3, .ref q4, .null, .null, .int 0, .null, .int 0, .int 0, .int 0, .int 0, .int 0, .int 0, .int 0, .int 0, .null, .null, .null, .null, .null, .null, .int 0, .int 0, .null, .null, .null, .int 0, .int 0, .null, .int 0, .long 0, .long 0] hK (Nat.le_of_ble_eq_true rfl) rfl q2520 dX9_init_35 (by decide) rfl rfl rfl rfl rfl (Nat.le_of_ble_eq_true rfl) rfl ?_
  refine pl_aload_n (pc := 38) dX9_init_38 rfl rfl ?_
  refine pl_sipush (pc := 39) (v := 4000) dX9_init_39 (by rfl) ?_
  refine ki_new (pc := 42) (qs := [a0, q1, q2, q3, q4]) (fun q => [a0, q1, q2, q3, q4, q]) 0 4000 12 18821 hK rfl (fun _ => rfl) dX9_init_42 q572 rfl rfl rfl rfl (vcell_int 4000) (by decide) (by decide) (by decide) (by decide) (fun q5 hK => ?_)
  refine ki_putF (pc := 44) (qs := [a0, q1, q2, q3, q4, q5]) 5 [.int 0, .ref q1, .ref q2, .ref q3, .ref q4, .ref q5, .null, .int 0, .null, .int 0, .int 0, .int 0, .int 0, .int 0, .int 0, .int 0, .int 0, .null, .null, .null, .null, .null, .null, .int 0, .int 0, .null, .null, .null, .int 0, .int 0, .null, .int 0, .long 0, .long 0] hK (Nat.le_of_ble_eq_true rfl) rfl q2521 dX9_init_44 (by decide) rfl rfl rfl rfl rfl (Nat.le_of_ble_eq_true rfl) rfl ?_
  refine pl_aload_n (pc := 47) dX9_init_47 rfl rfl ?_
  refine pl_iconst (pc := 48) (v := 4) dX9_init_48 (by rfl) ?_
  refine ki_new (pc := 49) (qs := [a0, q1, q2, q3, q4, q5]) (fun q => [a0, q1, q2, q3, q4, q5, q]) 0 4 11 18817 hK rfl (fun _ => rfl) dX9_init_49 q572 rfl rfl rfl rfl (vcell_int 4) (by decide) (by decide) (by decide) (by decide) (fun q6 hK => ?_)
  refine ki_putF (pc := 51) (qs := [a0, q1, q2, q3, q4, q5, q6]) 6 [.int 0, .ref q1, .ref q2, .ref q3, .ref q4, .ref q5, .ref q6, .int 0, .null, .int 0, .int 0, .int 0, .int 0, .int 0, .int 0, .int 0, .int 0, .null, .null, .null, .null, .null, .null, .int 0, .int 0, .null, .null, .null, .int 0, .int 0, .null, .int 0, .long 0, .long 0] hK (Nat.le_of_ble_eq_true rfl) rfl q2522 dX9_init_51 (by decide) rfl rfl rfl rfl rfl (Nat.le_of_ble_eq_true rfl) rfl ?_
  refine pl_aload_n (pc := 54) dX9_init_54 rfl rfl ?_
  refine pj_iconst (pc := 55) (v := (-1)) dX9_init_55 (by rfl) ?_
  refine ki_put (pc := 56) (qs := [a0, q1, q2, q3, q4, q5, q6]) 7 [.int 0, .ref q1, .ref q2, .ref q3, .ref q4, .ref q5, .ref q6, .int (-1), .null, .int 0, .int 0, .int 0, .int 0, .int 0, .int 0, .int 0, .int 0, .null, .null, .null, .null, .null, .null, .int 0, .int 0, .null, .null, .null, .int 0, .int 0, .null, .int 0, .long 0, .long 0] hK (Nat.le_of_ble_eq_true rfl) rfl q2523 dX9_init_56 (by decide) rfl rfl rfl (Nat.le_of_ble_eq_true rfl) rfl ?_
  refine pl_aload_n (pc := 59) dX9_init_59 rfl rfl ?_
  refine pl_sipush (pc := 60) (v := 300) dX9_init_60 (by rfl) ?_
  refine ki_new (pc := 63) (qs := [a0, q1, q2, q3, q4, q5, q6]) (fun q => [a0, q1, q2, q3, q4, q5, q6, q]) 2 300 10 18517 hK rfl (fun _ => rfl) dX9_init_63 q305 rfl rfl rfl rfl (vcell_byte 300) (by decide) (by decide) (by decide) (by decide) (fun q7 hK => ?_)
  refine ki_putF (pc := 65) (qs := [a0, q1, q2, q3, q4, q5, q6, q7]) 8 [.int 0, .ref q1, .ref q2, .ref q3, .ref q4, .ref q5, .ref q6, .int (-1), .ref q7, .int 0, .int 0, .int 0, .int 0, .int 0, .int 0, .int 0, .int 0, .null, .null, .null, .null, .null, .null, .int 0, .int 0, .null, .null, .null, .int 0, .int 0, .null, .int 0, .long 0, .long 0] hK (Nat.le_of_ble_eq_true rfl) rfl q2524 dX9_init_65 (by decide) rfl rfl rfl rfl rfl (Nat.le_of_ble_eq_true rfl) rfl ?_
  refine pl_aload_n (pc := 68) dX9_init_68 rfl rfl ?_
  refine pj_iconst (pc := 69) (v := (-1)) dX9_init_69 (by rfl) ?_
  refine ki_put (pc := 70) (qs := [a0, q1, q2, q3, q4, q5, q6, q7]) 13 [.int 0, .ref q1, .ref q2, .ref q3, .ref q4, .ref q5, .ref q6, .int (-1), .ref q7, .int 0, .int 0, .int 0, .int 0, .int (-1), .int 0, .int 0, .int 0, .null, .null, .null, .null, .null, .null, .int 0, .int 0, .null, .null, .null, .int 0, .int 0, .null, .int 0, .long 0, .long 0] hK (Nat.le_of_ble_eq_true rfl) rfl q2529 dX9_init_70 (by decide) rfl rfl rfl (Nat.le_of_ble_eq_true rfl) rfl ?_
  refine pl_aload_n (pc := 73) dX9_init_73 rfl rfl ?_
  refine pl_sipush (pc := 74) (v := 4800) dX9_init_74 (by rfl) ?_
  refine ki_new (pc := 77) (qs := [a0, q1, q2, q3, q4, q5, q6, q7]) (fun q => [a0, q1, q2, q3, q4, q5, q6, q7, q]) 0 4800 9 13717 hK rfl (fun _ => rfl) dX9_init_77 q572 rfl rfl rfl rfl (vcell_int 4800) (by decide) (by decide) (by decide) (by decide) (fun q8 hK => ?_)
  refine ki_putF (pc := 79) (qs := [a0, q1, q2, q3, q4, q5, q6, q7, q8]) 17 [.int 0, .ref q1, .ref q2, .ref q3, .ref q4, .ref q5, .ref q6, .int (-1), .ref q7, .int 0, .int 0, .int 0, .int 0, .int (-1), .int 0, .int 0, .int 0, .ref q8, .null, .null, .null, .null, .null, .int 0, .int 0, .null, .null, .null, .int 0, .int 0, .null, .int 0, .long 0, .long 0] hK (Nat.le_of_ble_eq_true rfl) rfl q2533 dX9_init_79 (by decide) rfl rfl rfl rfl rfl (Nat.le_of_ble_eq_true rfl) rfl ?_
  refine pl_aload_n (pc := 82) dX9_init_82 rfl rfl ?_
  refine pl_sipush (pc := 83) (v := 4800) dX9_init_83 (by rfl) ?_
  refine ki_new (pc := 86) (qs := [a0, q1, q2, q3, q4, q5, q6, q7, q8]) (fun q => [a0, q1, q2, q3, q4, q5, q6, q7, q8, q]) 0 4800 8 8917 hK rfl (fun _ => rfl) dX9_init_86 q572 rfl rfl rfl rfl (vcell_int 4800) (by decide) (by decide) (by decide) (by decide) (fun q9 hK => ?_)
  refine ki_putF (pc := 88) (qs := [a0, q1, q2, q3, q4, q5, q6, q7, q8, q9]) 18 [.int 0, .ref q1, .ref q2, .ref q3, .ref q4, .ref q5, .ref q6, .int (-1), .ref q7, .int 0, .int 0, .int 0, .int 0, .int (-1), .int 0, .int 0, .int 0, .ref q8, .ref q9, .null, .null, .null, .null, .int 0, .int 0, .null, .null, .null, .int 0, .int 0, .null, .int 0, .long 0, .long 0] hK (Nat.le_of_ble_eq_true rfl) rfl q2534 dX9_init_88 (by decide) rfl rfl rfl rfl rfl (Nat.le_of_ble_eq_true rfl) rfl ?_
  refine pl_aload_n (pc := 91) dX9_init_91 rfl rfl ?_
  refine pl_bipush (pc := 92) (v := 96) dX9_init_92 (by rfl) ?_
  refine ki_new (pc := 94) (qs := [a0, q1, q2, q3, q4, q5, q6, q7, q8, q9]) (fun q => [a0, q1, q2, q3, q4, q5, q6, q7, q8, q9, q]) 0 96 7 8821 hK rfl (fun _ => rfl) dX9_init_94 q572 rfl rfl rfl rfl (vcell_int 96) (by decide) (by decide) (by decide) (by decide) (fun q10 hK => ?_)
  refine ki_putF (pc := 96) (qs := [a0, q1, q2, q3, q4, q5, q6, q7, q8, q9, q10]) 19 [.int 0, .ref q1, .ref q2, .ref q3, .ref q4, .ref q5, .ref q6, .int (-1), .ref q7, .int 0, .int 0, .int 0, .int 0, .int (-1), .int 0, .int 0, .int 0, .ref q8, .ref q9, .ref q10, .null, .null, .null, .int 0, .int 0, .null, .null, .null, .int 0, .int 0, .null, .int 0, .long 0, .long 0] hK (Nat.le_of_ble_eq_true rfl) rfl q2535 dX9_init_96 (by decide) rfl rfl rfl rfl rfl (Nat.le_of_ble_eq_true rfl) rfl ?_
  refine pl_aload_n (pc := 99) dX9_init_99 rfl rfl ?_
  refine pl_bipush (pc := 100) (v := 12) dX9_init_100 (by rfl) ?_
  refine ki_new (pc := 102) (qs := [a0, q1, q2, q3, q4, q5, q6, q7, q8, q9, q10]) (fun q => [a0, q1, q2, q3, q4, q5, q6, q7, q8, q9, q10, q]) 3 12 6 8809 hK rfl (fun _ => rfl) dX9_init_102 q573 rfl rfl rfl rfl (vcell_boolean 12) (by decide) (by decide) (by decide) (by decide) (fun q11 hK => ?_)
  refine ki_putF (pc := 104) (qs := [a0, q1, q2, q3, q4, q5, q6, q7, q8, q9, q10, q11]) 20 [.int 0, .ref q1, .ref q2, .ref q3, .ref q4, .ref q5, .ref q6, .int (-1), .ref q7, .int 0, .int 0, .int 0, .int 0, .int (-1), .int 0, .int 0, .int 0, .ref q8, .ref q9, .ref q10, .ref q11, .null, .null, .int 0, .int 0, .null, .null, .null, .int 0, .int 0, .null, .int 0, .long 0, .long 0] hK (Nat.le_of_ble_eq_true rfl) rfl q2536 dX9_init_104 (by decide) rfl rfl rfl rfl rfl (Nat.le_of_ble_eq_true rfl) rfl ?_
  refine pl_aload_n (pc := 107) dX9_init_107 rfl rfl ?_
  refine pl_sipush (pc := 108) (v := 1200) dX9_init_108 (by rfl) ?_
  refine ki_new (pc := 111) (qs := [a0, q1, q2, q3, q4, q5, q6, q7, q8, q9, q10, q11]) (fun q => [a0, q1, q2, q3, q4, q5, q6, q7, q8, q9, q10, q11, q]) 3 1200 5 7609 hK rfl (fun _ => rfl) dX9_init_111 q573 rfl rfl rfl rfl (vcell_boolean 1200) (by decide) (by decide) (by decide) (by decide) (fun q12 hK => ?_)
  refine ki_putF (pc := 113) (qs := [a0, q1, q2, q3, q4, q5, q6, q7, q8, q9, q10, q11, q12]) 21 [.int 0, .ref q1, .ref q2, .ref q3, .ref q4, .ref q5, .ref q6, .int (-1), .ref q7, .int 0, .int 0, .int 0, .int 0, .int (-1), .int 0, .int 0, .int 0, .ref q8, .ref q9, .ref q10, .ref q11, .ref q12, .null, .int 0, .int 0, .null, .null, .null, .int 0, .int 0, .null, .int 0, .long 0, .long 0] hK (Nat.le_of_ble_eq_true rfl) rfl q2537 dX9_init_113 (by decide) rfl rfl rfl rfl rfl (Nat.le_of_ble_eq_true rfl) rfl ?_
  refine pl_aload_n (pc := 116) dX9_init_116 rfl rfl ?_
  refine pl_sipush (pc := 117) (v := 400) dX9_init_117 (by rfl) ?_
  refine ki_new (pc := 120) (qs := [a0, q1, q2, q3, q4, q5, q6, q7, q8, q9, q10, q11, q12]) (fun q => [a0, q1, q2, q3, q4, q5, q6, q7, q8, q9, q10, q11, q12, q]) 0 400 4 7209 hK rfl (fun _ => rfl) dX9_init_120 q572 rfl rfl rfl rfl (vcell_int 400) (by decide) (by decide) (by decide) (by decide) (fun q13 hK => ?_)
  refine ki_putF (pc := 122) (qs := [a0, q1, q2, q3, q4, q5, q6, q7, q8, q9, q10, q11, q12, q13]) 22 [.int 0, .ref q1, .ref q2, .ref q3, .ref q4, .ref q5, .ref q6, .int (-1), .ref q7, .int 0, .int 0, .int 0, .int 0, .int (-1), .int 0, .int 0, .int 0, .ref q8, .ref q9, .ref q10, .ref q11, .ref q12, .ref q13, .int 0, .int 0, .null, .null, .null, .int 0, .int 0, .null, .int 0, .long 0, .long 0] hK (Nat.le_of_ble_eq_true rfl) rfl q2538 dX9_init_122 (by decide) rfl rfl rfl rfl rfl (Nat.le_of_ble_eq_true rfl) rfl ?_
  refine pl_aload_n (pc := 125) dX9_init_125 rfl rfl ?_
  refine pj_iconst (pc := 126) (v := (-1)) dX9_init_126 (by rfl) ?_
  refine ki_put (pc := 127) (qs := [a0, q1, q2, q3, q4, q5, q6, q7, q8, q9, q10, q11, q12, q13]) 24 [.int 0, .ref q1, .ref q2, .ref q3, .ref q4, .ref q5, .ref q6, .int (-1), .ref q7, .int 0, .int 0, .int 0, .int 0, .int (-1), .int 0, .int 0, .int 0, .ref q8, .ref q9, .ref q10, .ref q11, .ref q12, .ref q13, .int 0, .int (-1), .null, .null, .null, .int 0, .int 0, .null, .int 0, .long 0, .long 0] hK (Nat.le_of_ble_eq_true rfl) rfl q2540 dX9_init_127 (by decide) rfl rfl rfl (Nat.le_of_ble_eq_true rfl) rfl ?_
  refine pl_aload_n (pc := 130) dX9_init_130 rfl rfl ?_
  refine pl_sipush (pc := 131) (v := 7007) dX9_init_131 (by rfl) ?_
  refine ki_new (pc := 134) (qs := [a0, q1, q2, q3, q4, q5, q6, q7, q8, q9, q10, q11, q12, q13]) (fun q => [a0, q1, q2, q3, q4, q5, q6, q7, q8, q9, q10, q11, q12, q13, q]) 0 7007 3 202 hK rfl (fun _ => rfl) dX9_init_134 q572 rfl rfl rfl rfl (vcell_int 7007) (by decide) (by decide) (by decide) (by decide) (fun q14 hK => ?_)
  refine ki_putF (pc := 136) (qs := [a0, q1, q2, q3, q4, q5, q6, q7, q8, q9, q10, q11, q12, q13, q14]) 25 [.int 0, .ref q1, .ref q2, .ref q3, .ref q4, .ref q5, .ref q6, .int (-1), .ref q7, .int 0, .int 0, .int 0, .int 0, .int (-1), .int 0, .int 0, .int 0, .ref q8, .ref q9, .ref q10, .ref q11, .ref q12, .ref q13, .int 0, .int (-1), .ref q14, .null, .null, .int 0, .int 0, .null, .int 0, .long 0, .long 0] hK (Nat.le_of_ble_eq_true rfl) rfl q2541 dX9_init_136 (by decide) rfl rfl rfl rfl rfl (Nat.le_of_ble_eq_true rfl) rfl ?_
  refine pl_aload_n (pc := 139) dX9_init_139 rfl rfl ?_
  refine pl_iconst (pc := 140) (v := 3) dX9_init_140 (by rfl) ?_
  refine ki_new (pc := 141) (qs := [a0, q1, q2, q3, q4, q5, q6, q7, q8, q9, q10, q11, q12, q13, q14]) (fun q => [a0, q1, q2, q3, q4, q5, q6, q7, q8, q9, q10, q11, q12, q13, q14, q]) 0 3 2 199 hK rfl (fun _ => rfl) dX9_init_141 q572 rfl rfl rfl rfl (vcell_int 3) (by decide) (by decide) (by decide) (by decide) (fun q15 hK => ?_)
  refine ki_putF (pc := 143) (qs := [a0, q1, q2, q3, q4, q5, q6, q7, q8, q9, q10, q11, q12, q13, q14, q15]) 26 [.int 0, .ref q1, .ref q2, .ref q3, .ref q4, .ref q5, .ref q6, .int (-1), .ref q7, .int 0, .int 0, .int 0, .int 0, .int (-1), .int 0, .int 0, .int 0, .ref q8, .ref q9, .ref q10, .ref q11, .ref q12, .ref q13, .int 0, .int (-1), .ref q14, .ref q15, .null, .int 0, .int 0, .null, .int 0, .long 0, .long 0] hK (Nat.le_of_ble_eq_true rfl) rfl q2542 dX9_init_143 (by decide) rfl rfl rfl rfl rfl (Nat.le_of_ble_eq_true rfl) rfl ?_
  refine pl_aload_n (pc := 146) dX9_init_146 rfl rfl ?_
  refine pl_iconst (pc := 147) (v := 3) dX9_init_147 (by rfl) ?_
  refine ki_new (pc := 148) (qs := [a0, q1, q2, q3, q4, q5, q6, q7, q8, q9, q10, q11, q12, q13, q14, q15]) (fun q => [a0, q1, q2, q3, q4, q5, q6, q7, q8, q9, q10, q11, q12, q13, q14, q15, q]) 0 3 1 196 hK rfl (fun _ => rfl) dX9_init_148 q572 rfl rfl rfl rfl (vcell_int 3) (by decide) (by decide) (by decide) (by decide) (fun q16 hK => ?_)
  refine ki_putF (pc := 150) (qs := [a0, q1, q2, q3, q4, q5, q6, q7, q8, q9, q10, q11, q12, q13, q14, q15, q16]) 27 [.int 0, .ref q1, .ref q2, .ref q3, .ref q4, .ref q5, .ref q6, .int (-1), .ref q7, .int 0, .int 0, .int 0, .int 0, .int (-1), .int 0, .int 0, .int 0, .ref q8, .ref q9, .ref q10, .ref q11, .ref q12, .ref q13, .int 0, .int (-1), .ref q14, .ref q15, .ref q16, .int 0, .int 0, .null, .int 0, .long 0, .long 0] hK (Nat.le_of_ble_eq_true rfl) rfl q2543 dX9_init_150 (by decide) rfl rfl rfl rfl rfl (Nat.le_of_ble_eq_true rfl) rfl ?_
  refine pl_aload_n (pc := 153) dX9_init_153 rfl rfl ?_
  refine pl_sipush (pc := 154) (v := 196) dX9_init_154 (by rfl) ?_
  refine ki_new (pc := 157) (qs := [a0, q1, q2, q3, q4, q5, q6, q7, q8, q9, q10, q11, q12, q13, q14, q15, q16]) (fun q => [a0, q1, q2, q3, q4, q5, q6, q7, q8, q9, q10, q11, q12, q13, q14, q15, q16, q]) 0 196 0 0 hK rfl (fun _ => rfl) dX9_init_157 q572 rfl rfl rfl rfl (vcell_int 196) (by decide) (by decide) (by decide) (by decide) (fun q17 hK => ?_)
  refine ki_putF (pc := 159) (qs := [a0, q1, q2, q3, q4, q5, q6, q7, q8, q9, q10, q11, q12, q13, q14, q15, q16, q17]) 30 [.int 0, .ref q1, .ref q2, .ref q3, .ref q4, .ref q5, .ref q6, .int (-1), .ref q7, .int 0, .int 0, .int 0, .int 0, .int (-1), .int 0, .int 0, .int 0, .ref q8, .ref q9, .ref q10, .ref q11, .ref q12, .ref q13, .int 0, .int (-1), .ref q14, .ref q15, .ref q16, .int 0, .int 0, .ref q17, .int 0, .long 0, .long 0] hK (Nat.le_of_ble_eq_true rfl) rfl q2546 dX9_init_159 (by decide) rfl rfl rfl rfl rfl (Nat.le_of_ble_eq_true rfl) rfl ?_
  exact PJ.conv rfl rfl (KM_mm (qs := [a0, q1, q2, q3, q4, q5, q6, q7, q8, q9, q10, q11, q12, q13, q14, q15, q16, q17]) rfl rfl) (init_loops hd G (qad [a0, q1, q2, q3, q4, q5, q6, q7, q8, q9, q10, q11, q12, q13, q14, q15, q16, q17]) rfl hK.1 hK.2)
