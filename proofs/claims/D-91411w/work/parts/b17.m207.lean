set_option maxRecDepth 100000
theorem told_at {f : Nat → Int32} {B : Nat → Nat} {Q : Nat} (hf : ∀ i, i < wlen B Q → f i = nI (B (Q + i))) (hB : ∀ k, B k < 256) {k : Nat} (hk : k < 5) (h : isW B Q (unitW k) = true) : firstW B toldW Q 5 0 = some k := firstW_at (by rw [← unitW_t k hk]; exact h) 5 0 (by omega) (by omega) (fun j hj hj2 => unit_one hf hB (by omega) (by omega) (by rw [unitW_t j (by omega)]; exact hj2) h)
theorem told_out {f : Nat → Int32} {B : Nat → Nat} {Q : Nat} (hf : ∀ i, i < wlen B Q → f i = nI (B (Q + i))) (hB : ∀ k, B k < 256) {k : Nat} (hk : 5 ≤ k) (hk2 : k < 8) (h : isW B Q (unitW k) = true) : firstW B toldW Q 5 0 = none := firstW_no 5 0 (fun j hj hj2 => by
  have := unit_one (j := j) hf hB (by omega) hk2 (by rw [unitW_t j (by omega)]; exact hj2) h
  omega)
set_option maxHeartbeats 400000 in
theorem K_X18_unit {g : GP} {rd t n : Nat} {r : Nat → Int32} {B : Nat → Nat} (htr : t ≠ rd) (tx : TxR r n B) {f : Nat} (H : ∀ f1, f1 ≤ f → KAX g rd t n r B f1) : KX g GdE rd t n r yX18_unit (ws_ yX18_unit cX18_unit 5 (some (.object "SettlerColony$Expr"))) 1 1 15 5 192 40 (PF B n (f + 1) 4) := by
  intro p o d μ x hp ho hd h0 ht hx
  have hn3 := tx.1
  have hB := tx.2.2.2
  have y0 := StX.rf h0
  have hsk := sk_in (B := B) hp
  have hss := sk_sk (p := p) hB
  have hx0 : PF B n (f + 1) 4 (sk B n p) o = some x := by
    rw [PF_4, hss]
    rw [PF_4] at hx
    exact hx
  have hg_0 : ∀ pf of Lf, x = .inr (pf, of, Lf) → sk B n p + 1 ≤ pf ∧ pf ≤ n := fun pf of Lf e => MnP.PFE (tag := 4) hB (by decide) _ _ _ _ _ hsk.2 (show _ = some (Sum.inr (pf, of, Lf)) by rw [← e]; exact hx0)
  have hBy := tx.2.2.1
  have rest : ∀ M : Mem, StX μ rd t n (sk B n p) o (fun _ => none) M → isD (B (sk B n p)) = false → PJ g yX18_unit.cls cX18_unit 5 (some (.object "SettlerColony$Expr"), yX18_unit.name, []) d (coX 16 15 5 n p x) (coX 200 192 40 n p x) 22 [(1, .int (sB (B (sk B n p)))), (0, .ref rd)] [] M (RVX g GdE μ rd t n p 1 x) := by
    intro M y hD
    refine PJ.ok (fun G => ?_)
    refine pl_iload_n (pc := 22) dX18_unit_22 rfl rfl ?_
    refine pl_bipush (pc := 23) (v := 40) dX18_unit_23 (by rfl) ?_
    refine pj_icmp_ne (pc := 25) (tgt := 46) dX18_unit_25 (by decide) (fun c25 => ?_) (fun c25 => ?_)
    · have hc40 : ¬ B (sk B n p) = 40 := fun z => c25 ((sB_eq _ (hBy _) 40 (by decide)).mpr z)
      have hg_1 : ∀ pf of Lf, x = .inr (pf, of, Lf) → sk B n p + 4 ≤ pf ∧ pf ≤ n := fun pf of Lf e => unit_min (f := f) (o := o) hB hp hD hc40 (show _ = some (Sum.inr (pf, of, Lf)) by rw [← e]; exact hx)
      refine pl_aload_n (pc := 46) dX18_unit_46 rfl rfl ?_
      refine pl_callVQ (pc := 47) (As := []) (C1 := 4) (N1 := 32) (C2 := (coX 16 19 1 n (sk B n p) x)) (N2 := (coX 200 224 8 n (sk B n p) x)) ckX18 mdX18_word rfl q1900 q1902 qs16 q167 dX18_unit_47 rfl rfl (Nat.le_of_ble_eq_true rfl) y.rd (x_X18_word (d := d - 1) (by omega) y.rd (y.get htr ht) htr tx (by omega)) (by omega) (by rcases x with ⟨_, _⟩ | ⟨_, _, _⟩ <;> simp only [coX, appR] <;> first | omega | (have h9 := hg_1 _ _ _ rfl; omega)) (by rcases x with ⟨_, _⟩ | ⟨_, _, _⟩ <;> simp only [coX, appR] <;> first | omega | (have h9 := hg_1 _ _ _ rfl; omega)) (fun q_47 M_47 hM => ?_)
      obtain ⟨gq, w9, f9, hst, hf, hX, hfr⟩ := hM
      rw [hss] at hst hf hX
      have yw := y.callV hX
      have hwl := (wlF_sp (B := B) 8 (sk B n p)).1
      have hwl2 : wlen B (sk B n p) < 1000 := Nat.lt_of_le_of_lt hwl (by decide)
      refine pj_astore_n (pc := 50) (lv' := [(2, _), (1, _), (0, _)]) dX18_unit_50 rfl (by decide) rfl ?_
      refine pl_aload_n (pc := 51) dX18_unit_51 rfl rfl ?_
      refine pj_astore_n (pc := 52) (lv' := [(3, _), (2, _), (1, _), (0, _)]) dX18_unit_52 rfl (by decide) rfl ?_
      refine pj_iconst (pc := 53) (v := (-1)) dX18_unit_53 (by rfl) ?_
      refine pj_istore (pc := 54) (lv' := [(4, _), (3, _), (2, _), (1, _), (0, _)]) dX18_unit_54 (by decide) rfl ?_
      refine pl_aload_n (pc := 56) dX18_unit_56 rfl rfl ?_
      refine pl_callVWd (pc := 57) (As := []) (C1 := 0) (N1 := 0) (C2 := (coX 16 19 1 n (sk B n p) x)) (N2 := (coX 200 224 8 n (sk B n p) x)) ckJ9 mdJ9_hashCode rfl q1931 q1932 q1933 q136 dX18_unit_57 rfl rfl (Nat.le_of_ble_eq_true rfl) hst.1 (k_J9_hash_m (d := d - 1) (by omega) hst hwl2) (by omega) (by omega) (by omega) (fun My31 qy31 => ?_)
      obtain ⟨hh9, zz9, hst9, hup9⟩ := qy31
      have hqr : q_47 ≠ rd := fun z => by have z2 := hst.1; rw [z, yw.rd] at z2; cases z2
      have hwr : w9 ≠ rd := fun z => by have z2 := hst.2; rw [z, yw.rd] at z2; cases z2
      have yh := yw.but hqr (y.mu hfr) rfl hup9
      refine pl_lswI (pc := 60) (unitK 3) (-991808881) (tgt := 181) dX18_unit_60 (by decide) (by rfl) (by rfl) (by decide) (fun c60_3 => ?_) (fun c60_3 => ?_)
      · refine pl_aload_n (pc := 181) dX18_unit_181 rfl rfl ?_
        obtain ⟨a143, v143, vr143, sc143⟩ := lit_X18_143 G
        refine pj_ldcS (pc := 182) vr143 dX18_unit_182 ?_
        have hq184 := k_J9_equals_m (μ := My31) (d := d - 1) (bs := (unitW 3)) (by omega) hst9 hwl2 gq sc143 (by decide)
        rw [eqW_isW hf tx.2.2.1 (by decide) (by decide)] at hq184
        refine pl_callVd (pc := 184) (As := [_]) (C1 := 0) (N1 := 0) (C2 := (coX 16 19 1 n (sk B n p) x)) (N2 := (coX 200 224 8 n (sk B n p) x)) ckJ9 mdJ9_equals rfl q1993 q1655 q3212 q136 dX18_unit_184 rfl rfl (Nat.le_of_ble_eq_true rfl) hst9.1 (hq184) (by omega) (by omega) (by omega) ?_
        refine pl_if_eqB (pc := 187) (tgt := 255) dX18_unit_187 (by decide) (fun c187 => ?_) (fun c187 => ?_)
        · refine pl_iload (pc := 255) dX18_unit_255 rfl ?_
          refine pj_tableOut (pc := 257) (tgt := 383) dX18_unit_257 (by decide) (by decide) ?_
          refine pl_aload_n (pc := 383) dX18_unit_383 rfl rfl ?_
          have hno := unit_non hf hBy (k := 3) (by decide) c60_3 (by rw [c187]; decide)
          rw [P4_no hD hc40 hno] at hx
          cases hx
          refine pl_callVQ (pc := 384) (As := []) (C1 := 1) (N1 := 8) (C2 := 0) (N2 := 0) ckX18 mdX18_wrong rfl q2002 q2004 qs17 q167 dX18_unit_384 rfl rfl (Nat.le_of_ble_eq_true rfl) yh.rd (k_X18_wrong (d := d - 1) (by omega) yh.rd) (by omega) (by simp only [coX, appR]; omega) (by simp only [coX, appR]; omega) (fun q_9 M_9 hM_9 => ?_)
          obtain ⟨hn9, rfl⟩ := hM_9
          refine pj_athrow (pc := 387) ckX20 dX18_unit_387 mset_s ?_
          exact px_out0 rfl ⟨q_9, rfl, mset_s, (StX.new (c := wr0 (nI 1) (nI (sk B n p))) yh hn9).1.2⟩
        · refine pl_iconst (pc := 190) (v := 3) dX18_unit_190 (by rfl) ?_
          refine pj_istore (pc := 191) (lv' := [(4, _), (3, _), (2, _), (1, _), (0, _)]) dX18_unit_191 (by decide) rfl ?_
          refine pj_goto (pc := 193) (tgt := 255) dX18_unit_193 (by decide) ?_
          refine pl_iload (pc := 255) dX18_unit_255 rfl ?_
          refine pj_tableIn (pc := 257) (tgt := 304) dX18_unit_257 (by decide) (by decide) (by rfl) (by decide) ?_
          have hw : isW B (sk B n p) (unitW 3) = true := c187
          have hwn : wlen B (sk B n p) = 6 := (word_is hf hBy (unitW_l 3 (by decide)).1 (unitW_l 3 (by decide)).2 hw).1
          have hlen : sk B n p + 6 ≤ n := isW_in hw (by decide) hB hsk.2
          rw [P4_told (k := 3) (by decide) hD (told_at hf hBy (by decide) hw)] at hx
          cases hx
          refine PJ.widen (C1 := 1) (N1 := 1) (by simp only [coX]; rw [show (toldW 3).length = 6 from rfl]; omega) (by simp only [coX]; rw [show (toldW 3).length = 6 from rfl]; omega) ?_
          refine pl_aload_n (pc := 304) dX18_unit_304 rfl rfl ?_
          refine pj_dup (pc := 305) dX18_unit_305 rfl ?_
          refine pj_getf (pc := 306) ckX18 2 q1863 dX18_unit_306 (by decide) yh.rd rfl ?_
          refine pl_aload_n (pc := 309) dX18_unit_309 rfl rfl ?_
          refine pl_callVd (pc := 310) (As := []) (C1 := 0) (N1 := 0) (C2 := 1) (N2 := 1) ckJ9 mdJ9_length rfl q2034 q399 q400 q136 dX18_unit_310 rfl rfl (Nat.le_of_ble_eq_true rfl) hst9.1 (k_J9_length_m (d := d - 1) (by omega) hst9 hwl2) (by omega) (by omega) (by omega) ?_
          refine PJ.top (y := nI 6) (by rw [hwn]) ?_
          refine pl_iadd (pc := 313) dX18_unit_313 ?_
          refine pj_putf (pc := 314) ckX18 2 q1863 dX18_unit_314 (by decide) rfl yh.rd rfl rfl (Nat.le_of_ble_eq_true rfl) ?_
          refine PJ.mem (show _ = (mset My31 rd (rdO t n (sk B n p + 6) o)) from rfl) ?_
          have y32 := StX.of (p1 := (sk B n p + 6)) (o1 := o) yh
          refine pj_new (pc := 317) (C1 := 0) (N1 := 0) ckX23 q2095 q2096 q172 dX18_unit_317 _ dfX23 (by omega) (by omega) (fun q_317 hn_317 gq_317 => ?_)
          refine pj_dup (pc := 320) dX18_unit_320 rfl ?_
          have w_317 := StX.new (c := (.inr (25, [.int 0]))) y32 hn_317
          have hst7 : StM g q_47 w9 (wlen B (sk B n p)) f9 hh9 zz9 (mset My31 rd (rdO t n (sk B n p + 6) o)) := ⟨(mset_n hqr).trans hst9.1, (mset_n hwr).trans hst9.2⟩
          have hst8 : StM g q_47 w9 (wlen B (sk B n p)) f9 hh9 zz9 (mset (mset My31 rd (rdO t n (sk B n p + 6) o)) q_317 (.inr (25, [.int 0]))) := ⟨(mset_n (fun z => by have z2 := hst7.1; rw [z, hn_317] at z2; cases z2)).trans hst7.1, (mset_n (fun z => by have z2 := hst7.2; rw [z, hn_317] at z2; cases z2)).trans hst7.2⟩
          refine pl_aload_n (pc := 321) dX18_unit_321 rfl rfl ?_
          obtain ⟨a145, v145, vr145, sc145⟩ := lit_X18_145 G
          refine pj_ldcS (pc := 322) vr145 dX18_unit_322 ?_
          have hq324 := k_J9_equals_m (μ := (mset (mset My31 rd (rdO t n (sk B n p + 6) o)) q_317 (.inr (25, [.int 0])))) (d := d - 1) (bs := (unitW 4)) (by omega) hst8 hwl2 gq sc145 (by decide)
          rw [eqW_isW hf tx.2.2.1 (by decide) (by decide)] at hq324
          refine pl_callVd (pc := 324) (As := [_]) (C1 := 0) (N1 := 0) (C2 := 0) (N2 := 0) ckJ9 mdJ9_equals rfl q1993 q1655 q3212 q136 dX18_unit_324 rfl rfl (Nat.le_of_ble_eq_true rfl) hst8.1 (hq324) (by omega) (by omega) (by omega) ?_
          refine pl_if_eqB (pc := 327) (tgt := 335) dX18_unit_327 (by decide) (fun c327 => ?_) (fun c327 => ?_)
          · refine pl_aload_n (pc := 335) dX18_unit_335 rfl rfl ?_
            refine pl_iconst (pc := 336) (v := 0) dX18_unit_336 (by rfl) ?_
            refine pl_callVd (pc := 337) (As := [_]) (C1 := 0) (N1 := 0) (C2 := 0) (N2 := 0) ckJ9 mdJ9_charAt rfl q2097 q2098 q2099 q136 dX18_unit_337 rfl rfl (Nat.le_of_ble_eq_true rfl) hst8.1 (k_J9_charAt_m (d := d - 1) (by omega) hst8 hwl2 (j := 0) (b := 112) (by rw [hwn]; decide) ((word_is hf hBy (unitW_l 3 (by decide)).1 (unitW_l 3 (by decide)).2 hw).2 0 (by decide)) (by decide)) (by omega) (by omega) (by omega) ?_
            refine pl_callIv (pc := 340) (As := [_]) (C1 := 0) (N1 := 0) (C2 := 0) (N2 := 0) mdX23_init rfl q2108 q2109 q172 dX18_unit_340 rfl rfl (Nat.le_of_ble_eq_true rfl) (k_X23_init (d := d - 1) (by omega) (by rfl) (by rfl) mset_s) (by omega) (by omega) (by omega) ?_
            refine PJ.mem mset_m ?_
            refine pj_aret (pc := 343) dX18_unit_343 rfl (Or.inl ⟨_, rfl⟩) (Or.inr ⟨_, rfl⟩) ?_
            exact ⟨q_317, _, 1, rfl, (StX.new (c := (.inr (25, [.int (nI 112)]))) y32 hn_317).keep (y32.mu hn_317) mset_s, GdE.mkName (k := 3) (by decide) mset_s, by rw [show (toldW 3).length = 6 from rfl]; omega⟩
          · exact absurd (unit_one hf hBy (j := 4) (k := 3) (by decide) (by decide) c327 hw) (by decide)
      refine pl_lswI (pc := 60) (unitK 7) (3357) (tgt := 242) dX18_unit_60 (by decide) (by rfl) (by rfl) (by decide) (fun c60_7 => ?_) (fun c60_7 => ?_)
      · refine pl_aload_n (pc := 242) dX18_unit_242 rfl rfl ?_
        obtain ⟨a151, v151, vr151, sc151⟩ := lit_X18_151 G
        refine pj_ldcS (pc := 243) vr151 dX18_unit_243 ?_
        have hq245 := k_J9_equals_m (μ := My31) (d := d - 1) (bs := (unitW 7)) (by omega) hst9 hwl2 gq sc151 (by decide)
        rw [eqW_isW hf tx.2.2.1 (by decide) (by decide)] at hq245
        refine pl_callVd (pc := 245) (As := [_]) (C1 := 0) (N1 := 0) (C2 := (coX 16 19 1 n (sk B n p) x)) (N2 := (coX 200 224 8 n (sk B n p) x)) ckJ9 mdJ9_equals rfl q1993 q1655 q3212 q136 dX18_unit_245 rfl rfl (Nat.le_of_ble_eq_true rfl) hst9.1 (hq245) (by omega) (by omega) (by omega) ?_
        refine pl_if_eqB (pc := 248) (tgt := 255) dX18_unit_248 (by decide) (fun c248 => ?_) (fun c248 => ?_)
        · refine pl_iload (pc := 255) dX18_unit_255 rfl ?_
          refine pj_tableOut (pc := 257) (tgt := 383) dX18_unit_257 (by decide) (by decide) ?_
          refine pl_aload_n (pc := 383) dX18_unit_383 rfl rfl ?_
          have hno := unit_non hf hBy (k := 7) (by decide) c60_7 (by rw [c248]; decide)
          rw [P4_no hD hc40 hno] at hx
          cases hx
          refine pl_callVQ (pc := 384) (As := []) (C1 := 1) (N1 := 8) (C2 := 0) (N2 := 0) ckX18 mdX18_wrong rfl q2002 q2004 qs17 q167 dX18_unit_384 rfl rfl (Nat.le_of_ble_eq_true rfl) yh.rd (k_X18_wrong (d := d - 1) (by omega) yh.rd) (by omega) (by simp only [coX, appR]; omega) (by simp only [coX, appR]; omega) (fun q_9 M_9 hM_9 => ?_)
          obtain ⟨hn9, rfl⟩ := hM_9
          refine pj_athrow (pc := 387) ckX20 dX18_unit_387 mset_s ?_
          exact px_out0 rfl ⟨q_9, rfl, mset_s, (StX.new (c := wr0 (nI 1) (nI (sk B n p))) yh hn9).1.2⟩
        · refine pl_bipush (pc := 251) (v := 7) dX18_unit_251 (by rfl) ?_
          refine pj_istore (pc := 253) (lv' := [(4, _), (3, _), (2, _), (1, _), (0, _)]) dX18_unit_253 (by decide) rfl ?_
          refine pl_iload (pc := 255) dX18_unit_255 rfl ?_
          refine pj_tableIn (pc := 257) (tgt := 368) dX18_unit_257 (by decide) (by decide) (by rfl) (by decide) ?_
          have hw : isW B (sk B n p) (unitW 7) = true := c248
          have hlen : sk B n p + 2 ≤ n := isW_in hw (by decide) hB hsk.2
          rw [P4_if hD hc40 (told_out hf hBy (by decide) (by decide) hw) (fun z => z.elim (fun v => absurd (unit_one hf hBy (j := 5) (k := 7) (by decide) (by decide) v hw) (by decide)) (fun v => absurd (unit_one hf hBy (j := 6) (k := 7) (by decide) (by decide) v hw) (by decide))) hw] at hx
          refine pl_aload_n (pc := 368) dX18_unit_368 rfl rfl ?_
          refine pj_dup (pc := 369) dX18_unit_369 rfl ?_
          refine pj_getf (pc := 370) ckX18 2 q1863 dX18_unit_370 (by decide) yh.rd rfl ?_
          refine pl_iconst (pc := 373) (v := 2) dX18_unit_373 (by rfl) ?_
          refine pl_iadd (pc := 374) dX18_unit_374 ?_
          refine pj_putf (pc := 375) ckX18 2 q1863 dX18_unit_375 (by decide) rfl yh.rd rfl rfl (Nat.le_of_ble_eq_true rfl) ?_
          refine PJ.mem (show _ = (mset My31 rd (rdO t n (sk B n p + 2) o)) from rfl) ?_
          have y33 := StX.of (p1 := (sk B n p + 2)) (o1 := o) yh
          refine pl_aload_n (pc := 378) dX18_unit_378 rfl rfl ?_
          refine pl_callVR (pc := 379) (As := []) (C1 := _) (N1 := _) (C2 := 0) (N2 := 0) ckX18 mdX18_choice rfl q2150 q2152 qs29 q167 dX18_unit_379 rfl rfl (Nat.le_of_ble_eq_true rfl) y33.rd (K_X18_choice htr tx H (sk B n p + 2) o (d - 1) _ x (by omega) (by omega) (by omega) y33.rd (y33.get htr ht) hx) (by omega) (by rcases x with ⟨_, _⟩ | ⟨_, _, _⟩ <;> simp only [coX, appR] <;> omega) (by rcases x with ⟨_, _⟩ | ⟨_, _, _⟩ <;> simp only [coX, appR] <;> omega) (fun p9 o9 L9 q_3 h_3 im_3 M_3 e9 y9 z_3 hh_3 => ?_) (fun k8 w8 q8 M8 e8 hq8 hP8 => by subst e8; exact px_out0 rfl ⟨q8, rfl, hq8, y33.fault hP8⟩)
          subst e9
          refine pj_aret (pc := 382) dX18_unit_382 rfl (Or.inl ⟨_, rfl⟩) (Or.inr ⟨_, rfl⟩) ?_
          exact ⟨q_3, _, h_3, rfl, y33.call y9.1 y9.2.1, z_3.mono (y33.upr y9.2.1) (Nat.le_refl _), by omega⟩
      refine pl_lswI (pc := 60) (unitK 6) (3357571) (tgt := 226) dX18_unit_60 (by decide) (by rfl) (by rfl) (by decide) (fun c60_6 => ?_) (fun c60_6 => ?_)
      · refine pl_aload_n (pc := 226) dX18_unit_226 rfl rfl ?_
        obtain ⟨a149, v149, vr149, sc149⟩ := lit_X18_149 G
        refine pj_ldcS (pc := 227) vr149 dX18_unit_227 ?_
        have hq229 := k_J9_equals_m (μ := My31) (d := d - 1) (bs := (unitW 6)) (by omega) hst9 hwl2 gq sc149 (by decide)
        rw [eqW_isW hf tx.2.2.1 (by decide) (by decide)] at hq229
        refine pl_callVd (pc := 229) (As := [_]) (C1 := 0) (N1 := 0) (C2 := (coX 16 19 1 n (sk B n p) x)) (N2 := (coX 200 224 8 n (sk B n p) x)) ckJ9 mdJ9_equals rfl q1993 q1655 q3212 q136 dX18_unit_229 rfl rfl (Nat.le_of_ble_eq_true rfl) hst9.1 (hq229) (by omega) (by omega) (by omega) ?_
        refine pl_if_eqB (pc := 232) (tgt := 255) dX18_unit_232 (by decide) (fun c232 => ?_) (fun c232 => ?_)
        · refine pl_iload (pc := 255) dX18_unit_255 rfl ?_
          refine pj_tableOut (pc := 257) (tgt := 383) dX18_unit_257 (by decide) (by decide) ?_
          refine pl_aload_n (pc := 383) dX18_unit_383 rfl rfl ?_
          have hno := unit_non hf hBy (k := 6) (by decide) c60_6 (by rw [c232]; decide)
          rw [P4_no hD hc40 hno] at hx
          cases hx
          refine pl_callVQ (pc := 384) (As := []) (C1 := 1) (N1 := 8) (C2 := 0) (N2 := 0) ckX18 mdX18_wrong rfl q2002 q2004 qs17 q167 dX18_unit_384 rfl rfl (Nat.le_of_ble_eq_true rfl) yh.rd (k_X18_wrong (d := d - 1) (by omega) yh.rd) (by omega) (by simp only [coX, appR]; omega) (by simp only [coX, appR]; omega) (fun q_9 M_9 hM_9 => ?_)
          obtain ⟨hn9, rfl⟩ := hM_9
          refine pj_athrow (pc := 387) ckX20 dX18_unit_387 mset_s ?_
          exact px_out0 rfl ⟨q_9, rfl, mset_s, (StX.new (c := wr0 (nI 1) (nI (sk B n p))) yh hn9).1.2⟩
        · refine pl_bipush (pc := 235) (v := 6) dX18_unit_235 (by rfl) ?_
          refine pj_istore (pc := 237) (lv' := [(4, _), (3, _), (2, _), (1, _), (0, _)]) dX18_unit_237 (by decide) rfl ?_
          refine pj_goto (pc := 239) (tgt := 255) dX18_unit_239 (by decide) ?_
          refine pl_iload (pc := 255) dX18_unit_255 rfl ?_
          refine pj_tableIn (pc := 257) (tgt := 344) dX18_unit_257 (by decide) (by decide) (by rfl) (by decide) ?_
          have hw : isW B (sk B n p) (unitW 6) = true := c232
          have hwn : wlen B (sk B n p) = 4 := (word_is hf hBy (unitW_l 6 (by decide)).1 (unitW_l 6 (by decide)).2 hw).1
          have hlen : sk B n p + 4 ≤ n := isW_in hw (by decide) hB hsk.2
          have hnl : ¬ isW B (sk B n p) wLeast = true := fun z => absurd (unit_one hf hBy (j := 5) (k := 6) (by decide) (by decide) z hw) (by decide)
          rw [P4_least hD hc40 (told_out hf hBy (by decide) (by decide) hw) (Or.inr hw), if_neg hnl] at hx
          refine pl_aload_n (pc := 344) dX18_unit_344 rfl rfl ?_
          refine pj_dup (pc := 345) dX18_unit_345 rfl ?_
          refine pj_getf (pc := 346) ckX18 2 q1863 dX18_unit_346 (by decide) yh.rd rfl ?_
          refine pl_aload_n (pc := 349) dX18_unit_349 rfl rfl ?_
          refine pl_callVd (pc := 350) (As := []) (C1 := 0) (N1 := 0) (C2 := (coX 16 19 1 n (sk B n p) x)) (N2 := (coX 200 224 8 n (sk B n p) x)) ckJ9 mdJ9_length rfl q2034 q399 q400 q136 dX18_unit_350 rfl rfl (Nat.le_of_ble_eq_true rfl) hst9.1 (k_J9_length_m (d := d - 1) (by omega) hst9 hwl2) (by omega) (by omega) (by omega) ?_
          refine PJ.top (y := nI 4) (by rw [hwn]) ?_
          refine pl_iadd (pc := 353) dX18_unit_353 ?_
          refine pj_putf (pc := 354) ckX18 2 q1863 dX18_unit_354 (by decide) rfl yh.rd rfl rfl (Nat.le_of_ble_eq_true rfl) ?_
          refine PJ.mem (show _ = (mset My31 rd (rdO t n (sk B n p + 4) o)) from rfl) ?_
          have y34 := StX.of (p1 := (sk B n p + 4)) (o1 := o) yh
          have hst8 : StM g q_47 w9 (wlen B (sk B n p)) f9 hh9 zz9 (mset My31 rd (rdO t n (sk B n p + 4) o)) := ⟨(mset_n hqr).trans hst9.1, (mset_n hwr).trans hst9.2⟩
          refine pl_aload_n (pc := 357) dX18_unit_357 rfl rfl ?_
          refine pl_aload_n (pc := 358) dX18_unit_358 rfl rfl ?_
          obtain ⟨a147, v147, vr147, sc147⟩ := lit_X18_147 G
          refine pj_ldcS (pc := 359) vr147 dX18_unit_359 ?_
          have hq361 := k_J9_equals_m (μ := (mset My31 rd (rdO t n (sk B n p + 4) o))) (d := d - 1) (bs := (unitW 5)) (by omega) hst8 hwl2 gq sc147 (by decide)
          rw [eqW_isW hf tx.2.2.1 (by decide) (by decide)] at hq361
          refine pl_callVd (pc := 361) (As := [_]) (C1 := 0) (N1 := 0) (C2 := (coX 16 19 1 n (sk B n p) x)) (N2 := (coX 200 224 8 n (sk B n p) x)) ckJ9 mdJ9_equals rfl q1993 q1655 q3212 q136 dX18_unit_361 rfl rfl (Nat.le_of_ble_eq_true rfl) hst8.1 (hq361) (by omega) (by omega) (by omega) ?_
          refine pl_callVR (pc := 364) (As := [_]) (C1 := _) (N1 := _) (C2 := 0) (N2 := 0) ckX18 mdX18_bound rfl q2116 q2118 qs27 q167 dX18_unit_364 rfl rfl (Nat.le_of_ble_eq_true rfl) y34.rd (K_X18_bound htr tx H (sk B n p + 4) o (d - 1) _ x (isW B (sk B n p) wLeast) (by omega) (by omega) (by omega) y34.rd (y34.get htr ht) hx) (by omega) (by rcases x with ⟨_, _⟩ | ⟨_, _, _⟩ <;> simp only [coX, appR] <;> omega) (by rcases x with ⟨_, _⟩ | ⟨_, _, _⟩ <;> simp only [coX, appR] <;> omega) (fun p9 o9 L9 q_3 h_3 im_3 M_3 e9 y9 z_3 hh_3 => ?_) (fun k8 w8 q8 M8 e8 hq8 hP8 => by subst e8; exact px_out0 rfl ⟨q8, rfl, hq8, y34.fault hP8⟩)
          subst e9
          refine pj_aret (pc := 367) dX18_unit_367 rfl (Or.inl ⟨_, rfl⟩) (Or.inr ⟨_, rfl⟩) ?_
          exact ⟨q_3, _, h_3, rfl, y34.call y9.1 y9.2.1, z_3.mono (y34.upr y9.2.1) (Nat.le_refl _), by omega⟩
      refine pl_lswI (pc := 60) (unitK 4) (3535999) (tgt := 196) dX18_unit_60 (by decide) (by rfl) (by rfl) (by decide) (fun c60_4 => ?_) (fun c60_4 => ?_)
      · refine pl_aload_n (pc := 196) dX18_unit_196 rfl rfl ?_
        obtain ⟨a145, v145, vr145, sc145⟩ := lit_X18_145 G
        refine pj_ldcS (pc := 197) vr145 dX18_unit_197 ?_
        have hq199 := k_J9_equals_m (μ := My31) (d := d - 1) (bs := (unitW 4)) (by omega) hst9 hwl2 gq sc145 (by decide)
        rw [eqW_isW hf tx.2.2.1 (by decide) (by decide)] at hq199
        refine pl_callVd (pc := 199) (As := [_]) (C1 := 0) (N1 := 0) (C2 := (coX 16 19 1 n (sk B n p) x)) (N2 := (coX 200 224 8 n (sk B n p) x)) ckJ9 mdJ9_equals rfl q1993 q1655 q3212 q136 dX18_unit_199 rfl rfl (Nat.le_of_ble_eq_true rfl) hst9.1 (hq199) (by omega) (by omega) (by omega) ?_
        refine pl_if_eqB (pc := 202) (tgt := 255) dX18_unit_202 (by decide) (fun c202 => ?_) (fun c202 => ?_)
        · refine pl_iload (pc := 255) dX18_unit_255 rfl ?_
          refine pj_tableOut (pc := 257) (tgt := 383) dX18_unit_257 (by decide) (by decide) ?_
          refine pl_aload_n (pc := 383) dX18_unit_383 rfl rfl ?_
          have hno := unit_non hf hBy (k := 4) (by decide) c60_4 (by rw [c202]; decide)
          rw [P4_no hD hc40 hno] at hx
          cases hx
          refine pl_callVQ (pc := 384) (As := []) (C1 := 1) (N1 := 8) (C2 := 0) (N2 := 0) ckX18 mdX18_wrong rfl q2002 q2004 qs17 q167 dX18_unit_384 rfl rfl (Nat.le_of_ble_eq_true rfl) yh.rd (k_X18_wrong (d := d - 1) (by omega) yh.rd) (by omega) (by simp only [coX, appR]; omega) (by simp only [coX, appR]; omega) (fun q_9 M_9 hM_9 => ?_)
          obtain ⟨hn9, rfl⟩ := hM_9
          refine pj_athrow (pc := 387) ckX20 dX18_unit_387 mset_s ?_
          exact px_out0 rfl ⟨q_9, rfl, mset_s, (StX.new (c := wr0 (nI 1) (nI (sk B n p))) yh hn9).1.2⟩
        · refine pl_iconst (pc := 205) (v := 4) dX18_unit_205 (by rfl) ?_
          refine pj_istore (pc := 206) (lv' := [(4, _), (3, _), (2, _), (1, _), (0, _)]) dX18_unit_206 (by decide) rfl ?_
          refine pj_goto (pc := 208) (tgt := 255) dX18_unit_208 (by decide) ?_
          refine pl_iload (pc := 255) dX18_unit_255 rfl ?_
          refine pj_tableIn (pc := 257) (tgt := 304) dX18_unit_257 (by decide) (by decide) (by rfl) (by decide) ?_
          have hw : isW B (sk B n p) (unitW 4) = true := c202
          have hwn : wlen B (sk B n p) = 4 := (word_is hf hBy (unitW_l 4 (by decide)).1 (unitW_l 4 (by decide)).2 hw).1
          have hlen : sk B n p + 4 ≤ n := isW_in hw (by decide) hB hsk.2
          rw [P4_told (k := 4) (by decide) hD (told_at hf hBy (by decide) hw)] at hx
          cases hx
          refine PJ.widen (C1 := 1) (N1 := 1) (by simp only [coX]; rw [show (toldW 4).length = 4 from rfl]; omega) (by simp only [coX]; rw [show (toldW 4).length = 4 from rfl]; omega) ?_
          refine pl_aload_n (pc := 304) dX18_unit_304 rfl rfl ?_
          refine pj_dup (pc := 305) dX18_unit_305 rfl ?_
          refine pj_getf (pc := 306) ckX18 2 q1863 dX18_unit_306 (by decide) yh.rd rfl ?_
          refine pl_aload_n (pc := 309) dX18_unit_309 rfl rfl ?_
          refine pl_callVd (pc := 310) (As := []) (C1 := 0) (N1 := 0) (C2 := 1) (N2 := 1) ckJ9 mdJ9_length rfl q2034 q399 q400 q136 dX18_unit_310 rfl rfl (Nat.le_of_ble_eq_true rfl) hst9.1 (k_J9_length_m (d := d - 1) (by omega) hst9 hwl2) (by omega) (by omega) (by omega) ?_
          refine PJ.top (y := nI 4) (by rw [hwn]) ?_
          refine pl_iadd (pc := 313) dX18_unit_313 ?_
          refine pj_putf (pc := 314) ckX18 2 q1863 dX18_unit_314 (by decide) rfl yh.rd rfl rfl (Nat.le_of_ble_eq_true rfl) ?_
          refine PJ.mem (show _ = (mset My31 rd (rdO t n (sk B n p + 4) o)) from rfl) ?_
          have y35 := StX.of (p1 := (sk B n p + 4)) (o1 := o) yh
          refine pj_new (pc := 317) (C1 := 0) (N1 := 0) ckX23 q2095 q2096 q172 dX18_unit_317 _ dfX23 (by omega) (by omega) (fun q_317 hn_317 gq_317 => ?_)
          refine pj_dup (pc := 320) dX18_unit_320 rfl ?_
          have w_317 := StX.new (c := (.inr (25, [.int 0]))) y35 hn_317
          have hst7 : StM g q_47 w9 (wlen B (sk B n p)) f9 hh9 zz9 (mset My31 rd (rdO t n (sk B n p + 4) o)) := ⟨(mset_n hqr).trans hst9.1, (mset_n hwr).trans hst9.2⟩
          have hst8 : StM g q_47 w9 (wlen B (sk B n p)) f9 hh9 zz9 (mset (mset My31 rd (rdO t n (sk B n p + 4) o)) q_317 (.inr (25, [.int 0]))) := ⟨(mset_n (fun z => by have z2 := hst7.1; rw [z, hn_317] at z2; cases z2)).trans hst7.1, (mset_n (fun z => by have z2 := hst7.2; rw [z, hn_317] at z2; cases z2)).trans hst7.2⟩
          refine pl_aload_n (pc := 321) dX18_unit_321 rfl rfl ?_
          obtain ⟨a145, v145, vr145, sc145⟩ := lit_X18_145 G
          refine pj_ldcS (pc := 322) vr145 dX18_unit_322 ?_
          have hq324 := k_J9_equals_m (μ := (mset (mset My31 rd (rdO t n (sk B n p + 4) o)) q_317 (.inr (25, [.int 0])))) (d := d - 1) (bs := (unitW 4)) (by omega) hst8 hwl2 gq sc145 (by decide)
          rw [eqW_isW hf tx.2.2.1 (by decide) (by decide)] at hq324
          refine pl_callVd (pc := 324) (As := [_]) (C1 := 0) (N1 := 0) (C2 := 0) (N2 := 0) ckJ9 mdJ9_equals rfl q1993 q1655 q3212 q136 dX18_unit_324 rfl rfl (Nat.le_of_ble_eq_true rfl) hst8.1 (hq324) (by omega) (by omega) (by omega) ?_
          refine pl_if_eqB (pc := 327) (tgt := 335) dX18_unit_327 (by decide) (fun c327 => ?_) (fun c327 => ?_)
          · exact absurd (hw.symm.trans c327) (by decide)
          · refine pl_bipush (pc := 330) (v := 105) dX18_unit_330 (by rfl) ?_
            refine pj_goto (pc := 332) (tgt := 340) dX18_unit_332 (by decide) ?_
            refine pl_callIv (pc := 340) (As := [_]) (C1 := 0) (N1 := 0) (C2 := 0) (N2 := 0) mdX23_init rfl q2108 q2109 q172 dX18_unit_340 rfl rfl (Nat.le_of_ble_eq_true rfl) (k_X23_init (d := d - 1) (by omega) (by rfl) (by rfl) mset_s) (by omega) (by omega) (by omega) ?_
            refine PJ.mem mset_m ?_
            refine pj_aret (pc := 343) dX18_unit_343 rfl (Or.inl ⟨_, rfl⟩) (Or.inr ⟨_, rfl⟩) ?_
            exact ⟨q_317, _, 1, rfl, (StX.new (c := (.inr (25, [.int (nI 105)]))) y35 hn_317).keep (y35.mu hn_317) mset_s, GdE.mkName (k := 4) (by decide) mset_s, by rw [show (toldW 4).length = 4 from rfl]; omega⟩
      refine pl_lswI (pc := 60) (unitK 2) (3536084) (tgt := 166) dX18_unit_60 (by decide) (by rfl) (by rfl) (by decide) (fun c60_2 => ?_) (fun c60_2 => ?_)
      · refine pl_aload_n (pc := 166) dX18_unit_166 rfl rfl ?_
        obtain ⟨a141, v141, vr141, sc141⟩ := lit_X18_141 G
        refine pj_ldcS (pc := 167) vr141 dX18_unit_167 ?_
        have hq169 := k_J9_equals_m (μ := My31) (d := d - 1) (bs := (unitW 2)) (by omega) hst9 hwl2 gq sc141 (by decide)
        rw [eqW_isW hf tx.2.2.1 (by decide) (by decide)] at hq169
        refine pl_callVd (pc := 169) (As := [_]) (C1 := 0) (N1 := 0) (C2 := (coX 16 19 1 n (sk B n p) x)) (N2 := (coX 200 224 8 n (sk B n p) x)) ckJ9 mdJ9_equals rfl q1993 q1655 q3212 q136 dX18_unit_169 rfl rfl (Nat.le_of_ble_eq_true rfl) hst9.1 (hq169) (by omega) (by omega) (by omega) ?_
        refine pl_if_eqB (pc := 172) (tgt := 255) dX18_unit_172 (by decide) (fun c172 => ?_) (fun c172 => ?_)
        · refine pl_iload (pc := 255) dX18_unit_255 rfl ?_
          refine pj_tableOut (pc := 257) (tgt := 383) dX18_unit_257 (by decide) (by decide) ?_
          refine pl_aload_n (pc := 383) dX18_unit_383 rfl rfl ?_
          have hno := unit_non hf hBy (k := 2) (by decide) c60_2 (by rw [c172]; decide)
          rw [P4_no hD hc40 hno] at hx
          cases hx
          refine pl_callVQ (pc := 384) (As := []) (C1 := 1) (N1 := 8) (C2 := 0) (N2 := 0) ckX18 mdX18_wrong rfl q2002 q2004 qs17 q167 dX18_unit_384 rfl rfl (Nat.le_of_ble_eq_true rfl) yh.rd (k_X18_wrong (d := d - 1) (by omega) yh.rd) (by omega) (by simp only [coX, appR]; omega) (by simp only [coX, appR]; omega) (fun q_9 M_9 hM_9 => ?_)
          obtain ⟨hn9, rfl⟩ := hM_9
          refine pj_athrow (pc := 387) ckX20 dX18_unit_387 mset_s ?_
          exact px_out0 rfl ⟨q_9, rfl, mset_s, (StX.new (c := wr0 (nI 1) (nI (sk B n p))) yh hn9).1.2⟩
        · refine pl_iconst (pc := 175) (v := 2) dX18_unit_175 (by rfl) ?_
          refine pj_istore (pc := 176) (lv' := [(4, _), (3, _), (2, _), (1, _), (0, _)]) dX18_unit_176 (by decide) rfl ?_
          refine pj_goto (pc := 178) (tgt := 255) dX18_unit_178 (by decide) ?_
          refine pl_iload (pc := 255) dX18_unit_255 rfl ?_
          refine pj_tableIn (pc := 257) (tgt := 304) dX18_unit_257 (by decide) (by decide) (by rfl) (by decide) ?_
          have hw : isW B (sk B n p) (unitW 2) = true := c172
          have hwn : wlen B (sk B n p) = 4 := (word_is hf hBy (unitW_l 2 (by decide)).1 (unitW_l 2 (by decide)).2 hw).1
          have hlen : sk B n p + 4 ≤ n := isW_in hw (by decide) hB hsk.2
          rw [P4_told (k := 2) (by decide) hD (told_at hf hBy (by decide) hw)] at hx
          cases hx
          refine PJ.widen (C1 := 1) (N1 := 1) (by simp only [coX]; rw [show (toldW 2).length = 4 from rfl]; omega) (by simp only [coX]; rw [show (toldW 2).length = 4 from rfl]; omega) ?_
          refine pl_aload_n (pc := 304) dX18_unit_304 rfl rfl ?_
          refine pj_dup (pc := 305) dX18_unit_305 rfl ?_
          refine pj_getf (pc := 306) ckX18 2 q1863 dX18_unit_306 (by decide) yh.rd rfl ?_
          refine pl_aload_n (pc := 309) dX18_unit_309 rfl rfl ?_
          refine pl_callVd (pc := 310) (As := []) (C1 := 0) (N1 := 0) (C2 := 1) (N2 := 1) ckJ9 mdJ9_length rfl q2034 q399 q400 q136 dX18_unit_310 rfl rfl (Nat.le_of_ble_eq_true rfl) hst9.1 (k_J9_length_m (d := d - 1) (by omega) hst9 hwl2) (by omega) (by omega) (by omega) ?_
          refine PJ.top (y := nI 4) (by rw [hwn]) ?_
          refine pl_iadd (pc := 313) dX18_unit_313 ?_
          refine pj_putf (pc := 314) ckX18 2 q1863 dX18_unit_314 (by decide) rfl yh.rd rfl rfl (Nat.le_of_ble_eq_true rfl) ?_
          refine PJ.mem (show _ = (mset My31 rd (rdO t n (sk B n p + 4) o)) from rfl) ?_
          have y36 := StX.of (p1 := (sk B n p + 4)) (o1 := o) yh
          refine pj_new (pc := 317) (C1 := 0) (N1 := 0) ckX23 q2095 q2096 q172 dX18_unit_317 _ dfX23 (by omega) (by omega) (fun q_317 hn_317 gq_317 => ?_)
          refine pj_dup (pc := 320) dX18_unit_320 rfl ?_
          have w_317 := StX.new (c := (.inr (25, [.int 0]))) y36 hn_317
          have hst7 : StM g q_47 w9 (wlen B (sk B n p)) f9 hh9 zz9 (mset My31 rd (rdO t n (sk B n p + 4) o)) := ⟨(mset_n hqr).trans hst9.1, (mset_n hwr).trans hst9.2⟩
          have hst8 : StM g q_47 w9 (wlen B (sk B n p)) f9 hh9 zz9 (mset (mset My31 rd (rdO t n (sk B n p + 4) o)) q_317 (.inr (25, [.int 0]))) := ⟨(mset_n (fun z => by have z2 := hst7.1; rw [z, hn_317] at z2; cases z2)).trans hst7.1, (mset_n (fun z => by have z2 := hst7.2; rw [z, hn_317] at z2; cases z2)).trans hst7.2⟩
          refine pl_aload_n (pc := 321) dX18_unit_321 rfl rfl ?_
          obtain ⟨a145, v145, vr145, sc145⟩ := lit_X18_145 G
          refine pj_ldcS (pc := 322) vr145 dX18_unit_322 ?_
          have hq324 := k_J9_equals_m (μ := (mset (mset My31 rd (rdO t n (sk B n p + 4) o)) q_317 (.inr (25, [.int 0])))) (d := d - 1) (bs := (unitW 4)) (by omega) hst8 hwl2 gq sc145 (by decide)
          rw [eqW_isW hf tx.2.2.1 (by decide) (by decide)] at hq324
          refine pl_callVd (pc := 324) (As := [_]) (C1 := 0) (N1 := 0) (C2 := 0) (N2 := 0) ckJ9 mdJ9_equals rfl q1993 q1655 q3212 q136 dX18_unit_324 rfl rfl (Nat.le_of_ble_eq_true rfl) hst8.1 (hq324) (by omega) (by omega) (by omega) ?_
          refine pl_if_eqB (pc := 327) (tgt := 335) dX18_unit_327 (by decide) (fun c327 => ?_) (fun c327 => ?_)
          · refine pl_aload_n (pc := 335) dX18_unit_335 rfl rfl ?_
            refine pl_iconst (pc := 336) (v := 0) dX18_unit_336 (by rfl) ?_
            refine pl_callVd (pc := 337) (As := [_]) (C1 := 0) (N1 := 0) (C2 := 0) (N2 := 0) ckJ9 mdJ9_charAt rfl q2097 q2098 q2099 q136 dX18_unit_337 rfl rfl (Nat.le_of_ble_eq_true rfl) hst8.1 (k_J9_charAt_m (d := d - 1) (by omega) hst8 hwl2 (j := 0) (b := 115) (by rw [hwn]; decide) ((word_is hf hBy (unitW_l 2 (by decide)).1 (unitW_l 2 (by decide)).2 hw).2 0 (by decide)) (by decide)) (by omega) (by omega) (by omega) ?_
            refine pl_callIv (pc := 340) (As := [_]) (C1 := 0) (N1 := 0) (C2 := 0) (N2 := 0) mdX23_init rfl q2108 q2109 q172 dX18_unit_340 rfl rfl (Nat.le_of_ble_eq_true rfl) (k_X23_init (d := d - 1) (by omega) (by rfl) (by rfl) mset_s) (by omega) (by omega) (by omega) ?_
            refine PJ.mem mset_m ?_
            refine pj_aret (pc := 343) dX18_unit_343 rfl (Or.inl ⟨_, rfl⟩) (Or.inr ⟨_, rfl⟩) ?_
            exact ⟨q_317, _, 1, rfl, (StX.new (c := (.inr (25, [.int (nI 115)]))) y36 hn_317).keep (y36.mu hn_317) mset_s, GdE.mkName (k := 2) (by decide) mset_s, by rw [show (toldW 2).length = 4 from rfl]; omega⟩
          · exact absurd (unit_one hf hBy (j := 4) (k := 2) (by decide) (by decide) c327 hw) (by decide)
      refine pl_lswI (pc := 60) (unitK 0) (3645428) (tgt := 136) dX18_unit_60 (by decide) (by rfl) (by rfl) (by decide) (fun c60_0 => ?_) (fun c60_0 => ?_)
      · refine pl_aload_n (pc := 136) dX18_unit_136 rfl rfl ?_
        obtain ⟨a137, v137, vr137, sc137⟩ := lit_X18_137 G
        refine pj_ldcS (pc := 137) vr137 dX18_unit_137 ?_
        have hq139 := k_J9_equals_m (μ := My31) (d := d - 1) (bs := (unitW 0)) (by omega) hst9 hwl2 gq sc137 (by decide)
        rw [eqW_isW hf tx.2.2.1 (by decide) (by decide)] at hq139
        refine pl_callVd (pc := 139) (As := [_]) (C1 := 0) (N1 := 0) (C2 := (coX 16 19 1 n (sk B n p) x)) (N2 := (coX 200 224 8 n (sk B n p) x)) ckJ9 mdJ9_equals rfl q1993 q1655 q3212 q136 dX18_unit_139 rfl rfl (Nat.le_of_ble_eq_true rfl) hst9.1 (hq139) (by omega) (by omega) (by omega) ?_
        refine pl_if_eqB (pc := 142) (tgt := 255) dX18_unit_142 (by decide) (fun c142 => ?_) (fun c142 => ?_)
        · refine pl_iload (pc := 255) dX18_unit_255 rfl ?_
          refine pj_tableOut (pc := 257) (tgt := 383) dX18_unit_257 (by decide) (by decide) ?_
          refine pl_aload_n (pc := 383) dX18_unit_383 rfl rfl ?_
          have hno := unit_non hf hBy (k := 0) (by decide) c60_0 (by rw [c142]; decide)
          rw [P4_no hD hc40 hno] at hx
          cases hx
          refine pl_callVQ (pc := 384) (As := []) (C1 := 1) (N1 := 8) (C2 := 0) (N2 := 0) ckX18 mdX18_wrong rfl q2002 q2004 qs17 q167 dX18_unit_384 rfl rfl (Nat.le_of_ble_eq_true rfl) yh.rd (k_X18_wrong (d := d - 1) (by omega) yh.rd) (by omega) (by simp only [coX, appR]; omega) (by simp only [coX, appR]; omega) (fun q_9 M_9 hM_9 => ?_)
          obtain ⟨hn9, rfl⟩ := hM_9
          refine pj_athrow (pc := 387) ckX20 dX18_unit_387 mset_s ?_
          exact px_out0 rfl ⟨q_9, rfl, mset_s, (StX.new (c := wr0 (nI 1) (nI (sk B n p))) yh hn9).1.2⟩
        · refine pl_iconst (pc := 145) (v := 0) dX18_unit_145 (by rfl) ?_
          refine pj_istore (pc := 146) (lv' := [(4, _), (3, _), (2, _), (1, _), (0, _)]) dX18_unit_146 (by decide) rfl ?_
          refine pj_goto (pc := 148) (tgt := 255) dX18_unit_148 (by decide) ?_
          refine pl_iload (pc := 255) dX18_unit_255 rfl ?_
          refine pj_tableIn (pc := 257) (tgt := 304) dX18_unit_257 (by decide) (by decide) (by rfl) (by decide) ?_
          have hw : isW B (sk B n p) (unitW 0) = true := c142
          have hwn : wlen B (sk B n p) = 4 := (word_is hf hBy (unitW_l 0 (by decide)).1 (unitW_l 0 (by decide)).2 hw).1
          have hlen : sk B n p + 4 ≤ n := isW_in hw (by decide) hB hsk.2
          rw [P4_told (k := 0) (by decide) hD (told_at hf hBy (by decide) hw)] at hx
          cases hx
          refine PJ.widen (C1 := 1) (N1 := 1) (by simp only [coX]; rw [show (toldW 0).length = 4 from rfl]; omega) (by simp only [coX]; rw [show (toldW 0).length = 4 from rfl]; omega) ?_
          refine pl_aload_n (pc := 304) dX18_unit_304 rfl rfl ?_
          refine pj_dup (pc := 305) dX18_unit_305 rfl ?_
          refine pj_getf (pc := 306) ckX18 2 q1863 dX18_unit_306 (by decide) yh.rd rfl ?_
          refine pl_aload_n (pc := 309) dX18_unit_309 rfl rfl ?_
          refine pl_callVd (pc := 310) (As := []) (C1 := 0) (N1 := 0) (C2 := 1) (N2 := 1) ckJ9 mdJ9_length rfl q2034 q399 q400 q136 dX18_unit_310 rfl rfl (Nat.le_of_ble_eq_true rfl) hst9.1 (k_J9_length_m (d := d - 1) (by omega) hst9 hwl2) (by omega) (by omega) (by omega) ?_
          refine PJ.top (y := nI 4) (by rw [hwn]) ?_
          refine pl_iadd (pc := 313) dX18_unit_313 ?_
          refine pj_putf (pc := 314) ckX18 2 q1863 dX18_unit_314 (by decide) rfl yh.rd rfl rfl (Nat.le_of_ble_eq_true rfl) ?_
          refine PJ.mem (show _ = (mset My31 rd (rdO t n (sk B n p + 4) o)) from rfl) ?_
          have y37 := StX.of (p1 := (sk B n p + 4)) (o1 := o) yh
          refine pj_new (pc := 317) (C1 := 0) (N1 := 0) ckX23 q2095 q2096 q172 dX18_unit_317 _ dfX23 (by omega) (by omega) (fun q_317 hn_317 gq_317 => ?_)
          refine pj_dup (pc := 320) dX18_unit_320 rfl ?_
          have w_317 := StX.new (c := (.inr (25, [.int 0]))) y37 hn_317
          have hst7 : StM g q_47 w9 (wlen B (sk B n p)) f9 hh9 zz9 (mset My31 rd (rdO t n (sk B n p + 4) o)) := ⟨(mset_n hqr).trans hst9.1, (mset_n hwr).trans hst9.2⟩
          have hst8 : StM g q_47 w9 (wlen B (sk B n p)) f9 hh9 zz9 (mset (mset My31 rd (rdO t n (sk B n p + 4) o)) q_317 (.inr (25, [.int 0]))) := ⟨(mset_n (fun z => by have z2 := hst7.1; rw [z, hn_317] at z2; cases z2)).trans hst7.1, (mset_n (fun z => by have z2 := hst7.2; rw [z, hn_317] at z2; cases z2)).trans hst7.2⟩
          refine pl_aload_n (pc := 321) dX18_unit_321 rfl rfl ?_
          obtain ⟨a145, v145, vr145, sc145⟩ := lit_X18_145 G
          refine pj_ldcS (pc := 322) vr145 dX18_unit_322 ?_
          have hq324 := k_J9_equals_m (μ := (mset (mset My31 rd (rdO t n (sk B n p + 4) o)) q_317 (.inr (25, [.int 0])))) (d := d - 1) (bs := (unitW 4)) (by omega) hst8 hwl2 gq sc145 (by decide)
          rw [eqW_isW hf tx.2.2.1 (by decide) (by decide)] at hq324
          refine pl_callVd (pc := 324) (As := [_]) (C1 := 0) (N1 := 0) (C2 := 0) (N2 := 0) ckJ9 mdJ9_equals rfl q1993 q1655 q3212 q136 dX18_unit_324 rfl rfl (Nat.le_of_ble_eq_true rfl) hst8.1 (hq324) (by omega) (by omega) (by omega) ?_
          refine pl_if_eqB (pc := 327) (tgt := 335) dX18_unit_327 (by decide) (fun c327 => ?_) (fun c327 => ?_)
          · refine pl_aload_n (pc := 335) dX18_unit_335 rfl rfl ?_
            refine pl_iconst (pc := 336) (v := 0) dX18_unit_336 (by rfl) ?_
            refine pl_callVd (pc := 337) (As := [_]) (C1 := 0) (N1 := 0) (C2 := 0) (N2 := 0) ckJ9 mdJ9_charAt rfl q2097 q2098 q2099 q136 dX18_unit_337 rfl rfl (Nat.le_of_ble_eq_true rfl) hst8.1 (k_J9_charAt_m (d := d - 1) (by omega) hst8 hwl2 (j := 0) (b := 119) (by rw [hwn]; decide) ((word_is hf hBy (unitW_l 0 (by decide)).1 (unitW_l 0 (by decide)).2 hw).2 0 (by decide)) (by decide)) (by omega) (by omega) (by omega) ?_
            refine pl_callIv (pc := 340) (As := [_]) (C1 := 0) (N1 := 0) (C2 := 0) (N2 := 0) mdX23_init rfl q2108 q2109 q172 dX18_unit_340 rfl rfl (Nat.le_of_ble_eq_true rfl) (k_X23_init (d := d - 1) (by omega) (by rfl) (by rfl) mset_s) (by omega) (by omega) (by omega) ?_
            refine PJ.mem mset_m ?_
            refine pj_aret (pc := 343) dX18_unit_343 rfl (Or.inl ⟨_, rfl⟩) (Or.inr ⟨_, rfl⟩) ?_
            exact ⟨q_317, _, 1, rfl, (StX.new (c := (.inr (25, [.int (nI 119)]))) y37 hn_317).keep (y37.mu hn_317) mset_s, GdE.mkName (k := 0) (by decide) mset_s, by rw [show (toldW 0).length = 4 from rfl]; omega⟩
          · exact absurd (unit_one hf hBy (j := 4) (k := 0) (by decide) (by decide) c327 hw) (by decide)
      refine pl_lswI (pc := 60) (unitK 1) (3704893) (tgt := 151) dX18_unit_60 (by decide) (by rfl) (by rfl) (by decide) (fun c60_1 => ?_) (fun c60_1 => ?_)
      · refine pl_aload_n (pc := 151) dX18_unit_151 rfl rfl ?_
        obtain ⟨a139, v139, vr139, sc139⟩ := lit_X18_139 G
        refine pj_ldcS (pc := 152) vr139 dX18_unit_152 ?_
        have hq154 := k_J9_equals_m (μ := My31) (d := d - 1) (bs := (unitW 1)) (by omega) hst9 hwl2 gq sc139 (by decide)
        rw [eqW_isW hf tx.2.2.1 (by decide) (by decide)] at hq154
        refine pl_callVd (pc := 154) (As := [_]) (C1 := 0) (N1 := 0) (C2 := (coX 16 19 1 n (sk B n p) x)) (N2 := (coX 200 224 8 n (sk B n p) x)) ckJ9 mdJ9_equals rfl q1993 q1655 q3212 q136 dX18_unit_154 rfl rfl (Nat.le_of_ble_eq_true rfl) hst9.1 (hq154) (by omega) (by omega) (by omega) ?_
        refine pl_if_eqB (pc := 157) (tgt := 255) dX18_unit_157 (by decide) (fun c157 => ?_) (fun c157 => ?_)
        · refine pl_iload (pc := 255) dX18_unit_255 rfl ?_
          refine pj_tableOut (pc := 257) (tgt := 383) dX18_unit_257 (by decide) (by decide) ?_
          refine pl_aload_n (pc := 383) dX18_unit_383 rfl rfl ?_
          have hno := unit_non hf hBy (k := 1) (by decide) c60_1 (by rw [c157]; decide)
          rw [P4_no hD hc40 hno] at hx
          cases hx
          refine pl_callVQ (pc := 384) (As := []) (C1 := 1) (N1 := 8) (C2 := 0) (N2 := 0) ckX18 mdX18_wrong rfl q2002 q2004 qs17 q167 dX18_unit_384 rfl rfl (Nat.le_of_ble_eq_true rfl) yh.rd (k_X18_wrong (d := d - 1) (by omega) yh.rd) (by omega) (by simp only [coX, appR]; omega) (by simp only [coX, appR]; omega) (fun q_9 M_9 hM_9 => ?_)
          obtain ⟨hn9, rfl⟩ := hM_9
          refine pj_athrow (pc := 387) ckX20 dX18_unit_387 mset_s ?_
          exact px_out0 rfl ⟨q_9, rfl, mset_s, (StX.new (c := wr0 (nI 1) (nI (sk B n p))) yh hn9).1.2⟩
        · refine pl_iconst (pc := 160) (v := 1) dX18_unit_160 (by rfl) ?_
          refine pj_istore (pc := 161) (lv' := [(4, _), (3, _), (2, _), (1, _), (0, _)]) dX18_unit_161 (by decide) rfl ?_
          refine pj_goto (pc := 163) (tgt := 255) dX18_unit_163 (by decide) ?_
          refine pl_iload (pc := 255) dX18_unit_255 rfl ?_
          refine pj_tableIn (pc := 257) (tgt := 304) dX18_unit_257 (by decide) (by decide) (by rfl) (by decide) ?_
          have hw : isW B (sk B n p) (unitW 1) = true := c157
          have hwn : wlen B (sk B n p) = 4 := (word_is hf hBy (unitW_l 1 (by decide)).1 (unitW_l 1 (by decide)).2 hw).1
          have hlen : sk B n p + 4 ≤ n := isW_in hw (by decide) hB hsk.2
          rw [P4_told (k := 1) (by decide) hD (told_at hf hBy (by decide) hw)] at hx
          cases hx
          refine PJ.widen (C1 := 1) (N1 := 1) (by simp only [coX]; rw [show (toldW 1).length = 4 from rfl]; omega) (by simp only [coX]; rw [show (toldW 1).length = 4 from rfl]; omega) ?_
          refine pl_aload_n (pc := 304) dX18_unit_304 rfl rfl ?_
          refine pj_dup (pc := 305) dX18_unit_305 rfl ?_
          refine pj_getf (pc := 306) ckX18 2 q1863 dX18_unit_306 (by decide) yh.rd rfl ?_
          refine pl_aload_n (pc := 309) dX18_unit_309 rfl rfl ?_
          refine pl_callVd (pc := 310) (As := []) (C1 := 0) (N1 := 0) (C2 := 1) (N2 := 1) ckJ9 mdJ9_length rfl q2034 q399 q400 q136 dX18_unit_310 rfl rfl (Nat.le_of_ble_eq_true rfl) hst9.1 (k_J9_length_m (d := d - 1) (by omega) hst9 hwl2) (by omega) (by omega) (by omega) ?_
          refine PJ.top (y := nI 4) (by rw [hwn]) ?_
          refine pl_iadd (pc := 313) dX18_unit_313 ?_
          refine pj_putf (pc := 314) ckX18 2 q1863 dX18_unit_314 (by decide) rfl yh.rd rfl rfl (Nat.le_of_ble_eq_true rfl) ?_
          refine PJ.mem (show _ = (mset My31 rd (rdO t n (sk B n p + 4) o)) from rfl) ?_
          have y38 := StX.of (p1 := (sk B n p + 4)) (o1 := o) yh
          refine pj_new (pc := 317) (C1 := 0) (N1 := 0) ckX23 q2095 q2096 q172 dX18_unit_317 _ dfX23 (by omega) (by omega) (fun q_317 hn_317 gq_317 => ?_)
          refine pj_dup (pc := 320) dX18_unit_320 rfl ?_
          have w_317 := StX.new (c := (.inr (25, [.int 0]))) y38 hn_317
          have hst7 : StM g q_47 w9 (wlen B (sk B n p)) f9 hh9 zz9 (mset My31 rd (rdO t n (sk B n p + 4) o)) := ⟨(mset_n hqr).trans hst9.1, (mset_n hwr).trans hst9.2⟩
          have hst8 : StM g q_47 w9 (wlen B (sk B n p)) f9 hh9 zz9 (mset (mset My31 rd (rdO t n (sk B n p + 4) o)) q_317 (.inr (25, [.int 0]))) := ⟨(mset_n (fun z => by have z2 := hst7.1; rw [z, hn_317] at z2; cases z2)).trans hst7.1, (mset_n (fun z => by have z2 := hst7.2; rw [z, hn_317] at z2; cases z2)).trans hst7.2⟩
          refine pl_aload_n (pc := 321) dX18_unit_321 rfl rfl ?_
          obtain ⟨a145, v145, vr145, sc145⟩ := lit_X18_145 G
          refine pj_ldcS (pc := 322) vr145 dX18_unit_322 ?_
          have hq324 := k_J9_equals_m (μ := (mset (mset My31 rd (rdO t n (sk B n p + 4) o)) q_317 (.inr (25, [.int 0])))) (d := d - 1) (bs := (unitW 4)) (by omega) hst8 hwl2 gq sc145 (by decide)
          rw [eqW_isW hf tx.2.2.1 (by decide) (by decide)] at hq324
          refine pl_callVd (pc := 324) (As := [_]) (C1 := 0) (N1 := 0) (C2 := 0) (N2 := 0) ckJ9 mdJ9_equals rfl q1993 q1655 q3212 q136 dX18_unit_324 rfl rfl (Nat.le_of_ble_eq_true rfl) hst8.1 (hq324) (by omega) (by omega) (by omega) ?_
          refine pl_if_eqB (pc := 327) (tgt := 335) dX18_unit_327 (by decide) (fun c327 => ?_) (fun c327 => ?_)
          · refine pl_aload_n (pc := 335) dX18_unit_335 rfl rfl ?_
            refine pl_iconst (pc := 336) (v := 0) dX18_unit_336 (by rfl) ?_
            refine pl_callVd (pc := 337) (As := [_]) (C1 := 0) (N1 := 0) (C2 := 0) (N2 := 0) ckJ9 mdJ9_charAt rfl q2097 q2098 q2099 q136 dX18_unit_337 rfl rfl (Nat.le_of_ble_eq_true rfl) hst8.1 (k_J9_charAt_m (d := d - 1) (by omega) hst8 hwl2 (j := 0) (b := 121) (by rw [hwn]; decide) ((word_is hf hBy (unitW_l 1 (by decide)).1 (unitW_l 1 (by decide)).2 hw).2 0 (by decide)) (by decide)) (by omega) (by omega) (by omega) ?_
            refine pl_callIv (pc := 340) (As := [_]) (C1 := 0) (N1 := 0) (C2 := 0) (N2 := 0) mdX23_init rfl q2108 q2109 q172 dX18_unit_340 rfl rfl (Nat.le_of_ble_eq_true rfl) (k_X23_init (d := d - 1) (by omega) (by rfl) (by rfl) mset_s) (by omega) (by omega) (by omega) ?_
            refine PJ.mem mset_m ?_
            refine pj_aret (pc := 343) dX18_unit_343 rfl (Or.inl ⟨_, rfl⟩) (Or.inr ⟨_, rfl⟩) ?_
            exact ⟨q_317, _, 1, rfl, (StX.new (c := (.inr (25, [.int (nI 121)]))) y38 hn_317).keep (y38.mu hn_317) mset_s, GdE.mkName (k := 1) (by decide) mset_s, by rw [show (toldW 1).length = 4 from rfl]; omega⟩
          · exact absurd (unit_one hf hBy (j := 4) (k := 1) (by decide) (by decide) c327 hw) (by decide)
      refine pl_lswI (pc := 60) (unitK 5) (102846057) (tgt := 211) dX18_unit_60 (by decide) (by rfl) (by rfl) (by decide) (fun c60_5 => ?_) (fun c60_5 => ?_)
      · refine pl_aload_n (pc := 211) dX18_unit_211 rfl rfl ?_
        obtain ⟨a147, v147, vr147, sc147⟩ := lit_X18_147 G
        refine pj_ldcS (pc := 212) vr147 dX18_unit_212 ?_
        have hq214 := k_J9_equals_m (μ := My31) (d := d - 1) (bs := (unitW 5)) (by omega) hst9 hwl2 gq sc147 (by decide)
        rw [eqW_isW hf tx.2.2.1 (by decide) (by decide)] at hq214
        refine pl_callVd (pc := 214) (As := [_]) (C1 := 0) (N1 := 0) (C2 := (coX 16 19 1 n (sk B n p) x)) (N2 := (coX 200 224 8 n (sk B n p) x)) ckJ9 mdJ9_equals rfl q1993 q1655 q3212 q136 dX18_unit_214 rfl rfl (Nat.le_of_ble_eq_true rfl) hst9.1 (hq214) (by omega) (by omega) (by omega) ?_
        refine pl_if_eqB (pc := 217) (tgt := 255) dX18_unit_217 (by decide) (fun c217 => ?_) (fun c217 => ?_)
        · refine pl_iload (pc := 255) dX18_unit_255 rfl ?_
          refine pj_tableOut (pc := 257) (tgt := 383) dX18_unit_257 (by decide) (by decide) ?_
          refine pl_aload_n (pc := 383) dX18_unit_383 rfl rfl ?_
          have hno := unit_non hf hBy (k := 5) (by decide) c60_5 (by rw [c217]; decide)
          rw [P4_no hD hc40 hno] at hx
          cases hx
          refine pl_callVQ (pc := 384) (As := []) (C1 := 1) (N1 := 8) (C2 := 0) (N2 := 0) ckX18 mdX18_wrong rfl q2002 q2004 qs17 q167 dX18_unit_384 rfl rfl (Nat.le_of_ble_eq_true rfl) yh.rd (k_X18_wrong (d := d - 1) (by omega) yh.rd) (by omega) (by simp only [coX, appR]; omega) (by simp only [coX, appR]; omega) (fun q_9 M_9 hM_9 => ?_)
          obtain ⟨hn9, rfl⟩ := hM_9
          refine pj_athrow (pc := 387) ckX20 dX18_unit_387 mset_s ?_
          exact px_out0 rfl ⟨q_9, rfl, mset_s, (StX.new (c := wr0 (nI 1) (nI (sk B n p))) yh hn9).1.2⟩
        · refine pl_iconst (pc := 220) (v := 5) dX18_unit_220 (by rfl) ?_
          refine pj_istore (pc := 221) (lv' := [(4, _), (3, _), (2, _), (1, _), (0, _)]) dX18_unit_221 (by decide) rfl ?_
          refine pj_goto (pc := 223) (tgt := 255) dX18_unit_223 (by decide) ?_
          refine pl_iload (pc := 255) dX18_unit_255 rfl ?_
          refine pj_tableIn (pc := 257) (tgt := 344) dX18_unit_257 (by decide) (by decide) (by rfl) (by decide) ?_
          have hw : isW B (sk B n p) (unitW 5) = true := c217
          have hwn : wlen B (sk B n p) = 5 := (word_is hf hBy (unitW_l 5 (by decide)).1 (unitW_l 5 (by decide)).2 hw).1
          have hlen : sk B n p + 5 ≤ n := isW_in hw (by decide) hB hsk.2
          rw [P4_least hD hc40 (told_out hf hBy (by decide) (by decide) hw) (Or.inl hw), if_pos (show isW B (sk B n p) wLeast = true from hw)] at hx
          refine pl_aload_n (pc := 344) dX18_unit_344 rfl rfl ?_
          refine pj_dup (pc := 345) dX18_unit_345 rfl ?_
          refine pj_getf (pc := 346) ckX18 2 q1863 dX18_unit_346 (by decide) yh.rd rfl ?_
          refine pl_aload_n (pc := 349) dX18_unit_349 rfl rfl ?_
          refine pl_callVd (pc := 350) (As := []) (C1 := 0) (N1 := 0) (C2 := (coX 16 19 1 n (sk B n p) x)) (N2 := (coX 200 224 8 n (sk B n p) x)) ckJ9 mdJ9_length rfl q2034 q399 q400 q136 dX18_unit_350 rfl rfl (Nat.le_of_ble_eq_true rfl) hst9.1 (k_J9_length_m (d := d - 1) (by omega) hst9 hwl2) (by omega) (by omega) (by omega) ?_
          refine PJ.top (y := nI 5) (by rw [hwn]) ?_
          refine pl_iadd (pc := 353) dX18_unit_353 ?_
          refine pj_putf (pc := 354) ckX18 2 q1863 dX18_unit_354 (by decide) rfl yh.rd rfl rfl (Nat.le_of_ble_eq_true rfl) ?_
          refine PJ.mem (show _ = (mset My31 rd (rdO t n (sk B n p + 5) o)) from rfl) ?_
          have y39 := StX.of (p1 := (sk B n p + 5)) (o1 := o) yh
          have hst8 : StM g q_47 w9 (wlen B (sk B n p)) f9 hh9 zz9 (mset My31 rd (rdO t n (sk B n p + 5) o)) := ⟨(mset_n hqr).trans hst9.1, (mset_n hwr).trans hst9.2⟩
          refine pl_aload_n (pc := 357) dX18_unit_357 rfl rfl ?_
          refine pl_aload_n (pc := 358) dX18_unit_358 rfl rfl ?_
          obtain ⟨a147, v147, vr147, sc147⟩ := lit_X18_147 G
          refine pj_ldcS (pc := 359) vr147 dX18_unit_359 ?_
          have hq361 := k_J9_equals_m (μ := (mset My31 rd (rdO t n (sk B n p + 5) o))) (d := d - 1) (bs := (unitW 5)) (by omega) hst8 hwl2 gq sc147 (by decide)
          rw [eqW_isW hf tx.2.2.1 (by decide) (by decide)] at hq361
          refine pl_callVd (pc := 361) (As := [_]) (C1 := 0) (N1 := 0) (C2 := (coX 16 19 1 n (sk B n p) x)) (N2 := (coX 200 224 8 n (sk B n p) x)) ckJ9 mdJ9_equals rfl q1993 q1655 q3212 q136 dX18_unit_361 rfl rfl (Nat.le_of_ble_eq_true rfl) hst8.1 (hq361) (by omega) (by omega) (by omega) ?_
          refine pl_callVR (pc := 364) (As := [_]) (C1 := _) (N1 := _) (C2 := 0) (N2 := 0) ckX18 mdX18_bound rfl q2116 q2118 qs27 q167 dX18_unit_364 rfl rfl (Nat.le_of_ble_eq_true rfl) y39.rd (K_X18_bound htr tx H (sk B n p + 5) o (d - 1) _ x (isW B (sk B n p) wLeast) (by omega) (by omega) (by omega) y39.rd (y39.get htr ht) hx) (by omega) (by rcases x with ⟨_, _⟩ | ⟨_, _, _⟩ <;> simp only [coX, appR] <;> omega) (by rcases x with ⟨_, _⟩ | ⟨_, _, _⟩ <;> simp only [coX, appR] <;> omega) (fun p9 o9 L9 q_3 h_3 im_3 M_3 e9 y9 z_3 hh_3 => ?_) (fun k8 w8 q8 M8 e8 hq8 hP8 => by subst e8; exact px_out0 rfl ⟨q8, rfl, hq8, y39.fault hP8⟩)
          subst e9
          refine pj_aret (pc := 367) dX18_unit_367 rfl (Or.inl ⟨_, rfl⟩) (Or.inr ⟨_, rfl⟩) ?_
          exact ⟨q_3, _, h_3, rfl, y39.call y9.1 y9.2.1, z_3.mono (y39.upr y9.2.1) (Nat.le_refl _), by omega⟩
      refine pj_lookup (pc := 60) (tgt := 255) dX18_unit_60 (by rfl) ((lv_osw c60_3 (show (unitK 3).toInt = _ by decide)).trans ((lv_osw c60_7 (show (unitK 7).toInt = _ by decide)).trans ((lv_osw c60_6 (show (unitK 6).toInt = _ by decide)).trans ((lv_osw c60_4 (show (unitK 4).toInt = _ by decide)).trans ((lv_osw c60_2 (show (unitK 2).toInt = _ by decide)).trans ((lv_osw c60_0 (show (unitK 0).toInt = _ by decide)).trans ((lv_osw c60_1 (show (unitK 1).toInt = _ by decide)).trans ((lv_osw c60_5 (show (unitK 5).toInt = _ by decide)).trans (show Op.lookupswitch.offset [] (195) _ = 195 from rfl))))))))) (by decide) ?_
      refine pl_iload (pc := 255) dX18_unit_255 rfl ?_
      refine pj_tableOut (pc := 257) (tgt := 383) dX18_unit_257 (by decide) (by decide) ?_
      refine pl_aload_n (pc := 383) dX18_unit_383 rfl rfl ?_
      have hno := unit_no hf hBy (fun k hk => by
        rcases (by omega : k = 0 ∨ k = 1 ∨ k = 2 ∨ k = 3 ∨ k = 4 ∨ k = 5 ∨ k = 6 ∨ k = 7) with rfl | rfl | rfl | rfl | rfl | rfl | rfl | rfl
        · exact c60_0
        · exact c60_1
        · exact c60_2
        · exact c60_3
        · exact c60_4
        · exact c60_5
        · exact c60_6
        · exact c60_7)
      rw [P4_no hD hc40 hno] at hx
      cases hx
      refine pl_callVQ (pc := 384) (As := []) (C1 := 1) (N1 := 8) (C2 := 0) (N2 := 0) ckX18 mdX18_wrong rfl q2002 q2004 qs17 q167 dX18_unit_384 rfl rfl (Nat.le_of_ble_eq_true rfl) yh.rd (k_X18_wrong (d := d - 1) (by omega) yh.rd) (by omega) (by simp only [coX, appR]; omega) (by simp only [coX, appR]; omega) (fun q_9 M_9 hM_9 => ?_)
      obtain ⟨hn9, rfl⟩ := hM_9
      refine pj_athrow (pc := 387) ckX20 dX18_unit_387 mset_s ?_
      exact px_out0 rfl ⟨q_9, rfl, mset_s, (StX.new (c := wr0 (nI 1) (nI (sk B n p))) yh hn9).1.2⟩
    · have hc : B (sk B n p) = 40 := (sB_eq _ (hBy _) 40 (by decide)).mp c25
      have hlt9 : sk B n p < n := (Nat.lt_or_ge (sk B n p) n).elim id (fun z9 => by rw [hB _ z9] at hc; cases hc)
      rw [P4_par hD hc] at hx
      unfold parP at hx
      rw [thenR_assoc] at hx
      refine pl_aload_n (pc := 28) dX18_unit_28 rfl rfl ?_
      refine pl_iconst (pc := 29) (v := 1) dX18_unit_29 (by rfl) ?_
      rw [opensP_V] at hx
      rcases thenV_cases (v := opensR 1 (sk B n p) o) hx with ⟨k9, w9, hv, rfl⟩ | ⟨p_30, o_30, hv_30, hx⟩
      · refine pl_callVE (pc := 30) (As := [_]) (C1 := 1) (N1 := 8) (C2 := 0) (N2 := 0) ckX18 mdX18_opens rfl q2079 q2081 qs25 q167 dX18_unit_30 rfl rfl (Nat.le_of_ble_eq_true rfl) y.rd (x_X18_opens (d := d - 1) (by omega) y.rd (by omega) hn3 (by omega) (by decide)) (by omega) (by simp only [coX, appR]; omega) (by simp only [coX, appR]; omega) (fun _ _ _ e _ => by rw [hv] at e; cases e) (fun k8 w8 q8 M8 e8 hq8 hP8 => by rw [hv] at e8; cases e8; exact px_out0 rfl ⟨q8, rfl, hq8, y.fault hP8⟩)
      have hi_30 := opens_in hv_30
      have hg_30 : ∀ pf of Lf, x = .inr (pf, of, Lf) → p_30 + 2 ≤ pf ∧ pf ≤ n := fun pf of Lf e => by have h9 := (MnP.then (MnP.PFE (tag := 0) hB (by decide)) (MnP.closes (ch := 41) hB (by decide))) _ _ _ _ _ (show p_30 ≤ n by omega) (show _ = some (Sum.inr (pf, of, Lf)) by rw [← e]; exact hx); exact ⟨by omega, h9.2⟩
      refine pl_callVE (pc := 30) (As := [_]) (C1 := 1) (N1 := 8) (C2 := (coX 16 0 5 n p_30 x + 0)) (N2 := (coX 200 0 40 n p_30 x + 0)) ckX18 mdX18_opens rfl q2079 q2081 qs25 q167 dX18_unit_30 rfl rfl (Nat.le_of_ble_eq_true rfl) y.rd (x_X18_opens (d := d - 1) (by omega) y.rd (by omega) hn3 (by omega) (by decide)) (by omega) (by rcases x with ⟨_, _⟩ | ⟨_, _, _⟩ <;> simp only [coX, appR] <;> first | omega | (have h9 := hg_30 _ _ _ rfl; omega)) (by rcases x with ⟨_, _⟩ | ⟨_, _, _⟩ <;> simp only [coX, appR] <;> first | omega | (have h9 := hg_30 _ _ _ rfl; omega)) (fun p9 o9 M_30 e9 hX_30 => ?_) (fun _ _ _ _ e _ _ => by rw [hv_30] at e; cases e)
      rw [hv_30] at e9
      cases e9
      have y40 := y.callV hX_30
      refine pl_aload_n (pc := 33) dX18_unit_33 rfl rfl ?_
      obtain ⟨X_34, hX_34, hx⟩ := thenR_get hx
      rcases X_34 with ⟨k9, w9⟩ | ⟨p_34, o_34, L_34⟩
      · have e9 := bind_l hx
        subst e9
        refine pl_callVR (pc := 34) (As := []) (C1 := _) (N1 := _) (C2 := 0) (N2 := 0) ckX18 mdX18_expr rfl q2049 q2051 qs21 q167 dX18_unit_34 rfl rfl (Nat.le_of_ble_eq_true rfl) y40.rd ((H f (Nat.le_refl _)).1 p_30 o_30 (d - 1) _ (.inl (k9, w9)) (by omega) (by omega) (by omega) y40.rd (y40.get htr ht) hX_34) (by omega) (by simp only [coX, appR]; omega) (by simp only [coX, appR]; omega) (fun _ _ _ _ _ _ _ e _ _ _ => by cases e) (fun k8 w8 q8 M8 e8 hq8 hP8 => by cases e8; exact px_out0 rfl ⟨q8, rfl, hq8, y40.fault hP8⟩)
      obtain ⟨x_34, hz_34, ez_34⟩ := bind_r hx
      clear hx
      subst ez_34
      have hx := hz_34
      obtain ⟨ho_34, hi_34, hn_34⟩ := PF_in hB f 0 _ _ (by decide) (by omega) _ _ _ hX_34
      have hm_34 := (PF_min f 0 _ _ _ _ _ hX_34).1 (by decide)
      have hg_34 : ∀ pf of Lf, x_34 = .inr (pf, of, Lf) → p_34 + 1 ≤ pf ∧ pf ≤ n := fun pf of Lf e => by have h9 := (MnP.closes (ch := 41) hB (by decide)) _ _ _ _ _ (show p_34 ≤ n by omega) (show _ = some (Sum.inr (pf, of, Lf)) by rw [← e]; exact hx); exact ⟨by omega, h9.2⟩
      refine pl_callVR (pc := 34) (As := []) (C1 := _) (N1 := _) (C2 := (coX 16 0 5 n p_34 x_34 + 15)) (N2 := (coX 200 0 40 n p_34 x_34 + 192)) ckX18 mdX18_expr rfl q2049 q2051 qs21 q167 dX18_unit_34 rfl rfl (Nat.le_of_ble_eq_true rfl) y40.rd ((H f (Nat.le_refl _)).1 p_30 o_30 (d - 1) _ (.inr (p_34, o_34, L_34)) (by omega) (by omega) (by omega) y40.rd (y40.get htr ht) hX_34) (by omega) (by rcases x_34 with ⟨_, _⟩ | ⟨_, _, _⟩ <;> simp only [coX, appR] <;> first | omega | (have h9 := hg_34 _ _ _ rfl; omega)) (by rcases x_34 with ⟨_, _⟩ | ⟨_, _, _⟩ <;> simp only [coX, appR] <;> first | omega | (have h9 := hg_34 _ _ _ rfl; omega)) (fun p9 o9 L9 q_34 h_34 im_34 M_34 e9 y9 z_34 hh_34 => ?_) (fun _ _ _ _ e _ _ => by cases e)
      cases e9
      have y41 := y40.call y9.1 y9.2.1
      have u_34 := y40.upr y9.2.1
      refine pj_astore_n (pc := 37) (lv' := [(2, _), (1, _), (0, _)]) dX18_unit_37 rfl (by decide) rfl ?_
      refine pl_aload_n (pc := 38) dX18_unit_38 rfl rfl ?_
      refine pl_bipush (pc := 39) (v := 41) dX18_unit_39 (by rfl) ?_
      rw [closesP_V (ch := 41) hB (by decide)] at hx
      rcases lastV_cases (v := closesR B n 41 p_34 o_34) hx with ⟨k9, w9, hv, rfl⟩ | ⟨p_41, o_41, hv_41, rfl⟩
      · refine pl_callVE (pc := 41) (As := [_]) (C1 := 1) (N1 := 8) (C2 := 0) (N2 := 0) ckX18 mdX18_closes rfl q2083 q2085 qs26 q167 dX18_unit_41 rfl rfl (Nat.le_of_ble_eq_true rfl) y41.rd (x_X18_closes (d := d - 1) (by omega) y41.rd (y41.get htr ht) htr tx (by omega) (by decide) (by decide) (by omega)) (by omega) (by simp only [coX, appR]; omega) (by simp only [coX, appR]; omega) (fun _ _ _ e _ => by rw [hv] at e; cases e) (fun k8 w8 q8 M8 e8 hq8 hP8 => by rw [hv] at e8; cases e8; exact px_out0 rfl ⟨q8, rfl, hq8, y41.fault hP8⟩)
      have hi_41 := closes_in hB (by decide) (by omega) hv_41
      refine pl_callVE (pc := 41) (As := [_]) (C1 := 1) (N1 := 8) (C2 := (coX 16 0 5 n p_41 (.inr (p_41, o_41, [])) + 30)) (N2 := (coX 200 0 40 n p_41 (.inr (p_41, o_41, [])) + 384)) ckX18 mdX18_closes rfl q2083 q2085 qs26 q167 dX18_unit_41 rfl rfl (Nat.le_of_ble_eq_true rfl) y41.rd (x_X18_closes (d := d - 1) (by omega) y41.rd (y41.get htr ht) htr tx (by omega) (by decide) (by decide) (by omega)) (by omega) (by simp only [coX, appR]; omega) (by simp only [coX, appR]; omega) (fun p9 o9 M_41 e9 hX_41 => ?_) (fun _ _ _ _ e _ _ => by rw [hv_41] at e; cases e)
      rw [hv_41] at e9
      cases e9
      have y42 := y41.callV hX_41
      refine pl_aload_n (pc := 44) dX18_unit_44 rfl rfl ?_
      refine pj_aret (pc := 45) dX18_unit_45 rfl (Or.inl ⟨_, rfl⟩) (Or.inr ⟨_, rfl⟩) ?_
      rw [appR_end]
      exact ⟨q_34, _, h_34, rfl, y42, z_34.mono (fun a e w => u_34 a e w) (Nat.le_refl _), by omega⟩
  refine PM.of (by decide +kernel) (Nat.le_of_ble_eq_true rfl) ?_
  refine PJ.ok (fun G => ?_)
  show PJ g _ _ _ _ d (coX 16 15 5 n p x) (coX 200 192 40 n p x) 0 [(0, .ref rd)] [] _ _
  refine pl_aload_n (pc := 0) dX18_unit_0 rfl rfl ?_
  refine pl_callVWd (pc := 1) (As := []) (C1 := 0) (N1 := 0) (C2 := (coX 16 15 5 n p x)) (N2 := (coX 200 192 40 n p x)) ckX18 mdX18_sign rfl q1896 q1898 qs15 q167 dX18_unit_1 rfl rfl (Nat.le_of_ble_eq_true rfl) y0.rd (x_X18_sign (d := d - 1) (by omega) y0.rd (y0.get htr ht) htr tx (by omega)) (by omega) (by omega) (by omega) (fun My31 qy31 => ?_)
  have y31 := y0.callV (RdS.X qy31)
  have hpy31 := (sk_in (B := B) (show p ≤ n by omega))
  refine pj_istore_n (pc := 4) (lv' := [(1, _), (0, _)]) dX18_unit_4 rfl (by decide) rfl ?_
  refine pl_iload_n (pc := 5) dX18_unit_5 rfl rfl ?_
  refine pl_bipush (pc := 6) (v := 48) dX18_unit_6 (by rfl) ?_
  refine pj_icmp_lt (pc := 8) (tgt := 22) dX18_unit_8 (by decide) (fun c8 => ?_) (fun c8 => ?_)
  · exact rest _ y31 (dg_no1 _ (hBy _) c8)
  · refine pl_iload_n (pc := 11) dX18_unit_11 rfl rfl ?_
    refine pl_bipush (pc := 12) (v := 57) dX18_unit_12 (by rfl) ?_
    refine pj_icmp_gt (pc := 14) (tgt := 22) dX18_unit_14 (by decide) (fun c14 => ?_) (fun c14 => ?_)
    · exact rest _ y31 (dg_no2 _ (hBy _) c14)
    · have hD := dg_yes _ (hBy _) c8 c14
      rw [PF_4, if_pos hD] at hx
      refine pl_aload_n (pc := 17) dX18_unit_17 rfl rfl ?_
      refine pl_callVR (pc := 18) (As := []) (C1 := 1) (N1 := 8) (C2 := 0) (N2 := 0) ckX18 mdX18_number rfl q2061 q2063 qs24 q167 dX18_unit_18 rfl rfl (Nat.le_of_ble_eq_true rfl) y31.rd (x_X18_number (d := d - 1) (by omega) y31.rd (y31.get htr ht) htr tx hsk.2 hD hx) (by omega) (by rcases x with ⟨_, _⟩ | ⟨_, _, _⟩ <;> simp only [coX, appR] <;> first | omega | (have h9 := hg_0 _ _ _ rfl; omega)) (by rcases x with ⟨_, _⟩ | ⟨_, _, _⟩ <;> simp only [coX, appR] <;> first | omega | (have h9 := hg_0 _ _ _ rfl; omega)) (fun p9 o9 L9 q_3 h_3 im_3 M_3 e9 y9 z_3 hh_3 => ?_) (fun k8 w8 q8 M8 e8 hq8 hP8 => by subst e8; exact px_out0 rfl ⟨q8, rfl, hq8, y31.fault hP8⟩)
      subst e9
      refine pj_aret (pc := 21) dX18_unit_21 rfl (Or.inl ⟨_, rfl⟩) (Or.inr ⟨_, rfl⟩) ?_
      exact ⟨q_3, _, h_3, rfl, y31.call y9.1 y9.2.1, z_3.mono (y31.upr y9.2.1) (Nat.le_refl _), by omega⟩
theorem KAX_all {g : GP} {rd t n : Nat} {r : Nat → Int32} {B : Nat → Nat} (htr : t ≠ rd) (tx : TxR r n B) : ∀ f, ∀ f1, f1 ≤ f → KAX g rd t n r B f1
  | 0, f1, h => by
    have : f1 = 0 := by omega
    subst this
    exact ⟨fun _ _ _ _ _ _ _ _ _ _ hx => (by cases hx), fun _ _ _ _ _ _ _ _ _ _ hx => (by cases hx), fun _ _ _ _ _ _ _ _ _ _ hx => (by cases hx), fun _ _ _ _ _ _ _ _ _ _ hx => (by cases hx), fun _ _ _ _ _ _ _ _ _ _ hx => (by cases hx), fun _ _ _ _ _ _ _ _ _ _ hx => (by cases hx)⟩
  | f + 1, f1, h => by
    have H := KAX_all (g := g) htr tx f
    by_cases z : f1 ≤ f
    · exact H f1 z
    · have : f1 = f + 1 := by omega
      subst this
      exact ⟨K_X18_expr htr tx H, K_X18_term htr tx H, K_X18_unit htr tx H, K_X18_one htr tx H, K_X18_all htr tx H, K_X18_any htr tx H⟩
