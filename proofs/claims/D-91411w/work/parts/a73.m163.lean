set_option maxRecDepth 100000
/-- what set leaves of people, parties, laws, bills: S sizes, V ints, up to i -/
def ScP (A0 A : XA) (S0 S : Nat → Nat → Nat) (V0 V : Nat → Nat → Nat → Nat → Int32) (i : Nat) : Prop := (A 0 0 0 = A0 0 0 0 ∧ A 1 0 0 = A0 1 0 0 ∧ A 1 1 0 = A0 1 1 0) ∧ (∀ x y, ¬ (x = 4 ∧ y = 1) → S x y = S0 x y) ∧ i ≤ S 4 1 ∧ (∀ k w j, ¬ (k = 35 ∧ w = 1) → V k w j = V0 k w j) ∧ (∀ p, p < S 4 1 → V 35 1 p 0 = nI p) ∧ ∀ p, p < i → ∀ j, 2 ≤ j → j < 10 → V 35 1 p j = V0 35 0 p j
def SdP (A0 A : XA) (S0 S : Nat → Nat → Nat) (V0 V : Nat → Nat → Nat → Nat → Int32) (i : Nat) : Prop := (A 0 0 0 = A0 0 0 0 ∧ A 1 0 0 = A0 1 0 0 ∧ A 1 1 0 = A0 1 1 0) ∧ (∀ x y, ¬ (x = 6 ∧ y = 1) → S x y = S0 x y) ∧ i ≤ S 6 1 ∧ (∀ k w j, ¬ ((k = 36 ∨ k = 37) ∧ w = 1) → V k w j = V0 k w j) ∧ (∀ p, p < S 6 1 → V 36 1 p 0 = V0 36 0 p 0) ∧ ∀ p, p < i → (V 36 1 p 1 = V0 36 0 p 1 ∧ V 36 1 p 2 = V0 36 0 p 2) ∧ ∀ j, j < tN (V0 36 0 p 2) → V 37 1 p j = V0 37 0 p j
def SeP (A0 A : XA) (S0 S : Nat → Nat → Nat) (V0 V : Nat → Nat → Nat → Nat → Int32) (i : Nat) : Prop := (A 0 0 0 = A0 0 0 0 ∧ A 1 0 0 = A0 1 0 0 ∧ A 1 1 0 = A0 1 1 0) ∧ (∀ x y, ¬ (x = 8 ∧ y = 1) → S x y = S0 x y) ∧ i ≤ S 8 1 ∧ (∀ k w j, ¬ ((k = 38 ∨ k = 39) ∧ w = 1) → V k w j = V0 k w j) ∧ ∀ p, p < i → ∀ j, (j = 1 ∨ j = 2 ∨ j = 3 ∨ j = 4 ∨ j = 7) → V 38 1 p j = V0 38 0 p j
def SfP (A0 A : XA) (S0 S : Nat → Nat → Nat) (V0 V : Nat → Nat → Nat → Nat → Int32) (i : Nat) : Prop := (A 0 0 0 = A0 0 0 0 ∧ A 1 0 0 = A0 1 0 0 ∧ A 1 1 0 = A0 1 1 0) ∧ (∀ x y, ¬ (x = 10 ∧ y = 1) → S x y = S0 x y) ∧ i ≤ S 10 1 ∧ (∀ k w j, ¬ (k = 40 ∧ w = 1) → V k w j = V0 k w j) ∧ (∀ p, p < S 10 1 → V 40 1 p 0 = V0 40 0 p 0 ∧ V 40 1 p 1 = V0 40 0 p 1) ∧ ∀ p, p < i → V 40 1 p 2 = V0 40 0 p 2 ∧ V 40 1 p 3 = V0 40 0 p 3
theorem mset4 {μ : Mem} {q qv : Nat} {x y z u : va_E} (h : qv ≠ q) : mset (mset (mset (mset μ q x) q y) qv z) q u = mset (mset μ qv z) q u := by
  funext a
  by_cases h1 : a = q
  · simp [mset, h1]
  · by_cases h2 : a = qv
    · simp [mset, h1, h2, h]
    · simp [mset, h1, h2]
section GK3
variable {g : GP} {own : String} {cc : ByteArray} {nL : Nat} {i : MI} {d C N pc : Nat} {ls : List (Nat × Value)} {st : List Value} {μ : Mem} {Q : OC → Mem → Prop} {P : Nat → Prop} {F : Mem} {A : XA} {S : Nat → Nat → Nat} {V : Nat → Nat → Nat → Nat → Int32} {L : Nat → Int64} {fl : Nat → Nat → UInt32} {dn : XD}
theorem rvh (h : RV g P F A S V L fl dn μ) (k : RV g P F A S V L fl dn μ → PJ g own cc nL i d C N pc ls st μ Q) : PJ g own cc nL i d C N pc ls st μ Q := k h
end GK3
set_option maxHeartbeats 1000000 in
theorem set_c {g : GP} {μ : Mem} {d CR NR : Nat} {P : Nat → Prop} {F : Mem} {A : XA} {S : Nat → Nat → Nat} {V : Nat → Nat → Nat → Nat → Int32} {L : Nat → Int64} {fl : Nat → Nat → UInt32} {dn : XD} {Q : OC → Mem → Prop} (hd : 10 ≤ d) (h : RV g P F A S V L fl dn μ) (hi0 : ∀ p, p < S 4 1 → V 35 1 p 0 = nI p) (kk : ∀ A1 S1 V1 M1, RV g P F A1 S1 V1 L fl dn M1 → ScP A A1 S S1 V V1 (S 4 0) → S1 4 1 = S 4 0 → PJ g yX2_set.cls cX2_set 3 (some (.object "SettlerColony$World"), yX2_set.name, []) d CR NR 293 [(0, .ref (A1 1 1 0)), (1, .ref (A1 1 0 0))] [] M1 Q) : PJ g yX2_set.cls cX2_set 3 (some (.object "SettlerColony$World"), yX2_set.name, []) d (CR + 2 * (S 4 0 - S 4 1)) (NR + 161 * (S 4 0 - S 4 1)) 207 [(0, .ref (A 1 1 0)), (1, .ref (A 1 0 0))] [] μ Q := by
  obtain ⟨A0, hA0⟩ : ∃ A0, A0 = A := ⟨_, rfl⟩
  obtain ⟨S0, hS0⟩ : ∃ S0, S0 = S := ⟨_, rfl⟩
  obtain ⟨V0, hV0⟩ : ∃ V0, V0 = V := ⟨_, rfl⟩
  refine pl_iconst (pc := 207) (v := 0) dX2_set_207 (by rfl) ?_
  refine pj_istore_n (pc := 208) (lv' := [(2, _), (0, _), (1, _)]) dX2_set_208 rfl (by decide) rfl ?_
  refine ind_dn (n := (S0 4 0)) (P := fun i => ∀ M9 A S V, RV g P F A S V L fl dn M9 → ScP A0 A S0 S V0 V i → PJ g _ _ _ _ d (CR + 2 * (S 4 0 - S 4 1)) (NR + 161 * (S 4 0 - S 4 1)) 209 [(2, .int (nI i)), (0, .ref (A 1 1 0)), (1, .ref (A 1 0 0))] [] M9 _) (fun i hi ih M9 A S V hb sp => ?_) 0 (Nat.zero_le _) _ A S V h ⟨⟨by rw [hA0], by rw [hA0], by rw [hA0]⟩, fun _ _ _ => by rw [hS0], Nat.zero_le _, fun _ _ _ _ => by rw [hV0], fun p hp => by rw [hS0] at *; exact hi0 p hp, fun p hp => absurd hp (Nat.not_lt_zero _)⟩
  obtain ⟨spA, spS, spi, spV, spR⟩ := sp
  have e40 : S 4 0 = S0 4 0 := spS 4 0 (by omega)
  have z9 := hb.1
  have zb := z9.2.1
  have zc := z9.2.2.1
  refine pl_iload_n (pc := 209) dX2_set_209 rfl rfl ?_
  refine pl_aload_n (pc := 210) dX2_set_210 rfl rfl ?_
  refine pj_getf (pc := 211) ckX2 26 q772 dX2_set_211 (by decide) (hb.r1 (by decide)) rfl ?_
  obtain ⟨m_214, c_214, l_214, b_214, el_214, ne_214⟩ := hb.LA4 (w := 0) (by decide)
  refine pl_callVd (pc := 214) (As := []) (C1 := 0) (N1 := 0) (C2 := (CR + 2 * (S 4 0 - S 4 1))) (N2 := (NR + 161 * (S 4 0 - S 4 1))) ckJ2 mdJ2_size rfl q947 q948 q949 q129 dX2_set_214 rfl rfl (Nat.le_of_ble_eq_true rfl) l_214.1 (k_J2_size (d := d - 1) (by omega) l_214) (by omega) (by omega) (by omega) ?_
  refine pl_icmp_ge (pc := 217) (tgt := 293) dX2_set_217 (by decide) (by omega) (by omega) (fun c217 => ?_) (fun c217 => ?_)
  · refine PJ.sub [1, 2] rfl ?_
    have ei : i = S0 4 0 := by omega
    have e41 : S 4 1 = S0 4 0 := by omega
    have sp9 : ScP A0 A S0 S V0 V (S0 4 0) := by rw [ei] at spR spi; exact ⟨spA, spS, spi, spV, spR⟩
    rw [hA0, hS0, hV0] at sp9
    refine PJ.widen (C1 := CR) (N1 := NR) (by omega) (by omega) ?_
    exact kk A S V _ hb sp9 (by rw [e41, hS0])
  · refine pl_iload_n (pc := 220) dX2_set_220 rfl rfl ?_
    refine pl_aload_n (pc := 221) dX2_set_221 rfl rfl ?_
    refine pj_getf (pc := 222) ckX2 26 q772 dX2_set_222 (by decide) (hb.r1 (by decide)) rfl ?_
    obtain ⟨m_225, c_225, l_225, b_225, el_225, ne_225⟩ := hb.LA4 (w := 1) (by decide)
    refine pl_callVd (pc := 225) (As := []) (C1 := 0) (N1 := 0) (C2 := (CR + 2 * (S 4 0 - S 4 1))) (N2 := (NR + 161 * (S 4 0 - S 4 1))) ckJ2 mdJ2_size rfl q947 q948 q949 q129 dX2_set_225 rfl rfl (Nat.le_of_ble_eq_true rfl) l_225.1 (k_J2_size (d := d - 1) (by omega) l_225) (by omega) (by omega) (by omega) ?_
    refine pl_icmp_ne (pc := 228) (tgt := 262) dX2_set_228 (by decide) (by omega) (by omega) (fun c228 => ?_) (fun c228 => ?_)
    · have hi1 : i < S 4 1 := by omega
      have hi0 : i < S 4 0 := by omega
      refine pl_aload_n (pc := 262) dX2_set_262 rfl rfl ?_
      refine pj_getf (pc := 263) ckX2 26 q772 dX2_set_263 (by decide) (hb.r1 (by decide)) rfl ?_
      refine pl_iload_n (pc := 266) dX2_set_266 rfl rfl ?_
      obtain ⟨m_267, c_267, l_267, b_267, el_267, ne_267⟩ := hb.LA4 (w := 1) (by decide)
      refine pl_callVd (pc := 267) (As := [_]) (C1 := 0) (N1 := 0) (C2 := (CR + 2 * (S 4 0 - S 4 1))) (N2 := (NR + 161 * (S 4 0 - S 4 1))) ckJ2 mdJ2_get rfl q707 q708 q709 q129 dX2_set_267 rfl rfl (Nat.le_of_ble_eq_true rfl) l_267.1 (k_J2_get (d := d - 1) (by omega) l_267 (j := i) hi1 (if_pos hi1)) (by omega) (by omega) (by omega) ?_
      refine pj_castS (pc := 270) ckX10 q1190 dX2_set_270 (hb.r35 (by decide) hi1) ?_
      refine pl_aload_n (pc := 273) dX2_set_273 rfl rfl ?_
      refine pj_getf (pc := 274) ckX2 26 q772 dX2_set_274 (by decide) (hb.r1 (by decide)) rfl ?_
      refine pl_iload_n (pc := 277) dX2_set_277 rfl rfl ?_
      obtain ⟨m_278, c_278, l_278, b_278, el_278, ne_278⟩ := hb.LA4 (w := 0) (by decide)
      refine pl_callVd (pc := 278) (As := [_]) (C1 := 0) (N1 := 0) (C2 := (CR + 2 * (S 4 0 - S 4 1))) (N2 := (NR + 161 * (S 4 0 - S 4 1))) ckJ2 mdJ2_get rfl q707 q708 q709 q129 dX2_set_278 rfl rfl (Nat.le_of_ble_eq_true rfl) l_278.1 (k_J2_get (d := d - 1) (by omega) l_278 (j := i) hi0 (if_pos hi0)) (by omega) (by omega) (by omega) ?_
      refine pj_castS (pc := 281) ckX10 q1190 dX2_set_281 (hb.r35 (by decide) hi0) ?_
      refine pl_callVv (pc := 284) (As := [_]) (C1 := 0) (N1 := 0) (C2 := (CR + 2 * (S 4 0 - S 4 1))) (N2 := (NR + 161 * (S 4 0 - S 4 1))) ckX10 mdX10_set rfl q1479 q1480 q1481 q158 dX2_set_284 rfl rfl (Nat.le_of_ble_eq_true rfl) (hb.r35 (by decide) hi1) (k_X10_set (d := d - 1) (by omega) (hb.r35 (by decide) hi1) (hb.r35 (by decide) hi0) (hb.inj (LvX.k35 (by decide) hi0) (LvX.k35 (by decide) hi1) (by omega))) (by omega) (by omega) (by omega) ?_
      refine pl_iinc1 (pc := 287) (lv' := [(2, _), (0, _), (1, _)]) dX2_set_287 rfl rfl (by decide) rfl ?_
      refine pj_goto (pc := 290) (tgt := 209) dX2_set_290 (by decide) ?_
      have hw := hb.put (k := 35) (i := i) (LvX.k35 (by decide) hi1) (by decide) (by decide) (fun j => if j < 2 then V 35 1 i j else V 35 0 i j) (fun τ => rfl)
      have ei : True := trivial
      have vO : ∀ k w j, ¬ (k = 35 ∧ w = 1) → V k w j = V0 k w j := fun k w j hn => by
        exact spV k w j hn
      refine ih (by omega) _ A S _ hw ⟨spA, spS, (by omega), fun k w j hn => ?_, fun p hp => ?_, fun p hp j h2 h10 => ?_⟩
      · rw [rV_ne (by omega)]
        exact vO k w j hn
      · by_cases ep : p = i
        · subst ep
          rw [rV_eq]
          show (if 0 < 2 then V 35 1 p 0 else _) = _
          rw [if_pos (by decide)]
          exact spR.1 p (by omega)
        · rw [rV_ne (by omega)]
          exact spR.1 p hp
      · by_cases ep : p = i
        · subst ep
          rw [rV_eq]
          show (if j < 2 then _ else V 35 0 p j) = _
          rw [if_neg (by omega), vO 35 0 p (by omega)]
        · rw [rV_ne (by omega)]
          exact spR.2 p (by omega) j h2 h10
    · have hlt : S 4 1 < S 4 0 := by omega
      refine pl_aload_n (pc := 231) dX2_set_231 rfl rfl ?_
      refine pj_getf (pc := 232) ckX2 26 q772 dX2_set_232 (by decide) (hb.r1 (by decide)) rfl ?_
      refine pj_new (pc := 235) (C1 := (CR + 2 * (S 4 0 - S 4 1) - 1)) (N1 := (NR + 161 * (S 4 0 - S 4 1) - 10)) ckX10 q1190 q1059 q158 dX2_set_235 _ dfX10 (by omega) (by omega) (fun q_235 hn_235 gq_235 => ?_)
      refine rvh (hb.fresh hn_235) (fun y1 => ?_)
      refine pj_dup (pc := 238) dX2_set_238 rfl ?_
      refine pl_iload_n (pc := 239) dX2_set_239 rfl rfl ?_
      refine pl_aload_n (pc := 240) dX2_set_240 rfl rfl ?_
      refine pj_getf (pc := 241) ckX2 26 q772 dX2_set_241 (by decide) (y1.r1 (by decide)) rfl ?_
      refine pl_iload_n (pc := 244) dX2_set_244 rfl rfl ?_
      obtain ⟨m_245, c_245, l_245, b_245, el_245, ne_245⟩ := y1.LA4 (w := 0) (by decide)
      refine pl_callVd (pc := 245) (As := [_]) (C1 := 0) (N1 := 0) (C2 := (CR + 2 * (S 4 0 - S 4 1) - 1)) (N2 := (NR + 161 * (S 4 0 - S 4 1) - 10)) ckJ2 mdJ2_get rfl q707 q708 q709 q129 dX2_set_245 rfl rfl (Nat.le_of_ble_eq_true rfl) l_245.1 (k_J2_get (d := d - 1) (by omega) l_245 (j := i) (by omega) (if_pos (by omega))) (by omega) (by omega) (by omega) ?_
      refine pj_castS (pc := 248) ckX10 q1190 dX2_set_248 (y1.r35 (by decide) (by omega)) ?_
      refine pj_getfN (pc := 251) ckX10 1 q1068 dX2_set_251 (by decide) (y1.r35 (by decide) (by omega)) rfl ?_
      refine pl_iconst (pc := 254) (v := 0) dX2_set_254 (by rfl) ?_
      refine pl_callIv (pc := 255) (As := [_, _, _]) (C1 := 0) (N1 := 0) (C2 := (CR + 2 * (S 4 0 - S 4 1) - 1)) (N2 := (NR + 161 * (S 4 0 - S 4 1) - 10)) mdX10_init rfl q1478 q1061 q158 dX2_set_255 rfl rfl (Nat.le_of_ble_eq_true rfl) (k_X10_init (d := d - 1) (by omega) (f := fun _ => 0) mset_s) (by omega) (by omega) (by omega) ?_
      refine PJ.mem mset_m ?_
      obtain ⟨ow, fq⟩ := hb.own hn_235 (c := (pO (fun j => if j = 0 then nI i else if j = 1 then (V 35 0 i 1) else if j = 4 ∨ j = 7 ∨ j = 9 then -1 else 0)))
      refine rvf ow mset_s (fun My2 y2 hc => ?_)
      obtain ⟨m_258, c_258, l_258, b_258, el_258, ne_258⟩ := y2.LA4 (w := 1) (by decide)
      refine pl_add (pc := 258) (C1 := (CR + 2 * (S 4 0 - (S 4 1 + 1)))) (N1 := (NR + 161 * (S 4 0 - (S 4 1 + 1)))) q632 dX2_set_258 (by omega) l_258 (by omega) b_258 (fun j hj => if_neg (by omega)) el_258 hc rfl q3237 (ne_oo hc l_258.1 (by decide)) ne_258 (Nat.le_of_ble_eq_true rfl) (by omega) (by omega) (fun q2 m1 mc1 hq2 hm1 hm2 => ?_)
      refine rvk (y2.add1 (k := 4) (ko := 35) (mc1 := mc1) (q := q_235) (r := (fun j => if j = 0 then nI i else if j = 1 then V 35 0 i 1 else if j = 4 ∨ j = 7 ∨ j = 9 then -1 else 0)) (Or.inl ⟨rfl, rfl, hlt⟩) (own_keep fq) (fun _ z => Or.inl z) hb.pf (Or.inr rfl) fq hc hq2 ⟨hm1, hm2⟩) (fun My3 y3 => ?_)
      refine pj_pop (pc := 261) dX2_set_261 rfl ?_
      have hi1 : i < S1X S 4 1 4 1 := by rw [S1X_eq]; omega
      have hi0 : i < S1X S 4 1 4 0 := by rw [S1X_ne (by omega)]; omega
      refine pl_aload_n (pc := 262) dX2_set_262 rfl rfl ?_
      refine pj_getf (pc := 263) ckX2 26 q772 dX2_set_263 (by decide) (y3.r1 (by decide)) rfl ?_
      refine pl_iload_n (pc := 266) dX2_set_266 rfl rfl ?_
      obtain ⟨m_267, c_267, l_267, b_267, el_267, ne_267⟩ := y3.LA4 (w := 1) (by decide)
      refine pl_callVd (pc := 267) (As := [_]) (C1 := 0) (N1 := 0) (C2 := (CR + 2 * (S 4 0 - (S 4 1 + 1)))) (N2 := (NR + 161 * (S 4 0 - (S 4 1 + 1)))) ckJ2 mdJ2_get rfl q707 q708 q709 q129 dX2_set_267 rfl rfl (Nat.le_of_ble_eq_true rfl) l_267.1 (k_J2_get (d := d - 1) (by omega) l_267 (j := i) hi1 (if_pos hi1)) (by omega) (by omega) (by omega) ?_
      refine pj_castS (pc := 270) ckX10 q1190 dX2_set_270 (y3.r35 (by decide) hi1) ?_
      refine pl_aload_n (pc := 273) dX2_set_273 rfl rfl ?_
      refine pj_getf (pc := 274) ckX2 26 q772 dX2_set_274 (by decide) (y3.r1 (by decide)) rfl ?_
      refine pl_iload_n (pc := 277) dX2_set_277 rfl rfl ?_
      obtain ⟨m_278, c_278, l_278, b_278, el_278, ne_278⟩ := y3.LA4 (w := 0) (by decide)
      refine pl_callVd (pc := 278) (As := [_]) (C1 := 0) (N1 := 0) (C2 := (CR + 2 * (S 4 0 - (S 4 1 + 1)))) (N2 := (NR + 161 * (S 4 0 - (S 4 1 + 1)))) ckJ2 mdJ2_get rfl q707 q708 q709 q129 dX2_set_278 rfl rfl (Nat.le_of_ble_eq_true rfl) l_278.1 (k_J2_get (d := d - 1) (by omega) l_278 (j := i) hi0 (if_pos hi0)) (by omega) (by omega) (by omega) ?_
      refine pj_castS (pc := 281) ckX10 q1190 dX2_set_281 (y3.r35 (by decide) hi0) ?_
      refine pl_callVv (pc := 284) (As := [_]) (C1 := 0) (N1 := 0) (C2 := (CR + 2 * (S 4 0 - (S 4 1 + 1)))) (N2 := (NR + 161 * (S 4 0 - (S 4 1 + 1)))) ckX10 mdX10_set rfl q1479 q1480 q1481 q158 dX2_set_284 rfl rfl (Nat.le_of_ble_eq_true rfl) (y3.r35 (by decide) hi1) (k_X10_set (d := d - 1) (by omega) (y3.r35 (by decide) hi1) (y3.r35 (by decide) hi0) (y3.inj (LvX.k35 (by decide) hi0) (LvX.k35 (by decide) hi1) (by omega))) (by omega) (by omega) (by omega) ?_
      refine pl_iinc1 (pc := 287) (lv' := [(2, _), (0, _), (1, _)]) dX2_set_287 rfl rfl (by decide) rfl ?_
      refine pj_goto (pc := 290) (tgt := 209) dX2_set_290 (by decide) ?_
      generalize hVn : (rV V 35 1 (S 4 1) (fun j => if j = 0 then nI i else if j = 1 then V 35 0 i 1 else if j = 4 ∨ j = 7 ∨ j = 9 then -1 else 0)) = Vn at y3 ⊢
      have hw := y3.put (k := 35) (i := i) (LvX.k35 (by decide) hi1) (by decide) (by decide) (fun j => if j < 2 then Vn 35 1 i j else Vn 35 0 i j) (fun τ => rfl)
      refine PJ.widen (C1 := CR + 2 * (S1X S 4 1 4 0 - S1X S 4 1 4 1)) (N1 := NR + 161 * (S1X S 4 1 4 0 - S1X S 4 1 4 1)) (by rw [S1X_eq, S1X_ne (by omega)]; omega) (by rw [S1X_eq, S1X_ne (by omega)]; omega) ?_
      have ei : i = S 4 1 := by omega
      have vO : ∀ k w j, ¬ (k = 35 ∧ w = 1) → Vn k w j = V0 k w j := fun k w j hn => by
        rw [← hVn]
        rw [rV_ne (by omega)]
        exact spV k w j hn
      refine ih (by omega) _ (A1X A 4 35 1 (S 4 1) q_235 q2) (S1X S 4 1) _ hw ⟨⟨by rw [← spA.1]; rfl, by rw [← spA.2.1]; rfl, by rw [← spA.2.2]; rfl⟩, (fun x y hxy => (S1X_ne hxy).trans (spS x y hxy)), (by rw [S1X_eq]; omega), fun k w j hn => ?_, fun p hp => ?_, fun p hp j h2 h10 => ?_⟩
      · rw [rV_ne (by omega)]
        exact vO k w j hn
      · by_cases ep : p = i
        · subst ep
          rw [rV_eq]
          show (if 0 < 2 then Vn 35 1 p 0 else _) = _
          rw [if_pos (by decide), ← hVn]
          rw [← ei, rV_eq]; rfl
        · rw [rV_ne (by omega), ← hVn]
          rw [rV_ne (by omega)]; exact spR.1 p (by rw [S1X_eq] at hp; omega)
      · by_cases ep : p = i
        · subst ep
          rw [rV_eq]
          show (if j < 2 then _ else Vn 35 0 p j) = _
          rw [if_neg (by omega), vO 35 0 p (by omega)]
        · rw [rV_ne (by omega), ← hVn]
          rw [rV_ne (by omega)]; exact spR.2 p (by omega) j h2 h10
set_option maxHeartbeats 1000000 in
theorem set_d {g : GP} {μ : Mem} {d CR NR : Nat} {P : Nat → Prop} {F : Mem} {A : XA} {S : Nat → Nat → Nat} {V : Nat → Nat → Nat → Nat → Int32} {L : Nat → Int64} {fl : Nat → Nat → UInt32} {dn : XD} {Q : OC → Mem → Prop} (hd : 10 ≤ d) (h : RV g P F A S V L fl dn μ) (hi0 : ∀ p, p < S 6 1 → V 36 1 p 0 = V 36 0 p 0) (hq0 : ∀ p, p < S 6 0 → ∃ m, m ≤ 12 ∧ V 36 0 p 2 = nI m) (kk : ∀ A1 S1 V1 M1, RV g P F A1 S1 V1 L fl dn M1 → SdP A A1 S S1 V V1 (S 6 0) → S1 6 1 = S 6 0 → PJ g yX2_set.cls cX2_set 3 (some (.object "SettlerColony$World"), yX2_set.name, []) d CR NR 377 [(0, .ref (A1 1 1 0)), (1, .ref (A1 1 0 0))] [] M1 Q) : PJ g yX2_set.cls cX2_set 3 (some (.object "SettlerColony$World"), yX2_set.name, []) d (CR + 3 * (S 6 0 - S 6 1)) (NR + 167 * (S 6 0 - S 6 1)) 293 [(0, .ref (A 1 1 0)), (1, .ref (A 1 0 0))] [] μ Q := by
  obtain ⟨A0, hA0⟩ : ∃ A0, A0 = A := ⟨_, rfl⟩
  obtain ⟨S0, hS0⟩ : ∃ S0, S0 = S := ⟨_, rfl⟩
  obtain ⟨V0, hV0⟩ : ∃ V0, V0 = V := ⟨_, rfl⟩
  refine pl_iconst (pc := 293) (v := 0) dX2_set_293 (by rfl) ?_
  refine pj_istore_n (pc := 294) (lv' := [(2, _), (0, _), (1, _)]) dX2_set_294 rfl (by decide) rfl ?_
  refine ind_dn (n := (S0 6 0)) (P := fun i => ∀ M9 A S V, RV g P F A S V L fl dn M9 → SdP A0 A S0 S V0 V i → PJ g _ _ _ _ d (CR + 3 * (S 6 0 - S 6 1)) (NR + 167 * (S 6 0 - S 6 1)) 295 [(2, .int (nI i)), (0, .ref (A 1 1 0)), (1, .ref (A 1 0 0))] [] M9 _) (fun i hi ih M9 A S V hb sp => ?_) 0 (Nat.zero_le _) _ A S V h ⟨⟨by rw [hA0], by rw [hA0], by rw [hA0]⟩, fun _ _ _ => by rw [hS0], Nat.zero_le _, fun _ _ _ _ => by rw [hV0], fun p hp => by rw [hV0]; exact hi0 p hp, fun p hp => absurd hp (Nat.not_lt_zero _)⟩
  obtain ⟨spA, spS, spi, spV, spR⟩ := sp
  have e40 : S 6 0 = S0 6 0 := spS 6 0 (by omega)
  have z9 := hb.1
  have zb := z9.2.1
  have zc := z9.2.2.1
  refine pl_iload_n (pc := 295) dX2_set_295 rfl rfl ?_
  refine pl_aload_n (pc := 296) dX2_set_296 rfl rfl ?_
  refine pj_getf (pc := 297) ckX2 27 q774 dX2_set_297 (by decide) (hb.r1 (by decide)) rfl ?_
  obtain ⟨m_300, c_300, l_300, b_300, el_300, ne_300⟩ := hb.LA6 (w := 0) (by decide)
  refine pl_callVd (pc := 300) (As := []) (C1 := 0) (N1 := 0) (C2 := (CR + 3 * (S 6 0 - S 6 1))) (N2 := (NR + 167 * (S 6 0 - S 6 1))) ckJ2 mdJ2_size rfl q947 q948 q949 q129 dX2_set_300 rfl rfl (Nat.le_of_ble_eq_true rfl) l_300.1 (k_J2_size (d := d - 1) (by omega) l_300) (by omega) (by omega) (by omega) ?_
  refine pl_icmp_ge (pc := 303) (tgt := 377) dX2_set_303 (by decide) (by omega) (by omega) (fun c303 => ?_) (fun c303 => ?_)
  · refine PJ.sub [1, 2] rfl ?_
    have ei : i = S0 6 0 := by omega
    have e41 : S 6 1 = S0 6 0 := by omega
    have sp9 : SdP A0 A S0 S V0 V (S0 6 0) := by rw [ei] at spR spi; exact ⟨spA, spS, spi, spV, spR⟩
    rw [hA0, hS0, hV0] at sp9
    refine PJ.widen (C1 := CR) (N1 := NR) (by omega) (by omega) ?_
    exact kk A S V _ hb sp9 (by rw [e41, hS0])
  · refine pl_iload_n (pc := 306) dX2_set_306 rfl rfl ?_
    refine pl_aload_n (pc := 307) dX2_set_307 rfl rfl ?_
    refine pj_getf (pc := 308) ckX2 27 q774 dX2_set_308 (by decide) (hb.r1 (by decide)) rfl ?_
    obtain ⟨m_311, c_311, l_311, b_311, el_311, ne_311⟩ := hb.LA6 (w := 1) (by decide)
    refine pl_callVd (pc := 311) (As := []) (C1 := 0) (N1 := 0) (C2 := (CR + 3 * (S 6 0 - S 6 1))) (N2 := (NR + 167 * (S 6 0 - S 6 1))) ckJ2 mdJ2_size rfl q947 q948 q949 q129 dX2_set_311 rfl rfl (Nat.le_of_ble_eq_true rfl) l_311.1 (k_J2_size (d := d - 1) (by omega) l_311) (by omega) (by omega) (by omega) ?_
    refine pl_icmp_ne (pc := 314) (tgt := 346) dX2_set_314 (by decide) (by omega) (by omega) (fun c314 => ?_) (fun c314 => ?_)
    · have hi1 : i < S 6 1 := by omega
      have hi0 : i < S 6 0 := by omega
      obtain ⟨mq, hqm, eqm0⟩ := hq0 i (by rw [← hS0]; omega)
      have eqm : V 36 0 i 2 = nI mq := by rw [spV 36 0 i (by omega), hV0]; exact eqm0
      refine pl_aload_n (pc := 346) dX2_set_346 rfl rfl ?_
      refine pj_getf (pc := 347) ckX2 27 q774 dX2_set_347 (by decide) (hb.r1 (by decide)) rfl ?_
      refine pl_iload_n (pc := 350) dX2_set_350 rfl rfl ?_
      obtain ⟨m_351, c_351, l_351, b_351, el_351, ne_351⟩ := hb.LA6 (w := 1) (by decide)
      refine pl_callVd (pc := 351) (As := [_]) (C1 := 0) (N1 := 0) (C2 := (CR + 3 * (S 6 0 - S 6 1))) (N2 := (NR + 167 * (S 6 0 - S 6 1))) ckJ2 mdJ2_get rfl q707 q708 q709 q129 dX2_set_351 rfl rfl (Nat.le_of_ble_eq_true rfl) l_351.1 (k_J2_get (d := d - 1) (by omega) l_351 (j := i) hi1 (if_pos hi1)) (by omega) (by omega) (by omega) ?_
      refine pj_castS (pc := 354) ckX11 q1483 dX2_set_354 (hb.r36 (by decide) hi1) ?_
      refine pl_aload_n (pc := 357) dX2_set_357 rfl rfl ?_
      refine pj_getf (pc := 358) ckX2 27 q774 dX2_set_358 (by decide) (hb.r1 (by decide)) rfl ?_
      refine pl_iload_n (pc := 361) dX2_set_361 rfl rfl ?_
      obtain ⟨m_362, c_362, l_362, b_362, el_362, ne_362⟩ := hb.LA6 (w := 0) (by decide)
      refine pl_callVd (pc := 362) (As := [_]) (C1 := 0) (N1 := 0) (C2 := (CR + 3 * (S 6 0 - S 6 1))) (N2 := (NR + 167 * (S 6 0 - S 6 1))) ckJ2 mdJ2_get rfl q707 q708 q709 q129 dX2_set_362 rfl rfl (Nat.le_of_ble_eq_true rfl) l_362.1 (k_J2_get (d := d - 1) (by omega) l_362 (j := i) hi0 (if_pos hi0)) (by omega) (by omega) (by omega) ?_
      refine pj_castS (pc := 365) ckX11 q1483 dX2_set_365 (hb.r36 (by decide) hi0) ?_
      refine pl_callVv (pc := 368) (As := [_]) (C1 := 0) (N1 := 0) (C2 := (CR + 3 * (S 6 0 - S 6 1))) (N2 := (NR + 167 * (S 6 0 - S 6 1))) ckX11 mdX11_set rfl q1485 q1486 q1487 q159 dX2_set_368 rfl rfl (Nat.le_of_ble_eq_true rfl) (hb.r36 (by decide) hi1) (k_X11_set (d := d - 1) (by omega) (hb.r36 (by decide) hi1) (hb.r36 (by decide) hi0) (hb.r37 (by decide) hi1) (hb.r37 (by decide) hi0) (hb.inj (LvX.k36 (Or.inl rfl) (by decide) hi0) (LvX.k36 (Or.inl rfl) (by decide) hi1) (by omega)) eqm hqm) (by omega) (by omega) (by omega) ?_
      refine pl_iinc1 (pc := 371) (lv' := [(2, _), (0, _), (1, _)]) dX2_set_371 rfl rfl (by decide) rfl ?_
      refine pj_goto (pc := 374) (tgt := 295) dX2_set_374 (by decide) ?_
      have hw0 := hb.put (k := 36) (i := i) (LvX.k36 (Or.inl rfl) (by decide) hi1) (by decide) (by decide) (fun j => if j = 0 then V 36 1 i 0 else V 36 0 i j) (fun τ => rfl)
      have hw := hw0.put (k := 37) (i := i) (LvX.k36 (Or.inr rfl) (by decide) hi1) (by decide) (by decide) (va_cpy (V 37 0 i) (V 37 1 i) 0 0 mq) (fun τ => rfl)
      have ei : True := trivial
      have vO : ∀ k w j, ¬ ((k = 36 ∨ k = 37) ∧ w = 1) → V k w j = V0 k w j := fun k w j hn => by
        exact spV k w j hn
      refine ih (by omega) _ A S _ hw ⟨spA, spS, (by omega), fun k w j hn => ?_, fun p hp => ?_, fun p hp => ?_⟩
      · rw [rV_ne (by omega), rV_ne (by omega)]
        exact vO k w j hn
      · rw [rV_ne (by omega)]
        by_cases ep : p = i
        · subst ep
          rw [rV_eq]
          show (if 0 = 0 then V 36 1 p 0 else _) = _
          rw [if_pos rfl]
          exact spR.1 p (by omega)
        · rw [rV_ne (by omega)]
          exact spR.1 p hp
      · by_cases ep : p = i
        · subst ep
          rw [rV_ne (by omega), rV_eq, rV_eq]
          refine ⟨⟨?_, ?_⟩, fun j hj => ?_⟩
          · show (if 1 = 0 then _ else V 36 0 p 1) = _
            rw [if_neg (by decide), vO 36 0 p (by omega)]
          · show (if 2 = 0 then _ else V 36 0 p 2) = _
            rw [if_neg (by decide), vO 36 0 p (by omega)]
          · rw [hV0, eqm0, tN_nI (by omega)] at hj
            rw [pk_cpy_in (by omega) (by omega), Nat.sub_zero, Nat.zero_add, vO 37 0 p (by omega)]
        · rw [rV_ne (by omega), rV_ne (by omega), rV_ne (by omega), rV_ne (by omega)]
          exact spR.2 p (by omega)
    · have hlt : S 6 1 < S 6 0 := by omega
      refine pl_aload_n (pc := 317) dX2_set_317 rfl rfl ?_
      refine pj_getf (pc := 318) ckX2 27 q774 dX2_set_318 (by decide) (hb.r1 (by decide)) rfl ?_
      refine pj_new (pc := 321) (C1 := (CR + 3 * (S 6 0 - S 6 1) - 1)) (N1 := (NR + 167 * (S 6 0 - S 6 1) - 4)) ckX11 q1483 q1423 q159 dX2_set_321 _ dfX11 (by omega) (by omega) (fun q_321 hn_321 gq_321 => ?_)
      refine rvh (hb.fresh hn_321) (fun y1 => ?_)
      refine pj_dup (pc := 324) dX2_set_324 rfl ?_
      refine pl_aload_n (pc := 325) dX2_set_325 rfl rfl ?_
      refine pj_getf (pc := 326) ckX2 27 q774 dX2_set_326 (by decide) (y1.r1 (by decide)) rfl ?_
      refine pl_iload_n (pc := 329) dX2_set_329 rfl rfl ?_
      obtain ⟨m_330, c_330, l_330, b_330, el_330, ne_330⟩ := y1.LA6 (w := 0) (by decide)
      refine pl_callVd (pc := 330) (As := [_]) (C1 := 0) (N1 := 0) (C2 := (CR + 3 * (S 6 0 - S 6 1) - 1)) (N2 := (NR + 167 * (S 6 0 - S 6 1) - 4)) ckJ2 mdJ2_get rfl q707 q708 q709 q129 dX2_set_330 rfl rfl (Nat.le_of_ble_eq_true rfl) l_330.1 (k_J2_get (d := d - 1) (by omega) l_330 (j := i) (by omega) (if_pos (by omega))) (by omega) (by omega) (by omega) ?_
      refine pj_castS (pc := 333) ckX11 q1483 dX2_set_333 (y1.r36 (by decide) (by omega)) ?_
      refine pj_getfN (pc := 336) ckX11 0 q1429 dX2_set_336 (by decide) (y1.r36 (by decide) (by omega)) rfl ?_
      refine pl_callIWv (pc := 339) (As := [_]) (C1 := 1) (N1 := 12) (C2 := ((CR + 3 * (S 6 0 - S 6 1) - 1) - 1)) (N2 := ((NR + 167 * (S 6 0 - S 6 1) - 4) - 12)) mdX11_init rfl q1484 q1425 q159 dX2_set_339 rfl rfl (Nat.le_of_ble_eq_true rfl) (k_X11_init (d := d - 1) (by omega) mset_s) (by omega) (by omega) (by omega) (fun My2 qy2 => ?_)
      obtain ⟨qv, hv, e0⟩ := qy2
      subst e0
      have nv : qv ≠ q_321 := fun z => by rw [z, mset_s] at hv; cases hv
      have hv0 : M9 qv = none := by rw [mset_n nv] at hv; exact hv
      refine PJ.mem (mset3 nv) ?_
      obtain ⟨owa, fv⟩ := hb.own hv0 (c := (intX g 0 12 (fun _ => 0)))
      obtain ⟨owb, fq1⟩ := owa.own (show mset M9 qv (intX g 0 12 (fun _ => 0)) q_321 = none by rw [mset_n (Ne.symm nv)]; exact hn_321) (c := (paO (fun j => if j = 0 then V 36 0 i 0 else 0) qv))
      have fq : F q_321 = none := by rw [mset_n (Ne.symm nv)] at fq1; exact fq1
      refine rvf2 owb mset_s ((mset_n nv).trans mset_s) (fun My3 y3 hc hcv => ?_)
      obtain ⟨m_342, c_342, l_342, b_342, el_342, ne_342⟩ := y3.LA6 (w := 1) (by decide)
      refine pl_add (pc := 342) (C1 := (CR + 3 * (S 6 0 - (S 6 1 + 1)))) (N1 := (NR + 167 * (S 6 0 - (S 6 1 + 1)))) q632 dX2_set_342 (by omega) l_342 (by omega) b_342 (fun j hj => if_neg (by omega)) el_342 hc rfl q3255 (ne_oo hc l_342.1 (by decide)) ne_342 (Nat.le_of_ble_eq_true rfl) (by omega) (by omega) (fun q2 m1 mc1 hq2 hm1 hm2 => ?_)
      refine rvk (y3.add2 (k := 6) (ko := 36) (kq := 37) (mc1 := mc1) (q := q_321) (qv := qv) (r := (fun j => if j = 0 then V 36 0 i 0 else 0)) (rv := fun _ => 0) (Or.inl ⟨rfl, rfl, rfl, hlt⟩) (fun a x z => own_keep fq1 a x (own_keep fv a x z)) (fun _ z => Or.inl (Or.inl z)) hb.pf (Or.inr rfl) fq hc (Or.inl (Or.inr rfl)) fv hcv (Ne.symm nv) hq2 ⟨hm1, hm2⟩) (fun My4 y4 => ?_)
      refine pj_pop (pc := 345) dX2_set_345 rfl ?_
      have hi1 : i < S1X S 6 1 6 1 := by rw [S1X_eq]; omega
      have hi0 : i < S1X S 6 1 6 0 := by rw [S1X_ne (by omega)]; omega
      obtain ⟨mq, hqm, eqm0⟩ := hq0 i (by rw [← hS0]; omega)
      have eqm : (rV (rV V 37 1 (S 6 1) (fun _ => 0)) 36 1 (S 6 1) (fun j => if j = 0 then V 36 0 i 0 else 0)) 36 0 i 2 = nI mq := by rw [rV_ne (by omega), rV_ne (by omega)]; rw [spV 36 0 i (by omega), hV0]; exact eqm0
      refine pl_aload_n (pc := 346) dX2_set_346 rfl rfl ?_
      refine pj_getf (pc := 347) ckX2 27 q774 dX2_set_347 (by decide) (y4.r1 (by decide)) rfl ?_
      refine pl_iload_n (pc := 350) dX2_set_350 rfl rfl ?_
      obtain ⟨m_351, c_351, l_351, b_351, el_351, ne_351⟩ := y4.LA6 (w := 1) (by decide)
      refine pl_callVd (pc := 351) (As := [_]) (C1 := 0) (N1 := 0) (C2 := (CR + 3 * (S 6 0 - (S 6 1 + 1)))) (N2 := (NR + 167 * (S 6 0 - (S 6 1 + 1)))) ckJ2 mdJ2_get rfl q707 q708 q709 q129 dX2_set_351 rfl rfl (Nat.le_of_ble_eq_true rfl) l_351.1 (k_J2_get (d := d - 1) (by omega) l_351 (j := i) hi1 (if_pos hi1)) (by omega) (by omega) (by omega) ?_
      refine pj_castS (pc := 354) ckX11 q1483 dX2_set_354 (y4.r36 (by decide) hi1) ?_
      refine pl_aload_n (pc := 357) dX2_set_357 rfl rfl ?_
      refine pj_getf (pc := 358) ckX2 27 q774 dX2_set_358 (by decide) (y4.r1 (by decide)) rfl ?_
      refine pl_iload_n (pc := 361) dX2_set_361 rfl rfl ?_
      obtain ⟨m_362, c_362, l_362, b_362, el_362, ne_362⟩ := y4.LA6 (w := 0) (by decide)
      refine pl_callVd (pc := 362) (As := [_]) (C1 := 0) (N1 := 0) (C2 := (CR + 3 * (S 6 0 - (S 6 1 + 1)))) (N2 := (NR + 167 * (S 6 0 - (S 6 1 + 1)))) ckJ2 mdJ2_get rfl q707 q708 q709 q129 dX2_set_362 rfl rfl (Nat.le_of_ble_eq_true rfl) l_362.1 (k_J2_get (d := d - 1) (by omega) l_362 (j := i) hi0 (if_pos hi0)) (by omega) (by omega) (by omega) ?_
      refine pj_castS (pc := 365) ckX11 q1483 dX2_set_365 (y4.r36 (by decide) hi0) ?_
      refine pl_callVv (pc := 368) (As := [_]) (C1 := 0) (N1 := 0) (C2 := (CR + 3 * (S 6 0 - (S 6 1 + 1)))) (N2 := (NR + 167 * (S 6 0 - (S 6 1 + 1)))) ckX11 mdX11_set rfl q1485 q1486 q1487 q159 dX2_set_368 rfl rfl (Nat.le_of_ble_eq_true rfl) (y4.r36 (by decide) hi1) (k_X11_set (d := d - 1) (by omega) (y4.r36 (by decide) hi1) (y4.r36 (by decide) hi0) (y4.r37 (by decide) hi1) (y4.r37 (by decide) hi0) (y4.inj (LvX.k36 (Or.inl rfl) (by decide) hi0) (LvX.k36 (Or.inl rfl) (by decide) hi1) (by omega)) eqm hqm) (by omega) (by omega) (by omega) ?_
      refine pl_iinc1 (pc := 371) (lv' := [(2, _), (0, _), (1, _)]) dX2_set_371 rfl rfl (by decide) rfl ?_
      refine pj_goto (pc := 374) (tgt := 295) dX2_set_374 (by decide) ?_
      generalize hVn : (rV (rV V 37 1 (S 6 1) (fun _ => 0)) 36 1 (S 6 1) (fun j => if j = 0 then V 36 0 i 0 else 0)) = Vn at y4 ⊢
      have hw0 := y4.put (k := 36) (i := i) (LvX.k36 (Or.inl rfl) (by decide) hi1) (by decide) (by decide) (fun j => if j = 0 then Vn 36 1 i 0 else Vn 36 0 i j) (fun τ => rfl)
      have hw := hw0.put (k := 37) (i := i) (LvX.k36 (Or.inr rfl) (by decide) hi1) (by decide) (by decide) (va_cpy (Vn 37 0 i) (Vn 37 1 i) 0 0 mq) (fun τ => rfl)
      refine PJ.widen (C1 := CR + 3 * (S1X S 6 1 6 0 - S1X S 6 1 6 1)) (N1 := NR + 167 * (S1X S 6 1 6 0 - S1X S 6 1 6 1)) (by rw [S1X_eq, S1X_ne (by omega)]; omega) (by rw [S1X_eq, S1X_ne (by omega)]; omega) ?_
      have ei : i = S 6 1 := by omega
      have vO : ∀ k w j, ¬ ((k = 36 ∨ k = 37) ∧ w = 1) → Vn k w j = V0 k w j := fun k w j hn => by
        rw [← hVn]
        rw [rV_ne (by omega), rV_ne (by omega)]
        exact spV k w j hn
      refine ih (by omega) _ (A2X A 6 36 37 1 (S 6 1) q_321 qv q2) (S1X S 6 1) _ hw ⟨⟨by rw [← spA.1]; rfl, by rw [← spA.2.1]; rfl, by rw [← spA.2.2]; rfl⟩, (fun x y hxy => (S1X_ne hxy).trans (spS x y hxy)), (by rw [S1X_eq]; omega), fun k w j hn => ?_, fun p hp => ?_, fun p hp => ?_⟩
      · rw [rV_ne (by omega), rV_ne (by omega)]
        exact vO k w j hn
      · rw [rV_ne (by omega)]
        by_cases ep : p = i
        · subst ep
          rw [rV_eq]
          show (if 0 = 0 then Vn 36 1 p 0 else _) = _
          rw [if_pos rfl, ← hVn]
          rw [← ei, rV_eq, ← spV 36 0 p (by omega)]; rfl
        · rw [rV_ne (by omega), ← hVn]
          rw [rV_ne (by omega), rV_ne (by omega)]; exact spR.1 p (by rw [S1X_eq] at hp; omega)
      · by_cases ep : p = i
        · subst ep
          rw [rV_ne (by omega), rV_eq, rV_eq]
          refine ⟨⟨?_, ?_⟩, fun j hj => ?_⟩
          · show (if 1 = 0 then _ else Vn 36 0 p 1) = _
            rw [if_neg (by decide), vO 36 0 p (by omega)]
          · show (if 2 = 0 then _ else Vn 36 0 p 2) = _
            rw [if_neg (by decide), vO 36 0 p (by omega)]
          · rw [hV0, eqm0, tN_nI (by omega)] at hj
            rw [pk_cpy_in (by omega) (by omega), Nat.sub_zero, Nat.zero_add, vO 37 0 p (by omega)]
        · rw [rV_ne (by omega), rV_ne (by omega), rV_ne (by omega), rV_ne (by omega), ← hVn]
          rw [rV_ne (by omega), rV_ne (by omega), rV_ne (by omega), rV_ne (by omega)]; exact spR.2 p (by omega)
set_option maxHeartbeats 1000000 in
theorem set_e {g : GP} {μ : Mem} {d CR NR : Nat} {P : Nat → Prop} {F : Mem} {A : XA} {S : Nat → Nat → Nat} {V : Nat → Nat → Nat → Nat → Int32} {L : Nat → Int64} {fl : Nat → Nat → UInt32} {dn : XD} {Q : OC → Mem → Prop} (hd : 10 ≤ d) (h : RV g P F A S V L fl dn μ) (hz0 : ∀ p, p < S 8 0 → V 38 0 p 7 = nI 0 ∨ V 38 0 p 7 = nI 1) (kk : ∀ A1 S1 V1 M1, RV g P F A1 S1 V1 L fl dn M1 → SeP A A1 S S1 V V1 (S 8 0) → S1 8 1 = S 8 0 → PJ g yX2_set.cls cX2_set 3 (some (.object "SettlerColony$World"), yX2_set.name, []) d CR NR 461 [(0, .ref (A1 1 1 0)), (1, .ref (A1 1 0 0))] [] M1 Q) : PJ g yX2_set.cls cX2_set 3 (some (.object "SettlerColony$World"), yX2_set.name, []) d (CR + 3 * (S 8 0 - S 8 1)) (NR + 260 * (S 8 0 - S 8 1)) 377 [(0, .ref (A 1 1 0)), (1, .ref (A 1 0 0))] [] μ Q := by
  obtain ⟨A0, hA0⟩ : ∃ A0, A0 = A := ⟨_, rfl⟩
  obtain ⟨S0, hS0⟩ : ∃ S0, S0 = S := ⟨_, rfl⟩
  obtain ⟨V0, hV0⟩ : ∃ V0, V0 = V := ⟨_, rfl⟩
  refine pl_iconst (pc := 377) (v := 0) dX2_set_377 (by rfl) ?_
  refine pj_istore_n (pc := 378) (lv' := [(2, _), (0, _), (1, _)]) dX2_set_378 rfl (by decide) rfl ?_
  refine ind_dn (n := (S0 8 0)) (P := fun i => ∀ M9 A S V, RV g P F A S V L fl dn M9 → SeP A0 A S0 S V0 V i → PJ g _ _ _ _ d (CR + 3 * (S 8 0 - S 8 1)) (NR + 260 * (S 8 0 - S 8 1)) 379 [(2, .int (nI i)), (0, .ref (A 1 1 0)), (1, .ref (A 1 0 0))] [] M9 _) (fun i hi ih M9 A S V hb sp => ?_) 0 (Nat.zero_le _) _ A S V h ⟨⟨by rw [hA0], by rw [hA0], by rw [hA0]⟩, fun _ _ _ => by rw [hS0], Nat.zero_le _, fun _ _ _ _ => by rw [hV0], fun p hp => absurd hp (Nat.not_lt_zero _)⟩
  obtain ⟨spA, spS, spi, spV, spR⟩ := sp
  have e40 : S 8 0 = S0 8 0 := spS 8 0 (by omega)
  have z9 := hb.1
  have zb := z9.2.1
  have zc := z9.2.2.1
  refine pl_iload_n (pc := 379) dX2_set_379 rfl rfl ?_
  refine pl_aload_n (pc := 380) dX2_set_380 rfl rfl ?_
  refine pj_getf (pc := 381) ckX2 28 q776 dX2_set_381 (by decide) (hb.r1 (by decide)) rfl ?_
  obtain ⟨m_384, c_384, l_384, b_384, el_384, ne_384⟩ := hb.LA8 (w := 0) (by decide)
  refine pl_callVd (pc := 384) (As := []) (C1 := 0) (N1 := 0) (C2 := (CR + 3 * (S 8 0 - S 8 1))) (N2 := (NR + 260 * (S 8 0 - S 8 1))) ckJ2 mdJ2_size rfl q947 q948 q949 q129 dX2_set_384 rfl rfl (Nat.le_of_ble_eq_true rfl) l_384.1 (k_J2_size (d := d - 1) (by omega) l_384) (by omega) (by omega) (by omega) ?_
  refine pl_icmp_ge (pc := 387) (tgt := 461) dX2_set_387 (by decide) (by omega) (by omega) (fun c387 => ?_) (fun c387 => ?_)
  · refine PJ.sub [1, 2] rfl ?_
    have ei : i = S0 8 0 := by omega
    have e41 : S 8 1 = S0 8 0 := by omega
    have sp9 : SeP A0 A S0 S V0 V (S0 8 0) := by rw [ei] at spR spi; exact ⟨spA, spS, spi, spV, spR⟩
    rw [hA0, hS0, hV0] at sp9
    refine PJ.widen (C1 := CR) (N1 := NR) (by omega) (by omega) ?_
    exact kk A S V _ hb sp9 (by rw [e41, hS0])
  · refine pl_iload_n (pc := 390) dX2_set_390 rfl rfl ?_
    refine pl_aload_n (pc := 391) dX2_set_391 rfl rfl ?_
    refine pj_getf (pc := 392) ckX2 28 q776 dX2_set_392 (by decide) (hb.r1 (by decide)) rfl ?_
    obtain ⟨m_395, c_395, l_395, b_395, el_395, ne_395⟩ := hb.LA8 (w := 1) (by decide)
    refine pl_callVd (pc := 395) (As := []) (C1 := 0) (N1 := 0) (C2 := (CR + 3 * (S 8 0 - S 8 1))) (N2 := (NR + 260 * (S 8 0 - S 8 1))) ckJ2 mdJ2_size rfl q947 q948 q949 q129 dX2_set_395 rfl rfl (Nat.le_of_ble_eq_true rfl) l_395.1 (k_J2_size (d := d - 1) (by omega) l_395) (by omega) (by omega) (by omega) ?_
    refine pl_icmp_ne (pc := 398) (tgt := 430) dX2_set_398 (by decide) (by omega) (by omega) (fun c398 => ?_) (fun c398 => ?_)
    · have hi1 : i < S 8 1 := by omega
      have hi0 : i < S 8 0 := by omega
      have hz : V 38 0 i 7 = nI 0 ∨ V 38 0 i 7 = nI 1 := by rw [spV 38 0 i (by omega), hV0]; exact hz0 i (by rw [← hS0]; omega)
      refine pl_aload_n (pc := 430) dX2_set_430 rfl rfl ?_
      refine pj_getf (pc := 431) ckX2 28 q776 dX2_set_431 (by decide) (hb.r1 (by decide)) rfl ?_
      refine pl_iload_n (pc := 434) dX2_set_434 rfl rfl ?_
      obtain ⟨m_435, c_435, l_435, b_435, el_435, ne_435⟩ := hb.LA8 (w := 1) (by decide)
      refine pl_callVd (pc := 435) (As := [_]) (C1 := 0) (N1 := 0) (C2 := (CR + 3 * (S 8 0 - S 8 1))) (N2 := (NR + 260 * (S 8 0 - S 8 1))) ckJ2 mdJ2_get rfl q707 q708 q709 q129 dX2_set_435 rfl rfl (Nat.le_of_ble_eq_true rfl) l_435.1 (k_J2_get (d := d - 1) (by omega) l_435 (j := i) hi1 (if_pos hi1)) (by omega) (by omega) (by omega) ?_
      refine pj_castS (pc := 438) ckX12 q951 dX2_set_438 (hb.r38 (by decide) hi1) ?_
      refine pl_aload_n (pc := 441) dX2_set_441 rfl rfl ?_
      refine pj_getf (pc := 442) ckX2 28 q776 dX2_set_442 (by decide) (hb.r1 (by decide)) rfl ?_
      refine pl_iload_n (pc := 445) dX2_set_445 rfl rfl ?_
      obtain ⟨m_446, c_446, l_446, b_446, el_446, ne_446⟩ := hb.LA8 (w := 0) (by decide)
      refine pl_callVd (pc := 446) (As := [_]) (C1 := 0) (N1 := 0) (C2 := (CR + 3 * (S 8 0 - S 8 1))) (N2 := (NR + 260 * (S 8 0 - S 8 1))) ckJ2 mdJ2_get rfl q707 q708 q709 q129 dX2_set_446 rfl rfl (Nat.le_of_ble_eq_true rfl) l_446.1 (k_J2_get (d := d - 1) (by omega) l_446 (j := i) hi0 (if_pos hi0)) (by omega) (by omega) (by omega) ?_
      refine pj_castS (pc := 449) ckX12 q951 dX2_set_449 (hb.r38 (by decide) hi0) ?_
      refine pl_callVv (pc := 452) (As := [_]) (C1 := 0) (N1 := 0) (C2 := (CR + 3 * (S 8 0 - S 8 1))) (N2 := (NR + 260 * (S 8 0 - S 8 1))) ckX12 mdX12_set rfl q1533 q1534 q1535 q160 dX2_set_452 rfl rfl (Nat.le_of_ble_eq_true rfl) (hb.r38 (by decide) hi1) (k_X12_set (d := d - 1) (by omega) (hb.r38 (by decide) hi1) (hb.r38 (by decide) hi0) (hb.inj (LvX.k38 (Or.inl rfl) (by decide) hi0) (LvX.k38 (Or.inl rfl) (by decide) hi1) (by omega)) hz) (by omega) (by omega) (by omega) ?_
      refine pl_iinc1 (pc := 455) (lv' := [(2, _), (0, _), (1, _)]) dX2_set_455 rfl rfl (by decide) rfl ?_
      refine pj_goto (pc := 458) (tgt := 379) dX2_set_458 (by decide) ?_
      have hw := hb.put (k := 38) (i := i) (LvX.k38 (Or.inl rfl) (by decide) hi1) (by decide) (by decide) (fun j => if j = 5 ∨ j = 6 then V 38 1 i j else V 38 0 i j) (fun τ => rfl)
      have ei : True := trivial
      have vO : ∀ k w j, ¬ ((k = 38 ∨ k = 39) ∧ w = 1) → V k w j = V0 k w j := fun k w j hn => by
        exact spV k w j hn
      refine ih (by omega) _ A S _ hw ⟨spA, spS, (by omega), fun k w j hn => ?_, fun p hp j hj => ?_⟩
      · rw [rV_ne (by omega)]
        exact vO k w j hn
      · by_cases ep : p = i
        · subst ep
          rw [rV_eq]
          show (if j = 5 ∨ j = 6 then _ else V 38 0 p j) = _
          rw [if_neg (by omega), vO 38 0 p (by omega)]
        · rw [rV_ne (by omega)]
          exact spR p (by omega) j hj
    · have hlt : S 8 1 < S 8 0 := by omega
      refine pl_aload_n (pc := 401) dX2_set_401 rfl rfl ?_
      refine pj_getf (pc := 402) ckX2 28 q776 dX2_set_402 (by decide) (hb.r1 (by decide)) rfl ?_
      refine pj_new (pc := 405) (C1 := (CR + 3 * (S 8 0 - S 8 1) - 1)) (N1 := (NR + 260 * (S 8 0 - S 8 1) - 9)) ckX12 q951 q1490 q160 dX2_set_405 _ dfX12 (by omega) (by omega) (fun q_405 hn_405 gq_405 => ?_)
      refine rvh (hb.fresh hn_405) (fun y1 => ?_)
      refine pj_dup (pc := 408) dX2_set_408 rfl ?_
      refine pl_aload_n (pc := 409) dX2_set_409 rfl rfl ?_
      refine pj_getf (pc := 410) ckX2 28 q776 dX2_set_410 (by decide) (y1.r1 (by decide)) rfl ?_
      refine pl_iload_n (pc := 413) dX2_set_413 rfl rfl ?_
      obtain ⟨m_414, c_414, l_414, b_414, el_414, ne_414⟩ := y1.LA8 (w := 0) (by decide)
      refine pl_callVd (pc := 414) (As := [_]) (C1 := 0) (N1 := 0) (C2 := (CR + 3 * (S 8 0 - S 8 1) - 1)) (N2 := (NR + 260 * (S 8 0 - S 8 1) - 9)) ckJ2 mdJ2_get rfl q707 q708 q709 q129 dX2_set_414 rfl rfl (Nat.le_of_ble_eq_true rfl) l_414.1 (k_J2_get (d := d - 1) (by omega) l_414 (j := i) (by omega) (if_pos (by omega))) (by omega) (by omega) (by omega) ?_
      refine pj_castS (pc := 417) ckX12 q951 dX2_set_417 (y1.r38 (by decide) (by omega)) ?_
      refine pj_getfN (pc := 420) ckX12 0 q1496 dX2_set_420 (by decide) (y1.r38 (by decide) (by omega)) rfl ?_
      refine pl_callIWv (pc := 423) (As := [_]) (C1 := 1) (N1 := 100) (C2 := ((CR + 3 * (S 8 0 - S 8 1) - 1) - 1)) (N2 := ((NR + 260 * (S 8 0 - S 8 1) - 9) - 100)) mdX12_init rfl q1491 q1492 q160 dX2_set_423 rfl rfl (Nat.le_of_ble_eq_true rfl) (k_X12_init (d := d - 1) (by omega) mset_s) (by omega) (by omega) (by omega) (fun My2 qy2 => ?_)
      obtain ⟨qv, hv, nv, e0⟩ := qy2
      subst e0
      have hv0 : M9 qv = none := by rw [mset_n nv] at hv; exact hv
      refine PJ.mem (mset4 nv) ?_
      obtain ⟨owa, fv⟩ := hb.own hv0 (c := (intX g 3 100 (fun _ => 0)))
      obtain ⟨owb, fq1⟩ := owa.own (show mset M9 qv (intX g 3 100 (fun _ => 0)) q_405 = none by rw [mset_n (Ne.symm nv)]; exact hn_405) (c := (lwO (fun j => if j = 2 ∨ j = 3 ∨ j = 4 then -1 else 0) (A 50 0 i) qv))
      have fq : F q_405 = none := by rw [mset_n (Ne.symm nv)] at fq1; exact fq1
      refine rvf2 owb mset_s ((mset_n nv).trans mset_s) (fun My3 y3 hc hcv => ?_)
      obtain ⟨m_426, c_426, l_426, b_426, el_426, ne_426⟩ := y3.LA8 (w := 1) (by decide)
      refine pl_add (pc := 426) (C1 := (CR + 3 * (S 8 0 - (S 8 1 + 1)))) (N1 := (NR + 260 * (S 8 0 - (S 8 1 + 1)))) q632 dX2_set_426 (by omega) l_426 (by omega) b_426 (fun j hj => if_neg (by omega)) el_426 hc rfl q3256 (ne_oo hc l_426.1 (by decide)) ne_426 (Nat.le_of_ble_eq_true rfl) (by omega) (by omega) (fun q2 m1 mc1 hq2 hm1 hm2 => ?_)
      refine rvk (y3.add2 (k := 8) (ko := 38) (kq := 39) (mc1 := mc1) (q := q_405) (qv := qv) (r := (fun j => if j = 2 ∨ j = 3 ∨ j = 4 then -1 else 0)) (rv := fun _ => 0) (Or.inr ⟨rfl, rfl, rfl, hlt⟩) (fun a x z => own_keep fq1 a x (own_keep fv a x z)) (fun _ z => Or.inl (Or.inl z)) hb.pf (Or.inr rfl) fq (by rw [if_neg (by decide), ← (show i = S 8 1 from by omega)]; exact hc) (Or.inl (Or.inr rfl)) fv hcv (Ne.symm nv) hq2 ⟨hm1, hm2⟩) (fun My4 y4 => ?_)
      refine pj_pop (pc := 429) dX2_set_429 rfl ?_
      have hi1 : i < S1X S 8 1 8 1 := by rw [S1X_eq]; omega
      have hi0 : i < S1X S 8 1 8 0 := by rw [S1X_ne (by omega)]; omega
      have hz : (rV (rV V 39 1 (S 8 1) (fun _ => 0)) 38 1 (S 8 1) (fun j => if j = 2 ∨ j = 3 ∨ j = 4 then -1 else 0)) 38 0 i 7 = nI 0 ∨ (rV (rV V 39 1 (S 8 1) (fun _ => 0)) 38 1 (S 8 1) (fun j => if j = 2 ∨ j = 3 ∨ j = 4 then -1 else 0)) 38 0 i 7 = nI 1 := by rw [rV_ne (by omega), rV_ne (by omega)]; rw [spV 38 0 i (by omega), hV0]; exact hz0 i (by rw [← hS0]; omega)
      refine pl_aload_n (pc := 430) dX2_set_430 rfl rfl ?_
      refine pj_getf (pc := 431) ckX2 28 q776 dX2_set_431 (by decide) (y4.r1 (by decide)) rfl ?_
      refine pl_iload_n (pc := 434) dX2_set_434 rfl rfl ?_
      obtain ⟨m_435, c_435, l_435, b_435, el_435, ne_435⟩ := y4.LA8 (w := 1) (by decide)
      refine pl_callVd (pc := 435) (As := [_]) (C1 := 0) (N1 := 0) (C2 := (CR + 3 * (S 8 0 - (S 8 1 + 1)))) (N2 := (NR + 260 * (S 8 0 - (S 8 1 + 1)))) ckJ2 mdJ2_get rfl q707 q708 q709 q129 dX2_set_435 rfl rfl (Nat.le_of_ble_eq_true rfl) l_435.1 (k_J2_get (d := d - 1) (by omega) l_435 (j := i) hi1 (if_pos hi1)) (by omega) (by omega) (by omega) ?_
      refine pj_castS (pc := 438) ckX12 q951 dX2_set_438 (y4.r38 (by decide) hi1) ?_
      refine pl_aload_n (pc := 441) dX2_set_441 rfl rfl ?_
      refine pj_getf (pc := 442) ckX2 28 q776 dX2_set_442 (by decide) (y4.r1 (by decide)) rfl ?_
      refine pl_iload_n (pc := 445) dX2_set_445 rfl rfl ?_
      obtain ⟨m_446, c_446, l_446, b_446, el_446, ne_446⟩ := y4.LA8 (w := 0) (by decide)
      refine pl_callVd (pc := 446) (As := [_]) (C1 := 0) (N1 := 0) (C2 := (CR + 3 * (S 8 0 - (S 8 1 + 1)))) (N2 := (NR + 260 * (S 8 0 - (S 8 1 + 1)))) ckJ2 mdJ2_get rfl q707 q708 q709 q129 dX2_set_446 rfl rfl (Nat.le_of_ble_eq_true rfl) l_446.1 (k_J2_get (d := d - 1) (by omega) l_446 (j := i) hi0 (if_pos hi0)) (by omega) (by omega) (by omega) ?_
      refine pj_castS (pc := 449) ckX12 q951 dX2_set_449 (y4.r38 (by decide) hi0) ?_
      refine pl_callVv (pc := 452) (As := [_]) (C1 := 0) (N1 := 0) (C2 := (CR + 3 * (S 8 0 - (S 8 1 + 1)))) (N2 := (NR + 260 * (S 8 0 - (S 8 1 + 1)))) ckX12 mdX12_set rfl q1533 q1534 q1535 q160 dX2_set_452 rfl rfl (Nat.le_of_ble_eq_true rfl) (y4.r38 (by decide) hi1) (k_X12_set (d := d - 1) (by omega) (y4.r38 (by decide) hi1) (y4.r38 (by decide) hi0) (y4.inj (LvX.k38 (Or.inl rfl) (by decide) hi0) (LvX.k38 (Or.inl rfl) (by decide) hi1) (by omega)) hz) (by omega) (by omega) (by omega) ?_
      refine pl_iinc1 (pc := 455) (lv' := [(2, _), (0, _), (1, _)]) dX2_set_455 rfl rfl (by decide) rfl ?_
      refine pj_goto (pc := 458) (tgt := 379) dX2_set_458 (by decide) ?_
      generalize hVn : (rV (rV V 39 1 (S 8 1) (fun _ => 0)) 38 1 (S 8 1) (fun j => if j = 2 ∨ j = 3 ∨ j = 4 then -1 else 0)) = Vn at y4 ⊢
      have hw := y4.put (k := 38) (i := i) (LvX.k38 (Or.inl rfl) (by decide) hi1) (by decide) (by decide) (fun j => if j = 5 ∨ j = 6 then Vn 38 1 i j else Vn 38 0 i j) (fun τ => rfl)
      refine PJ.widen (C1 := CR + 3 * (S1X S 8 1 8 0 - S1X S 8 1 8 1)) (N1 := NR + 260 * (S1X S 8 1 8 0 - S1X S 8 1 8 1)) (by rw [S1X_eq, S1X_ne (by omega)]; omega) (by rw [S1X_eq, S1X_ne (by omega)]; omega) ?_
      have ei : i = S 8 1 := by omega
      have vO : ∀ k w j, ¬ ((k = 38 ∨ k = 39) ∧ w = 1) → Vn k w j = V0 k w j := fun k w j hn => by
        rw [← hVn]
        rw [rV_ne (by omega), rV_ne (by omega)]
        exact spV k w j hn
      refine ih (by omega) _ (A2X A 8 38 39 1 (S 8 1) q_405 qv q2) (S1X S 8 1) _ hw ⟨⟨by rw [← spA.1]; rfl, by rw [← spA.2.1]; rfl, by rw [← spA.2.2]; rfl⟩, (fun x y hxy => (S1X_ne hxy).trans (spS x y hxy)), (by rw [S1X_eq]; omega), fun k w j hn => ?_, fun p hp j hj => ?_⟩
      · rw [rV_ne (by omega)]
        exact vO k w j hn
      · by_cases ep : p = i
        · subst ep
          rw [rV_eq]
          show (if j = 5 ∨ j = 6 then _ else Vn 38 0 p j) = _
          rw [if_neg (by omega), vO 38 0 p (by omega)]
        · rw [rV_ne (by omega), ← hVn]
          rw [rV_ne (by omega), rV_ne (by omega)]; exact spR p (by omega) j hj
set_option maxHeartbeats 1000000 in
theorem set_f {g : GP} {μ : Mem} {d CR NR : Nat} {P : Nat → Prop} {F : Mem} {A : XA} {S : Nat → Nat → Nat} {V : Nat → Nat → Nat → Nat → Int32} {L : Nat → Int64} {fl : Nat → Nat → UInt32} {dn : XD} {Q : OC → Mem → Prop} (hd : 10 ≤ d) (h : RV g P F A S V L fl dn μ) (hi0 : ∀ p, p < S 10 1 → V 40 1 p 0 = V 40 0 p 0 ∧ V 40 1 p 1 = V 40 0 p 1) (kk : ∀ A1 S1 V1 M1, RV g P F A1 S1 V1 L fl dn M1 → SfP A A1 S S1 V V1 (S 10 0) → S1 10 1 = S 10 0 → PJ g yX2_set.cls cX2_set 3 (some (.object "SettlerColony$World"), yX2_set.name, []) d CR NR 559 [(0, .ref (A1 1 1 0)), (1, .ref (A1 1 0 0))] [] M1 Q) : PJ g yX2_set.cls cX2_set 3 (some (.object "SettlerColony$World"), yX2_set.name, []) d (CR + 2 * (S 10 0 - S 10 1)) (NR + 155 * (S 10 0 - S 10 1)) 461 [(0, .ref (A 1 1 0)), (1, .ref (A 1 0 0))] [] μ Q := by
  obtain ⟨A0, hA0⟩ : ∃ A0, A0 = A := ⟨_, rfl⟩
  obtain ⟨S0, hS0⟩ : ∃ S0, S0 = S := ⟨_, rfl⟩
  obtain ⟨V0, hV0⟩ : ∃ V0, V0 = V := ⟨_, rfl⟩
  refine pl_iconst (pc := 461) (v := 0) dX2_set_461 (by rfl) ?_
  refine pj_istore_n (pc := 462) (lv' := [(2, _), (0, _), (1, _)]) dX2_set_462 rfl (by decide) rfl ?_
  refine ind_dn (n := (S0 10 0)) (P := fun i => ∀ M9 A S V, RV g P F A S V L fl dn M9 → SfP A0 A S0 S V0 V i → PJ g _ _ _ _ d (CR + 2 * (S 10 0 - S 10 1)) (NR + 155 * (S 10 0 - S 10 1)) 463 [(2, .int (nI i)), (0, .ref (A 1 1 0)), (1, .ref (A 1 0 0))] [] M9 _) (fun i hi ih M9 A S V hb sp => ?_) 0 (Nat.zero_le _) _ A S V h ⟨⟨by rw [hA0], by rw [hA0], by rw [hA0]⟩, fun _ _ _ => by rw [hS0], Nat.zero_le _, fun _ _ _ _ => by rw [hV0], fun p hp => by rw [hV0]; exact hi0 p hp, fun p hp => absurd hp (Nat.not_lt_zero _)⟩
  obtain ⟨spA, spS, spi, spV, spR⟩ := sp
  have e40 : S 10 0 = S0 10 0 := spS 10 0 (by omega)
  have z9 := hb.1
  have zb := z9.2.1
  have zc := z9.2.2.1
  refine pl_iload_n (pc := 463) dX2_set_463 rfl rfl ?_
  refine pl_aload_n (pc := 464) dX2_set_464 rfl rfl ?_
  refine pj_getf (pc := 465) ckX2 29 q778 dX2_set_465 (by decide) (hb.r1 (by decide)) rfl ?_
  obtain ⟨m_468, c_468, l_468, b_468, el_468, ne_468⟩ := hb.LA10 (w := 0) (by decide)
  refine pl_callVd (pc := 468) (As := []) (C1 := 0) (N1 := 0) (C2 := (CR + 2 * (S 10 0 - S 10 1))) (N2 := (NR + 155 * (S 10 0 - S 10 1))) ckJ2 mdJ2_size rfl q947 q948 q949 q129 dX2_set_468 rfl rfl (Nat.le_of_ble_eq_true rfl) l_468.1 (k_J2_size (d := d - 1) (by omega) l_468) (by omega) (by omega) (by omega) ?_
  refine pl_icmp_ge (pc := 471) (tgt := 559) dX2_set_471 (by decide) (by omega) (by omega) (fun c471 => ?_) (fun c471 => ?_)
  · refine PJ.sub [1, 2] rfl ?_
    have ei : i = S0 10 0 := by omega
    have e41 : S 10 1 = S0 10 0 := by omega
    have sp9 : SfP A0 A S0 S V0 V (S0 10 0) := by rw [ei] at spR spi; exact ⟨spA, spS, spi, spV, spR⟩
    rw [hA0, hS0, hV0] at sp9
    refine PJ.widen (C1 := CR) (N1 := NR) (by omega) (by omega) ?_
    exact kk A S V _ hb sp9 (by rw [e41, hS0])
  · refine pl_iload_n (pc := 474) dX2_set_474 rfl rfl ?_
    refine pl_aload_n (pc := 475) dX2_set_475 rfl rfl ?_
    refine pj_getf (pc := 476) ckX2 29 q778 dX2_set_476 (by decide) (hb.r1 (by decide)) rfl ?_
    obtain ⟨m_479, c_479, l_479, b_479, el_479, ne_479⟩ := hb.LA10 (w := 1) (by decide)
    refine pl_callVd (pc := 479) (As := []) (C1 := 0) (N1 := 0) (C2 := (CR + 2 * (S 10 0 - S 10 1))) (N2 := (NR + 155 * (S 10 0 - S 10 1))) ckJ2 mdJ2_size rfl q947 q948 q949 q129 dX2_set_479 rfl rfl (Nat.le_of_ble_eq_true rfl) l_479.1 (k_J2_size (d := d - 1) (by omega) l_479) (by omega) (by omega) (by omega) ?_
    refine pl_icmp_ne (pc := 482) (tgt := 528) dX2_set_482 (by decide) (by omega) (by omega) (fun c482 => ?_) (fun c482 => ?_)
    · have hi1 : i < S 10 1 := by omega
      have hi0 : i < S 10 0 := by omega
      refine pl_aload_n (pc := 528) dX2_set_528 rfl rfl ?_
      refine pj_getf (pc := 529) ckX2 29 q778 dX2_set_529 (by decide) (hb.r1 (by decide)) rfl ?_
      refine pl_iload_n (pc := 532) dX2_set_532 rfl rfl ?_
      obtain ⟨m_533, c_533, l_533, b_533, el_533, ne_533⟩ := hb.LA10 (w := 1) (by decide)
      refine pl_callVd (pc := 533) (As := [_]) (C1 := 0) (N1 := 0) (C2 := (CR + 2 * (S 10 0 - S 10 1))) (N2 := (NR + 155 * (S 10 0 - S 10 1))) ckJ2 mdJ2_get rfl q707 q708 q709 q129 dX2_set_533 rfl rfl (Nat.le_of_ble_eq_true rfl) l_533.1 (k_J2_get (d := d - 1) (by omega) l_533 (j := i) hi1 (if_pos hi1)) (by omega) (by omega) (by omega) ?_
      refine pj_castS (pc := 536) ckX13 q1537 dX2_set_536 (hb.r40 (by decide) hi1) ?_
      refine pl_aload_n (pc := 539) dX2_set_539 rfl rfl ?_
      refine pj_getf (pc := 540) ckX2 29 q778 dX2_set_540 (by decide) (hb.r1 (by decide)) rfl ?_
      refine pl_iload_n (pc := 543) dX2_set_543 rfl rfl ?_
      obtain ⟨m_544, c_544, l_544, b_544, el_544, ne_544⟩ := hb.LA10 (w := 0) (by decide)
      refine pl_callVd (pc := 544) (As := [_]) (C1 := 0) (N1 := 0) (C2 := (CR + 2 * (S 10 0 - S 10 1))) (N2 := (NR + 155 * (S 10 0 - S 10 1))) ckJ2 mdJ2_get rfl q707 q708 q709 q129 dX2_set_544 rfl rfl (Nat.le_of_ble_eq_true rfl) l_544.1 (k_J2_get (d := d - 1) (by omega) l_544 (j := i) hi0 (if_pos hi0)) (by omega) (by omega) (by omega) ?_
      refine pj_castS (pc := 547) ckX13 q1537 dX2_set_547 (hb.r40 (by decide) hi0) ?_
      refine pl_callVv (pc := 550) (As := [_]) (C1 := 0) (N1 := 0) (C2 := (CR + 2 * (S 10 0 - S 10 1))) (N2 := (NR + 155 * (S 10 0 - S 10 1))) ckX13 mdX13_set rfl q1562 q1563 q1564 q161 dX2_set_550 rfl rfl (Nat.le_of_ble_eq_true rfl) (hb.r40 (by decide) hi1) (k_X13_set (d := d - 1) (by omega) (hb.r40 (by decide) hi1) (hb.r40 (by decide) hi0) (hb.inj (LvX.k40 (by decide) hi0) (LvX.k40 (by decide) hi1) (by omega))) (by omega) (by omega) (by omega) ?_
      refine pl_iinc1 (pc := 553) (lv' := [(2, _), (0, _), (1, _)]) dX2_set_553 rfl rfl (by decide) rfl ?_
      refine pj_goto (pc := 556) (tgt := 463) dX2_set_556 (by decide) ?_
      have hw := hb.put (k := 40) (i := i) (LvX.k40 (by decide) hi1) (by decide) (by decide) (fun j => if j < 2 then V 40 1 i j else V 40 0 i j) (fun τ => rfl)
      have ei : True := trivial
      have vO : ∀ k w j, ¬ (k = 40 ∧ w = 1) → V k w j = V0 k w j := fun k w j hn => by
        exact spV k w j hn
      refine ih (by omega) _ A S _ hw ⟨spA, spS, (by omega), fun k w j hn => ?_, fun p hp => ?_, fun p hp => ?_⟩
      · rw [rV_ne (by omega)]
        exact vO k w j hn
      · by_cases ep : p = i
        · subst ep
          rw [rV_eq]
          show (if 0 < 2 then V 40 1 p 0 else _) = _ ∧ (if 1 < 2 then V 40 1 p 1 else _) = _
          rw [if_pos (by decide), if_pos (by decide)]
          exact spR.1 p (by omega)
        · rw [rV_ne (by omega)]
          exact spR.1 p hp
      · by_cases ep : p = i
        · subst ep
          rw [rV_eq]
          show (if 2 < 2 then _ else V 40 0 p 2) = _ ∧ (if 3 < 2 then _ else V 40 0 p 3) = _
          rw [if_neg (by decide), if_neg (by decide), vO 40 0 p (by omega)]
          exact ⟨rfl, rfl⟩
        · rw [rV_ne (by omega)]
          exact spR.2 p (by omega)
    · have hlt : S 10 1 < S 10 0 := by omega
      refine pl_aload_n (pc := 485) dX2_set_485 rfl rfl ?_
      refine pj_getf (pc := 486) ckX2 29 q778 dX2_set_486 (by decide) (hb.r1 (by decide)) rfl ?_
      refine pj_new (pc := 489) (C1 := (CR + 2 * (S 10 0 - S 10 1) - 1)) (N1 := (NR + 155 * (S 10 0 - S 10 1) - 4)) ckX13 q1537 q1538 q161 dX2_set_489 _ dfX13 (by omega) (by omega) (fun q_489 hn_489 gq_489 => ?_)
      refine rvh (hb.fresh hn_489) (fun y1 => ?_)
      refine pj_dup (pc := 492) dX2_set_492 rfl ?_
      refine pl_aload_n (pc := 493) dX2_set_493 rfl rfl ?_
      refine pj_getf (pc := 494) ckX2 29 q778 dX2_set_494 (by decide) (y1.r1 (by decide)) rfl ?_
      refine pl_iload_n (pc := 497) dX2_set_497 rfl rfl ?_
      obtain ⟨m_498, c_498, l_498, b_498, el_498, ne_498⟩ := y1.LA10 (w := 0) (by decide)
      refine pl_callVd (pc := 498) (As := [_]) (C1 := 0) (N1 := 0) (C2 := (CR + 2 * (S 10 0 - S 10 1) - 1)) (N2 := (NR + 155 * (S 10 0 - S 10 1) - 4)) ckJ2 mdJ2_get rfl q707 q708 q709 q129 dX2_set_498 rfl rfl (Nat.le_of_ble_eq_true rfl) l_498.1 (k_J2_get (d := d - 1) (by omega) l_498 (j := i) (by omega) (if_pos (by omega))) (by omega) (by omega) (by omega) ?_
      refine pj_castS (pc := 501) ckX13 q1537 dX2_set_501 (y1.r40 (by decide) (by omega)) ?_
      refine pj_getfN (pc := 504) ckX13 0 q1544 dX2_set_504 (by decide) (y1.r40 (by decide) (by omega)) rfl ?_
      refine pl_aload_n (pc := 507) dX2_set_507 rfl rfl ?_
      refine pj_getf (pc := 508) ckX2 29 q778 dX2_set_508 (by decide) (y1.r1 (by decide)) rfl ?_
      refine pl_iload_n (pc := 511) dX2_set_511 rfl rfl ?_
      obtain ⟨m_512, c_512, l_512, b_512, el_512, ne_512⟩ := y1.LA10 (w := 0) (by decide)
      refine pl_callVd (pc := 512) (As := [_]) (C1 := 0) (N1 := 0) (C2 := (CR + 2 * (S 10 0 - S 10 1) - 1)) (N2 := (NR + 155 * (S 10 0 - S 10 1) - 4)) ckJ2 mdJ2_get rfl q707 q708 q709 q129 dX2_set_512 rfl rfl (Nat.le_of_ble_eq_true rfl) l_512.1 (k_J2_get (d := d - 1) (by omega) l_512 (j := i) (by omega) (if_pos (by omega))) (by omega) (by omega) (by omega) ?_
      refine pj_castS (pc := 515) ckX13 q1537 dX2_set_515 (y1.r40 (by decide) (by omega)) ?_
      refine pj_getfN (pc := 518) ckX13 1 q1546 dX2_set_518 (by decide) (y1.r40 (by decide) (by omega)) rfl ?_
      refine pl_callIv (pc := 521) (As := [_, _]) (C1 := 0) (N1 := 0) (C2 := (CR + 2 * (S 10 0 - S 10 1) - 1)) (N2 := (NR + 155 * (S 10 0 - S 10 1) - 4)) mdX13_init rfl q1539 q1540 q161 dX2_set_521 rfl rfl (Nat.le_of_ble_eq_true rfl) (k_X13_init (d := d - 1) (by omega) (f := fun _ => 0) mset_s) (by omega) (by omega) (by omega) ?_
      refine PJ.mem mset_m ?_
      obtain ⟨ow, fq⟩ := hb.own hn_489 (c := (biO (fun j => if j = 0 then V 40 0 i 0 else if j = 1 then V 40 0 i 1 else 0)))
      refine rvf ow mset_s (fun My2 y2 hc => ?_)
      obtain ⟨m_524, c_524, l_524, b_524, el_524, ne_524⟩ := y2.LA10 (w := 1) (by decide)
      refine pl_add (pc := 524) (C1 := (CR + 2 * (S 10 0 - (S 10 1 + 1)))) (N1 := (NR + 155 * (S 10 0 - (S 10 1 + 1)))) q632 dX2_set_524 (by omega) l_524 (by omega) b_524 (fun j hj => if_neg (by omega)) el_524 hc rfl q3257 (ne_oo hc l_524.1 (by decide)) ne_524 (Nat.le_of_ble_eq_true rfl) (by omega) (by omega) (fun q2 m1 mc1 hq2 hm1 hm2 => ?_)
      refine rvk (y2.add1 (k := 10) (ko := 40) (mc1 := mc1) (q := q_489) (r := (fun j => if j = 0 then V 40 0 i 0 else if j = 1 then V 40 0 i 1 else 0)) (Or.inr ⟨rfl, rfl, hlt⟩) (own_keep fq) (fun _ z => Or.inl z) hb.pf (Or.inr rfl) fq hc hq2 ⟨hm1, hm2⟩) (fun My3 y3 => ?_)
      refine pj_pop (pc := 527) dX2_set_527 rfl ?_
      have hi1 : i < S1X S 10 1 10 1 := by rw [S1X_eq]; omega
      have hi0 : i < S1X S 10 1 10 0 := by rw [S1X_ne (by omega)]; omega
      refine pl_aload_n (pc := 528) dX2_set_528 rfl rfl ?_
      refine pj_getf (pc := 529) ckX2 29 q778 dX2_set_529 (by decide) (y3.r1 (by decide)) rfl ?_
      refine pl_iload_n (pc := 532) dX2_set_532 rfl rfl ?_
      obtain ⟨m_533, c_533, l_533, b_533, el_533, ne_533⟩ := y3.LA10 (w := 1) (by decide)
      refine pl_callVd (pc := 533) (As := [_]) (C1 := 0) (N1 := 0) (C2 := (CR + 2 * (S 10 0 - (S 10 1 + 1)))) (N2 := (NR + 155 * (S 10 0 - (S 10 1 + 1)))) ckJ2 mdJ2_get rfl q707 q708 q709 q129 dX2_set_533 rfl rfl (Nat.le_of_ble_eq_true rfl) l_533.1 (k_J2_get (d := d - 1) (by omega) l_533 (j := i) hi1 (if_pos hi1)) (by omega) (by omega) (by omega) ?_
      refine pj_castS (pc := 536) ckX13 q1537 dX2_set_536 (y3.r40 (by decide) hi1) ?_
      refine pl_aload_n (pc := 539) dX2_set_539 rfl rfl ?_
      refine pj_getf (pc := 540) ckX2 29 q778 dX2_set_540 (by decide) (y3.r1 (by decide)) rfl ?_
      refine pl_iload_n (pc := 543) dX2_set_543 rfl rfl ?_
      obtain ⟨m_544, c_544, l_544, b_544, el_544, ne_544⟩ := y3.LA10 (w := 0) (by decide)
      refine pl_callVd (pc := 544) (As := [_]) (C1 := 0) (N1 := 0) (C2 := (CR + 2 * (S 10 0 - (S 10 1 + 1)))) (N2 := (NR + 155 * (S 10 0 - (S 10 1 + 1)))) ckJ2 mdJ2_get rfl q707 q708 q709 q129 dX2_set_544 rfl rfl (Nat.le_of_ble_eq_true rfl) l_544.1 (k_J2_get (d := d - 1) (by omega) l_544 (j := i) hi0 (if_pos hi0)) (by omega) (by omega) (by omega) ?_
      refine pj_castS (pc := 547) ckX13 q1537 dX2_set_547 (y3.r40 (by decide) hi0) ?_
      refine pl_callVv (pc := 550) (As := [_]) (C1 := 0) (N1 := 0) (C2 := (CR + 2 * (S 10 0 - (S 10 1 + 1)))) (N2 := (NR + 155 * (S 10 0 - (S 10 1 + 1)))) ckX13 mdX13_set rfl q1562 q1563 q1564 q161 dX2_set_550 rfl rfl (Nat.le_of_ble_eq_true rfl) (y3.r40 (by decide) hi1) (k_X13_set (d := d - 1) (by omega) (y3.r40 (by decide) hi1) (y3.r40 (by decide) hi0) (y3.inj (LvX.k40 (by decide) hi0) (LvX.k40 (by decide) hi1) (by omega))) (by omega) (by omega) (by omega) ?_
      refine pl_iinc1 (pc := 553) (lv' := [(2, _), (0, _), (1, _)]) dX2_set_553 rfl rfl (by decide) rfl ?_
      refine pj_goto (pc := 556) (tgt := 463) dX2_set_556 (by decide) ?_
      generalize hVn : (rV V 40 1 (S 10 1) (fun j => if j = 0 then V 40 0 i 0 else if j = 1 then V 40 0 i 1 else 0)) = Vn at y3 ⊢
      have hw := y3.put (k := 40) (i := i) (LvX.k40 (by decide) hi1) (by decide) (by decide) (fun j => if j < 2 then Vn 40 1 i j else Vn 40 0 i j) (fun τ => rfl)
      refine PJ.widen (C1 := CR + 2 * (S1X S 10 1 10 0 - S1X S 10 1 10 1)) (N1 := NR + 155 * (S1X S 10 1 10 0 - S1X S 10 1 10 1)) (by rw [S1X_eq, S1X_ne (by omega)]; omega) (by rw [S1X_eq, S1X_ne (by omega)]; omega) ?_
      have ei : i = S 10 1 := by omega
      have vO : ∀ k w j, ¬ (k = 40 ∧ w = 1) → Vn k w j = V0 k w j := fun k w j hn => by
        rw [← hVn]
        rw [rV_ne (by omega)]
        exact spV k w j hn
      refine ih (by omega) _ (A1X A 10 40 1 (S 10 1) q_489 q2) (S1X S 10 1) _ hw ⟨⟨by rw [← spA.1]; rfl, by rw [← spA.2.1]; rfl, by rw [← spA.2.2]; rfl⟩, (fun x y hxy => (S1X_ne hxy).trans (spS x y hxy)), (by rw [S1X_eq]; omega), fun k w j hn => ?_, fun p hp => ?_, fun p hp => ?_⟩
      · rw [rV_ne (by omega)]
        exact vO k w j hn
      · by_cases ep : p = i
        · subst ep
          rw [rV_eq]
          show (if 0 < 2 then Vn 40 1 p 0 else _) = _ ∧ (if 1 < 2 then Vn 40 1 p 1 else _) = _
          rw [if_pos (by decide), if_pos (by decide), ← hVn]
          rw [← ei, rV_eq, ← spV 40 0 p (by omega)]; exact ⟨rfl, rfl⟩
        · rw [rV_ne (by omega), ← hVn]
          rw [rV_ne (by omega)]; exact spR.1 p (by rw [S1X_eq] at hp; omega)
      · by_cases ep : p = i
        · subst ep
          rw [rV_eq]
          show (if 2 < 2 then _ else Vn 40 0 p 2) = _ ∧ (if 3 < 2 then _ else Vn 40 0 p 3) = _
          rw [if_neg (by decide), if_neg (by decide), vO 40 0 p (by omega)]
          exact ⟨rfl, rfl⟩
        · rw [rV_ne (by omega), ← hVn]
          rw [rV_ne (by omega)]; exact spR.2 p (by omega)
