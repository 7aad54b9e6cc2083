set_option maxRecDepth 100000
/-- the rest of the colony's cells -/
def ceR (g : GP) (ad : Nat → Nat) : Nat → va_E
  | 242 => intX g 2 300 (fun _ => 0)
  | 243 => .inr (2, [.int (nI 0), .ref (ad 244), .int 0])
  | 244 => lstA g 4 (fun _ => none)
  | 245 => .inr (2, [.int (nI 0), .ref (ad 246), .int 0])
  | 246 => lstA g 4 (fun _ => none)
  | 247 => .inr (2, [.int (nI 0), .ref (ad 248), .int 0])
  | 248 => lstA g 4 (fun _ => none)
  | 249 => intX g 3 100 (fun _ => 0)
  | 250 => intX g 0 3 (fun _ => 0)
  | 251 => intX g 0 3 (fun _ => 0)
  | 252 => intX g 0 2 (fun _ => 0)
  | 253 => intX g 0 2 (fun _ => 0)
  | _ => intX g 0 196 (fun _ => 0)
/-- the cells of a colony just made -/
def ceC (g : GP) (ad : Nat → Nat) (j : Nat) : va_E := if j = 0 then .inr (22, [.int 0, .int (nI 500), .int (nI 200), .int 0, .int 0, .int 0, .int 0, .int 0, .int 0, .int 0, .int (-1), .int (-1), .ref (ad (1 + 0)), .ref (ad (1 + 21)), .ref (ad (1 + 22)), .ref (ad (1 + 2)), .ref (ad (1 + 3)), .ref (ad (1 + 4)), .ref (ad (1 + 5)), .ref (ad (1 + 6)), .ref (ad (1 + 7)), .ref (ad (1 + 23)), .ref (ad (1 + 8)), .ref (ad (1 + 9)), .ref (ad (1 + 10)), .ref (ad (1 + 11)), .ref (ad (1 + 12)), .ref (ad (1 + 14)), .ref (ad (1 + 16)), .ref (ad (1 + 18)), .ref (ad (1 + 20)), .ref (ad (1 + 26))]) else if j < 124 then ceW g (fun k => ad (1 + k)) (fun i => ad (28 + i)) 96 12 (j - 1) else if j = 124 then .inr (22, [.int 0, .int (nI 500), .int (nI 200), .int 0, .int 0, .int 0, .int 0, .int 0, .int 0, .int 0, .int (-1), .int (-1), .ref (ad (125 + 0)), .ref (ad (1 + 21)), .ref (ad (1 + 22)), .ref (ad (125 + 2)), .ref (ad (125 + 3)), .ref (ad (125 + 4)), .ref (ad (125 + 5)), .ref (ad (125 + 6)), .ref (ad (125 + 7)), .ref (ad (1 + 23)), .ref (ad (125 + 8)), .ref (ad (125 + 9)), .ref (ad (125 + 10)), .ref (ad (125 + 11)), .ref (ad (125 + 12)), .ref (ad (125 + 14)), .ref (ad (125 + 16)), .ref (ad (125 + 18)), .ref (ad (125 + 20)), .null]) else if j < 242 then ceT g (fun k => ad (125 + k)) (fun i => ad (146 + i)) 96 12 (j - 125) else ceR g ad j
theorem ceW_cg {g : GP} {ad ad1 sl sl1 : Nat → Nat} (h : ∀ k, k < 27 → ad1 k = ad k) (hs : ∀ i, i < 96 → sl1 i = sl i) (j : Nat) : ceW g ad1 sl1 96 12 j = ceW g ad sl 96 12 j := by
  unfold ceW
  split <;> (first | rfl | (rw [h _ (by decide)]; done) | (rw [h _ (by decide), h _ (by decide)]; done) | skip)
  have e : (fun j => if j < 96 then some (sl1 j) else none) = (fun j => if j < 96 then some (sl j) else none) := by
    funext j
    by_cases c : j < 96
    · rw [if_pos c, if_pos c, hs j c]
    · rw [if_neg c, if_neg c]
  rw [e]
theorem ceT_cg {g : GP} {ad ad1 sl sl1 : Nat → Nat} (h : ∀ k, k < 21 → ad1 k = ad k) (hs : ∀ i, i < 96 → sl1 i = sl i) (j : Nat) : ceT g ad1 sl1 96 12 j = ceT g ad sl 96 12 j := by
  unfold ceT
  split <;> (first | rfl | (rw [h _ (by decide)]; done) | skip)
  have e : (fun j => if j < 96 then some (sl1 j) else none) = (fun j => if j < 96 then some (sl j) else none) := by
    funext j
    by_cases c : j < 96
    · rw [if_pos c, if_pos c, hs j c]
    · rw [if_neg c, if_neg c]
  rw [e]
theorem ceC_cg1 {g : GP} {ad ad1 : Nat → Nat} (h : ∀ k, k < 124 → ad1 k = ad k) {j : Nat} (hj : j < 124) : ceC g ad1 j = ceC g ad j := by
  unfold ceC
  by_cases c : j = 0
  · rw [if_pos c, if_pos c]
    rw [h (1 + 0) (by decide), h (1 + 21) (by decide), h (1 + 22) (by decide), h (1 + 2) (by decide), h (1 + 3) (by decide), h (1 + 4) (by decide), h (1 + 5) (by decide), h (1 + 6) (by decide), h (1 + 7) (by decide), h (1 + 23) (by decide), h (1 + 8) (by decide), h (1 + 9) (by decide), h (1 + 10) (by decide), h (1 + 11) (by decide), h (1 + 12) (by decide), h (1 + 14) (by decide), h (1 + 16) (by decide), h (1 + 18) (by decide), h (1 + 20) (by decide), h (1 + 26) (by decide)]
  · rw [if_neg c, if_neg c, if_pos hj, if_pos hj]
    exact ceW_cg (fun k hk => h _ (by omega)) (fun i hi => h _ (by omega)) _
theorem ceC_cg2 {g : GP} {ad ad1 : Nat → Nat} (h : ∀ k, k < 242 → ad1 k = ad k) {j : Nat} (hj : j < 242) : ceC g ad1 j = ceC g ad j := by
  by_cases c : j < 124
  · exact ceC_cg1 (fun k hk => h k (by omega)) c
  · have n0 : ¬ j = 0 := by omega
    unfold ceC
    rw [if_neg n0, if_neg n0, if_neg c, if_neg c]
    by_cases c1 : j = 124
    · rw [if_pos c1, if_pos c1]
      rw [h (125 + 0) (by decide), h (1 + 21) (by decide), h (1 + 22) (by decide), h (125 + 2) (by decide), h (125 + 3) (by decide), h (125 + 4) (by decide), h (125 + 5) (by decide), h (125 + 6) (by decide), h (125 + 7) (by decide), h (1 + 23) (by decide), h (125 + 8) (by decide), h (125 + 9) (by decide), h (125 + 10) (by decide), h (125 + 11) (by decide), h (125 + 12) (by decide), h (125 + 14) (by decide), h (125 + 16) (by decide), h (125 + 18) (by decide), h (125 + 20) (by decide)]
    · rw [if_neg c1, if_neg c1, if_pos hj, if_pos hj]
      exact ceT_cg (fun k hk => h _ (by omega)) (fun i hi => h _ (by omega)) _
/-- a colony just made -/
def coN (ad : Nat → Nat) : va_E := .inr (11, [.ref (ad 0), .ref (ad 124), .int 0, .int (-1), .int 0, .int 0, .int 0, .ref (ad 242), .ref (ad 243), .ref (ad 245), .ref (ad 247), .ref (ad 249), .ref (ad 250), .ref (ad 251), .ref (ad 252), .ref (ad 253), .int 0, .int 0, .int 0, .long 0, .long 0, .ref (ad 254)])
set_option maxHeartbeats 1000000 in
theorem x_X1_init {g : GP} {μ : Mem} {d : Nat} (hd : 12 ≤ d) {q : Nat} (hm : μ q = some (.inr (11, [.null, .null, .int 0, .int 0, .int 0, .int 0, .int 0, .null, .null, .null, .null, .null, .null, .null, .null, .null, .int 0, .int 0, .int 0, .long 0, .long 0, .null]))) : PM g yX1_init (ws_ yX1_init cX1_init 1 none) d 255 8165 [.ref q] μ (WQ none (fun M => ∃ ad : Nat → Nat, Bl (mset μ q (coN ad)) 255 ad (ceC g ad) M)) := by
  refine PM.of (by decide +kernel) (Nat.le_of_ble_eq_true rfl) ?_
  refine PJ.ok (fun G => ?_)
  have hq0 : μ q ≠ none := by rw [hm]; exact fun z => (by cases z)
  show PJ g _ _ _ _ d 255 8165 0 [(0, .ref q)] [] _ _
  have h : Bl (mset μ q (.inr (11, [.null, .null, .int 0, .int 0, .int 0, .int 0, .int 0, .null, .null, .null, .null, .null, .null, .null, .null, .null, .int 0, .int 0, .int 0, .long 0, .long 0, .null]))) 0 (fun _ => 0) (fun _ => .inr (0, [])) μ := by
    have e9 : mset μ q (.inr (11, [.null, .null, .int 0, .int 0, .int 0, .int 0, .int 0, .null, .null, .null, .null, .null, .null, .null, .null, .null, .int 0, .int 0, .int 0, .long 0, .long 0, .null])) = μ := by
      funext a
      by_cases ea : a = q
      · subst ea
        rw [mset_s]
        exact hm.symm
      · exact mset_n ea
    rw [e9]
    exact Bl.rf
  refine pl_aload_n (pc := 0) dX1_init_0 rfl rfl ?_
  refine pj_objInit (pc := 1) q186 q187 q188 dX1_init_1 (by omega) (by decide) ?_
  refine pl_aload_n (pc := 4) dX1_init_4 rfl rfl ?_
  refine pj_new (pc := 5) (C1 := 254) (N1 := 8133) ckX2 q189 q190 q126 dX1_init_5 _ dfX2 (by omega) (by omega) (fun q_5 hn_5 gq_5 => ?_)
  refine blk (n := 1) (h.new hn_5) (fun My1 y1 => ?_)
  refine pj_dup (pc := 8) dX1_init_8 rfl ?_
  refine pl_callIWv (pc := 9) (As := []) (C1 := 123) (N1 := 6841) (C2 := 131) (N2 := 1292) mdX2_init rfl q191 q192 q126 dX1_init_9 rfl rfl (Nat.le_of_ble_eq_true rfl) (x_X2_init (d := d - 1) (by omega) (q := q_5) (y1.getq (j := 0) (q := q_5) (c := (.inr (22, [.int 0, .int 0, .int 0, .int 0, .int 0, .int 0, .int 0, .int 0, .int 0, .int 0, .int 0, .int 0, .null, .null, .null, .null, .null, .null, .null, .null, .null, .null, .null, .null, .null, .null, .null, .null, .null, .null, .null, .null]))) (by omega) rfl rfl)) (by omega) (by omega) (by omega) (fun My2 qy2 => ?_)
  obtain ⟨ad1, sl1, hB⟩ := qy2
  refine blg ((y1.put (j := 0) (q := q_5) (by omega) rfl).app hB) (fun M_1 AD hAD h1 => ?_)
  have e_1 : ∀ k, k < 27 → AD (1 + k) = ad1 k := fun k hk => by
    rw [hAD _ (by omega)]
    show (if 1 + k < 0 + 1 then _ else adL 27 ad1 sl1 (1 + k - (0 + 1))) = _
    rw [if_neg (by omega), show 1 + k - (0 + 1) = k by omega]
    exact if_pos hk
  have e_2 : ∀ i, i < 96 → AD (28 + i) = sl1 i := fun i hi => by
    rw [hAD _ (by omega)]
    show (if 28 + i < 0 + 1 then _ else adL 27 ad1 sl1 (28 + i - (0 + 1))) = _
    rw [if_neg (by omega), show 28 + i - (0 + 1) = 27 + i by omega]
    show (if 27 + i < 27 then _ else sl1 (27 + i - 27)) = _
    rw [if_neg (by omega), Nat.add_sub_cancel_left]
  have a_0 : q_5 = AD 0 := ((hAD 0 (by decide)).trans rfl).symm
  have h2 : Bl (mset μ q (.inr (11, [.null, .null, .int 0, .int 0, .int 0, .int 0, .int 0, .null, .null, .null, .null, .null, .null, .null, .null, .null, .int 0, .int 0, .int 0, .long 0, .long 0, .null]))) 124 AD (ceC g AD) M_1 := h1.cg (fun _ _ => rfl) (fun j hj => by
    unfold ceC
    by_cases c : j = 0
    · subst c
      rw [if_pos rfl]
      show _ = (.inr (22, [.int 0, .int (nI 500), .int (nI 200), .int 0, .int 0, .int 0, .int 0, .int 0, .int 0, .int 0, .int (-1), .int (-1), .ref (ad1 0), .ref (ad1 21), .ref (ad1 22), .ref (ad1 2), .ref (ad1 3), .ref (ad1 4), .ref (ad1 5), .ref (ad1 6), .ref (ad1 7), .ref (ad1 23), .ref (ad1 8), .ref (ad1 9), .ref (ad1 10), .ref (ad1 11), .ref (ad1 12), .ref (ad1 14), .ref (ad1 16), .ref (ad1 18), .ref (ad1 20), .ref (ad1 26)]) : va_E)
      rw [e_1 0 (by decide), e_1 21 (by decide), e_1 22 (by decide), e_1 2 (by decide), e_1 3 (by decide), e_1 4 (by decide), e_1 5 (by decide), e_1 6 (by decide), e_1 7 (by decide), e_1 23 (by decide), e_1 8 (by decide), e_1 9 (by decide), e_1 10 (by decide), e_1 11 (by decide), e_1 12 (by decide), e_1 14 (by decide), e_1 16 (by decide), e_1 18 (by decide), e_1 20 (by decide), e_1 26 (by decide)]
    · rw [if_neg c, if_pos hj]
      show _ = (if j < 0 + 1 then _ else ceW g ad1 sl1 96 12 (j - (0 + 1)))
      rw [if_neg (by omega)]
      exact ceW_cg e_1 e_2 _)
  subst a_0
  refine blk h2 (fun M9_9 y2 => ?_)
  refine pj_putfF (pc := 12) ckX1 0 q853 dX1_init_12 (by decide) rfl rfl rfl (y2.up (mset_s (e := .inr (11, [.null, .null, .int 0, .int 0, .int 0, .int 0, .int 0, .null, .null, .null, .null, .null, .null, .null, .null, .null, .int 0, .int 0, .int 0, .long 0, .long 0, .null])))) rfl rfl (Nat.le_of_ble_eq_true rfl) ?_
  refine blk (y2.bput hq0 (c := .inr (11, [.ref (AD 0), .null, .int 0, .int 0, .int 0, .int 0, .int 0, .null, .null, .null, .null, .null, .null, .null, .null, .null, .int 0, .int 0, .int 0, .long 0, .long 0, .null]))) (fun My3 y3 => ?_)
  refine pl_aload_n (pc := 15) dX1_init_15 rfl rfl ?_
  refine pj_new (pc := 16) (C1 := 130) (N1 := 1260) ckX2 q189 q190 q126 dX1_init_16 _ dfX2 (by omega) (by omega) (fun q_16 hn_16 gq_16 => ?_)
  refine blk (n := 125) (y3.new hn_16) (fun My4 y4 => ?_)
  refine pj_dup (pc := 19) dX1_init_19 rfl ?_
  refine pl_aload_n (pc := 20) dX1_init_20 rfl rfl ?_
  refine pj_getf (pc := 21) ckX1 0 q853 dX1_init_21 (by decide) (y4.up (mset_s (e := .inr (11, [.ref (AD 0), .null, .int 0, .int 0, .int 0, .int 0, .int 0, .null, .null, .null, .null, .null, .null, .null, .null, .null, .int 0, .int 0, .int 0, .long 0, .long 0, .null])))) rfl ?_
  refine pl_callIWv (pc := 24) (As := [_]) (C1 := 117) (N1 := 633) (C2 := 13) (N2 := 627) mdX2_init_2 rfl q848 q849 q126 dX1_init_24 rfl rfl (Nat.le_of_ble_eq_true rfl) (x_X2_init_2 (d := d - 1) (by omega) (q := q_16) (q0 := AD 0) (f0 := f0W) (p0 := wpF (fun k => AD (1 + k))) (y4.getq (j := 124) (q := q_16) (c := (.inr (22, [.int 0, .int 0, .int 0, .int 0, .int 0, .int 0, .int 0, .int 0, .int 0, .int 0, .int 0, .int 0, .null, .null, .null, .null, .null, .null, .null, .null, .null, .null, .null, .null, .null, .null, .null, .null, .null, .null, .null, .null]))) (by omega) rfl rfl) (y4.getq (j := 0) (q := AD 0) (c := woV f0W (wpF (fun k => AD (1 + k)))) (by omega) rfl rfl) (y4.ne (i := 0) (j := 124) (by omega) (by omega) rfl rfl (by decide))) (by omega) (by omega) (by omega) (fun My5 qy5 => ?_)
  obtain ⟨ad2, sl2, hB2⟩ := qy5
  refine blg ((y4.put (j := 124) (q := q_16) (by omega) rfl).app hB2) (fun M_2 AE hAE h3 => ?_)
  have f_0 : ∀ k, k < 124 → AE k = AD k := fun k hk => by
    rw [hAE _ (by omega)]
    show (if k < 124 + 1 then uN AD 124 q_16 k else _) = _
    rw [if_pos (by omega), uN_ne (by omega)]
  have f_1 : ∀ k, k < 21 → AE (125 + k) = ad2 k := fun k hk => by
    rw [hAE _ (by omega)]
    show (if 125 + k < 124 + 1 then _ else adL 21 ad2 sl2 (125 + k - (124 + 1))) = _
    rw [if_neg (by omega), show 125 + k - (124 + 1) = k by omega]
    exact if_pos hk
  have f_2 : ∀ i, i < 96 → AE (146 + i) = sl2 i := fun i hi => by
    rw [hAE _ (by omega)]
    show (if 146 + i < 124 + 1 then _ else adL 21 ad2 sl2 (146 + i - (124 + 1))) = _
    rw [if_neg (by omega), show 146 + i - (124 + 1) = 21 + i by omega]
    show (if 21 + i < 21 then _ else sl2 (21 + i - 21)) = _
    rw [if_neg (by omega), Nat.add_sub_cancel_left]
  have b_0 : q_16 = AE 124 := ((hAE 124 (by decide)).trans rfl).symm
  have b_1 : AD 0 = AE 0 := (f_0 0 (by decide)).symm
  have h4 : Bl (mset μ q (.inr (11, [.ref (AD 0), .null, .int 0, .int 0, .int 0, .int 0, .int 0, .null, .null, .null, .null, .null, .null, .null, .null, .null, .int 0, .int 0, .int 0, .long 0, .long 0, .null]))) 242 AE (ceC g AE) M_2 := h3.cg (fun _ _ => rfl) (fun j hj => by
    by_cases c : j < 124
    · rw [ceC_cg1 f_0 c]
      show _ = (if j < 124 + 1 then uN (uN (ceC g AD) 124 _) 124 _ j else _)
      rw [if_pos (by omega), uN_ne (by omega), uN_ne (by omega)]
    · by_cases c1 : j = 124
      · subst c1
        show _ = (.inr (22, [.int 0, .int (nI 500), .int (nI 200), .int 0, .int 0, .int 0, .int 0, .int 0, .int 0, .int 0, .int (-1), .int (-1), .ref (ad2 0), .ref (AD (1 + 21)), .ref (AD (1 + 22)), .ref (ad2 2), .ref (ad2 3), .ref (ad2 4), .ref (ad2 5), .ref (ad2 6), .ref (ad2 7), .ref (AD (1 + 23)), .ref (ad2 8), .ref (ad2 9), .ref (ad2 10), .ref (ad2 11), .ref (ad2 12), .ref (ad2 14), .ref (ad2 16), .ref (ad2 18), .ref (ad2 20), .null]) : va_E)
        unfold ceC
        rw [if_neg (by decide), if_neg (by decide), if_pos rfl]
        rw [f_1 0 (by decide), f_0 (1 + 21) (by decide), f_0 (1 + 22) (by decide), f_1 2 (by decide), f_1 3 (by decide), f_1 4 (by decide), f_1 5 (by decide), f_1 6 (by decide), f_1 7 (by decide), f_0 (1 + 23) (by decide), f_1 8 (by decide), f_1 9 (by decide), f_1 10 (by decide), f_1 11 (by decide), f_1 12 (by decide), f_1 14 (by decide), f_1 16 (by decide), f_1 18 (by decide), f_1 20 (by decide)]
      · show _ = (if j < 124 + 1 then _ else ceT g ad2 sl2 96 12 (j - (124 + 1)))
        rw [if_neg (by omega)]
        unfold ceC
        rw [if_neg (by omega), if_neg c, if_neg c1, if_pos hj]
        exact ceT_cg f_1 f_2 _)
  rw [b_1] at h4
  subst b_0
  refine blk h4 (fun M9_24 y5 => ?_)
  refine pj_putfF (pc := 27) ckX1 1 q854 dX1_init_27 (by decide) rfl rfl rfl (y5.up (mset_s (e := .inr (11, [.ref (AE 0), .null, .int 0, .int 0, .int 0, .int 0, .int 0, .null, .null, .null, .null, .null, .null, .null, .null, .null, .int 0, .int 0, .int 0, .long 0, .long 0, .null])))) rfl rfl (Nat.le_of_ble_eq_true rfl) ?_
  refine blk (y5.bput hq0 (c := .inr (11, [.ref (AE 0), .ref (AE 124), .int 0, .int 0, .int 0, .int 0, .int 0, .null, .null, .null, .null, .null, .null, .null, .null, .null, .int 0, .int 0, .int 0, .long 0, .long 0, .null]))) (fun My6 y6 => ?_)
  refine pl_aload_n (pc := 30) dX1_init_30 rfl rfl ?_
  refine pj_iconst (pc := 31) (v := (-1)) dX1_init_31 (by rfl) ?_
  refine pj_putf (pc := 32) ckX1 3 q856 dX1_init_32 (by decide) rfl (y6.up (mset_s (e := .inr (11, [.ref (AE 0), .ref (AE 124), .int 0, .int 0, .int 0, .int 0, .int 0, .null, .null, .null, .null, .null, .null, .null, .null, .null, .int 0, .int 0, .int 0, .long 0, .long 0, .null])))) rfl rfl (Nat.le_of_ble_eq_true rfl) ?_
  refine blk (y6.bput hq0 (c := .inr (11, [.ref (AE 0), .ref (AE 124), .int 0, .int (-1), .int 0, .int 0, .int 0, .null, .null, .null, .null, .null, .null, .null, .null, .null, .int 0, .int 0, .int 0, .long 0, .long 0, .null]))) (fun My7 y7 => ?_)
  refine pl_aload_n (pc := 35) dX1_init_35 rfl rfl ?_
  refine pl_sipush (pc := 36) (v := 300) dX1_init_36 (by rfl) ?_
  refine pj_newa (pc := 39) (C1 := 12) (N1 := 327) (t0 := 2) (a0 := (300, .inl (fun _ => 0))) dX1_init_39 q305 rfl rfl (fun _ => rfl) (Int32.not_lt.mpr (nI_pos' (by omega))) (nI_clamp (by omega)) (by decide) (by omega) (by omega) (fun q_39 hn_39 gq_39 => ?_)
  refine blk (n := 243) (y7.new hn_39) (fun My8 y8 => ?_)
  refine pj_putfF (pc := 41) ckX1 7 q860 dX1_init_41 (by decide) rfl rfl rfl (y8.up (mset_s (e := .inr (11, [.ref (AE 0), .ref (AE 124), .int 0, .int (-1), .int 0, .int 0, .int 0, .null, .null, .null, .null, .null, .null, .null, .null, .null, .int 0, .int 0, .int 0, .long 0, .long 0, .null])))) rfl rfl (Nat.le_of_ble_eq_true rfl) ?_
  refine blk (y8.bput hq0 (c := .inr (11, [.ref (AE 0), .ref (AE 124), .int 0, .int (-1), .int 0, .int 0, .int 0, .ref q_39, .null, .null, .null, .null, .null, .null, .null, .null, .int 0, .int 0, .int 0, .long 0, .long 0, .null]))) (fun My9 y9 => ?_)
  refine pl_aload_n (pc := 44) dX1_init_44 rfl rfl ?_
  refine pj_new (pc := 45) (C1 := 11) (N1 := 324) ckJ2 q851 q196 q129 dX1_init_45 _ dfJ2 (by omega) (by omega) (fun q_45 hn_45 gq_45 => ?_)
  refine blk (n := 244) (y9.new hn_45) (fun My10 y10 => ?_)
  refine pj_dup (pc := 48) dX1_init_48 rfl ?_
  refine pl_iconst (pc := 49) (v := 4) dX1_init_49 (by rfl) ?_
  refine pl_callIWv (pc := 50) (As := [_]) (C1 := 1) (N1 := 4) (C2 := 10) (N2 := 320) mdJ2_init rfl q852 q198 q129 dX1_init_50 rfl rfl (Nat.le_of_ble_eq_true rfl) (k_J2_init_4 (d := d - 1) (by omega) (y10.getq (j := 243) (q := q_45) (c := (.inr (2, [.int 0, .null, .int 0]))) (by omega) rfl rfl)) (by omega) (by omega) (by omega) (fun My11 qy11 => ?_)
  obtain ⟨e_50, he_50, hf_50, hm_50⟩ := qy11
  refine PJ.mem hm_50 ?_
  refine blk (n := 245) ((y10.new he_50).put (j := 243) (q := q_45) (by omega) rfl) (fun M9_50 y11 => ?_)
  refine pj_putfF (pc := 53) ckX1 8 q861 dX1_init_53 (by decide) rfl rfl rfl (y11.up (mset_s (e := .inr (11, [.ref (AE 0), .ref (AE 124), .int 0, .int (-1), .int 0, .int 0, .int 0, .ref q_39, .null, .null, .null, .null, .null, .null, .null, .null, .int 0, .int 0, .int 0, .long 0, .long 0, .null])))) rfl rfl (Nat.le_of_ble_eq_true rfl) ?_
  refine blk (y11.bput hq0 (c := .inr (11, [.ref (AE 0), .ref (AE 124), .int 0, .int (-1), .int 0, .int 0, .int 0, .ref q_39, .ref q_45, .null, .null, .null, .null, .null, .null, .null, .int 0, .int 0, .int 0, .long 0, .long 0, .null]))) (fun My12 y12 => ?_)
  refine pl_aload_n (pc := 56) dX1_init_56 rfl rfl ?_
  refine pj_new (pc := 57) (C1 := 9) (N1 := 317) ckJ2 q851 q196 q129 dX1_init_57 _ dfJ2 (by omega) (by omega) (fun q_57 hn_57 gq_57 => ?_)
  refine blk (n := 246) (y12.new hn_57) (fun My13 y13 => ?_)
  refine pj_dup (pc := 60) dX1_init_60 rfl ?_
  refine pl_iconst (pc := 61) (v := 4) dX1_init_61 (by rfl) ?_
  refine pl_callIWv (pc := 62) (As := [_]) (C1 := 1) (N1 := 4) (C2 := 8) (N2 := 313) mdJ2_init rfl q852 q198 q129 dX1_init_62 rfl rfl (Nat.le_of_ble_eq_true rfl) (k_J2_init_4 (d := d - 1) (by omega) (y13.getq (j := 245) (q := q_57) (c := (.inr (2, [.int 0, .null, .int 0]))) (by omega) rfl rfl)) (by omega) (by omega) (by omega) (fun My14 qy14 => ?_)
  obtain ⟨e_62, he_62, hf_62, hm_62⟩ := qy14
  refine PJ.mem hm_62 ?_
  refine blk (n := 247) ((y13.new he_62).put (j := 245) (q := q_57) (by omega) rfl) (fun M9_62 y14 => ?_)
  refine pj_putfF (pc := 65) ckX1 9 q862 dX1_init_65 (by decide) rfl rfl rfl (y14.up (mset_s (e := .inr (11, [.ref (AE 0), .ref (AE 124), .int 0, .int (-1), .int 0, .int 0, .int 0, .ref q_39, .ref q_45, .null, .null, .null, .null, .null, .null, .null, .int 0, .int 0, .int 0, .long 0, .long 0, .null])))) rfl rfl (Nat.le_of_ble_eq_true rfl) ?_
  refine blk (y14.bput hq0 (c := .inr (11, [.ref (AE 0), .ref (AE 124), .int 0, .int (-1), .int 0, .int 0, .int 0, .ref q_39, .ref q_45, .ref q_57, .null, .null, .null, .null, .null, .null, .int 0, .int 0, .int 0, .long 0, .long 0, .null]))) (fun My15 y15 => ?_)
  refine pl_aload_n (pc := 68) dX1_init_68 rfl rfl ?_
  refine pj_new (pc := 69) (C1 := 7) (N1 := 310) ckJ2 q851 q196 q129 dX1_init_69 _ dfJ2 (by omega) (by omega) (fun q_69 hn_69 gq_69 => ?_)
  refine blk (n := 248) (y15.new hn_69) (fun My16 y16 => ?_)
  refine pj_dup (pc := 72) dX1_init_72 rfl ?_
  refine pl_iconst (pc := 73) (v := 4) dX1_init_73 (by rfl) ?_
  refine pl_callIWv (pc := 74) (As := [_]) (C1 := 1) (N1 := 4) (C2 := 6) (N2 := 306) mdJ2_init rfl q852 q198 q129 dX1_init_74 rfl rfl (Nat.le_of_ble_eq_true rfl) (k_J2_init_4 (d := d - 1) (by omega) (y16.getq (j := 247) (q := q_69) (c := (.inr (2, [.int 0, .null, .int 0]))) (by omega) rfl rfl)) (by omega) (by omega) (by omega) (fun My17 qy17 => ?_)
  obtain ⟨e_74, he_74, hf_74, hm_74⟩ := qy17
  refine PJ.mem hm_74 ?_
  refine blk (n := 249) ((y16.new he_74).put (j := 247) (q := q_69) (by omega) rfl) (fun M9_74 y17 => ?_)
  refine pj_putfF (pc := 77) ckX1 10 q863 dX1_init_77 (by decide) rfl rfl rfl (y17.up (mset_s (e := .inr (11, [.ref (AE 0), .ref (AE 124), .int 0, .int (-1), .int 0, .int 0, .int 0, .ref q_39, .ref q_45, .ref q_57, .null, .null, .null, .null, .null, .null, .int 0, .int 0, .int 0, .long 0, .long 0, .null])))) rfl rfl (Nat.le_of_ble_eq_true rfl) ?_
  refine blk (y17.bput hq0 (c := .inr (11, [.ref (AE 0), .ref (AE 124), .int 0, .int (-1), .int 0, .int 0, .int 0, .ref q_39, .ref q_45, .ref q_57, .ref q_69, .null, .null, .null, .null, .null, .int 0, .int 0, .int 0, .long 0, .long 0, .null]))) (fun My18 y18 => ?_)
  refine pl_aload_n (pc := 80) dX1_init_80 rfl rfl ?_
  refine pl_bipush (pc := 81) (v := 100) dX1_init_81 (by rfl) ?_
  refine pj_newa (pc := 83) (C1 := 5) (N1 := 206) (t0 := 3) (a0 := (100, .inl (fun _ => 0))) dX1_init_83 q573 rfl rfl (fun _ => rfl) (Int32.not_lt.mpr (nI_pos' (by omega))) (nI_clamp (by omega)) (by decide) (by omega) (by omega) (fun q_83 hn_83 gq_83 => ?_)
  refine blk (n := 250) (y18.new hn_83) (fun My19 y19 => ?_)
  refine pj_putfF (pc := 85) ckX1 11 q864 dX1_init_85 (by decide) rfl rfl rfl (y19.up (mset_s (e := .inr (11, [.ref (AE 0), .ref (AE 124), .int 0, .int (-1), .int 0, .int 0, .int 0, .ref q_39, .ref q_45, .ref q_57, .ref q_69, .null, .null, .null, .null, .null, .int 0, .int 0, .int 0, .long 0, .long 0, .null])))) rfl rfl (Nat.le_of_ble_eq_true rfl) ?_
  refine blk (y19.bput hq0 (c := .inr (11, [.ref (AE 0), .ref (AE 124), .int 0, .int (-1), .int 0, .int 0, .int 0, .ref q_39, .ref q_45, .ref q_57, .ref q_69, .ref q_83, .null, .null, .null, .null, .int 0, .int 0, .int 0, .long 0, .long 0, .null]))) (fun My20 y20 => ?_)
  refine pl_aload_n (pc := 88) dX1_init_88 rfl rfl ?_
  refine pl_iconst (pc := 89) (v := 3) dX1_init_89 (by rfl) ?_
  refine pj_newa (pc := 90) (C1 := 4) (N1 := 203) (t0 := 0) (a0 := (3, .inl (fun _ => 0))) dX1_init_90 q572 rfl rfl (fun _ => rfl) (Int32.not_lt.mpr (nI_pos' (by omega))) (nI_clamp (by omega)) (by decide) (by omega) (by omega) (fun q_90 hn_90 gq_90 => ?_)
  refine blk (n := 251) (y20.new hn_90) (fun My21 y21 => ?_)
  refine pj_putfF (pc := 92) ckX1 12 q865 dX1_init_92 (by decide) rfl rfl rfl (y21.up (mset_s (e := .inr (11, [.ref (AE 0), .ref (AE 124), .int 0, .int (-1), .int 0, .int 0, .int 0, .ref q_39, .ref q_45, .ref q_57, .ref q_69, .ref q_83, .null, .null, .null, .null, .int 0, .int 0, .int 0, .long 0, .long 0, .null])))) rfl rfl (Nat.le_of_ble_eq_true rfl) ?_
  refine blk (y21.bput hq0 (c := .inr (11, [.ref (AE 0), .ref (AE 124), .int 0, .int (-1), .int 0, .int 0, .int 0, .ref q_39, .ref q_45, .ref q_57, .ref q_69, .ref q_83, .ref q_90, .null, .null, .null, .int 0, .int 0, .int 0, .long 0, .long 0, .null]))) (fun My22 y22 => ?_)
  refine pl_aload_n (pc := 95) dX1_init_95 rfl rfl ?_
  refine pl_iconst (pc := 96) (v := 3) dX1_init_96 (by rfl) ?_
  refine pj_newa (pc := 97) (C1 := 3) (N1 := 200) (t0 := 0) (a0 := (3, .inl (fun _ => 0))) dX1_init_97 q572 rfl rfl (fun _ => rfl) (Int32.not_lt.mpr (nI_pos' (by omega))) (nI_clamp (by omega)) (by decide) (by omega) (by omega) (fun q_97 hn_97 gq_97 => ?_)
  refine blk (n := 252) (y22.new hn_97) (fun My23 y23 => ?_)
  refine pj_putfF (pc := 99) ckX1 13 q866 dX1_init_99 (by decide) rfl rfl rfl (y23.up (mset_s (e := .inr (11, [.ref (AE 0), .ref (AE 124), .int 0, .int (-1), .int 0, .int 0, .int 0, .ref q_39, .ref q_45, .ref q_57, .ref q_69, .ref q_83, .ref q_90, .null, .null, .null, .int 0, .int 0, .int 0, .long 0, .long 0, .null])))) rfl rfl (Nat.le_of_ble_eq_true rfl) ?_
  refine blk (y23.bput hq0 (c := .inr (11, [.ref (AE 0), .ref (AE 124), .int 0, .int (-1), .int 0, .int 0, .int 0, .ref q_39, .ref q_45, .ref q_57, .ref q_69, .ref q_83, .ref q_90, .ref q_97, .null, .null, .int 0, .int 0, .int 0, .long 0, .long 0, .null]))) (fun My24 y24 => ?_)
  refine pl_aload_n (pc := 102) dX1_init_102 rfl rfl ?_
  refine pl_iconst (pc := 103) (v := 2) dX1_init_103 (by rfl) ?_
  refine pj_newa (pc := 104) (C1 := 2) (N1 := 198) (t0 := 0) (a0 := (2, .inl (fun _ => 0))) dX1_init_104 q572 rfl rfl (fun _ => rfl) (Int32.not_lt.mpr (nI_pos' (by omega))) (nI_clamp (by omega)) (by decide) (by omega) (by omega) (fun q_104 hn_104 gq_104 => ?_)
  refine blk (n := 253) (y24.new hn_104) (fun My25 y25 => ?_)
  refine pj_putfF (pc := 106) ckX1 14 q867 dX1_init_106 (by decide) rfl rfl rfl (y25.up (mset_s (e := .inr (11, [.ref (AE 0), .ref (AE 124), .int 0, .int (-1), .int 0, .int 0, .int 0, .ref q_39, .ref q_45, .ref q_57, .ref q_69, .ref q_83, .ref q_90, .ref q_97, .null, .null, .int 0, .int 0, .int 0, .long 0, .long 0, .null])))) rfl rfl (Nat.le_of_ble_eq_true rfl) ?_
  refine blk (y25.bput hq0 (c := .inr (11, [.ref (AE 0), .ref (AE 124), .int 0, .int (-1), .int 0, .int 0, .int 0, .ref q_39, .ref q_45, .ref q_57, .ref q_69, .ref q_83, .ref q_90, .ref q_97, .ref q_104, .null, .int 0, .int 0, .int 0, .long 0, .long 0, .null]))) (fun My26 y26 => ?_)
  refine pl_aload_n (pc := 109) dX1_init_109 rfl rfl ?_
  refine pl_iconst (pc := 110) (v := 2) dX1_init_110 (by rfl) ?_
  refine pj_newa (pc := 111) (C1 := 1) (N1 := 196) (t0 := 0) (a0 := (2, .inl (fun _ => 0))) dX1_init_111 q572 rfl rfl (fun _ => rfl) (Int32.not_lt.mpr (nI_pos' (by omega))) (nI_clamp (by omega)) (by decide) (by omega) (by omega) (fun q_111 hn_111 gq_111 => ?_)
  refine blk (n := 254) (y26.new hn_111) (fun My27 y27 => ?_)
  refine pj_putfF (pc := 113) ckX1 15 q868 dX1_init_113 (by decide) rfl rfl rfl (y27.up (mset_s (e := .inr (11, [.ref (AE 0), .ref (AE 124), .int 0, .int (-1), .int 0, .int 0, .int 0, .ref q_39, .ref q_45, .ref q_57, .ref q_69, .ref q_83, .ref q_90, .ref q_97, .ref q_104, .null, .int 0, .int 0, .int 0, .long 0, .long 0, .null])))) rfl rfl (Nat.le_of_ble_eq_true rfl) ?_
  refine blk (y27.bput hq0 (c := .inr (11, [.ref (AE 0), .ref (AE 124), .int 0, .int (-1), .int 0, .int 0, .int 0, .ref q_39, .ref q_45, .ref q_57, .ref q_69, .ref q_83, .ref q_90, .ref q_97, .ref q_104, .ref q_111, .int 0, .int 0, .int 0, .long 0, .long 0, .null]))) (fun My28 y28 => ?_)
  refine pl_aload_n (pc := 116) dX1_init_116 rfl rfl ?_
  refine pl_sipush (pc := 117) (v := 196) dX1_init_117 (by rfl) ?_
  refine pj_newa (pc := 120) (C1 := 0) (N1 := 0) (t0 := 0) (a0 := (196, .inl (fun _ => 0))) dX1_init_120 q572 rfl rfl (fun _ => rfl) (Int32.not_lt.mpr (nI_pos' (by omega))) (nI_clamp (by omega)) (by decide) (by omega) (by omega) (fun q_120 hn_120 gq_120 => ?_)
  refine blk (n := 255) (y28.new hn_120) (fun My29 y29 => ?_)
  refine pj_putfF (pc := 122) ckX1 21 q874 dX1_init_122 (by decide) rfl rfl rfl (y29.up (mset_s (e := .inr (11, [.ref (AE 0), .ref (AE 124), .int 0, .int (-1), .int 0, .int 0, .int 0, .ref q_39, .ref q_45, .ref q_57, .ref q_69, .ref q_83, .ref q_90, .ref q_97, .ref q_104, .ref q_111, .int 0, .int 0, .int 0, .long 0, .long 0, .null])))) rfl rfl (Nat.le_of_ble_eq_true rfl) ?_
  refine blk (y29.bput hq0 (c := .inr (11, [.ref (AE 0), .ref (AE 124), .int 0, .int (-1), .int 0, .int 0, .int 0, .ref q_39, .ref q_45, .ref q_57, .ref q_69, .ref q_83, .ref q_90, .ref q_97, .ref q_104, .ref q_111, .int 0, .int 0, .int 0, .long 0, .long 0, .ref q_120]))) (fun My30 y30 => ?_)
  refine pj_vret (pc := 125) dX1_init_125 rfl ?_
  refine ⟨rfl, _, y30.cg (fun _ _ => rfl) (fun j hj => ?_)⟩
  by_cases c : j < 242
  · rw [ceC_cg2 (ad := AE) (fun k hk => by (repeat rw [uN_ne (by omega)])) c]
    (repeat rw [uN_ne (by omega)])
  · unfold ceC
    rw [if_neg (by omega), if_neg (by omega), if_neg (by omega), if_neg c]
    rcases (by omega : j = 242 ∨ j = 243 ∨ j = 244 ∨ j = 245 ∨ j = 246 ∨ j = 247 ∨ j = 248 ∨ j = 249 ∨ j = 250 ∨ j = 251 ∨ j = 252 ∨ j = 253 ∨ j = 254) with rfl | rfl | rfl | rfl | rfl | rfl | rfl | rfl | rfl | rfl | rfl | rfl | rfl
    all_goals rfl
