set_option maxRecDepth 100000
/-- the cells of a World when i slots stand (and k of the acres are -1) -/
def ceW (g : GP) (ad sl : Nat → Nat) (i k : Nat) : Nat → va_E
  | 0 => .inr (2, [.int (nI i), .ref (ad 1), .int (nI i)])
  | 1 => lstA g 96 (fun j => if j < i then some (sl j) else none)
  | 2 => intX g 0 96 (fun j => if j < i then nI 7 else 0)
  | 3 => intX g 0 96 (fun _ => 0)
  | 4 => intX g 0 96 (fun j => if j < i then -1 else 0)
  | 5 => intX g 3 96 (fun _ => 0)
  | 6 => .inr (37, [])
  | 7 => .inr (38, [])
  | 8 => intX g 0 4 (fun _ => 0)
  | 9 => intX g 0 4 (fun _ => 0)
  | 10 => intX g 0 4 (fun _ => 0)
  | 11 => intX g 0 12 (fun j => if j < k then -1 else 0)
  | 12 => .inr (2, [.int (nI 0), .ref (ad 13), .int 0])
  | 13 => lstA g 8 (fun _ => none)
  | 14 => .inr (2, [.int (nI 0), .ref (ad 15), .int 0])
  | 15 => lstA g 2 (fun _ => none)
  | 16 => .inr (2, [.int (nI 0), .ref (ad 17), .int 0])
  | 17 => lstA g 2 (fun _ => none)
  | 18 => .inr (2, [.int (nI 0), .ref (ad 19), .int 0])
  | 19 => lstA g 2 (fun _ => none)
  | 20 => .inr (33, [.int 0, .int 0, .int 0, .int 0])
  | 21 => intX g 2 96 (fun j => if j < i then nI 5 else 0)
  | 22 => intX g 3 96 (fun _ => 0)
  | 23 => .inr (34, [.ref (ad 24), .ref (ad 25)])
  | 24 => .inl (gA g 8, 4, .inr (.inr (.inr (.inr (fun _ => none)))))
  | 25 => intX g 0 4 (fun _ => 0)
  | 26 => intX g 0 6006 (fun _ => 0)
  | _ => .inr (35, [.ref (ad 6)])
/-- the same of the world of tries -/
def ceT (g : GP) (ad sl : Nat → Nat) (i k : Nat) : Nat → va_E
  | 0 => .inr (2, [.int (nI i), .ref (ad 1), .int (nI i)])
  | 1 => lstA g 96 (fun j => if j < i then some (sl j) else none)
  | 2 => intX g 0 96 (fun _ => 0)
  | 3 => intX g 0 96 (fun _ => 0)
  | 4 => intX g 0 96 (fun _ => 0)
  | 5 => intX g 3 96 (fun _ => 0)
  | 6 => .inr (37, [])
  | 7 => .inr (38, [])
  | 8 => intX g 0 4 (fun _ => 0)
  | 9 => intX g 0 4 (fun _ => 0)
  | 10 => intX g 0 4 (fun _ => 0)
  | 11 => intX g 0 12 (fun _ => 0)
  | 12 => .inr (2, [.int (nI 0), .ref (ad 13), .int 0])
  | 13 => lstA g 8 (fun _ => none)
  | 14 => .inr (2, [.int (nI 0), .ref (ad 15), .int 0])
  | 15 => lstA g 2 (fun _ => none)
  | 16 => .inr (2, [.int (nI 0), .ref (ad 17), .int 0])
  | 17 => lstA g 2 (fun _ => none)
  | 18 => .inr (2, [.int (nI 0), .ref (ad 19), .int 0])
  | 19 => lstA g 2 (fun _ => none)
  | 20 => .inr (33, [.int 0, .int 0, .int 0, .int 0])
  | _ => .inr (35, [.null])
def adL (m : Nat) (ad sl : Nat → Nat) : Nat → Nat := fun j => if j < m then ad j else sl (j - m)
theorem upd_lt {i : Nat} {v w : Int32} : upd (fun j => if j < i then v else w) i v = fun j => if j < i + 1 then v else w := by
  funext j
  unfold upd
  dsimp only
  by_cases h : j = i
  · rw [if_pos h, if_pos (by omega)]
  · rw [if_neg h]
    by_cases h2 : j < i
    · rw [if_pos h2, if_pos (by omega)]
    · rw [if_neg h2, if_neg (by omega)]
theorem upd_zz {i : Nat} {w : Int32} : upd (fun _ => w) i w = fun _ => w := by
  funext j
  unfold upd
  split <;> rfl
theorem up_lt {i q : Nat} {sl : Nat → Nat} : va_up (fun j => if j < i then some (sl j) else none) i (some q) = fun j => if j < i + 1 then some (uN sl i q j) else none := by
  funext j
  unfold va_up uN
  dsimp only
  by_cases h : j = i
  · rw [if_pos h, if_pos (by omega), if_pos h]
  · rw [if_neg h]
    by_cases h2 : j < i
    · rw [if_pos h2, if_pos (by omega), if_neg h]
    · rw [if_neg h2, if_neg (by omega)]
theorem adL_up {m i q : Nat} {ad sl : Nat → Nat} : ∀ j, j < m + i + 1 → adL m ad (uN sl i q) j = uN (adL m ad sl) (m + i) q j := fun j hj => by
  unfold adL uN
  dsimp only
  by_cases h : j < m
  · rw [if_pos h, if_neg (by omega), if_pos h]
  · rw [if_neg h]
    by_cases h2 : j = m + i
    · rw [if_pos (by omega), if_pos h2]
    · rw [if_neg (by omega), if_neg h2, if_neg h]
theorem cW_s {g : GP} {ad sl : Nat → Nat} {i k m : Nat} : ceW g ad sl i k (27 + m) = .inr (35, [.ref (ad 6)]) := by
  rw [Nat.add_comm]
  rfl
theorem cT_s {g : GP} {ad sl : Nat → Nat} {i k m : Nat} : ceT g ad sl i k (21 + m) = .inr (35, [.null]) := by
  rw [Nat.add_comm]
  rfl
section BG
variable {g : GP} {own : String} {cc : ByteArray} {nL : Nat} {i : MI} {d C N pc : Nat} {ls : List (Nat × Value)} {rest st : List Value} {μ μ0 : Mem} {Q : OC → Mem → Prop}
theorem blg {n : Nat} {ad : Nat → Nat} {ce : Nat → va_E} (h : Bl μ0 n ad ce μ) (k : ∀ (M : Mem) (AD : Nat → Nat), (∀ j, j < n → AD j = ad j) → Bl μ0 n AD ce M → PJ g own cc nL i d C N pc ls st M Q) : PJ g own cc nL i d C N pc ls st μ Q := k μ ad (fun _ _ => rfl) h
end BG
def f0W : Nat → Int32
  | 1 => nI 500
  | 2 => nI 200
  | 10 => -1
  | 11 => -1
  | _ => 0
/-- a World's fields by its cells -/
def wpF (ad : Nat → Nat) : Nat → Nat
  | 12 => ad 0
  | 13 => ad 21
  | 14 => ad 22
  | 15 => ad 2
  | 16 => ad 3
  | 17 => ad 4
  | 18 => ad 5
  | 19 => ad 6
  | 20 => ad 7
  | 21 => ad 23
  | 22 => ad 8
  | 23 => ad 9
  | 24 => ad 10
  | 25 => ad 11
  | 26 => ad 12
  | 27 => ad 14
  | 28 => ad 16
  | 29 => ad 18
  | 30 => ad 20
  | 31 => ad 26
  | _ => 0
set_option maxHeartbeats 1000000 in
theorem x_X2_init {g : GP} {μ : Mem} {d : Nat} (hd : 9 ≤ d) {q : Nat} (hm : μ q = some (.inr (22, [.int 0, .int 0, .int 0, .int 0, .int 0, .int 0, .int 0, .int 0, .int 0, .int 0, .int 0, .int 0, .null, .null, .null, .null, .null, .null, .null, .null, .null, .null, .null, .null, .null, .null, .null, .null, .null, .null, .null, .null]))) : PM g yX2_init (ws_ yX2_init cX2_init 2 none) d 123 6841 [.ref q] μ (WQ none (fun M => ∃ ad sl : Nat → Nat, Bl (mset μ q (.inr (22, [.int 0, .int (nI 500), .int (nI 200), .int 0, .int 0, .int 0, .int 0, .int 0, .int 0, .int 0, .int (-1), .int (-1), .ref (ad 0), .ref (ad 21), .ref (ad 22), .ref (ad 2), .ref (ad 3), .ref (ad 4), .ref (ad 5), .ref (ad 6), .ref (ad 7), .ref (ad 23), .ref (ad 8), .ref (ad 9), .ref (ad 10), .ref (ad 11), .ref (ad 12), .ref (ad 14), .ref (ad 16), .ref (ad 18), .ref (ad 20), .ref (ad 26)]))) (27 + 96) (adL 27 ad sl) (ceW g ad sl 96 12) M)) := by
  refine PM.of (by decide +kernel) (Nat.le_of_ble_eq_true rfl) ?_
  refine PJ.ok (fun G => ?_)
  have hq0 : μ q ≠ none := by rw [hm]; exact fun z => (by cases z)
  show PJ g _ _ _ _ d 123 6841 0 [(0, .ref q)] [] _ _
  have h : Bl (mset μ q (.inr (22, [.int 0, .int 0, .int 0, .int 0, .int 0, .int 0, .int 0, .int 0, .int 0, .int 0, .int 0, .int 0, .null, .null, .null, .null, .null, .null, .null, .null, .null, .null, .null, .null, .null, .null, .null, .null, .null, .null, .null, .null]))) 0 (fun _ => 0) (fun _ => .inr (0, [])) μ := by
    have e9 : mset μ q (.inr (22, [.int 0, .int 0, .int 0, .int 0, .int 0, .int 0, .int 0, .int 0, .int 0, .int 0, .int 0, .int 0, .null, .null, .null, .null, .null, .null, .null, .null, .null, .null, .null, .null, .null, .null, .null, .null, .null, .null, .null, .null])) = μ := by
      funext a
      by_cases ea : a = q
      · subst ea
        rw [mset_s]
        exact hm.symm
      · exact mset_n ea
    rw [e9]
    exact Bl.rf
  refine pl_aload_n (pc := 0) dX2_init_0 rfl rfl ?_
  refine pj_objInit (pc := 1) q194 q187 q188 dX2_init_1 (by omega) (by decide) ?_
  refine pl_aload_n (pc := 4) dX2_init_4 rfl rfl ?_
  refine pl_sipush (pc := 5) (v := 500) dX2_init_5 (by rfl) ?_
  refine pj_putf (pc := 8) ckX2 1 q727 dX2_init_8 (by decide) rfl (h.up (mset_s (e := .inr (22, [.int 0, .int 0, .int 0, .int 0, .int 0, .int 0, .int 0, .int 0, .int 0, .int 0, .int 0, .int 0, .null, .null, .null, .null, .null, .null, .null, .null, .null, .null, .null, .null, .null, .null, .null, .null, .null, .null, .null, .null])))) rfl rfl (Nat.le_of_ble_eq_true rfl) ?_
  refine blk (h.bput hq0 (c := .inr (22, [.int 0, .int (nI 500), .int 0, .int 0, .int 0, .int 0, .int 0, .int 0, .int 0, .int 0, .int 0, .int 0, .null, .null, .null, .null, .null, .null, .null, .null, .null, .null, .null, .null, .null, .null, .null, .null, .null, .null, .null, .null]))) (fun My1 y1 => ?_)
  refine pl_aload_n (pc := 11) dX2_init_11 rfl rfl ?_
  refine pl_sipush (pc := 12) (v := 200) dX2_init_12 (by rfl) ?_
  refine pj_putf (pc := 15) ckX2 2 q729 dX2_init_15 (by decide) rfl (y1.up (mset_s (e := .inr (22, [.int 0, .int (nI 500), .int 0, .int 0, .int 0, .int 0, .int 0, .int 0, .int 0, .int 0, .int 0, .int 0, .null, .null, .null, .null, .null, .null, .null, .null, .null, .null, .null, .null, .null, .null, .null, .null, .null, .null, .null, .null])))) rfl rfl (Nat.le_of_ble_eq_true rfl) ?_
  refine blk (y1.bput hq0 (c := .inr (22, [.int 0, .int (nI 500), .int (nI 200), .int 0, .int 0, .int 0, .int 0, .int 0, .int 0, .int 0, .int 0, .int 0, .null, .null, .null, .null, .null, .null, .null, .null, .null, .null, .null, .null, .null, .null, .null, .null, .null, .null, .null, .null]))) (fun My2 y2 => ?_)
  refine pl_aload_n (pc := 18) dX2_init_18 rfl rfl ?_
  refine pj_iconst (pc := 19) (v := (-1)) dX2_init_19 (by rfl) ?_
  refine pj_putf (pc := 20) ckX2 10 q743 dX2_init_20 (by decide) rfl (y2.up (mset_s (e := .inr (22, [.int 0, .int (nI 500), .int (nI 200), .int 0, .int 0, .int 0, .int 0, .int 0, .int 0, .int 0, .int 0, .int 0, .null, .null, .null, .null, .null, .null, .null, .null, .null, .null, .null, .null, .null, .null, .null, .null, .null, .null, .null, .null])))) rfl rfl (Nat.le_of_ble_eq_true rfl) ?_
  refine blk (y2.bput hq0 (c := .inr (22, [.int 0, .int (nI 500), .int (nI 200), .int 0, .int 0, .int 0, .int 0, .int 0, .int 0, .int 0, .int (-1), .int 0, .null, .null, .null, .null, .null, .null, .null, .null, .null, .null, .null, .null, .null, .null, .null, .null, .null, .null, .null, .null]))) (fun My3 y3 => ?_)
  refine pl_aload_n (pc := 23) dX2_init_23 rfl rfl ?_
  refine pj_iconst (pc := 24) (v := (-1)) dX2_init_24 (by rfl) ?_
  refine pj_putf (pc := 25) ckX2 11 q745 dX2_init_25 (by decide) rfl (y3.up (mset_s (e := .inr (22, [.int 0, .int (nI 500), .int (nI 200), .int 0, .int 0, .int 0, .int 0, .int 0, .int 0, .int 0, .int (-1), .int 0, .null, .null, .null, .null, .null, .null, .null, .null, .null, .null, .null, .null, .null, .null, .null, .null, .null, .null, .null, .null])))) rfl rfl (Nat.le_of_ble_eq_true rfl) ?_
  refine blk (y3.bput hq0 (c := .inr (22, [.int 0, .int (nI 500), .int (nI 200), .int 0, .int 0, .int 0, .int 0, .int 0, .int 0, .int 0, .int (-1), .int (-1), .null, .null, .null, .null, .null, .null, .null, .null, .null, .null, .null, .null, .null, .null, .null, .null, .null, .null, .null, .null]))) (fun My4 y4 => ?_)
  refine pl_aload_n (pc := 28) dX2_init_28 rfl rfl ?_
  refine pj_new (pc := 29) (C1 := 122) (N1 := 6838) ckJ2 q195 q196 q129 dX2_init_29 _ dfJ2 (by omega) (by omega) (fun q_29 hn_29 gq_29 => ?_)
  refine blk (n := 1) (y4.new hn_29) (fun My5 y5 => ?_)
  refine pj_dup (pc := 32) dX2_init_32 rfl ?_
  refine pl_bipush (pc := 33) (v := 96) dX2_init_33 (by rfl) ?_
  refine pl_callIWv (pc := 35) (As := [_]) (C1 := 1) (N1 := 96) (C2 := 121) (N2 := 6742) mdJ2_init rfl q197 q198 q129 dX2_init_35 rfl rfl (Nat.le_of_ble_eq_true rfl) (k_J2_init_96 (d := d - 1) (by omega) (y5.getq (j := 0) (q := q_29) (c := (.inr (2, [.int 0, .null, .int 0]))) (by omega) rfl rfl)) (by omega) (by omega) (by omega) (fun My6 qy6 => ?_)
  obtain ⟨e_35, he_35, hf_35, hm_35⟩ := qy6
  refine PJ.mem hm_35 ?_
  refine blk (n := 2) ((y5.new he_35).put (j := 0) (q := q_29) (by omega) rfl) (fun M9_35 y6 => ?_)
  refine pj_putfF (pc := 38) ckX2 12 q747 dX2_init_38 (by decide) rfl rfl rfl (y6.up (mset_s (e := .inr (22, [.int 0, .int (nI 500), .int (nI 200), .int 0, .int 0, .int 0, .int 0, .int 0, .int 0, .int 0, .int (-1), .int (-1), .null, .null, .null, .null, .null, .null, .null, .null, .null, .null, .null, .null, .null, .null, .null, .null, .null, .null, .null, .null])))) rfl rfl (Nat.le_of_ble_eq_true rfl) ?_
  refine blk (y6.bput hq0 (c := .inr (22, [.int 0, .int (nI 500), .int (nI 200), .int 0, .int 0, .int 0, .int 0, .int 0, .int 0, .int 0, .int (-1), .int (-1), .ref q_29, .null, .null, .null, .null, .null, .null, .null, .null, .null, .null, .null, .null, .null, .null, .null, .null, .null, .null, .null]))) (fun My7 y7 => ?_)
  refine pl_aload_n (pc := 41) dX2_init_41 rfl rfl ?_
  refine pl_bipush (pc := 42) (v := 96) dX2_init_42 (by rfl) ?_
  refine pj_newa (pc := 44) (C1 := 120) (N1 := 6646) (t0 := 0) (a0 := (96, .inl (fun _ => 0))) dX2_init_44 q572 rfl rfl (fun _ => rfl) (Int32.not_lt.mpr (nI_pos' (by omega))) (nI_clamp (by omega)) (by decide) (by omega) (by omega) (fun q_44 hn_44 gq_44 => ?_)
  refine blk (n := 3) (y7.new hn_44) (fun My8 y8 => ?_)
  refine pj_putfF (pc := 46) ckX2 15 q753 dX2_init_46 (by decide) rfl rfl rfl (y8.up (mset_s (e := .inr (22, [.int 0, .int (nI 500), .int (nI 200), .int 0, .int 0, .int 0, .int 0, .int 0, .int 0, .int 0, .int (-1), .int (-1), .ref q_29, .null, .null, .null, .null, .null, .null, .null, .null, .null, .null, .null, .null, .null, .null, .null, .null, .null, .null, .null])))) rfl rfl (Nat.le_of_ble_eq_true rfl) ?_
  refine blk (y8.bput hq0 (c := .inr (22, [.int 0, .int (nI 500), .int (nI 200), .int 0, .int 0, .int 0, .int 0, .int 0, .int 0, .int 0, .int (-1), .int (-1), .ref q_29, .null, .null, .ref q_44, .null, .null, .null, .null, .null, .null, .null, .null, .null, .null, .null, .null, .null, .null, .null, .null]))) (fun My9 y9 => ?_)
  refine pl_aload_n (pc := 49) dX2_init_49 rfl rfl ?_
  refine pl_bipush (pc := 50) (v := 96) dX2_init_50 (by rfl) ?_
  refine pj_newa (pc := 52) (C1 := 119) (N1 := 6550) (t0 := 0) (a0 := (96, .inl (fun _ => 0))) dX2_init_52 q572 rfl rfl (fun _ => rfl) (Int32.not_lt.mpr (nI_pos' (by omega))) (nI_clamp (by omega)) (by decide) (by omega) (by omega) (fun q_52 hn_52 gq_52 => ?_)
  refine blk (n := 4) (y9.new hn_52) (fun My10 y10 => ?_)
  refine pj_putfF (pc := 54) ckX2 16 q755 dX2_init_54 (by decide) rfl rfl rfl (y10.up (mset_s (e := .inr (22, [.int 0, .int (nI 500), .int (nI 200), .int 0, .int 0, .int 0, .int 0, .int 0, .int 0, .int 0, .int (-1), .int (-1), .ref q_29, .null, .null, .ref q_44, .null, .null, .null, .null, .null, .null, .null, .null, .null, .null, .null, .null, .null, .null, .null, .null])))) rfl rfl (Nat.le_of_ble_eq_true rfl) ?_
  refine blk (y10.bput hq0 (c := .inr (22, [.int 0, .int (nI 500), .int (nI 200), .int 0, .int 0, .int 0, .int 0, .int 0, .int 0, .int 0, .int (-1), .int (-1), .ref q_29, .null, .null, .ref q_44, .ref q_52, .null, .null, .null, .null, .null, .null, .null, .null, .null, .null, .null, .null, .null, .null, .null]))) (fun My11 y11 => ?_)
  refine pl_aload_n (pc := 57) dX2_init_57 rfl rfl ?_
  refine pl_bipush (pc := 58) (v := 96) dX2_init_58 (by rfl) ?_
  refine pj_newa (pc := 60) (C1 := 118) (N1 := 6454) (t0 := 0) (a0 := (96, .inl (fun _ => 0))) dX2_init_60 q572 rfl rfl (fun _ => rfl) (Int32.not_lt.mpr (nI_pos' (by omega))) (nI_clamp (by omega)) (by decide) (by omega) (by omega) (fun q_60 hn_60 gq_60 => ?_)
  refine blk (n := 5) (y11.new hn_60) (fun My12 y12 => ?_)
  refine pj_putfF (pc := 62) ckX2 17 q757 dX2_init_62 (by decide) rfl rfl rfl (y12.up (mset_s (e := .inr (22, [.int 0, .int (nI 500), .int (nI 200), .int 0, .int 0, .int 0, .int 0, .int 0, .int 0, .int 0, .int (-1), .int (-1), .ref q_29, .null, .null, .ref q_44, .ref q_52, .null, .null, .null, .null, .null, .null, .null, .null, .null, .null, .null, .null, .null, .null, .null])))) rfl rfl (Nat.le_of_ble_eq_true rfl) ?_
  refine blk (y12.bput hq0 (c := .inr (22, [.int 0, .int (nI 500), .int (nI 200), .int 0, .int 0, .int 0, .int 0, .int 0, .int 0, .int 0, .int (-1), .int (-1), .ref q_29, .null, .null, .ref q_44, .ref q_52, .ref q_60, .null, .null, .null, .null, .null, .null, .null, .null, .null, .null, .null, .null, .null, .null]))) (fun My13 y13 => ?_)
  refine pl_aload_n (pc := 65) dX2_init_65 rfl rfl ?_
  refine pl_bipush (pc := 66) (v := 96) dX2_init_66 (by rfl) ?_
  refine pj_newa (pc := 68) (C1 := 117) (N1 := 6358) (t0 := 3) (a0 := (96, .inl (fun _ => 0))) dX2_init_68 q573 rfl rfl (fun _ => rfl) (Int32.not_lt.mpr (nI_pos' (by omega))) (nI_clamp (by omega)) (by decide) (by omega) (by omega) (fun q_68 hn_68 gq_68 => ?_)
  refine blk (n := 6) (y13.new hn_68) (fun My14 y14 => ?_)
  refine pj_putfF (pc := 70) ckX2 18 q759 dX2_init_70 (by decide) rfl rfl rfl (y14.up (mset_s (e := .inr (22, [.int 0, .int (nI 500), .int (nI 200), .int 0, .int 0, .int 0, .int 0, .int 0, .int 0, .int 0, .int (-1), .int (-1), .ref q_29, .null, .null, .ref q_44, .ref q_52, .ref q_60, .null, .null, .null, .null, .null, .null, .null, .null, .null, .null, .null, .null, .null, .null])))) rfl rfl (Nat.le_of_ble_eq_true rfl) ?_
  refine blk (y14.bput hq0 (c := .inr (22, [.int 0, .int (nI 500), .int (nI 200), .int 0, .int 0, .int 0, .int 0, .int 0, .int 0, .int 0, .int (-1), .int (-1), .ref q_29, .null, .null, .ref q_44, .ref q_52, .ref q_60, .ref q_68, .null, .null, .null, .null, .null, .null, .null, .null, .null, .null, .null, .null, .null]))) (fun My15 y15 => ?_)
  refine pl_aload_n (pc := 73) dX2_init_73 rfl rfl ?_
  refine pj_new (pc := 74) (C1 := 116) (N1 := 6358) ckX4 q562 q563 q148 dX2_init_74 _ dfX4 (by omega) (by omega) (fun q_74 hn_74 gq_74 => ?_)
  refine blk (n := 7) (y15.new hn_74) (fun My16 y16 => ?_)
  refine pj_dup (pc := 77) dX2_init_77 rfl ?_
  refine pl_callINv (pc := 78) (As := []) (C1 := 0) (N1 := 0) (C2 := 116) (N2 := 6358) mdX4_init rfl q564 q565 q148 dX2_init_78 rfl rfl (Nat.le_of_ble_eq_true rfl) (k_X4_init (d := d - 1) (by omega)) (by omega) (by omega) (by omega) ?_
  refine pj_putfF (pc := 81) ckX2 19 q761 dX2_init_81 (by decide) rfl rfl rfl (y16.up (mset_s (e := .inr (22, [.int 0, .int (nI 500), .int (nI 200), .int 0, .int 0, .int 0, .int 0, .int 0, .int 0, .int 0, .int (-1), .int (-1), .ref q_29, .null, .null, .ref q_44, .ref q_52, .ref q_60, .ref q_68, .null, .null, .null, .null, .null, .null, .null, .null, .null, .null, .null, .null, .null])))) rfl rfl (Nat.le_of_ble_eq_true rfl) ?_
  refine blk (y16.bput hq0 (c := .inr (22, [.int 0, .int (nI 500), .int (nI 200), .int 0, .int 0, .int 0, .int 0, .int 0, .int 0, .int 0, .int (-1), .int (-1), .ref q_29, .null, .null, .ref q_44, .ref q_52, .ref q_60, .ref q_68, .ref q_74, .null, .null, .null, .null, .null, .null, .null, .null, .null, .null, .null, .null]))) (fun My17 y17 => ?_)
  refine pl_aload_n (pc := 84) dX2_init_84 rfl rfl ?_
  refine pj_new (pc := 85) (C1 := 115) (N1 := 6358) ckX5 q574 q575 q149 dX2_init_85 _ dfX5 (by omega) (by omega) (fun q_85 hn_85 gq_85 => ?_)
  refine blk (n := 8) (y17.new hn_85) (fun My18 y18 => ?_)
  refine pj_dup (pc := 88) dX2_init_88 rfl ?_
  refine pl_callINv (pc := 89) (As := []) (C1 := 0) (N1 := 0) (C2 := 115) (N2 := 6358) mdX5_init rfl q576 q577 q149 dX2_init_89 rfl rfl (Nat.le_of_ble_eq_true rfl) (k_X5_init (d := d - 1) (by omega)) (by omega) (by omega) (by omega) ?_
  refine pj_putfF (pc := 92) ckX2 20 q763 dX2_init_92 (by decide) rfl rfl rfl (y18.up (mset_s (e := .inr (22, [.int 0, .int (nI 500), .int (nI 200), .int 0, .int 0, .int 0, .int 0, .int 0, .int 0, .int 0, .int (-1), .int (-1), .ref q_29, .null, .null, .ref q_44, .ref q_52, .ref q_60, .ref q_68, .ref q_74, .null, .null, .null, .null, .null, .null, .null, .null, .null, .null, .null, .null])))) rfl rfl (Nat.le_of_ble_eq_true rfl) ?_
  refine blk (y18.bput hq0 (c := .inr (22, [.int 0, .int (nI 500), .int (nI 200), .int 0, .int 0, .int 0, .int 0, .int 0, .int 0, .int 0, .int (-1), .int (-1), .ref q_29, .null, .null, .ref q_44, .ref q_52, .ref q_60, .ref q_68, .ref q_74, .ref q_85, .null, .null, .null, .null, .null, .null, .null, .null, .null, .null, .null]))) (fun My19 y19 => ?_)
  refine pl_aload_n (pc := 95) dX2_init_95 rfl rfl ?_
  refine pl_iconst (pc := 96) (v := 4) dX2_init_96 (by rfl) ?_
  refine pj_newa (pc := 97) (C1 := 114) (N1 := 6354) (t0 := 0) (a0 := (4, .inl (fun _ => 0))) dX2_init_97 q572 rfl rfl (fun _ => rfl) (Int32.not_lt.mpr (nI_pos' (by omega))) (nI_clamp (by omega)) (by decide) (by omega) (by omega) (fun q_97 hn_97 gq_97 => ?_)
  refine blk (n := 9) (y19.new hn_97) (fun My20 y20 => ?_)
  refine pj_putfF (pc := 99) ckX2 22 q766 dX2_init_99 (by decide) rfl rfl rfl (y20.up (mset_s (e := .inr (22, [.int 0, .int (nI 500), .int (nI 200), .int 0, .int 0, .int 0, .int 0, .int 0, .int 0, .int 0, .int (-1), .int (-1), .ref q_29, .null, .null, .ref q_44, .ref q_52, .ref q_60, .ref q_68, .ref q_74, .ref q_85, .null, .null, .null, .null, .null, .null, .null, .null, .null, .null, .null])))) rfl rfl (Nat.le_of_ble_eq_true rfl) ?_
  refine blk (y20.bput hq0 (c := .inr (22, [.int 0, .int (nI 500), .int (nI 200), .int 0, .int 0, .int 0, .int 0, .int 0, .int 0, .int 0, .int (-1), .int (-1), .ref q_29, .null, .null, .ref q_44, .ref q_52, .ref q_60, .ref q_68, .ref q_74, .ref q_85, .null, .ref q_97, .null, .null, .null, .null, .null, .null, .null, .null, .null]))) (fun My21 y21 => ?_)
  refine pl_aload_n (pc := 102) dX2_init_102 rfl rfl ?_
  refine pl_iconst (pc := 103) (v := 4) dX2_init_103 (by rfl) ?_
  refine pj_newa (pc := 104) (C1 := 113) (N1 := 6350) (t0 := 0) (a0 := (4, .inl (fun _ => 0))) dX2_init_104 q572 rfl rfl (fun _ => rfl) (Int32.not_lt.mpr (nI_pos' (by omega))) (nI_clamp (by omega)) (by decide) (by omega) (by omega) (fun q_104 hn_104 gq_104 => ?_)
  refine blk (n := 10) (y21.new hn_104) (fun My22 y22 => ?_)
  refine pj_putfF (pc := 106) ckX2 23 q767 dX2_init_106 (by decide) rfl rfl rfl (y22.up (mset_s (e := .inr (22, [.int 0, .int (nI 500), .int (nI 200), .int 0, .int 0, .int 0, .int 0, .int 0, .int 0, .int 0, .int (-1), .int (-1), .ref q_29, .null, .null, .ref q_44, .ref q_52, .ref q_60, .ref q_68, .ref q_74, .ref q_85, .null, .ref q_97, .null, .null, .null, .null, .null, .null, .null, .null, .null])))) rfl rfl (Nat.le_of_ble_eq_true rfl) ?_
  refine blk (y22.bput hq0 (c := .inr (22, [.int 0, .int (nI 500), .int (nI 200), .int 0, .int 0, .int 0, .int 0, .int 0, .int 0, .int 0, .int (-1), .int (-1), .ref q_29, .null, .null, .ref q_44, .ref q_52, .ref q_60, .ref q_68, .ref q_74, .ref q_85, .null, .ref q_97, .ref q_104, .null, .null, .null, .null, .null, .null, .null, .null]))) (fun My23 y23 => ?_)
  refine pl_aload_n (pc := 109) dX2_init_109 rfl rfl ?_
  refine pl_iconst (pc := 110) (v := 4) dX2_init_110 (by rfl) ?_
  refine pj_newa (pc := 111) (C1 := 112) (N1 := 6346) (t0 := 0) (a0 := (4, .inl (fun _ => 0))) dX2_init_111 q572 rfl rfl (fun _ => rfl) (Int32.not_lt.mpr (nI_pos' (by omega))) (nI_clamp (by omega)) (by decide) (by omega) (by omega) (fun q_111 hn_111 gq_111 => ?_)
  refine blk (n := 11) (y23.new hn_111) (fun My24 y24 => ?_)
  refine pj_putfF (pc := 113) ckX2 24 q769 dX2_init_113 (by decide) rfl rfl rfl (y24.up (mset_s (e := .inr (22, [.int 0, .int (nI 500), .int (nI 200), .int 0, .int 0, .int 0, .int 0, .int 0, .int 0, .int 0, .int (-1), .int (-1), .ref q_29, .null, .null, .ref q_44, .ref q_52, .ref q_60, .ref q_68, .ref q_74, .ref q_85, .null, .ref q_97, .ref q_104, .null, .null, .null, .null, .null, .null, .null, .null])))) rfl rfl (Nat.le_of_ble_eq_true rfl) ?_
  refine blk (y24.bput hq0 (c := .inr (22, [.int 0, .int (nI 500), .int (nI 200), .int 0, .int 0, .int 0, .int 0, .int 0, .int 0, .int 0, .int (-1), .int (-1), .ref q_29, .null, .null, .ref q_44, .ref q_52, .ref q_60, .ref q_68, .ref q_74, .ref q_85, .null, .ref q_97, .ref q_104, .ref q_111, .null, .null, .null, .null, .null, .null, .null]))) (fun My25 y25 => ?_)
  refine pl_aload_n (pc := 116) dX2_init_116 rfl rfl ?_
  refine pl_bipush (pc := 117) (v := 12) dX2_init_117 (by rfl) ?_
  refine pj_newa (pc := 119) (C1 := 111) (N1 := 6334) (t0 := 0) (a0 := (12, .inl (fun _ => 0))) dX2_init_119 q572 rfl rfl (fun _ => rfl) (Int32.not_lt.mpr (nI_pos' (by omega))) (nI_clamp (by omega)) (by decide) (by omega) (by omega) (fun q_119 hn_119 gq_119 => ?_)
  refine blk (n := 12) (y25.new hn_119) (fun My26 y26 => ?_)
  refine pj_putfF (pc := 121) ckX2 25 q770 dX2_init_121 (by decide) rfl rfl rfl (y26.up (mset_s (e := .inr (22, [.int 0, .int (nI 500), .int (nI 200), .int 0, .int 0, .int 0, .int 0, .int 0, .int 0, .int 0, .int (-1), .int (-1), .ref q_29, .null, .null, .ref q_44, .ref q_52, .ref q_60, .ref q_68, .ref q_74, .ref q_85, .null, .ref q_97, .ref q_104, .ref q_111, .null, .null, .null, .null, .null, .null, .null])))) rfl rfl (Nat.le_of_ble_eq_true rfl) ?_
  refine blk (y26.bput hq0 (c := .inr (22, [.int 0, .int (nI 500), .int (nI 200), .int 0, .int 0, .int 0, .int 0, .int 0, .int 0, .int 0, .int (-1), .int (-1), .ref q_29, .null, .null, .ref q_44, .ref q_52, .ref q_60, .ref q_68, .ref q_74, .ref q_85, .null, .ref q_97, .ref q_104, .ref q_111, .ref q_119, .null, .null, .null, .null, .null, .null]))) (fun My27 y27 => ?_)
  refine pl_aload_n (pc := 124) dX2_init_124 rfl rfl ?_
  refine pj_new (pc := 125) (C1 := 110) (N1 := 6331) ckJ2 q195 q196 q129 dX2_init_125 _ dfJ2 (by omega) (by omega) (fun q_125 hn_125 gq_125 => ?_)
  refine blk (n := 13) (y27.new hn_125) (fun My28 y28 => ?_)
  refine pj_dup (pc := 128) dX2_init_128 rfl ?_
  refine pl_bipush (pc := 129) (v := 8) dX2_init_129 (by rfl) ?_
  refine pl_callIWv (pc := 131) (As := [_]) (C1 := 1) (N1 := 8) (C2 := 109) (N2 := 6323) mdJ2_init rfl q197 q198 q129 dX2_init_131 rfl rfl (Nat.le_of_ble_eq_true rfl) (k_J2_init_8 (d := d - 1) (by omega) (y28.getq (j := 12) (q := q_125) (c := (.inr (2, [.int 0, .null, .int 0]))) (by omega) rfl rfl)) (by omega) (by omega) (by omega) (fun My29 qy29 => ?_)
  obtain ⟨e_131, he_131, hf_131, hm_131⟩ := qy29
  refine PJ.mem hm_131 ?_
  refine blk (n := 14) ((y28.new he_131).put (j := 12) (q := q_125) (by omega) rfl) (fun M9_131 y29 => ?_)
  refine pj_putfF (pc := 134) ckX2 26 q772 dX2_init_134 (by decide) rfl rfl rfl (y29.up (mset_s (e := .inr (22, [.int 0, .int (nI 500), .int (nI 200), .int 0, .int 0, .int 0, .int 0, .int 0, .int 0, .int 0, .int (-1), .int (-1), .ref q_29, .null, .null, .ref q_44, .ref q_52, .ref q_60, .ref q_68, .ref q_74, .ref q_85, .null, .ref q_97, .ref q_104, .ref q_111, .ref q_119, .null, .null, .null, .null, .null, .null])))) rfl rfl (Nat.le_of_ble_eq_true rfl) ?_
  refine blk (y29.bput hq0 (c := .inr (22, [.int 0, .int (nI 500), .int (nI 200), .int 0, .int 0, .int 0, .int 0, .int 0, .int 0, .int 0, .int (-1), .int (-1), .ref q_29, .null, .null, .ref q_44, .ref q_52, .ref q_60, .ref q_68, .ref q_74, .ref q_85, .null, .ref q_97, .ref q_104, .ref q_111, .ref q_119, .ref q_125, .null, .null, .null, .null, .null]))) (fun My30 y30 => ?_)
  refine pl_aload_n (pc := 137) dX2_init_137 rfl rfl ?_
  refine pj_new (pc := 138) (C1 := 108) (N1 := 6320) ckJ2 q195 q196 q129 dX2_init_138 _ dfJ2 (by omega) (by omega) (fun q_138 hn_138 gq_138 => ?_)
  refine blk (n := 15) (y30.new hn_138) (fun My31 y31 => ?_)
  refine pj_dup (pc := 141) dX2_init_141 rfl ?_
  refine pl_iconst (pc := 142) (v := 2) dX2_init_142 (by rfl) ?_
  refine pl_callIWv (pc := 143) (As := [_]) (C1 := 1) (N1 := 2) (C2 := 107) (N2 := 6318) mdJ2_init rfl q197 q198 q129 dX2_init_143 rfl rfl (Nat.le_of_ble_eq_true rfl) (k_J2_init (d := d - 1) (by omega) (y31.getq (j := 14) (q := q_138) (c := (.inr (2, [.int 0, .null, .int 0]))) (by omega) rfl rfl)) (by omega) (by omega) (by omega) (fun My32 qy32 => ?_)
  obtain ⟨e_143, he_143, hf_143, hm_143⟩ := qy32
  refine PJ.mem hm_143 ?_
  refine blk (n := 16) ((y31.new he_143).put (j := 14) (q := q_138) (by omega) rfl) (fun M9_143 y32 => ?_)
  refine pj_putfF (pc := 146) ckX2 27 q774 dX2_init_146 (by decide) rfl rfl rfl (y32.up (mset_s (e := .inr (22, [.int 0, .int (nI 500), .int (nI 200), .int 0, .int 0, .int 0, .int 0, .int 0, .int 0, .int 0, .int (-1), .int (-1), .ref q_29, .null, .null, .ref q_44, .ref q_52, .ref q_60, .ref q_68, .ref q_74, .ref q_85, .null, .ref q_97, .ref q_104, .ref q_111, .ref q_119, .ref q_125, .null, .null, .null, .null, .null])))) rfl rfl (Nat.le_of_ble_eq_true rfl) ?_
  refine blk (y32.bput hq0 (c := .inr (22, [.int 0, .int (nI 500), .int (nI 200), .int 0, .int 0, .int 0, .int 0, .int 0, .int 0, .int 0, .int (-1), .int (-1), .ref q_29, .null, .null, .ref q_44, .ref q_52, .ref q_60, .ref q_68, .ref q_74, .ref q_85, .null, .ref q_97, .ref q_104, .ref q_111, .ref q_119, .ref q_125, .ref q_138, .null, .null, .null, .null]))) (fun My33 y33 => ?_)
  refine pl_aload_n (pc := 149) dX2_init_149 rfl rfl ?_
  refine pj_new (pc := 150) (C1 := 106) (N1 := 6315) ckJ2 q195 q196 q129 dX2_init_150 _ dfJ2 (by omega) (by omega) (fun q_150 hn_150 gq_150 => ?_)
  refine blk (n := 17) (y33.new hn_150) (fun My34 y34 => ?_)
  refine pj_dup (pc := 153) dX2_init_153 rfl ?_
  refine pl_iconst (pc := 154) (v := 2) dX2_init_154 (by rfl) ?_
  refine pl_callIWv (pc := 155) (As := [_]) (C1 := 1) (N1 := 2) (C2 := 105) (N2 := 6313) mdJ2_init rfl q197 q198 q129 dX2_init_155 rfl rfl (Nat.le_of_ble_eq_true rfl) (k_J2_init (d := d - 1) (by omega) (y34.getq (j := 16) (q := q_150) (c := (.inr (2, [.int 0, .null, .int 0]))) (by omega) rfl rfl)) (by omega) (by omega) (by omega) (fun My35 qy35 => ?_)
  obtain ⟨e_155, he_155, hf_155, hm_155⟩ := qy35
  refine PJ.mem hm_155 ?_
  refine blk (n := 18) ((y34.new he_155).put (j := 16) (q := q_150) (by omega) rfl) (fun M9_155 y35 => ?_)
  refine pj_putfF (pc := 158) ckX2 28 q776 dX2_init_158 (by decide) rfl rfl rfl (y35.up (mset_s (e := .inr (22, [.int 0, .int (nI 500), .int (nI 200), .int 0, .int 0, .int 0, .int 0, .int 0, .int 0, .int 0, .int (-1), .int (-1), .ref q_29, .null, .null, .ref q_44, .ref q_52, .ref q_60, .ref q_68, .ref q_74, .ref q_85, .null, .ref q_97, .ref q_104, .ref q_111, .ref q_119, .ref q_125, .ref q_138, .null, .null, .null, .null])))) rfl rfl (Nat.le_of_ble_eq_true rfl) ?_
  refine blk (y35.bput hq0 (c := .inr (22, [.int 0, .int (nI 500), .int (nI 200), .int 0, .int 0, .int 0, .int 0, .int 0, .int 0, .int 0, .int (-1), .int (-1), .ref q_29, .null, .null, .ref q_44, .ref q_52, .ref q_60, .ref q_68, .ref q_74, .ref q_85, .null, .ref q_97, .ref q_104, .ref q_111, .ref q_119, .ref q_125, .ref q_138, .ref q_150, .null, .null, .null]))) (fun My36 y36 => ?_)
  refine pl_aload_n (pc := 161) dX2_init_161 rfl rfl ?_
  refine pj_new (pc := 162) (C1 := 104) (N1 := 6310) ckJ2 q195 q196 q129 dX2_init_162 _ dfJ2 (by omega) (by omega) (fun q_162 hn_162 gq_162 => ?_)
  refine blk (n := 19) (y36.new hn_162) (fun My37 y37 => ?_)
  refine pj_dup (pc := 165) dX2_init_165 rfl ?_
  refine pl_iconst (pc := 166) (v := 2) dX2_init_166 (by rfl) ?_
  refine pl_callIWv (pc := 167) (As := [_]) (C1 := 1) (N1 := 2) (C2 := 103) (N2 := 6308) mdJ2_init rfl q197 q198 q129 dX2_init_167 rfl rfl (Nat.le_of_ble_eq_true rfl) (k_J2_init (d := d - 1) (by omega) (y37.getq (j := 18) (q := q_162) (c := (.inr (2, [.int 0, .null, .int 0]))) (by omega) rfl rfl)) (by omega) (by omega) (by omega) (fun My38 qy38 => ?_)
  obtain ⟨e_167, he_167, hf_167, hm_167⟩ := qy38
  refine PJ.mem hm_167 ?_
  refine blk (n := 20) ((y37.new he_167).put (j := 18) (q := q_162) (by omega) rfl) (fun M9_167 y38 => ?_)
  refine pj_putfF (pc := 170) ckX2 29 q778 dX2_init_170 (by decide) rfl rfl rfl (y38.up (mset_s (e := .inr (22, [.int 0, .int (nI 500), .int (nI 200), .int 0, .int 0, .int 0, .int 0, .int 0, .int 0, .int 0, .int (-1), .int (-1), .ref q_29, .null, .null, .ref q_44, .ref q_52, .ref q_60, .ref q_68, .ref q_74, .ref q_85, .null, .ref q_97, .ref q_104, .ref q_111, .ref q_119, .ref q_125, .ref q_138, .ref q_150, .null, .null, .null])))) rfl rfl (Nat.le_of_ble_eq_true rfl) ?_
  refine blk (y38.bput hq0 (c := .inr (22, [.int 0, .int (nI 500), .int (nI 200), .int 0, .int 0, .int 0, .int 0, .int 0, .int 0, .int 0, .int (-1), .int (-1), .ref q_29, .null, .null, .ref q_44, .ref q_52, .ref q_60, .ref q_68, .ref q_74, .ref q_85, .null, .ref q_97, .ref q_104, .ref q_111, .ref q_119, .ref q_125, .ref q_138, .ref q_150, .ref q_162, .null, .null]))) (fun My39 y39 => ?_)
  refine pl_aload_n (pc := 173) dX2_init_173 rfl rfl ?_
  refine pj_new (pc := 174) (C1 := 102) (N1 := 6304) ckX6 q581 q582 q150 dX2_init_174 _ dfX6 (by omega) (by omega) (fun q_174 hn_174 gq_174 => ?_)
  refine blk (n := 21) (y39.new hn_174) (fun My40 y40 => ?_)
  refine pj_dup (pc := 177) dX2_init_177 rfl ?_
  refine pl_callINv (pc := 178) (As := []) (C1 := 0) (N1 := 0) (C2 := 102) (N2 := 6304) mdX6_init rfl q583 q584 q150 dX2_init_178 rfl rfl (Nat.le_of_ble_eq_true rfl) (k_X6_init (d := d - 1) (by omega)) (by omega) (by omega) (by omega) ?_
  refine pj_putfF (pc := 181) ckX2 30 q780 dX2_init_181 (by decide) rfl rfl rfl (y40.up (mset_s (e := .inr (22, [.int 0, .int (nI 500), .int (nI 200), .int 0, .int 0, .int 0, .int 0, .int 0, .int 0, .int 0, .int (-1), .int (-1), .ref q_29, .null, .null, .ref q_44, .ref q_52, .ref q_60, .ref q_68, .ref q_74, .ref q_85, .null, .ref q_97, .ref q_104, .ref q_111, .ref q_119, .ref q_125, .ref q_138, .ref q_150, .ref q_162, .null, .null])))) rfl rfl (Nat.le_of_ble_eq_true rfl) ?_
  refine blk (y40.bput hq0 (c := .inr (22, [.int 0, .int (nI 500), .int (nI 200), .int 0, .int 0, .int 0, .int 0, .int 0, .int 0, .int 0, .int (-1), .int (-1), .ref q_29, .null, .null, .ref q_44, .ref q_52, .ref q_60, .ref q_68, .ref q_74, .ref q_85, .null, .ref q_97, .ref q_104, .ref q_111, .ref q_119, .ref q_125, .ref q_138, .ref q_150, .ref q_162, .ref q_174, .null]))) (fun My41 y41 => ?_)
  refine pl_aload_n (pc := 184) dX2_init_184 rfl rfl ?_
  refine pl_bipush (pc := 185) (v := 96) dX2_init_185 (by rfl) ?_
  refine pj_newa (pc := 187) (C1 := 101) (N1 := 6208) (t0 := 2) (a0 := (96, .inl (fun _ => 0))) dX2_init_187 q305 rfl rfl (fun _ => rfl) (Int32.not_lt.mpr (nI_pos' (by omega))) (nI_clamp (by omega)) (by decide) (by omega) (by omega) (fun q_187 hn_187 gq_187 => ?_)
  refine blk (n := 22) (y41.new hn_187) (fun My42 y42 => ?_)
  refine pj_putfF (pc := 189) ckX2 13 q749 dX2_init_189 (by decide) rfl rfl rfl (y42.up (mset_s (e := .inr (22, [.int 0, .int (nI 500), .int (nI 200), .int 0, .int 0, .int 0, .int 0, .int 0, .int 0, .int 0, .int (-1), .int (-1), .ref q_29, .null, .null, .ref q_44, .ref q_52, .ref q_60, .ref q_68, .ref q_74, .ref q_85, .null, .ref q_97, .ref q_104, .ref q_111, .ref q_119, .ref q_125, .ref q_138, .ref q_150, .ref q_162, .ref q_174, .null])))) rfl rfl (Nat.le_of_ble_eq_true rfl) ?_
  refine blk (y42.bput hq0 (c := .inr (22, [.int 0, .int (nI 500), .int (nI 200), .int 0, .int 0, .int 0, .int 0, .int 0, .int 0, .int 0, .int (-1), .int (-1), .ref q_29, .ref q_187, .null, .ref q_44, .ref q_52, .ref q_60, .ref q_68, .ref q_74, .ref q_85, .null, .ref q_97, .ref q_104, .ref q_111, .ref q_119, .ref q_125, .ref q_138, .ref q_150, .ref q_162, .ref q_174, .null]))) (fun My43 y43 => ?_)
  refine pl_aload_n (pc := 192) dX2_init_192 rfl rfl ?_
  refine pl_bipush (pc := 193) (v := 96) dX2_init_193 (by rfl) ?_
  refine pj_newa (pc := 195) (C1 := 100) (N1 := 6112) (t0 := 3) (a0 := (96, .inl (fun _ => 0))) dX2_init_195 q573 rfl rfl (fun _ => rfl) (Int32.not_lt.mpr (nI_pos' (by omega))) (nI_clamp (by omega)) (by decide) (by omega) (by omega) (fun q_195 hn_195 gq_195 => ?_)
  refine blk (n := 23) (y43.new hn_195) (fun My44 y44 => ?_)
  refine pj_putfF (pc := 197) ckX2 14 q751 dX2_init_197 (by decide) rfl rfl rfl (y44.up (mset_s (e := .inr (22, [.int 0, .int (nI 500), .int (nI 200), .int 0, .int 0, .int 0, .int 0, .int 0, .int 0, .int 0, .int (-1), .int (-1), .ref q_29, .ref q_187, .null, .ref q_44, .ref q_52, .ref q_60, .ref q_68, .ref q_74, .ref q_85, .null, .ref q_97, .ref q_104, .ref q_111, .ref q_119, .ref q_125, .ref q_138, .ref q_150, .ref q_162, .ref q_174, .null])))) rfl rfl (Nat.le_of_ble_eq_true rfl) ?_
  refine blk (y44.bput hq0 (c := .inr (22, [.int 0, .int (nI 500), .int (nI 200), .int 0, .int 0, .int 0, .int 0, .int 0, .int 0, .int 0, .int (-1), .int (-1), .ref q_29, .ref q_187, .ref q_195, .ref q_44, .ref q_52, .ref q_60, .ref q_68, .ref q_74, .ref q_85, .null, .ref q_97, .ref q_104, .ref q_111, .ref q_119, .ref q_125, .ref q_138, .ref q_150, .ref q_162, .ref q_174, .null]))) (fun My45 y45 => ?_)
  refine pl_aload_n (pc := 200) dX2_init_200 rfl rfl ?_
  refine pj_new (pc := 201) (C1 := 99) (N1 := 6110) ckX7 q604 q605 q151 dX2_init_201 _ dfX7 (by omega) (by omega) (fun q_201 hn_201 gq_201 => ?_)
  refine blk (n := 24) (y45.new hn_201) (fun My46 y46 => ?_)
  refine pj_dup (pc := 204) dX2_init_204 rfl ?_
  refine pl_callINWv (pc := 205) (As := []) (C1 := 2) (N1 := 8) (C2 := 97) (N2 := 6102) mdX7_init rfl q606 q607 q151 dX2_init_205 rfl rfl (Nat.le_of_ble_eq_true rfl) (k_X7_init (d := d - 1) (by omega) (y46.getq (j := 23) (q := q_201) (c := .inr (34, [.null, .null])) (by omega) rfl rfl)) (by omega) (by omega) (by omega) (fun My47 qy47 => ?_)
  obtain ⟨r_205, m_205, hr_205, hk_205, -, -, hm_205⟩ := qy47
  refine PJ.mem hm_205 ?_
  refine blk (n := 26) ((((y46.new hr_205).put (j := 23) (q := q_201) (by omega) rfl).new hk_205).put (j := 23) (q := q_201) (by omega) rfl) (fun M9_205 y47 => ?_)
  refine pj_putfF (pc := 208) ckX2 21 q764 dX2_init_208 (by decide) rfl rfl rfl (y47.up (mset_s (e := .inr (22, [.int 0, .int (nI 500), .int (nI 200), .int 0, .int 0, .int 0, .int 0, .int 0, .int 0, .int 0, .int (-1), .int (-1), .ref q_29, .ref q_187, .ref q_195, .ref q_44, .ref q_52, .ref q_60, .ref q_68, .ref q_74, .ref q_85, .null, .ref q_97, .ref q_104, .ref q_111, .ref q_119, .ref q_125, .ref q_138, .ref q_150, .ref q_162, .ref q_174, .null])))) rfl rfl (Nat.le_of_ble_eq_true rfl) ?_
  refine blk (y47.bput hq0 (c := .inr (22, [.int 0, .int (nI 500), .int (nI 200), .int 0, .int 0, .int 0, .int 0, .int 0, .int 0, .int 0, .int (-1), .int (-1), .ref q_29, .ref q_187, .ref q_195, .ref q_44, .ref q_52, .ref q_60, .ref q_68, .ref q_74, .ref q_85, .ref q_201, .ref q_97, .ref q_104, .ref q_111, .ref q_119, .ref q_125, .ref q_138, .ref q_150, .ref q_162, .ref q_174, .null]))) (fun My48 y48 => ?_)
  refine pl_aload_n (pc := 211) dX2_init_211 rfl rfl ?_
  refine pl_sipush (pc := 212) (v := 6006) dX2_init_212 (by rfl) ?_
  refine pj_newa (pc := 215) (C1 := 96) (N1 := 96) (t0 := 0) (a0 := (6006, .inl (fun _ => 0))) dX2_init_215 q572 rfl rfl (fun _ => rfl) (Int32.not_lt.mpr (nI_pos' (by omega))) (nI_clamp (by omega)) (by decide) (by omega) (by omega) (fun q_215 hn_215 gq_215 => ?_)
  refine blk (n := 27) (y48.new hn_215) (fun My49 y49 => ?_)
  refine pj_putfF (pc := 217) ckX2 31 q781 dX2_init_217 (by decide) rfl rfl rfl (y49.up (mset_s (e := .inr (22, [.int 0, .int (nI 500), .int (nI 200), .int 0, .int 0, .int 0, .int 0, .int 0, .int 0, .int 0, .int (-1), .int (-1), .ref q_29, .ref q_187, .ref q_195, .ref q_44, .ref q_52, .ref q_60, .ref q_68, .ref q_74, .ref q_85, .ref q_201, .ref q_97, .ref q_104, .ref q_111, .ref q_119, .ref q_125, .ref q_138, .ref q_150, .ref q_162, .ref q_174, .null])))) rfl rfl (Nat.le_of_ble_eq_true rfl) ?_
  refine blk (y49.bput hq0 (c := .inr (22, [.int 0, .int (nI 500), .int (nI 200), .int 0, .int 0, .int 0, .int 0, .int 0, .int 0, .int 0, .int (-1), .int (-1), .ref q_29, .ref q_187, .ref q_195, .ref q_44, .ref q_52, .ref q_60, .ref q_68, .ref q_74, .ref q_85, .ref q_201, .ref q_97, .ref q_104, .ref q_111, .ref q_119, .ref q_125, .ref q_138, .ref q_150, .ref q_162, .ref q_174, .ref q_215]))) (fun My50 y50 => ?_)
  refine pl_iconst (pc := 220) (v := 0) dX2_init_220 (by rfl) ?_
  refine pj_istore_n (pc := 221) (lv' := [(1, _), (0, _)]) dX2_init_221 rfl (by decide) rfl ?_
  refine blg y50 (fun M_b AD hAD hb => ?_)
  have a_0 : q_29 = AD 0 := ((hAD 0 (by decide)).trans rfl).symm
  have a_1 : e_35 = AD 1 := ((hAD 1 (by decide)).trans rfl).symm
  have a_2 : q_44 = AD 2 := ((hAD 2 (by decide)).trans rfl).symm
  have a_3 : q_52 = AD 3 := ((hAD 3 (by decide)).trans rfl).symm
  have a_4 : q_60 = AD 4 := ((hAD 4 (by decide)).trans rfl).symm
  have a_5 : q_68 = AD 5 := ((hAD 5 (by decide)).trans rfl).symm
  have a_6 : q_74 = AD 6 := ((hAD 6 (by decide)).trans rfl).symm
  have a_7 : q_85 = AD 7 := ((hAD 7 (by decide)).trans rfl).symm
  have a_8 : q_97 = AD 8 := ((hAD 8 (by decide)).trans rfl).symm
  have a_9 : q_104 = AD 9 := ((hAD 9 (by decide)).trans rfl).symm
  have a_10 : q_111 = AD 10 := ((hAD 10 (by decide)).trans rfl).symm
  have a_11 : q_119 = AD 11 := ((hAD 11 (by decide)).trans rfl).symm
  have a_12 : q_125 = AD 12 := ((hAD 12 (by decide)).trans rfl).symm
  have a_13 : e_131 = AD 13 := ((hAD 13 (by decide)).trans rfl).symm
  have a_14 : q_138 = AD 14 := ((hAD 14 (by decide)).trans rfl).symm
  have a_15 : e_143 = AD 15 := ((hAD 15 (by decide)).trans rfl).symm
  have a_16 : q_150 = AD 16 := ((hAD 16 (by decide)).trans rfl).symm
  have a_17 : e_155 = AD 17 := ((hAD 17 (by decide)).trans rfl).symm
  have a_18 : q_162 = AD 18 := ((hAD 18 (by decide)).trans rfl).symm
  have a_19 : e_167 = AD 19 := ((hAD 19 (by decide)).trans rfl).symm
  have a_20 : q_174 = AD 20 := ((hAD 20 (by decide)).trans rfl).symm
  have a_21 : q_187 = AD 21 := ((hAD 21 (by decide)).trans rfl).symm
  have a_22 : q_195 = AD 22 := ((hAD 22 (by decide)).trans rfl).symm
  have a_23 : q_201 = AD 23 := ((hAD 23 (by decide)).trans rfl).symm
  have a_24 : r_205 = AD 24 := ((hAD 24 (by decide)).trans rfl).symm
  have a_25 : m_205 = AD 25 := ((hAD 25 (by decide)).trans rfl).symm
  have a_26 : q_215 = AD 26 := ((hAD 26 (by decide)).trans rfl).symm
  subst a_0
  subst a_1
  subst a_2
  subst a_3
  subst a_4
  subst a_5
  subst a_6
  subst a_7
  subst a_8
  subst a_9
  subst a_10
  subst a_11
  subst a_12
  subst a_13
  subst a_14
  subst a_15
  subst a_16
  subst a_17
  subst a_18
  subst a_19
  subst a_20
  subst a_21
  subst a_22
  subst a_23
  subst a_24
  subst a_25
  subst a_26
  have hb0 : Bl (mset μ q (.inr (22, [.int 0, .int (nI 500), .int (nI 200), .int 0, .int 0, .int 0, .int 0, .int 0, .int 0, .int 0, .int (-1), .int (-1), .ref (AD 0), .ref (AD 21), .ref (AD 22), .ref (AD 2), .ref (AD 3), .ref (AD 4), .ref (AD 5), .ref (AD 6), .ref (AD 7), .ref (AD 23), .ref (AD 8), .ref (AD 9), .ref (AD 10), .ref (AD 11), .ref (AD 12), .ref (AD 14), .ref (AD 16), .ref (AD 18), .ref (AD 20), .ref (AD 26)]))) (27 + 0) (adL 27 AD (fun _ => 0)) (ceW g AD (fun _ => 0) 0 0) M_b := hb.cg (fun j hj => if_pos hj) (fun j hj => by
    rcases (by omega : j = 0 ∨ j = 1 ∨ j = 2 ∨ j = 3 ∨ j = 4 ∨ j = 5 ∨ j = 6 ∨ j = 7 ∨ j = 8 ∨ j = 9 ∨ j = 10 ∨ j = 11 ∨ j = 12 ∨ j = 13 ∨ j = 14 ∨ j = 15 ∨ j = 16 ∨ j = 17 ∨ j = 18 ∨ j = 19 ∨ j = 20 ∨ j = 21 ∨ j = 22 ∨ j = 23 ∨ j = 24 ∨ j = 25 ∨ j = 26) with rfl | rfl | rfl | rfl | rfl | rfl | rfl | rfl | rfl | rfl | rfl | rfl | rfl | rfl | rfl | rfl | rfl | rfl | rfl | rfl | rfl | rfl | rfl | rfl | rfl | rfl | rfl
    all_goals (first | rfl | (simp only [Nat.not_lt_zero, if_false, ceW]; rfl)))
  refine PJ.widen (C1 := 96 - 0) (N1 := 96 - 0) (by omega) (by omega) ?_
  refine ind_dn (n := 96) (P := fun i => ∀ (sl : Nat → Nat) (M9 : Mem), Bl (mset μ q (.inr (22, [.int 0, .int (nI 500), .int (nI 200), .int 0, .int 0, .int 0, .int 0, .int 0, .int 0, .int 0, .int (-1), .int (-1), .ref (AD 0), .ref (AD 21), .ref (AD 22), .ref (AD 2), .ref (AD 3), .ref (AD 4), .ref (AD 5), .ref (AD 6), .ref (AD 7), .ref (AD 23), .ref (AD 8), .ref (AD 9), .ref (AD 10), .ref (AD 11), .ref (AD 12), .ref (AD 14), .ref (AD 16), .ref (AD 18), .ref (AD 20), .ref (AD 26)]))) (27 + i) (adL 27 AD sl) (ceW g AD sl i 0) M9 → PJ g _ _ _ _ d (96 - i) (96 - i) 222 [(1, .int (nI i)), (0, .ref q)] [] M9 _) (fun i hi ih sl M9 hl => ?_) 0 (Nat.zero_le _) (fun _ => 0) _ hb0
  refine pl_iload_n (pc := 222) dX2_init_222 rfl rfl ?_
  refine pl_bipush (pc := 223) (v := 96) dX2_init_223 (by rfl) ?_
  refine pl_icmp_ge (pc := 225) (tgt := 265) dX2_init_225 (by decide) (by omega) (by omega) (fun c225 => ?_) (fun c225 => ?_)
  · refine pl_iconst (pc := 265) (v := 0) dX2_init_265 (by rfl) ?_
    refine pj_istore_n (pc := 266) (lv' := [(1, _), (0, _)]) dX2_init_266 rfl (by decide) rfl ?_
    have ei : i = 96 := by omega
    subst ei
    refine ind_dn (n := 12) (P := fun k => ∀ M9 : Mem, Bl (mset μ q (.inr (22, [.int 0, .int (nI 500), .int (nI 200), .int 0, .int 0, .int 0, .int 0, .int 0, .int 0, .int 0, .int (-1), .int (-1), .ref (AD 0), .ref (AD 21), .ref (AD 22), .ref (AD 2), .ref (AD 3), .ref (AD 4), .ref (AD 5), .ref (AD 6), .ref (AD 7), .ref (AD 23), .ref (AD 8), .ref (AD 9), .ref (AD 10), .ref (AD 11), .ref (AD 12), .ref (AD 14), .ref (AD 16), .ref (AD 18), .ref (AD 20), .ref (AD 26)]))) (27 + 96) (adL 27 AD sl) (ceW g AD sl 96 k) M9 → PJ g _ _ _ _ d (96 - 96) (96 - 96) 267 [(1, .int (nI k)), (0, .ref q)] [] M9 _) (fun k hk ih2 M9 hl => ?_) 0 (Nat.zero_le _) _ hl
    refine pl_iload_n (pc := 267) dX2_init_267 rfl rfl ?_
    refine pl_bipush (pc := 268) (v := 12) dX2_init_268 (by rfl) ?_
    refine pl_icmp_ge (pc := 270) (tgt := 286) dX2_init_270 (by decide) (by omega) (by omega) (fun c270 => ?_) (fun c270 => ?_)
    · refine pj_vret (pc := 286) dX2_init_286 rfl ?_
      have ek : k = 12 := by omega
      subst ek
      exact ⟨rfl, AD, sl, hl⟩
    · refine pl_aload_n (pc := 273) dX2_init_273 rfl rfl ?_
      refine pj_getf (pc := 274) ckX2 25 q770 dX2_init_274 (by decide) (hl.up (mset_s (e := .inr (22, [.int 0, .int (nI 500), .int (nI 200), .int 0, .int 0, .int 0, .int 0, .int 0, .int 0, .int 0, .int (-1), .int (-1), .ref (AD 0), .ref (AD 21), .ref (AD 22), .ref (AD 2), .ref (AD 3), .ref (AD 4), .ref (AD 5), .ref (AD 6), .ref (AD 7), .ref (AD 23), .ref (AD 8), .ref (AD 9), .ref (AD 10), .ref (AD 11), .ref (AD 12), .ref (AD 14), .ref (AD 16), .ref (AD 18), .ref (AD 20), .ref (AD 26)])))) rfl ?_
      refine pl_iload_n (pc := 277) dX2_init_277 rfl rfl ?_
      refine pj_iconst (pc := 278) (v := (-1)) dX2_init_278 (by rfl) ?_
      refine pl_iast (pc := 279) (n := 12) dX2_init_279 (hl.getq (j := 11) (q := AD 11) (c := intX g 0 12 (fun j => if j < k then -1 else 0)) (by omega) rfl rfl) (by omega) (by decide) ?_
      refine blk (hl.put (j := 11) (q := AD 11) (by omega) rfl) (fun M_k hk9 => ?_)
      refine pl_iinc1 (pc := 280) (lv' := [(1, _), (0, _)]) dX2_init_280 rfl rfl (by decide) rfl ?_
      refine pj_goto (pc := 283) (tgt := 267) dX2_init_283 (by decide) ?_
      refine ih2 (by omega) _ (hk9.cg (fun _ _ => rfl) (fun j hj => ?_))
      by_cases c : j = 11
      · subst c
        show intX g 0 12 (fun j => if j < k + 1 then -1 else 0) = _
        rw [← upd_lt]
        exact uN_eq.symm
      · rw [uN_ne c]
        unfold ceW
        split <;> first | rfl | exact absurd rfl c
  · refine pl_aload_n (pc := 228) dX2_init_228 rfl rfl ?_
    refine pj_getf (pc := 229) ckX2 13 q749 dX2_init_229 (by decide) (hl.up (mset_s (e := .inr (22, [.int 0, .int (nI 500), .int (nI 200), .int 0, .int 0, .int 0, .int 0, .int 0, .int 0, .int 0, .int (-1), .int (-1), .ref (AD 0), .ref (AD 21), .ref (AD 22), .ref (AD 2), .ref (AD 3), .ref (AD 4), .ref (AD 5), .ref (AD 6), .ref (AD 7), .ref (AD 23), .ref (AD 8), .ref (AD 9), .ref (AD 10), .ref (AD 11), .ref (AD 12), .ref (AD 14), .ref (AD 16), .ref (AD 18), .ref (AD 20), .ref (AD 26)])))) rfl ?_
    refine pl_iload_n (pc := 232) dX2_init_232 rfl rfl ?_
    refine pl_iconst (pc := 233) (v := 5) dX2_init_233 (by rfl) ?_
    refine pl_bast (pc := 234) (n := 96) dX2_init_234 (hl.getq (j := 21) (q := AD 21) (c := intX g 2 96 (fun j => if j < i then nI 5 else 0)) (by omega) rfl rfl) (by omega) (by decide) ?_
    refine blk (hl.put (j := 21) (q := AD 21) (by omega) rfl) (fun M_s hs => ?_)
    refine pl_aload_n (pc := 235) dX2_init_235 rfl rfl ?_
    refine pj_getf (pc := 236) ckX2 12 q747 dX2_init_236 (by decide) (hs.up (mset_s (e := .inr (22, [.int 0, .int (nI 500), .int (nI 200), .int 0, .int 0, .int 0, .int 0, .int 0, .int 0, .int 0, .int (-1), .int (-1), .ref (AD 0), .ref (AD 21), .ref (AD 22), .ref (AD 2), .ref (AD 3), .ref (AD 4), .ref (AD 5), .ref (AD 6), .ref (AD 7), .ref (AD 23), .ref (AD 8), .ref (AD 9), .ref (AD 10), .ref (AD 11), .ref (AD 12), .ref (AD 14), .ref (AD 16), .ref (AD 18), .ref (AD 20), .ref (AD 26)])))) rfl ?_
    refine pj_new (pc := 239) (C1 := (95 - i)) (N1 := (95 - i)) ckX8 q620 q621 q152 dX2_init_239 _ dfX8 (by omega) (by omega) (fun q_239 hn_239 gq_239 => ?_)
    refine blk (n := 27 + i + 1) (hs.new hn_239) (fun M_n hn => ?_)
    refine pj_dup (pc := 242) dX2_init_242 rfl ?_
    refine pl_callINv (pc := 243) (As := []) (C1 := 0) (N1 := 0) (C2 := (95 - i)) (N2 := (95 - i)) mdX8_init rfl q622 q623 q152 dX2_init_243 rfl rfl (Nat.le_of_ble_eq_true rfl) (k_X8_init (d := d - 1) (by omega)) (by omega) (by omega) (by omega) ?_
    have hsl : M_n q_239 = some (.inr (35, [.null])) := hn.getq (j := 27 + i) (by omega) uN_eq uN_eq
    have l9 : LstC g M_n (AD 0) (AD 1) i 96 (fun j => if j < i then some (sl j) else none) (nI i) := ⟨hn.getq (j := 0) (by omega) ((uN_ne (by omega)).trans rfl) ((uN_ne (by omega)).trans ((uN_ne (by decide)).trans rfl)), hn.getq (j := 1) (by omega) ((uN_ne (by omega)).trans rfl) ((uN_ne (by omega)).trans ((uN_ne (by decide)).trans rfl)), by omega, by decide⟩
    have hqa : q_239 ≠ AD 0 := hn.ne (i := 27 + i) (j := 0) (by omega) (by omega) uN_eq ((uN_ne (by omega)).trans rfl) (by omega)
    refine pl_callVd (pc := 246) (As := [_]) (C1 := 0) (N1 := 0) (C2 := (95 - i)) (N2 := (95 - i)) ckJ2 mdJ2_add rfl q632 q633 q634 q129 dX2_init_246 rfl rfl (Nat.le_of_ble_eq_true rfl) l9.1 (k_J2_add (d := d - 1) (by omega) l9 hsl rfl q3250 (by omega) hqa) (by omega) (by omega) (by omega) ?_
    refine blk ((hn.put (j := 0) (q := AD 0) (by omega) ((uN_ne (by omega)).trans rfl)).put (j := 1) (q := AD 1) (by omega) ((uN_ne (by omega)).trans rfl)) (fun M_a ha => ?_)
    refine pj_pop (pc := 249) dX2_init_249 rfl ?_
    refine pl_aload_n (pc := 250) dX2_init_250 rfl rfl ?_
    refine pl_iload_n (pc := 251) dX2_init_251 rfl rfl ?_
    refine pl_aload_n (pc := 252) dX2_init_252 rfl rfl ?_
    refine pj_getf (pc := 253) ckX2 19 q761 dX2_init_253 (by decide) (ha.up (mset_s (e := .inr (22, [.int 0, .int (nI 500), .int (nI 200), .int 0, .int 0, .int 0, .int 0, .int 0, .int 0, .int 0, .int (-1), .int (-1), .ref (AD 0), .ref (AD 21), .ref (AD 22), .ref (AD 2), .ref (AD 3), .ref (AD 4), .ref (AD 5), .ref (AD 6), .ref (AD 7), .ref (AD 23), .ref (AD 8), .ref (AD 9), .ref (AD 10), .ref (AD 11), .ref (AD 12), .ref (AD 14), .ref (AD 16), .ref (AD 18), .ref (AD 20), .ref (AD 26)])))) rfl ?_
    refine pl_callVWv (pc := 256) (As := [_, _]) (C1 := 0) (N1 := 0) (C2 := (95 - i)) (N2 := (95 - i)) ckX2 mdX2_puts rfl q703 q704 q705 q126 dX2_init_256 rfl rfl (Nat.le_of_ble_eq_true rfl) (ha.up (mset_s (e := .inr (22, [.int 0, .int (nI 500), .int (nI 200), .int 0, .int 0, .int 0, .int 0, .int 0, .int 0, .int 0, .int (-1), .int (-1), .ref (AD 0), .ref (AD 21), .ref (AD 22), .ref (AD 2), .ref (AD 3), .ref (AD 4), .ref (AD 5), .ref (AD 6), .ref (AD 7), .ref (AD 23), .ref (AD 8), .ref (AD 9), .ref (AD 10), .ref (AD 11), .ref (AD 12), .ref (AD 14), .ref (AD 16), .ref (AD 18), .ref (AD 20), .ref (AD 26)])))) (k_X2_puts (d := d - 1) (by omega) (js := 27 + i) (s := i) (nl := i + 1) (f := f0W) (p := wpF AD) ha (mset_s (e := .inr (22, [.int 0, .int (nI 500), .int (nI 200), .int 0, .int 0, .int 0, .int 0, .int 0, .int 0, .int 0, .int (-1), .int (-1), .ref (AD 0), .ref (AD 21), .ref (AD 22), .ref (AD 2), .ref (AD 3), .ref (AD 4), .ref (AD 5), .ref (AD 6), .ref (AD 7), .ref (AD 23), .ref (AD 8), .ref (AD 9), .ref (AD 10), .ref (AD 11), .ref (AD 12), .ref (AD 14), .ref (AD 16), .ref (AD 18), .ref (AD 20), .ref (AD 26)]))) (by omega) (by omega) (by omega) ((uN_ne (by omega)).trans rfl) ((uN_ne (by omega)).trans rfl) ((uN_ne (by omega)).trans rfl) ((uN_ne (by omega)).trans rfl) ((uN_ne (by omega)).trans rfl) ((uN_ne (by omega)).trans rfl) ((uN_ne (by omega)).trans rfl) (by rw [show uN (adL 27 AD sl) (27 + i) q_239 1 = AD 1 from (uN_ne (by omega)).trans rfl]; exact ((uN_ne (by decide)).trans uN_eq)) uN_eq (by omega) (by unfold va_up; rw [if_pos rfl]; exact congrArg some uN_eq.symm) ((uN_ne (by decide)).trans ((uN_ne (by decide)).trans ((uN_ne (by omega)).trans ((uN_ne (by decide)).trans rfl)))) ((uN_ne (by decide)).trans ((uN_ne (by decide)).trans ((uN_ne (by omega)).trans ((uN_ne (by decide)).trans rfl)))) ((uN_ne (by decide)).trans ((uN_ne (by decide)).trans ((uN_ne (by omega)).trans ((uN_ne (by decide)).trans rfl)))) ((uN_ne (by decide)).trans ((uN_ne (by decide)).trans ((uN_ne (by omega)).trans ((uN_ne (by decide)).trans rfl)))) ((uN_ne (by decide)).trans ((uN_ne (by decide)).trans ((uN_ne (by omega)).trans uN_eq))) ((uN_ne (by decide)).trans ((uN_ne (by decide)).trans ((uN_ne (by omega)).trans ((uN_ne (by decide)).trans rfl)))) ((uN_ne (by omega)).trans ((uN_ne (by omega)).trans uN_eq))) (by omega) (by omega) (by omega) (fun My51 qy51 => ?_)
    refine blk qy51 (fun My51 y51 => ?_)
    refine pl_iinc1 (pc := 259) (lv' := [(1, _), (0, _)]) dX2_init_259 rfl rfl (by decide) rfl ?_
    refine pj_goto (pc := 262) (tgt := 222) dX2_init_262 (by decide) ?_
    refine PJ.widen (C1 := 96 - (i + 1)) (N1 := 96 - (i + 1)) (by omega) (by omega) ?_
    refine ih (by omega) (uN sl i q_239) _ (y51.cg (adL_up (m := 27)) (fun j hj => ?_))
    by_cases hj2 : j < 27
    · rcases (by omega : j = 0 ∨ j = 1 ∨ j = 2 ∨ j = 3 ∨ j = 4 ∨ j = 5 ∨ j = 6 ∨ j = 7 ∨ j = 8 ∨ j = 9 ∨ j = 10 ∨ j = 11 ∨ j = 12 ∨ j = 13 ∨ j = 14 ∨ j = 15 ∨ j = 16 ∨ j = 17 ∨ j = 18 ∨ j = 19 ∨ j = 20 ∨ j = 21 ∨ j = 22 ∨ j = 23 ∨ j = 24 ∨ j = 25 ∨ j = 26) with rfl | rfl | rfl | rfl | rfl | rfl | rfl | rfl | rfl | rfl | rfl | rfl | rfl | rfl | rfl | rfl | rfl | rfl | rfl | rfl | rfl | rfl | rfl | rfl | rfl | rfl | rfl
      · (repeat (first | rw [uN_eq] | rw [uN_ne (by omega)]))
        show _ = lstO (nI i + nI 1) (AD 1) (i + 1)
        unfold lstO
        rw [nI_add]
        rfl
      · (repeat (first | rw [uN_eq] | rw [uN_ne (by omega)]))
        exact congrArg (lstA g 96) up_lt.symm
      · (repeat (first | rw [uN_eq] | rw [uN_ne (by omega)]))
        rw [show milesV ((fun _ => 0 : Nat → Int32) i) (upd (fun j => if j < i then nI 5 else 0) i (vp_nar .byte (nI 5)) i) = nI 7 from by unfold upd; rw [if_pos rfl]; show milesV 0 (vp_nar .byte (nI 5)) = nI 7; decide]
        exact congrArg (intX g 0 96) upd_lt.symm
      · (repeat (first | rw [uN_eq] | rw [uN_ne (by omega)]))
        exact congrArg (intX g 0 96) upd_zz.symm
      · (repeat (first | rw [uN_eq] | rw [uN_ne (by omega)]))
        exact congrArg (intX g 0 96) upd_lt.symm
      · (repeat (first | rw [uN_eq] | rw [uN_ne (by omega)]))
        exact congrArg (intX g 3 96) upd_zz.symm
      · (repeat (first | rw [uN_eq] | rw [uN_ne (by omega)]))
        rfl
      · (repeat (first | rw [uN_eq] | rw [uN_ne (by omega)]))
        rfl
      · (repeat (first | rw [uN_eq] | rw [uN_ne (by omega)]))
        rfl
      · (repeat (first | rw [uN_eq] | rw [uN_ne (by omega)]))
        rfl
      · (repeat (first | rw [uN_eq] | rw [uN_ne (by omega)]))
        rfl
      · (repeat (first | rw [uN_eq] | rw [uN_ne (by omega)]))
        rfl
      · (repeat (first | rw [uN_eq] | rw [uN_ne (by omega)]))
        rfl
      · (repeat (first | rw [uN_eq] | rw [uN_ne (by omega)]))
        rfl
      · (repeat (first | rw [uN_eq] | rw [uN_ne (by omega)]))
        rfl
      · (repeat (first | rw [uN_eq] | rw [uN_ne (by omega)]))
        rfl
      · (repeat (first | rw [uN_eq] | rw [uN_ne (by omega)]))
        rfl
      · (repeat (first | rw [uN_eq] | rw [uN_ne (by omega)]))
        rfl
      · (repeat (first | rw [uN_eq] | rw [uN_ne (by omega)]))
        rfl
      · (repeat (first | rw [uN_eq] | rw [uN_ne (by omega)]))
        rfl
      · (repeat (first | rw [uN_eq] | rw [uN_ne (by omega)]))
        rfl
      · (repeat (first | rw [uN_eq] | rw [uN_ne (by omega)]))
        rw [show vp_nar .byte (nI 5) = nI 5 by decide]
        exact congrArg (intX g 2 96) upd_lt.symm
      · (repeat (first | rw [uN_eq] | rw [uN_ne (by omega)]))
        rfl
      · (repeat (first | rw [uN_eq] | rw [uN_ne (by omega)]))
        rfl
      · (repeat (first | rw [uN_eq] | rw [uN_ne (by omega)]))
        rfl
      · (repeat (first | rw [uN_eq] | rw [uN_ne (by omega)]))
        rfl
      · (repeat (first | rw [uN_eq] | rw [uN_ne (by omega)]))
        rfl
    · by_cases hj3 : j = 27 + i
      · subst hj3
        rw [cW_s]
        (repeat (first | rw [uN_eq] | rw [uN_ne (by omega)]))
        first | done | rfl
      · obtain ⟨m, rfl⟩ := Nat.le.dest (Nat.not_lt.mp hj2)
        rw [cW_s]
        (repeat (first | rw [uN_eq] | rw [uN_ne (by omega)]))
        rw [cW_s]
set_option maxHeartbeats 1000000 in
theorem x_X2_init_2 {g : GP} {μ : Mem} {d : Nat} (hd : 9 ≤ d) {q q0 : Nat} {f0 : Nat → Int32} {p0 : Nat → Nat} (hm : μ q = some (.inr (22, [.int 0, .int 0, .int 0, .int 0, .int 0, .int 0, .int 0, .int 0, .int 0, .int 0, .int 0, .int 0, .null, .null, .null, .null, .null, .null, .null, .null, .null, .null, .null, .null, .null, .null, .null, .null, .null, .null, .null, .null]))) (h0 : μ q0 = some (woV f0 p0)) (hne : q0 ≠ q) : PM g yX2_init_2 (ws_ yX2_init_2 cX2_init_2 3 none) d 117 633 [.ref q, .ref q0] μ (WQ none (fun M => ∃ ad sl : Nat → Nat, Bl (mset μ q (.inr (22, [.int 0, .int (nI 500), .int (nI 200), .int 0, .int 0, .int 0, .int 0, .int 0, .int 0, .int 0, .int (-1), .int (-1), .ref (ad 0), .ref (p0 13), .ref (p0 14), .ref (ad 2), .ref (ad 3), .ref (ad 4), .ref (ad 5), .ref (ad 6), .ref (ad 7), .ref (p0 21), .ref (ad 8), .ref (ad 9), .ref (ad 10), .ref (ad 11), .ref (ad 12), .ref (ad 14), .ref (ad 16), .ref (ad 18), .ref (ad 20), .null]))) (21 + 96) (adL 21 ad sl) (ceT g ad sl 96 12) M)) := by
  refine PM.of (by decide +kernel) (Nat.le_of_ble_eq_true rfl) ?_
  refine PJ.ok (fun G => ?_)
  have hq0 : μ q ≠ none := by rw [hm]; exact fun z => (by cases z)
  show PJ g _ _ _ _ d 117 633 0 [(0, .ref q), (1, .ref q0)] [] _ _
  have h : Bl (mset μ q (.inr (22, [.int 0, .int 0, .int 0, .int 0, .int 0, .int 0, .int 0, .int 0, .int 0, .int 0, .int 0, .int 0, .null, .null, .null, .null, .null, .null, .null, .null, .null, .null, .null, .null, .null, .null, .null, .null, .null, .null, .null, .null]))) 0 (fun _ => 0) (fun _ => .inr (0, [])) μ := by
    have e9 : mset μ q (.inr (22, [.int 0, .int 0, .int 0, .int 0, .int 0, .int 0, .int 0, .int 0, .int 0, .int 0, .int 0, .int 0, .null, .null, .null, .null, .null, .null, .null, .null, .null, .null, .null, .null, .null, .null, .null, .null, .null, .null, .null, .null])) = μ := by
      funext a
      by_cases ea : a = q
      · subst ea
        rw [mset_s]
        exact hm.symm
      · exact mset_n ea
    rw [e9]
    exact Bl.rf
  refine pl_aload_n (pc := 0) dX2_init_2_0 rfl rfl ?_
  refine pj_objInit (pc := 1) q194 q187 q188 dX2_init_2_1 (by omega) (by decide) ?_
  refine pl_aload_n (pc := 4) dX2_init_2_4 rfl rfl ?_
  refine pl_sipush (pc := 5) (v := 500) dX2_init_2_5 (by rfl) ?_
  refine pj_putf (pc := 8) ckX2 1 q727 dX2_init_2_8 (by decide) rfl (h.up (mset_s (e := .inr (22, [.int 0, .int 0, .int 0, .int 0, .int 0, .int 0, .int 0, .int 0, .int 0, .int 0, .int 0, .int 0, .null, .null, .null, .null, .null, .null, .null, .null, .null, .null, .null, .null, .null, .null, .null, .null, .null, .null, .null, .null])))) rfl rfl (Nat.le_of_ble_eq_true rfl) ?_
  refine blk (h.bput hq0 (c := .inr (22, [.int 0, .int (nI 500), .int 0, .int 0, .int 0, .int 0, .int 0, .int 0, .int 0, .int 0, .int 0, .int 0, .null, .null, .null, .null, .null, .null, .null, .null, .null, .null, .null, .null, .null, .null, .null, .null, .null, .null, .null, .null]))) (fun My1 y1 => ?_)
  refine pl_aload_n (pc := 11) dX2_init_2_11 rfl rfl ?_
  refine pl_sipush (pc := 12) (v := 200) dX2_init_2_12 (by rfl) ?_
  refine pj_putf (pc := 15) ckX2 2 q729 dX2_init_2_15 (by decide) rfl (y1.up (mset_s (e := .inr (22, [.int 0, .int (nI 500), .int 0, .int 0, .int 0, .int 0, .int 0, .int 0, .int 0, .int 0, .int 0, .int 0, .null, .null, .null, .null, .null, .null, .null, .null, .null, .null, .null, .null, .null, .null, .null, .null, .null, .null, .null, .null])))) rfl rfl (Nat.le_of_ble_eq_true rfl) ?_
  refine blk (y1.bput hq0 (c := .inr (22, [.int 0, .int (nI 500), .int (nI 200), .int 0, .int 0, .int 0, .int 0, .int 0, .int 0, .int 0, .int 0, .int 0, .null, .null, .null, .null, .null, .null, .null, .null, .null, .null, .null, .null, .null, .null, .null, .null, .null, .null, .null, .null]))) (fun My2 y2 => ?_)
  refine pl_aload_n (pc := 18) dX2_init_2_18 rfl rfl ?_
  refine pj_iconst (pc := 19) (v := (-1)) dX2_init_2_19 (by rfl) ?_
  refine pj_putf (pc := 20) ckX2 10 q743 dX2_init_2_20 (by decide) rfl (y2.up (mset_s (e := .inr (22, [.int 0, .int (nI 500), .int (nI 200), .int 0, .int 0, .int 0, .int 0, .int 0, .int 0, .int 0, .int 0, .int 0, .null, .null, .null, .null, .null, .null, .null, .null, .null, .null, .null, .null, .null, .null, .null, .null, .null, .null, .null, .null])))) rfl rfl (Nat.le_of_ble_eq_true rfl) ?_
  refine blk (y2.bput hq0 (c := .inr (22, [.int 0, .int (nI 500), .int (nI 200), .int 0, .int 0, .int 0, .int 0, .int 0, .int 0, .int 0, .int (-1), .int 0, .null, .null, .null, .null, .null, .null, .null, .null, .null, .null, .null, .null, .null, .null, .null, .null, .null, .null, .null, .null]))) (fun My3 y3 => ?_)
  refine pl_aload_n (pc := 23) dX2_init_2_23 rfl rfl ?_
  refine pj_iconst (pc := 24) (v := (-1)) dX2_init_2_24 (by rfl) ?_
  refine pj_putf (pc := 25) ckX2 11 q745 dX2_init_2_25 (by decide) rfl (y3.up (mset_s (e := .inr (22, [.int 0, .int (nI 500), .int (nI 200), .int 0, .int 0, .int 0, .int 0, .int 0, .int 0, .int 0, .int (-1), .int 0, .null, .null, .null, .null, .null, .null, .null, .null, .null, .null, .null, .null, .null, .null, .null, .null, .null, .null, .null, .null])))) rfl rfl (Nat.le_of_ble_eq_true rfl) ?_
  refine blk (y3.bput hq0 (c := .inr (22, [.int 0, .int (nI 500), .int (nI 200), .int 0, .int 0, .int 0, .int 0, .int 0, .int 0, .int 0, .int (-1), .int (-1), .null, .null, .null, .null, .null, .null, .null, .null, .null, .null, .null, .null, .null, .null, .null, .null, .null, .null, .null, .null]))) (fun My4 y4 => ?_)
  refine pl_aload_n (pc := 28) dX2_init_2_28 rfl rfl ?_
  refine pj_new (pc := 29) (C1 := 116) (N1 := 630) ckJ2 q195 q196 q129 dX2_init_2_29 _ dfJ2 (by omega) (by omega) (fun q_29 hn_29 gq_29 => ?_)
  refine blk (n := 1) (y4.new hn_29) (fun My5 y5 => ?_)
  refine pj_dup (pc := 32) dX2_init_2_32 rfl ?_
  refine pl_bipush (pc := 33) (v := 96) dX2_init_2_33 (by rfl) ?_
  refine pl_callIWv (pc := 35) (As := [_]) (C1 := 1) (N1 := 96) (C2 := 115) (N2 := 534) mdJ2_init rfl q197 q198 q129 dX2_init_2_35 rfl rfl (Nat.le_of_ble_eq_true rfl) (k_J2_init_96 (d := d - 1) (by omega) (y5.getq (j := 0) (q := q_29) (c := (.inr (2, [.int 0, .null, .int 0]))) (by omega) rfl rfl)) (by omega) (by omega) (by omega) (fun My6 qy6 => ?_)
  obtain ⟨e_35, he_35, hf_35, hm_35⟩ := qy6
  refine PJ.mem hm_35 ?_
  refine blk (n := 2) ((y5.new he_35).put (j := 0) (q := q_29) (by omega) rfl) (fun M9_35 y6 => ?_)
  refine pj_putfF (pc := 38) ckX2 12 q747 dX2_init_2_38 (by decide) rfl rfl rfl (y6.up (mset_s (e := .inr (22, [.int 0, .int (nI 500), .int (nI 200), .int 0, .int 0, .int 0, .int 0, .int 0, .int 0, .int 0, .int (-1), .int (-1), .null, .null, .null, .null, .null, .null, .null, .null, .null, .null, .null, .null, .null, .null, .null, .null, .null, .null, .null, .null])))) rfl rfl (Nat.le_of_ble_eq_true rfl) ?_
  refine blk (y6.bput hq0 (c := .inr (22, [.int 0, .int (nI 500), .int (nI 200), .int 0, .int 0, .int 0, .int 0, .int 0, .int 0, .int 0, .int (-1), .int (-1), .ref q_29, .null, .null, .null, .null, .null, .null, .null, .null, .null, .null, .null, .null, .null, .null, .null, .null, .null, .null, .null]))) (fun My7 y7 => ?_)
  refine pl_aload_n (pc := 41) dX2_init_2_41 rfl rfl ?_
  refine pl_bipush (pc := 42) (v := 96) dX2_init_2_42 (by rfl) ?_
  refine pj_newa (pc := 44) (C1 := 114) (N1 := 438) (t0 := 0) (a0 := (96, .inl (fun _ => 0))) dX2_init_2_44 q572 rfl rfl (fun _ => rfl) (Int32.not_lt.mpr (nI_pos' (by omega))) (nI_clamp (by omega)) (by decide) (by omega) (by omega) (fun q_44 hn_44 gq_44 => ?_)
  refine blk (n := 3) (y7.new hn_44) (fun My8 y8 => ?_)
  refine pj_putfF (pc := 46) ckX2 15 q753 dX2_init_2_46 (by decide) rfl rfl rfl (y8.up (mset_s (e := .inr (22, [.int 0, .int (nI 500), .int (nI 200), .int 0, .int 0, .int 0, .int 0, .int 0, .int 0, .int 0, .int (-1), .int (-1), .ref q_29, .null, .null, .null, .null, .null, .null, .null, .null, .null, .null, .null, .null, .null, .null, .null, .null, .null, .null, .null])))) rfl rfl (Nat.le_of_ble_eq_true rfl) ?_
  refine blk (y8.bput hq0 (c := .inr (22, [.int 0, .int (nI 500), .int (nI 200), .int 0, .int 0, .int 0, .int 0, .int 0, .int 0, .int 0, .int (-1), .int (-1), .ref q_29, .null, .null, .ref q_44, .null, .null, .null, .null, .null, .null, .null, .null, .null, .null, .null, .null, .null, .null, .null, .null]))) (fun My9 y9 => ?_)
  refine pl_aload_n (pc := 49) dX2_init_2_49 rfl rfl ?_
  refine pl_bipush (pc := 50) (v := 96) dX2_init_2_50 (by rfl) ?_
  refine pj_newa (pc := 52) (C1 := 113) (N1 := 342) (t0 := 0) (a0 := (96, .inl (fun _ => 0))) dX2_init_2_52 q572 rfl rfl (fun _ => rfl) (Int32.not_lt.mpr (nI_pos' (by omega))) (nI_clamp (by omega)) (by decide) (by omega) (by omega) (fun q_52 hn_52 gq_52 => ?_)
  refine blk (n := 4) (y9.new hn_52) (fun My10 y10 => ?_)
  refine pj_putfF (pc := 54) ckX2 16 q755 dX2_init_2_54 (by decide) rfl rfl rfl (y10.up (mset_s (e := .inr (22, [.int 0, .int (nI 500), .int (nI 200), .int 0, .int 0, .int 0, .int 0, .int 0, .int 0, .int 0, .int (-1), .int (-1), .ref q_29, .null, .null, .ref q_44, .null, .null, .null, .null, .null, .null, .null, .null, .null, .null, .null, .null, .null, .null, .null, .null])))) rfl rfl (Nat.le_of_ble_eq_true rfl) ?_
  refine blk (y10.bput hq0 (c := .inr (22, [.int 0, .int (nI 500), .int (nI 200), .int 0, .int 0, .int 0, .int 0, .int 0, .int 0, .int 0, .int (-1), .int (-1), .ref q_29, .null, .null, .ref q_44, .ref q_52, .null, .null, .null, .null, .null, .null, .null, .null, .null, .null, .null, .null, .null, .null, .null]))) (fun My11 y11 => ?_)
  refine pl_aload_n (pc := 57) dX2_init_2_57 rfl rfl ?_
  refine pl_bipush (pc := 58) (v := 96) dX2_init_2_58 (by rfl) ?_
  refine pj_newa (pc := 60) (C1 := 112) (N1 := 246) (t0 := 0) (a0 := (96, .inl (fun _ => 0))) dX2_init_2_60 q572 rfl rfl (fun _ => rfl) (Int32.not_lt.mpr (nI_pos' (by omega))) (nI_clamp (by omega)) (by decide) (by omega) (by omega) (fun q_60 hn_60 gq_60 => ?_)
  refine blk (n := 5) (y11.new hn_60) (fun My12 y12 => ?_)
  refine pj_putfF (pc := 62) ckX2 17 q757 dX2_init_2_62 (by decide) rfl rfl rfl (y12.up (mset_s (e := .inr (22, [.int 0, .int (nI 500), .int (nI 200), .int 0, .int 0, .int 0, .int 0, .int 0, .int 0, .int 0, .int (-1), .int (-1), .ref q_29, .null, .null, .ref q_44, .ref q_52, .null, .null, .null, .null, .null, .null, .null, .null, .null, .null, .null, .null, .null, .null, .null])))) rfl rfl (Nat.le_of_ble_eq_true rfl) ?_
  refine blk (y12.bput hq0 (c := .inr (22, [.int 0, .int (nI 500), .int (nI 200), .int 0, .int 0, .int 0, .int 0, .int 0, .int 0, .int 0, .int (-1), .int (-1), .ref q_29, .null, .null, .ref q_44, .ref q_52, .ref q_60, .null, .null, .null, .null, .null, .null, .null, .null, .null, .null, .null, .null, .null, .null]))) (fun My13 y13 => ?_)
  refine pl_aload_n (pc := 65) dX2_init_2_65 rfl rfl ?_
  refine pl_bipush (pc := 66) (v := 96) dX2_init_2_66 (by rfl) ?_
  refine pj_newa (pc := 68) (C1 := 111) (N1 := 150) (t0 := 3) (a0 := (96, .inl (fun _ => 0))) dX2_init_2_68 q573 rfl rfl (fun _ => rfl) (Int32.not_lt.mpr (nI_pos' (by omega))) (nI_clamp (by omega)) (by decide) (by omega) (by omega) (fun q_68 hn_68 gq_68 => ?_)
  refine blk (n := 6) (y13.new hn_68) (fun My14 y14 => ?_)
  refine pj_putfF (pc := 70) ckX2 18 q759 dX2_init_2_70 (by decide) rfl rfl rfl (y14.up (mset_s (e := .inr (22, [.int 0, .int (nI 500), .int (nI 200), .int 0, .int 0, .int 0, .int 0, .int 0, .int 0, .int 0, .int (-1), .int (-1), .ref q_29, .null, .null, .ref q_44, .ref q_52, .ref q_60, .null, .null, .null, .null, .null, .null, .null, .null, .null, .null, .null, .null, .null, .null])))) rfl rfl (Nat.le_of_ble_eq_true rfl) ?_
  refine blk (y14.bput hq0 (c := .inr (22, [.int 0, .int (nI 500), .int (nI 200), .int 0, .int 0, .int 0, .int 0, .int 0, .int 0, .int 0, .int (-1), .int (-1), .ref q_29, .null, .null, .ref q_44, .ref q_52, .ref q_60, .ref q_68, .null, .null, .null, .null, .null, .null, .null, .null, .null, .null, .null, .null, .null]))) (fun My15 y15 => ?_)
  refine pl_aload_n (pc := 73) dX2_init_2_73 rfl rfl ?_
  refine pj_new (pc := 74) (C1 := 110) (N1 := 150) ckX4 q562 q563 q148 dX2_init_2_74 _ dfX4 (by omega) (by omega) (fun q_74 hn_74 gq_74 => ?_)
  refine blk (n := 7) (y15.new hn_74) (fun My16 y16 => ?_)
  refine pj_dup (pc := 77) dX2_init_2_77 rfl ?_
  refine pl_callINv (pc := 78) (As := []) (C1 := 0) (N1 := 0) (C2 := 110) (N2 := 150) mdX4_init rfl q564 q565 q148 dX2_init_2_78 rfl rfl (Nat.le_of_ble_eq_true rfl) (k_X4_init (d := d - 1) (by omega)) (by omega) (by omega) (by omega) ?_
  refine pj_putfF (pc := 81) ckX2 19 q761 dX2_init_2_81 (by decide) rfl rfl rfl (y16.up (mset_s (e := .inr (22, [.int 0, .int (nI 500), .int (nI 200), .int 0, .int 0, .int 0, .int 0, .int 0, .int 0, .int 0, .int (-1), .int (-1), .ref q_29, .null, .null, .ref q_44, .ref q_52, .ref q_60, .ref q_68, .null, .null, .null, .null, .null, .null, .null, .null, .null, .null, .null, .null, .null])))) rfl rfl (Nat.le_of_ble_eq_true rfl) ?_
  refine blk (y16.bput hq0 (c := .inr (22, [.int 0, .int (nI 500), .int (nI 200), .int 0, .int 0, .int 0, .int 0, .int 0, .int 0, .int 0, .int (-1), .int (-1), .ref q_29, .null, .null, .ref q_44, .ref q_52, .ref q_60, .ref q_68, .ref q_74, .null, .null, .null, .null, .null, .null, .null, .null, .null, .null, .null, .null]))) (fun My17 y17 => ?_)
  refine pl_aload_n (pc := 84) dX2_init_2_84 rfl rfl ?_
  refine pj_new (pc := 85) (C1 := 109) (N1 := 150) ckX5 q574 q575 q149 dX2_init_2_85 _ dfX5 (by omega) (by omega) (fun q_85 hn_85 gq_85 => ?_)
  refine blk (n := 8) (y17.new hn_85) (fun My18 y18 => ?_)
  refine pj_dup (pc := 88) dX2_init_2_88 rfl ?_
  refine pl_callINv (pc := 89) (As := []) (C1 := 0) (N1 := 0) (C2 := 109) (N2 := 150) mdX5_init rfl q576 q577 q149 dX2_init_2_89 rfl rfl (Nat.le_of_ble_eq_true rfl) (k_X5_init (d := d - 1) (by omega)) (by omega) (by omega) (by omega) ?_
  refine pj_putfF (pc := 92) ckX2 20 q763 dX2_init_2_92 (by decide) rfl rfl rfl (y18.up (mset_s (e := .inr (22, [.int 0, .int (nI 500), .int (nI 200), .int 0, .int 0, .int 0, .int 0, .int 0, .int 0, .int 0, .int (-1), .int (-1), .ref q_29, .null, .null, .ref q_44, .ref q_52, .ref q_60, .ref q_68, .ref q_74, .null, .null, .null, .null, .null, .null, .null, .null, .null, .null, .null, .null])))) rfl rfl (Nat.le_of_ble_eq_true rfl) ?_
  refine blk (y18.bput hq0 (c := .inr (22, [.int 0, .int (nI 500), .int (nI 200), .int 0, .int 0, .int 0, .int 0, .int 0, .int 0, .int 0, .int (-1), .int (-1), .ref q_29, .null, .null, .ref q_44, .ref q_52, .ref q_60, .ref q_68, .ref q_74, .ref q_85, .null, .null, .null, .null, .null, .null, .null, .null, .null, .null, .null]))) (fun My19 y19 => ?_)
  refine pl_aload_n (pc := 95) dX2_init_2_95 rfl rfl ?_
  refine pl_iconst (pc := 96) (v := 4) dX2_init_2_96 (by rfl) ?_
  refine pj_newa (pc := 97) (C1 := 108) (N1 := 146) (t0 := 0) (a0 := (4, .inl (fun _ => 0))) dX2_init_2_97 q572 rfl rfl (fun _ => rfl) (Int32.not_lt.mpr (nI_pos' (by omega))) (nI_clamp (by omega)) (by decide) (by omega) (by omega) (fun q_97 hn_97 gq_97 => ?_)
  refine blk (n := 9) (y19.new hn_97) (fun My20 y20 => ?_)
  refine pj_putfF (pc := 99) ckX2 22 q766 dX2_init_2_99 (by decide) rfl rfl rfl (y20.up (mset_s (e := .inr (22, [.int 0, .int (nI 500), .int (nI 200), .int 0, .int 0, .int 0, .int 0, .int 0, .int 0, .int 0, .int (-1), .int (-1), .ref q_29, .null, .null, .ref q_44, .ref q_52, .ref q_60, .ref q_68, .ref q_74, .ref q_85, .null, .null, .null, .null, .null, .null, .null, .null, .null, .null, .null])))) rfl rfl (Nat.le_of_ble_eq_true rfl) ?_
  refine blk (y20.bput hq0 (c := .inr (22, [.int 0, .int (nI 500), .int (nI 200), .int 0, .int 0, .int 0, .int 0, .int 0, .int 0, .int 0, .int (-1), .int (-1), .ref q_29, .null, .null, .ref q_44, .ref q_52, .ref q_60, .ref q_68, .ref q_74, .ref q_85, .null, .ref q_97, .null, .null, .null, .null, .null, .null, .null, .null, .null]))) (fun My21 y21 => ?_)
  refine pl_aload_n (pc := 102) dX2_init_2_102 rfl rfl ?_
  refine pl_iconst (pc := 103) (v := 4) dX2_init_2_103 (by rfl) ?_
  refine pj_newa (pc := 104) (C1 := 107) (N1 := 142) (t0 := 0) (a0 := (4, .inl (fun _ => 0))) dX2_init_2_104 q572 rfl rfl (fun _ => rfl) (Int32.not_lt.mpr (nI_pos' (by omega))) (nI_clamp (by omega)) (by decide) (by omega) (by omega) (fun q_104 hn_104 gq_104 => ?_)
  refine blk (n := 10) (y21.new hn_104) (fun My22 y22 => ?_)
  refine pj_putfF (pc := 106) ckX2 23 q767 dX2_init_2_106 (by decide) rfl rfl rfl (y22.up (mset_s (e := .inr (22, [.int 0, .int (nI 500), .int (nI 200), .int 0, .int 0, .int 0, .int 0, .int 0, .int 0, .int 0, .int (-1), .int (-1), .ref q_29, .null, .null, .ref q_44, .ref q_52, .ref q_60, .ref q_68, .ref q_74, .ref q_85, .null, .ref q_97, .null, .null, .null, .null, .null, .null, .null, .null, .null])))) rfl rfl (Nat.le_of_ble_eq_true rfl) ?_
  refine blk (y22.bput hq0 (c := .inr (22, [.int 0, .int (nI 500), .int (nI 200), .int 0, .int 0, .int 0, .int 0, .int 0, .int 0, .int 0, .int (-1), .int (-1), .ref q_29, .null, .null, .ref q_44, .ref q_52, .ref q_60, .ref q_68, .ref q_74, .ref q_85, .null, .ref q_97, .ref q_104, .null, .null, .null, .null, .null, .null, .null, .null]))) (fun My23 y23 => ?_)
  refine pl_aload_n (pc := 109) dX2_init_2_109 rfl rfl ?_
  refine pl_iconst (pc := 110) (v := 4) dX2_init_2_110 (by rfl) ?_
  refine pj_newa (pc := 111) (C1 := 106) (N1 := 138) (t0 := 0) (a0 := (4, .inl (fun _ => 0))) dX2_init_2_111 q572 rfl rfl (fun _ => rfl) (Int32.not_lt.mpr (nI_pos' (by omega))) (nI_clamp (by omega)) (by decide) (by omega) (by omega) (fun q_111 hn_111 gq_111 => ?_)
  refine blk (n := 11) (y23.new hn_111) (fun My24 y24 => ?_)
  refine pj_putfF (pc := 113) ckX2 24 q769 dX2_init_2_113 (by decide) rfl rfl rfl (y24.up (mset_s (e := .inr (22, [.int 0, .int (nI 500), .int (nI 200), .int 0, .int 0, .int 0, .int 0, .int 0, .int 0, .int 0, .int (-1), .int (-1), .ref q_29, .null, .null, .ref q_44, .ref q_52, .ref q_60, .ref q_68, .ref q_74, .ref q_85, .null, .ref q_97, .ref q_104, .null, .null, .null, .null, .null, .null, .null, .null])))) rfl rfl (Nat.le_of_ble_eq_true rfl) ?_
  refine blk (y24.bput hq0 (c := .inr (22, [.int 0, .int (nI 500), .int (nI 200), .int 0, .int 0, .int 0, .int 0, .int 0, .int 0, .int 0, .int (-1), .int (-1), .ref q_29, .null, .null, .ref q_44, .ref q_52, .ref q_60, .ref q_68, .ref q_74, .ref q_85, .null, .ref q_97, .ref q_104, .ref q_111, .null, .null, .null, .null, .null, .null, .null]))) (fun My25 y25 => ?_)
  refine pl_aload_n (pc := 116) dX2_init_2_116 rfl rfl ?_
  refine pl_bipush (pc := 117) (v := 12) dX2_init_2_117 (by rfl) ?_
  refine pj_newa (pc := 119) (C1 := 105) (N1 := 126) (t0 := 0) (a0 := (12, .inl (fun _ => 0))) dX2_init_2_119 q572 rfl rfl (fun _ => rfl) (Int32.not_lt.mpr (nI_pos' (by omega))) (nI_clamp (by omega)) (by decide) (by omega) (by omega) (fun q_119 hn_119 gq_119 => ?_)
  refine blk (n := 12) (y25.new hn_119) (fun My26 y26 => ?_)
  refine pj_putfF (pc := 121) ckX2 25 q770 dX2_init_2_121 (by decide) rfl rfl rfl (y26.up (mset_s (e := .inr (22, [.int 0, .int (nI 500), .int (nI 200), .int 0, .int 0, .int 0, .int 0, .int 0, .int 0, .int 0, .int (-1), .int (-1), .ref q_29, .null, .null, .ref q_44, .ref q_52, .ref q_60, .ref q_68, .ref q_74, .ref q_85, .null, .ref q_97, .ref q_104, .ref q_111, .null, .null, .null, .null, .null, .null, .null])))) rfl rfl (Nat.le_of_ble_eq_true rfl) ?_
  refine blk (y26.bput hq0 (c := .inr (22, [.int 0, .int (nI 500), .int (nI 200), .int 0, .int 0, .int 0, .int 0, .int 0, .int 0, .int 0, .int (-1), .int (-1), .ref q_29, .null, .null, .ref q_44, .ref q_52, .ref q_60, .ref q_68, .ref q_74, .ref q_85, .null, .ref q_97, .ref q_104, .ref q_111, .ref q_119, .null, .null, .null, .null, .null, .null]))) (fun My27 y27 => ?_)
  refine pl_aload_n (pc := 124) dX2_init_2_124 rfl rfl ?_
  refine pj_new (pc := 125) (C1 := 104) (N1 := 123) ckJ2 q195 q196 q129 dX2_init_2_125 _ dfJ2 (by omega) (by omega) (fun q_125 hn_125 gq_125 => ?_)
  refine blk (n := 13) (y27.new hn_125) (fun My28 y28 => ?_)
  refine pj_dup (pc := 128) dX2_init_2_128 rfl ?_
  refine pl_bipush (pc := 129) (v := 8) dX2_init_2_129 (by rfl) ?_
  refine pl_callIWv (pc := 131) (As := [_]) (C1 := 1) (N1 := 8) (C2 := 103) (N2 := 115) mdJ2_init rfl q197 q198 q129 dX2_init_2_131 rfl rfl (Nat.le_of_ble_eq_true rfl) (k_J2_init_8 (d := d - 1) (by omega) (y28.getq (j := 12) (q := q_125) (c := (.inr (2, [.int 0, .null, .int 0]))) (by omega) rfl rfl)) (by omega) (by omega) (by omega) (fun My29 qy29 => ?_)
  obtain ⟨e_131, he_131, hf_131, hm_131⟩ := qy29
  refine PJ.mem hm_131 ?_
  refine blk (n := 14) ((y28.new he_131).put (j := 12) (q := q_125) (by omega) rfl) (fun M9_131 y29 => ?_)
  refine pj_putfF (pc := 134) ckX2 26 q772 dX2_init_2_134 (by decide) rfl rfl rfl (y29.up (mset_s (e := .inr (22, [.int 0, .int (nI 500), .int (nI 200), .int 0, .int 0, .int 0, .int 0, .int 0, .int 0, .int 0, .int (-1), .int (-1), .ref q_29, .null, .null, .ref q_44, .ref q_52, .ref q_60, .ref q_68, .ref q_74, .ref q_85, .null, .ref q_97, .ref q_104, .ref q_111, .ref q_119, .null, .null, .null, .null, .null, .null])))) rfl rfl (Nat.le_of_ble_eq_true rfl) ?_
  refine blk (y29.bput hq0 (c := .inr (22, [.int 0, .int (nI 500), .int (nI 200), .int 0, .int 0, .int 0, .int 0, .int 0, .int 0, .int 0, .int (-1), .int (-1), .ref q_29, .null, .null, .ref q_44, .ref q_52, .ref q_60, .ref q_68, .ref q_74, .ref q_85, .null, .ref q_97, .ref q_104, .ref q_111, .ref q_119, .ref q_125, .null, .null, .null, .null, .null]))) (fun My30 y30 => ?_)
  refine pl_aload_n (pc := 137) dX2_init_2_137 rfl rfl ?_
  refine pj_new (pc := 138) (C1 := 102) (N1 := 112) ckJ2 q195 q196 q129 dX2_init_2_138 _ dfJ2 (by omega) (by omega) (fun q_138 hn_138 gq_138 => ?_)
  refine blk (n := 15) (y30.new hn_138) (fun My31 y31 => ?_)
  refine pj_dup (pc := 141) dX2_init_2_141 rfl ?_
  refine pl_iconst (pc := 142) (v := 2) dX2_init_2_142 (by rfl) ?_
  refine pl_callIWv (pc := 143) (As := [_]) (C1 := 1) (N1 := 2) (C2 := 101) (N2 := 110) mdJ2_init rfl q197 q198 q129 dX2_init_2_143 rfl rfl (Nat.le_of_ble_eq_true rfl) (k_J2_init (d := d - 1) (by omega) (y31.getq (j := 14) (q := q_138) (c := (.inr (2, [.int 0, .null, .int 0]))) (by omega) rfl rfl)) (by omega) (by omega) (by omega) (fun My32 qy32 => ?_)
  obtain ⟨e_143, he_143, hf_143, hm_143⟩ := qy32
  refine PJ.mem hm_143 ?_
  refine blk (n := 16) ((y31.new he_143).put (j := 14) (q := q_138) (by omega) rfl) (fun M9_143 y32 => ?_)
  refine pj_putfF (pc := 146) ckX2 27 q774 dX2_init_2_146 (by decide) rfl rfl rfl (y32.up (mset_s (e := .inr (22, [.int 0, .int (nI 500), .int (nI 200), .int 0, .int 0, .int 0, .int 0, .int 0, .int 0, .int 0, .int (-1), .int (-1), .ref q_29, .null, .null, .ref q_44, .ref q_52, .ref q_60, .ref q_68, .ref q_74, .ref q_85, .null, .ref q_97, .ref q_104, .ref q_111, .ref q_119, .ref q_125, .null, .null, .null, .null, .null])))) rfl rfl (Nat.le_of_ble_eq_true rfl) ?_
  refine blk (y32.bput hq0 (c := .inr (22, [.int 0, .int (nI 500), .int (nI 200), .int 0, .int 0, .int 0, .int 0, .int 0, .int 0, .int 0, .int (-1), .int (-1), .ref q_29, .null, .null, .ref q_44, .ref q_52, .ref q_60, .ref q_68, .ref q_74, .ref q_85, .null, .ref q_97, .ref q_104, .ref q_111, .ref q_119, .ref q_125, .ref q_138, .null, .null, .null, .null]))) (fun My33 y33 => ?_)
  refine pl_aload_n (pc := 149) dX2_init_2_149 rfl rfl ?_
  refine pj_new (pc := 150) (C1 := 100) (N1 := 107) ckJ2 q195 q196 q129 dX2_init_2_150 _ dfJ2 (by omega) (by omega) (fun q_150 hn_150 gq_150 => ?_)
  refine blk (n := 17) (y33.new hn_150) (fun My34 y34 => ?_)
  refine pj_dup (pc := 153) dX2_init_2_153 rfl ?_
  refine pl_iconst (pc := 154) (v := 2) dX2_init_2_154 (by rfl) ?_
  refine pl_callIWv (pc := 155) (As := [_]) (C1 := 1) (N1 := 2) (C2 := 99) (N2 := 105) mdJ2_init rfl q197 q198 q129 dX2_init_2_155 rfl rfl (Nat.le_of_ble_eq_true rfl) (k_J2_init (d := d - 1) (by omega) (y34.getq (j := 16) (q := q_150) (c := (.inr (2, [.int 0, .null, .int 0]))) (by omega) rfl rfl)) (by omega) (by omega) (by omega) (fun My35 qy35 => ?_)
  obtain ⟨e_155, he_155, hf_155, hm_155⟩ := qy35
  refine PJ.mem hm_155 ?_
  refine blk (n := 18) ((y34.new he_155).put (j := 16) (q := q_150) (by omega) rfl) (fun M9_155 y35 => ?_)
  refine pj_putfF (pc := 158) ckX2 28 q776 dX2_init_2_158 (by decide) rfl rfl rfl (y35.up (mset_s (e := .inr (22, [.int 0, .int (nI 500), .int (nI 200), .int 0, .int 0, .int 0, .int 0, .int 0, .int 0, .int 0, .int (-1), .int (-1), .ref q_29, .null, .null, .ref q_44, .ref q_52, .ref q_60, .ref q_68, .ref q_74, .ref q_85, .null, .ref q_97, .ref q_104, .ref q_111, .ref q_119, .ref q_125, .ref q_138, .null, .null, .null, .null])))) rfl rfl (Nat.le_of_ble_eq_true rfl) ?_
  refine blk (y35.bput hq0 (c := .inr (22, [.int 0, .int (nI 500), .int (nI 200), .int 0, .int 0, .int 0, .int 0, .int 0, .int 0, .int 0, .int (-1), .int (-1), .ref q_29, .null, .null, .ref q_44, .ref q_52, .ref q_60, .ref q_68, .ref q_74, .ref q_85, .null, .ref q_97, .ref q_104, .ref q_111, .ref q_119, .ref q_125, .ref q_138, .ref q_150, .null, .null, .null]))) (fun My36 y36 => ?_)
  refine pl_aload_n (pc := 161) dX2_init_2_161 rfl rfl ?_
  refine pj_new (pc := 162) (C1 := 98) (N1 := 102) ckJ2 q195 q196 q129 dX2_init_2_162 _ dfJ2 (by omega) (by omega) (fun q_162 hn_162 gq_162 => ?_)
  refine blk (n := 19) (y36.new hn_162) (fun My37 y37 => ?_)
  refine pj_dup (pc := 165) dX2_init_2_165 rfl ?_
  refine pl_iconst (pc := 166) (v := 2) dX2_init_2_166 (by rfl) ?_
  refine pl_callIWv (pc := 167) (As := [_]) (C1 := 1) (N1 := 2) (C2 := 97) (N2 := 100) mdJ2_init rfl q197 q198 q129 dX2_init_2_167 rfl rfl (Nat.le_of_ble_eq_true rfl) (k_J2_init (d := d - 1) (by omega) (y37.getq (j := 18) (q := q_162) (c := (.inr (2, [.int 0, .null, .int 0]))) (by omega) rfl rfl)) (by omega) (by omega) (by omega) (fun My38 qy38 => ?_)
  obtain ⟨e_167, he_167, hf_167, hm_167⟩ := qy38
  refine PJ.mem hm_167 ?_
  refine blk (n := 20) ((y37.new he_167).put (j := 18) (q := q_162) (by omega) rfl) (fun M9_167 y38 => ?_)
  refine pj_putfF (pc := 170) ckX2 29 q778 dX2_init_2_170 (by decide) rfl rfl rfl (y38.up (mset_s (e := .inr (22, [.int 0, .int (nI 500), .int (nI 200), .int 0, .int 0, .int 0, .int 0, .int 0, .int 0, .int 0, .int (-1), .int (-1), .ref q_29, .null, .null, .ref q_44, .ref q_52, .ref q_60, .ref q_68, .ref q_74, .ref q_85, .null, .ref q_97, .ref q_104, .ref q_111, .ref q_119, .ref q_125, .ref q_138, .ref q_150, .null, .null, .null])))) rfl rfl (Nat.le_of_ble_eq_true rfl) ?_
  refine blk (y38.bput hq0 (c := .inr (22, [.int 0, .int (nI 500), .int (nI 200), .int 0, .int 0, .int 0, .int 0, .int 0, .int 0, .int 0, .int (-1), .int (-1), .ref q_29, .null, .null, .ref q_44, .ref q_52, .ref q_60, .ref q_68, .ref q_74, .ref q_85, .null, .ref q_97, .ref q_104, .ref q_111, .ref q_119, .ref q_125, .ref q_138, .ref q_150, .ref q_162, .null, .null]))) (fun My39 y39 => ?_)
  refine pl_aload_n (pc := 173) dX2_init_2_173 rfl rfl ?_
  refine pj_new (pc := 174) (C1 := 96) (N1 := 96) ckX6 q581 q582 q150 dX2_init_2_174 _ dfX6 (by omega) (by omega) (fun q_174 hn_174 gq_174 => ?_)
  refine blk (n := 21) (y39.new hn_174) (fun My40 y40 => ?_)
  refine pj_dup (pc := 177) dX2_init_2_177 rfl ?_
  refine pl_callINv (pc := 178) (As := []) (C1 := 0) (N1 := 0) (C2 := 96) (N2 := 96) mdX6_init rfl q583 q584 q150 dX2_init_2_178 rfl rfl (Nat.le_of_ble_eq_true rfl) (k_X6_init (d := d - 1) (by omega)) (by omega) (by omega) (by omega) ?_
  refine pj_putfF (pc := 181) ckX2 30 q780 dX2_init_2_181 (by decide) rfl rfl rfl (y40.up (mset_s (e := .inr (22, [.int 0, .int (nI 500), .int (nI 200), .int 0, .int 0, .int 0, .int 0, .int 0, .int 0, .int 0, .int (-1), .int (-1), .ref q_29, .null, .null, .ref q_44, .ref q_52, .ref q_60, .ref q_68, .ref q_74, .ref q_85, .null, .ref q_97, .ref q_104, .ref q_111, .ref q_119, .ref q_125, .ref q_138, .ref q_150, .ref q_162, .null, .null])))) rfl rfl (Nat.le_of_ble_eq_true rfl) ?_
  refine blk (y40.bput hq0 (c := .inr (22, [.int 0, .int (nI 500), .int (nI 200), .int 0, .int 0, .int 0, .int 0, .int 0, .int 0, .int 0, .int (-1), .int (-1), .ref q_29, .null, .null, .ref q_44, .ref q_52, .ref q_60, .ref q_68, .ref q_74, .ref q_85, .null, .ref q_97, .ref q_104, .ref q_111, .ref q_119, .ref q_125, .ref q_138, .ref q_150, .ref q_162, .ref q_174, .null]))) (fun My41 y41 => ?_)
  refine pl_aload_n (pc := 184) dX2_init_2_184 rfl rfl ?_
  refine pl_aload_n (pc := 185) dX2_init_2_185 rfl rfl ?_
  refine pj_getf (pc := 186) ckX2 13 q749 dX2_init_2_186 (by decide) (y41.up ((mset_n hne).trans h0)) rfl ?_
  refine pj_putfF (pc := 189) ckX2 13 q749 dX2_init_2_189 (by decide) rfl rfl rfl (y41.up (mset_s (e := .inr (22, [.int 0, .int (nI 500), .int (nI 200), .int 0, .int 0, .int 0, .int 0, .int 0, .int 0, .int 0, .int (-1), .int (-1), .ref q_29, .null, .null, .ref q_44, .ref q_52, .ref q_60, .ref q_68, .ref q_74, .ref q_85, .null, .ref q_97, .ref q_104, .ref q_111, .ref q_119, .ref q_125, .ref q_138, .ref q_150, .ref q_162, .ref q_174, .null])))) rfl rfl (Nat.le_of_ble_eq_true rfl) ?_
  refine blk (y41.bput hq0 (c := .inr (22, [.int 0, .int (nI 500), .int (nI 200), .int 0, .int 0, .int 0, .int 0, .int 0, .int 0, .int 0, .int (-1), .int (-1), .ref q_29, .ref (p0 13), .null, .ref q_44, .ref q_52, .ref q_60, .ref q_68, .ref q_74, .ref q_85, .null, .ref q_97, .ref q_104, .ref q_111, .ref q_119, .ref q_125, .ref q_138, .ref q_150, .ref q_162, .ref q_174, .null]))) (fun My42 y42 => ?_)
  refine pl_aload_n (pc := 192) dX2_init_2_192 rfl rfl ?_
  refine pl_aload_n (pc := 193) dX2_init_2_193 rfl rfl ?_
  refine pj_getf (pc := 194) ckX2 14 q751 dX2_init_2_194 (by decide) (y42.up ((mset_n hne).trans h0)) rfl ?_
  refine pj_putfF (pc := 197) ckX2 14 q751 dX2_init_2_197 (by decide) rfl rfl rfl (y42.up (mset_s (e := .inr (22, [.int 0, .int (nI 500), .int (nI 200), .int 0, .int 0, .int 0, .int 0, .int 0, .int 0, .int 0, .int (-1), .int (-1), .ref q_29, .ref (p0 13), .null, .ref q_44, .ref q_52, .ref q_60, .ref q_68, .ref q_74, .ref q_85, .null, .ref q_97, .ref q_104, .ref q_111, .ref q_119, .ref q_125, .ref q_138, .ref q_150, .ref q_162, .ref q_174, .null])))) rfl rfl (Nat.le_of_ble_eq_true rfl) ?_
  refine blk (y42.bput hq0 (c := .inr (22, [.int 0, .int (nI 500), .int (nI 200), .int 0, .int 0, .int 0, .int 0, .int 0, .int 0, .int 0, .int (-1), .int (-1), .ref q_29, .ref (p0 13), .ref (p0 14), .ref q_44, .ref q_52, .ref q_60, .ref q_68, .ref q_74, .ref q_85, .null, .ref q_97, .ref q_104, .ref q_111, .ref q_119, .ref q_125, .ref q_138, .ref q_150, .ref q_162, .ref q_174, .null]))) (fun My43 y43 => ?_)
  refine pl_aload_n (pc := 200) dX2_init_2_200 rfl rfl ?_
  refine pl_aload_n (pc := 201) dX2_init_2_201 rfl rfl ?_
  refine pj_getf (pc := 202) ckX2 21 q764 dX2_init_2_202 (by decide) (y43.up ((mset_n hne).trans h0)) rfl ?_
  refine pj_putfF (pc := 205) ckX2 21 q764 dX2_init_2_205 (by decide) rfl rfl rfl (y43.up (mset_s (e := .inr (22, [.int 0, .int (nI 500), .int (nI 200), .int 0, .int 0, .int 0, .int 0, .int 0, .int 0, .int 0, .int (-1), .int (-1), .ref q_29, .ref (p0 13), .ref (p0 14), .ref q_44, .ref q_52, .ref q_60, .ref q_68, .ref q_74, .ref q_85, .null, .ref q_97, .ref q_104, .ref q_111, .ref q_119, .ref q_125, .ref q_138, .ref q_150, .ref q_162, .ref q_174, .null])))) rfl rfl (Nat.le_of_ble_eq_true rfl) ?_
  refine blk (y43.bput hq0 (c := .inr (22, [.int 0, .int (nI 500), .int (nI 200), .int 0, .int 0, .int 0, .int 0, .int 0, .int 0, .int 0, .int (-1), .int (-1), .ref q_29, .ref (p0 13), .ref (p0 14), .ref q_44, .ref q_52, .ref q_60, .ref q_68, .ref q_74, .ref q_85, .ref (p0 21), .ref q_97, .ref q_104, .ref q_111, .ref q_119, .ref q_125, .ref q_138, .ref q_150, .ref q_162, .ref q_174, .null]))) (fun My44 y44 => ?_)
  refine pl_aload_n (pc := 208) dX2_init_2_208 rfl rfl ?_
  refine pj_null (pc := 209) dX2_init_2_209 ?_
  refine pj_putfF (pc := 210) ckX2 31 q781 dX2_init_2_210 (by decide) rfl rfl rfl (y44.up (mset_s (e := .inr (22, [.int 0, .int (nI 500), .int (nI 200), .int 0, .int 0, .int 0, .int 0, .int 0, .int 0, .int 0, .int (-1), .int (-1), .ref q_29, .ref (p0 13), .ref (p0 14), .ref q_44, .ref q_52, .ref q_60, .ref q_68, .ref q_74, .ref q_85, .ref (p0 21), .ref q_97, .ref q_104, .ref q_111, .ref q_119, .ref q_125, .ref q_138, .ref q_150, .ref q_162, .ref q_174, .null])))) rfl rfl (Nat.le_of_ble_eq_true rfl) ?_
  refine blk (y44.bput hq0 (c := .inr (22, [.int 0, .int (nI 500), .int (nI 200), .int 0, .int 0, .int 0, .int 0, .int 0, .int 0, .int 0, .int (-1), .int (-1), .ref q_29, .ref (p0 13), .ref (p0 14), .ref q_44, .ref q_52, .ref q_60, .ref q_68, .ref q_74, .ref q_85, .ref (p0 21), .ref q_97, .ref q_104, .ref q_111, .ref q_119, .ref q_125, .ref q_138, .ref q_150, .ref q_162, .ref q_174, .null]))) (fun My45 y45 => ?_)
  refine pl_iconst (pc := 213) (v := 0) dX2_init_2_213 (by rfl) ?_
  refine pj_istore_n (pc := 214) (lv' := [(2, _), (0, _), (1, _)]) dX2_init_2_214 rfl (by decide) rfl ?_
  refine PJ.sub [0, 1] rfl ?_
  refine blg y45 (fun M_b AD hAD hb => ?_)
  have a_0 : q_29 = AD 0 := ((hAD 0 (by decide)).trans rfl).symm
  have a_1 : e_35 = AD 1 := ((hAD 1 (by decide)).trans rfl).symm
  have a_2 : q_44 = AD 2 := ((hAD 2 (by decide)).trans rfl).symm
  have a_3 : q_52 = AD 3 := ((hAD 3 (by decide)).trans rfl).symm
  have a_4 : q_60 = AD 4 := ((hAD 4 (by decide)).trans rfl).symm
  have a_5 : q_68 = AD 5 := ((hAD 5 (by decide)).trans rfl).symm
  have a_6 : q_74 = AD 6 := ((hAD 6 (by decide)).trans rfl).symm
  have a_7 : q_85 = AD 7 := ((hAD 7 (by decide)).trans rfl).symm
  have a_8 : q_97 = AD 8 := ((hAD 8 (by decide)).trans rfl).symm
  have a_9 : q_104 = AD 9 := ((hAD 9 (by decide)).trans rfl).symm
  have a_10 : q_111 = AD 10 := ((hAD 10 (by decide)).trans rfl).symm
  have a_11 : q_119 = AD 11 := ((hAD 11 (by decide)).trans rfl).symm
  have a_12 : q_125 = AD 12 := ((hAD 12 (by decide)).trans rfl).symm
  have a_13 : e_131 = AD 13 := ((hAD 13 (by decide)).trans rfl).symm
  have a_14 : q_138 = AD 14 := ((hAD 14 (by decide)).trans rfl).symm
  have a_15 : e_143 = AD 15 := ((hAD 15 (by decide)).trans rfl).symm
  have a_16 : q_150 = AD 16 := ((hAD 16 (by decide)).trans rfl).symm
  have a_17 : e_155 = AD 17 := ((hAD 17 (by decide)).trans rfl).symm
  have a_18 : q_162 = AD 18 := ((hAD 18 (by decide)).trans rfl).symm
  have a_19 : e_167 = AD 19 := ((hAD 19 (by decide)).trans rfl).symm
  have a_20 : q_174 = AD 20 := ((hAD 20 (by decide)).trans rfl).symm
  subst a_0
  subst a_1
  subst a_2
  subst a_3
  subst a_4
  subst a_5
  subst a_6
  subst a_7
  subst a_8
  subst a_9
  subst a_10
  subst a_11
  subst a_12
  subst a_13
  subst a_14
  subst a_15
  subst a_16
  subst a_17
  subst a_18
  subst a_19
  subst a_20
  have hb0 : Bl (mset μ q (.inr (22, [.int 0, .int (nI 500), .int (nI 200), .int 0, .int 0, .int 0, .int 0, .int 0, .int 0, .int 0, .int (-1), .int (-1), .ref (AD 0), .ref (p0 13), .ref (p0 14), .ref (AD 2), .ref (AD 3), .ref (AD 4), .ref (AD 5), .ref (AD 6), .ref (AD 7), .ref (p0 21), .ref (AD 8), .ref (AD 9), .ref (AD 10), .ref (AD 11), .ref (AD 12), .ref (AD 14), .ref (AD 16), .ref (AD 18), .ref (AD 20), .null]))) (21 + 0) (adL 21 AD (fun _ => 0)) (ceT g AD (fun _ => 0) 0 0) M_b := hb.cg (fun j hj => if_pos hj) (fun j hj => by
    rcases (by omega : j = 0 ∨ j = 1 ∨ j = 2 ∨ j = 3 ∨ j = 4 ∨ j = 5 ∨ j = 6 ∨ j = 7 ∨ j = 8 ∨ j = 9 ∨ j = 10 ∨ j = 11 ∨ j = 12 ∨ j = 13 ∨ j = 14 ∨ j = 15 ∨ j = 16 ∨ j = 17 ∨ j = 18 ∨ j = 19 ∨ j = 20) with rfl | rfl | rfl | rfl | rfl | rfl | rfl | rfl | rfl | rfl | rfl | rfl | rfl | rfl | rfl | rfl | rfl | rfl | rfl | rfl | rfl
    all_goals (first | rfl | (simp only [Nat.not_lt_zero, if_false, ceT]; rfl)))
  refine PJ.widen (C1 := 96 - 0) (N1 := 96 - 0) (by omega) (by omega) ?_
  refine ind_dn (n := 96) (P := fun i => ∀ (sl : Nat → Nat) (M9 : Mem), Bl (mset μ q (.inr (22, [.int 0, .int (nI 500), .int (nI 200), .int 0, .int 0, .int 0, .int 0, .int 0, .int 0, .int 0, .int (-1), .int (-1), .ref (AD 0), .ref (p0 13), .ref (p0 14), .ref (AD 2), .ref (AD 3), .ref (AD 4), .ref (AD 5), .ref (AD 6), .ref (AD 7), .ref (p0 21), .ref (AD 8), .ref (AD 9), .ref (AD 10), .ref (AD 11), .ref (AD 12), .ref (AD 14), .ref (AD 16), .ref (AD 18), .ref (AD 20), .null]))) (21 + i) (adL 21 AD sl) (ceT g AD sl i 0) M9 → PJ g _ _ _ _ d (96 - i) (96 - i) 215 [(2, .int (nI i)), (0, .ref q)] [] M9 _) (fun i hi ih sl M9 hl => ?_) 0 (Nat.zero_le _) (fun _ => 0) _ hb0
  refine pl_iload_n (pc := 215) dX2_init_2_215 rfl rfl ?_
  refine pl_bipush (pc := 216) (v := 96) dX2_init_2_216 (by rfl) ?_
  refine pl_icmp_ge (pc := 218) (tgt := 242) dX2_init_2_218 (by decide) (by omega) (by omega) (fun c218 => ?_) (fun c218 => ?_)
  · refine pj_vret (pc := 242) dX2_init_2_242 rfl ?_
    have ei : i = 96 := by omega
    subst ei
    exact ⟨rfl, AD, sl, hl.cg (fun _ _ => rfl) (fun j hj => by unfold ceT; split <;> rfl)⟩
  · refine pl_aload_n (pc := 221) dX2_init_2_221 rfl rfl ?_
    refine pj_getf (pc := 222) ckX2 12 q747 dX2_init_2_222 (by decide) (hl.up (mset_s (e := .inr (22, [.int 0, .int (nI 500), .int (nI 200), .int 0, .int 0, .int 0, .int 0, .int 0, .int 0, .int 0, .int (-1), .int (-1), .ref (AD 0), .ref (p0 13), .ref (p0 14), .ref (AD 2), .ref (AD 3), .ref (AD 4), .ref (AD 5), .ref (AD 6), .ref (AD 7), .ref (p0 21), .ref (AD 8), .ref (AD 9), .ref (AD 10), .ref (AD 11), .ref (AD 12), .ref (AD 14), .ref (AD 16), .ref (AD 18), .ref (AD 20), .null])))) rfl ?_
    refine pj_new (pc := 225) (C1 := (95 - i)) (N1 := (95 - i)) ckX8 q620 q621 q152 dX2_init_2_225 _ dfX8 (by omega) (by omega) (fun q_225 hn_225 gq_225 => ?_)
    refine blk (n := 21 + i + 1) (hl.new hn_225) (fun M_n hn => ?_)
    refine pj_dup (pc := 228) dX2_init_2_228 rfl ?_
    refine pl_callINv (pc := 229) (As := []) (C1 := 0) (N1 := 0) (C2 := (95 - i)) (N2 := (95 - i)) mdX8_init rfl q622 q623 q152 dX2_init_2_229 rfl rfl (Nat.le_of_ble_eq_true rfl) (k_X8_init (d := d - 1) (by omega)) (by omega) (by omega) (by omega) ?_
    have hsl : M_n q_225 = some (.inr (35, [.null])) := hn.getq (j := 21 + i) (by omega) uN_eq uN_eq
    have l9 : LstC g M_n (AD 0) (AD 1) i 96 (fun j => if j < i then some (sl j) else none) (nI i) := ⟨hn.getq (j := 0) (by omega) ((uN_ne (by omega)).trans rfl) ((uN_ne (by omega)).trans rfl), hn.getq (j := 1) (by omega) ((uN_ne (by omega)).trans rfl) ((uN_ne (by omega)).trans rfl), by omega, by decide⟩
    have hqa : q_225 ≠ AD 0 := hn.ne (i := 21 + i) (j := 0) (by omega) (by omega) uN_eq ((uN_ne (by omega)).trans rfl) (by omega)
    refine pl_callVd (pc := 232) (As := [_]) (C1 := 0) (N1 := 0) (C2 := (95 - i)) (N2 := (95 - i)) ckJ2 mdJ2_add rfl q632 q633 q634 q129 dX2_init_2_232 rfl rfl (Nat.le_of_ble_eq_true rfl) l9.1 (k_J2_add (d := d - 1) (by omega) l9 hsl rfl q3250 (by omega) hqa) (by omega) (by omega) (by omega) ?_
    refine blk ((hn.put (j := 0) (q := AD 0) (by omega) ((uN_ne (by omega)).trans rfl)).put (j := 1) (q := AD 1) (by omega) ((uN_ne (by omega)).trans rfl)) (fun M_a ha => ?_)
    refine pj_pop (pc := 235) dX2_init_2_235 rfl ?_
    refine pl_iinc1 (pc := 236) (lv' := [(2, _), (0, _)]) dX2_init_2_236 rfl rfl (by decide) rfl ?_
    refine pj_goto (pc := 239) (tgt := 215) dX2_init_2_239 (by decide) ?_
    refine PJ.widen (C1 := 96 - (i + 1)) (N1 := 96 - (i + 1)) (by omega) (by omega) ?_
    refine ih (by omega) (uN sl i q_225) _ (ha.cg (adL_up (m := 21)) (fun j hj => ?_))
    by_cases hj2 : j < 21
    · rcases (by omega : j = 0 ∨ j = 1 ∨ j = 2 ∨ j = 3 ∨ j = 4 ∨ j = 5 ∨ j = 6 ∨ j = 7 ∨ j = 8 ∨ j = 9 ∨ j = 10 ∨ j = 11 ∨ j = 12 ∨ j = 13 ∨ j = 14 ∨ j = 15 ∨ j = 16 ∨ j = 17 ∨ j = 18 ∨ j = 19 ∨ j = 20) with rfl | rfl | rfl | rfl | rfl | rfl | rfl | rfl | rfl | rfl | rfl | rfl | rfl | rfl | rfl | rfl | rfl | rfl | rfl | rfl | rfl
      · (repeat (first | rw [uN_eq] | rw [uN_ne (by omega)]))
        show _ = lstO (nI i + nI 1) (AD 1) (i + 1)
        unfold lstO
        rw [nI_add]
        rfl
      · (repeat (first | rw [uN_eq] | rw [uN_ne (by omega)]))
        exact congrArg (lstA g 96) up_lt.symm
      · (repeat (first | rw [uN_eq] | rw [uN_ne (by omega)]))
        rfl
      · (repeat (first | rw [uN_eq] | rw [uN_ne (by omega)]))
        rfl
      · (repeat (first | rw [uN_eq] | rw [uN_ne (by omega)]))
        rfl
      · (repeat (first | rw [uN_eq] | rw [uN_ne (by omega)]))
        rfl
      · (repeat (first | rw [uN_eq] | rw [uN_ne (by omega)]))
        rfl
      · (repeat (first | rw [uN_eq] | rw [uN_ne (by omega)]))
        rfl
      · (repeat (first | rw [uN_eq] | rw [uN_ne (by omega)]))
        rfl
      · (repeat (first | rw [uN_eq] | rw [uN_ne (by omega)]))
        rfl
      · (repeat (first | rw [uN_eq] | rw [uN_ne (by omega)]))
        rfl
      · (repeat (first | rw [uN_eq] | rw [uN_ne (by omega)]))
        rfl
      · (repeat (first | rw [uN_eq] | rw [uN_ne (by omega)]))
        rfl
      · (repeat (first | rw [uN_eq] | rw [uN_ne (by omega)]))
        rfl
      · (repeat (first | rw [uN_eq] | rw [uN_ne (by omega)]))
        rfl
      · (repeat (first | rw [uN_eq] | rw [uN_ne (by omega)]))
        rfl
      · (repeat (first | rw [uN_eq] | rw [uN_ne (by omega)]))
        rfl
      · (repeat (first | rw [uN_eq] | rw [uN_ne (by omega)]))
        rfl
      · (repeat (first | rw [uN_eq] | rw [uN_ne (by omega)]))
        rfl
      · (repeat (first | rw [uN_eq] | rw [uN_ne (by omega)]))
        rfl
      · (repeat (first | rw [uN_eq] | rw [uN_ne (by omega)]))
        rfl
    · by_cases hj3 : j = 21 + i
      · subst hj3
        rw [cT_s]
        (repeat (first | rw [uN_eq] | rw [uN_ne (by omega)]))
        first | done | rfl
      · obtain ⟨m, rfl⟩ := Nat.le.dest (Nat.not_lt.mp hj2)
        rw [cT_s]
        (repeat (first | rw [uN_eq] | rw [uN_ne (by omega)]))
        rw [cT_s]
