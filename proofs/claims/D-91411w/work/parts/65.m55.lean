set_option maxRecDepth 100000
def lstO (mc : Int32) (e n : Nat) : va_E := .inr (2, [.int mc, .ref e, .int (nI n)])
def lstA (g : GP) (m : Nat) (f : Nat → Option Nat) : va_E := .inl (gA g 5, m, .inr (.inr (.inr (.inr f))))
theorem LstC.ne {g : GP} {μ : Mem} {a e n m : Nat} {f : Nat → Option Nat} {mc : Int32} (h : LstC g μ a e n m f mc) : a ≠ e := fun z => by
  obtain ⟨h1, h2, -⟩ := h
  rw [z, h2] at h1
  cases h1
theorem LstC.o {g : GP} {μ : Mem} {a e n m n1 : Nat} {f : Nat → Option Nat} {mc mc1 : Int32} (h : LstC g μ a e n m f mc) (hn : n1 ≤ m) : LstC g (mset μ a (lstO mc1 e n1)) a e n1 m f mc1 := ⟨mset_s, by rw [mset_n h.ne.symm]; exact h.2.1, hn, h.2.2.2⟩
theorem LstC.a {g : GP} {μ : Mem} {a e n m : Nat} {f f1 : Nat → Option Nat} {mc : Int32} (h : LstC g μ a e n m f mc) : LstC g (mset μ e (lstA g m f1)) a e n m f1 mc := ⟨by rw [mset_n h.ne]; exact h.1, mset_s, h.2.2⟩
theorem mset_c {μ : Mem} {a b : Nat} {x y : va_E} (h : a ≠ b) : mset (mset μ a x) b y = mset (mset μ b y) a x := by
  funext c
  unfold mset
  by_cases h1 : c = a
  · subst h1; rw [if_neg h, if_pos rfl, if_pos rfl]
  · rw [if_neg h1, if_neg h1]
theorem mset_m {μ : Mem} {a : Nat} {x y : va_E} : mset (mset μ a x) a y = mset μ a y := by
  funext c
  unfold mset
  by_cases h1 : c = a
  · rw [if_pos h1, if_pos h1]
  · rw [if_neg h1, if_neg h1, if_neg h1]
set_option maxHeartbeats 600000 in
theorem k_J2_add_2 {g : GP} {μ : Mem} {d : Nat} (hd : 1 ≤ d) {a e n m : Nat} {f : Nat → Option Nat} {mc : Int32} (hl : LstC g μ a e n m f mc) {p ci : Nat} {vs : List Value} {r : vw_C} (hv : μ p = some (.inr (ci, vs))) (hc : vwCl[ci]? = some r) (hca : Cond.castable r.1 "java/lang/Object" ∈ lw_tbl) (hnm : n < m) : PM g yJ2_add_2 (ws_ yJ2_add_2 cJ2_add_2 4 none) d 0 0 [.ref a, .ref p, .ref e, .int (nI n)] μ (rQ none (mset (mset μ a (lstO mc e (n + 1))) e (lstA g m (va_up f n (some p))))) := by
  refine PM.of (by decide +kernel) (Nat.le_of_ble_eq_true rfl) ?_
  refine PJ.ok (fun G => ?_)
  show PJ g _ _ _ _ d 0 0 0 [(0, .ref a), (1, .ref p), (2, .ref e), (3, .int (nI n))] [] _ _
  obtain ⟨h1, h2, h3, h4⟩ := id hl
  refine pl_iload_n (pc := 0) dJ2_add_2_0 rfl rfl ?_
  refine pl_aload_n (pc := 1) dJ2_add_2_1 rfl rfl ?_
  refine pj_alen (pc := 2) 5 dJ2_add_2_2 hl.2.1 rfl (v := nI m) rfl ?_
  refine pl_icmp_ne (pc := 3) (tgt := 11) dJ2_add_2_3 (by decide) (by omega) (by omega) (fun c3 => ?_) (fun c3 => ?_)
  · refine pl_aload_n (pc := 11) dJ2_add_2_11 rfl rfl ?_
    refine pl_iload_n (pc := 12) dJ2_add_2_12 rfl rfl ?_
    refine pl_aload_n (pc := 13) dJ2_add_2_13 rfl rfl ?_
    refine pl_astq (pc := 14) 5 dJ2_add_2_14 hl.2.1 rfl hv hc hca hnm (by omega) ?_
    have hl2 := hl.a (f1 := va_up f n (some p))
    refine pl_aload_n (pc := 15) dJ2_add_2_15 rfl rfl ?_
    refine pl_iload_n (pc := 16) dJ2_add_2_16 rfl rfl ?_
    refine pl_iconst (pc := 17) (v := 1) dJ2_add_2_17 (by rfl) ?_
    refine pl_iadd (pc := 18) dJ2_add_2_18 ?_
    refine pj_putf (pc := 19) ckJ2 2 q551 dJ2_add_2_19 (by decide) rfl hl2.1 rfl rfl (Nat.le_of_ble_eq_true rfl) ?_
    refine pj_vret (pc := 22) dJ2_add_2_22 rfl ?_
    exact ⟨rfl, (mset_c hl.ne).symm⟩
  · exact absurd c3 (by omega)
set_option maxHeartbeats 600000 in
theorem k_J2_add {g : GP} {μ : Mem} {d : Nat} (hd : 2 ≤ d) {a e n m : Nat} {f : Nat → Option Nat} {mc : Int32} (hl : LstC g μ a e n m f mc) {p ci : Nat} {vs : List Value} {r : vw_C} (hv : μ p = some (.inr (ci, vs))) (hc : vwCl[ci]? = some r) (hca : Cond.castable r.1 "java/lang/Object" ∈ lw_tbl) (hnm : n < m) (hpa : p ≠ a) : PM g yJ2_add (ws_ yJ2_add cJ2_add 2 (some .boolean)) d 0 0 [.ref a, .ref p] μ (rQ (some (.int (nI 1))) (mset (mset μ a (lstO (mc + nI 1) e (n + 1))) e (lstA g m (va_up f n (some p))))) := by
  refine PM.of (by decide +kernel) (Nat.le_of_ble_eq_true rfl) ?_
  refine PJ.ok (fun G => ?_)
  show PJ g _ _ _ _ d 0 0 0 [(0, .ref a), (1, .ref p)] [] _ _
  obtain ⟨h1, h2, h3, h4⟩ := id hl
  refine pl_aload_n (pc := 0) dJ2_add_0 rfl rfl ?_
  refine pj_dup (pc := 1) dJ2_add_1 rfl ?_
  refine pj_getfS (pc := 2) ckJ2 0 q553 q554 dJ2_add_2 (by decide) hl.1 rfl ?_
  refine pl_iconst (pc := 5) (v := 1) dJ2_add_5 (by rfl) ?_
  refine pj_iadd (pc := 6) dJ2_add_6 ?_
  refine pj_putfS (pc := 7) ckJ2 0 q553 q554 dJ2_add_7 (by decide) rfl hl.1 rfl rfl (Nat.le_of_ble_eq_true rfl) ?_
  have hl1 : LstC g (mset μ a (lstO (mc + nI 1) e n)) a e n m f (mc + nI 1) := hl.o h3
  have hv1 : (mset μ a (lstO (mc + nI 1) e n)) p = some (.inr (ci, vs)) := by rw [mset_n hpa]; exact hv
  refine pl_aload_n (pc := 10) dJ2_add_10 rfl rfl ?_
  refine pl_aload_n (pc := 11) dJ2_add_11 rfl rfl ?_
  refine pl_aload_n (pc := 12) dJ2_add_12 rfl rfl ?_
  refine pj_getf (pc := 13) ckJ2 1 q550 dJ2_add_13 (by decide) hl1.1 rfl ?_
  refine pl_aload_n (pc := 16) dJ2_add_16 rfl rfl ?_
  refine pj_getf (pc := 17) ckJ2 2 q551 dJ2_add_17 (by decide) hl1.1 rfl ?_
  refine pl_callVv (pc := 20) (As := [_, _, _]) (C2 := 0) (N2 := 0) ckJ2 mdJ2_add_2 rfl q636 q638 qs1 q129 dJ2_add_20 rfl rfl (Nat.le_of_ble_eq_true rfl) hl1.1 (k_J2_add_2 (d := d - 1) (by omega) hl1 hv1 hc hca hnm) (by omega) (by decide) (by decide) ?_
  refine pl_iconst (pc := 23) (v := 1) dJ2_add_23 (by rfl) ?_
  refine pj_zret (pc := 24) .boolean dJ2_add_24 rfl (by rfl) ?_
  exact ⟨rfl, by rw [mset_m]⟩
