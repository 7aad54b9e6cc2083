set_option maxRecDepth 100000
/-- an ArrayList's two cells: its array e of m places, n of them in use, f what stands there -/
def LstC (g : GP) (μ : Mem) (a e n m : Nat) (f : Nat → Option Nat) (mc : Int32) : Prop := μ a = some (.inr (2, [.int mc, .ref e, .int (nI n)])) ∧ μ e = some (.inl (gA g 5, m, .inr (.inr (.inr (.inr f))))) ∧ n ≤ m ∧ m < 100000
set_option maxHeartbeats 600000 in
theorem k_J19_checkIndex {g : GP} {μ : Mem} {d : Nat} (hd : 2 ≤ d) {j n : Nat} (hj : j < n) (hn : n < 2147483648) : PM g yJ19_checkIndex (ws_ yJ19_checkIndex cJ19_checkIndex 2 (some .int)) d 0 0 [.int (nI j), .int (nI n)] μ (rQ (some (.int (nI j))) μ) := by
  refine PM.of (by decide +kernel) (Nat.le_of_ble_eq_true rfl) ?_
  refine PJ.ok (fun G => ?_)
  show PJ g _ _ _ _ d 0 0 0 [(0, .int (nI j)), (1, .int (nI n))] [] _ _
  refine pl_iload_n (pc := 0) dJ19_checkIndex_0 rfl rfl ?_
  refine pl_iload_n (pc := 1) dJ19_checkIndex_1 rfl rfl ?_
  refine pj_null (pc := 2) dJ19_checkIndex_2 ?_
  refine pl_callSd (pc := 3) (As := [_, _, _]) (C2 := 0) (N2 := 0) mdJ15_checkIndex q714 q715 q143 dJ19_checkIndex_3 rfl rfl (Nat.le_of_ble_eq_true rfl) (k_J15_checkIndex_n (d := d - 1) (z := 0) (by omega) hj hn) (by omega) (by decide) (by decide) ?_
  refine pj_iret (pc := 6) dJ19_checkIndex_6 rfl ?_
  exact ⟨rfl, rfl⟩
set_option maxHeartbeats 600000 in
theorem k_J2_size {g : GP} {μ : Mem} {d : Nat} (hd : 1 ≤ d) {a e n m : Nat} {f : Nat → Option Nat} {mc : Int32} (hl : LstC g μ a e n m f mc) : PM g yJ2_size (ws_ yJ2_size cJ2_size 1 (some .int)) d 0 0 [.ref a] μ (rQ (some (.int (nI n))) μ) := by
  refine PM.of (by decide +kernel) (Nat.le_of_ble_eq_true rfl) ?_
  refine PJ.ok (fun G => ?_)
  show PJ g _ _ _ _ d 0 0 0 [(0, .ref a)] [] _ _
  obtain ⟨h1, h2, h3, h4⟩ := id hl
  refine pl_aload_n (pc := 0) dJ2_size_0 rfl rfl ?_
  refine pj_getf (pc := 1) ckJ2 2 q551 dJ2_size_1 (by decide) hl.1 rfl ?_
  refine pj_iret (pc := 4) dJ2_size_4 rfl ?_
  exact ⟨rfl, rfl⟩
set_option maxHeartbeats 600000 in
theorem k_J2_isEmpty {g : GP} {μ : Mem} {d : Nat} (hd : 1 ≤ d) {a e n m : Nat} {f : Nat → Option Nat} {mc : Int32} (hl : LstC g μ a e n m f mc) : PM g yJ2_isEmpty (ws_ yJ2_isEmpty cJ2_isEmpty 1 (some .boolean)) d 0 0 [.ref a] μ (rQ (some (.int (bI (decide (n = 0))))) μ) := by
  refine PM.of (by decide +kernel) (Nat.le_of_ble_eq_true rfl) ?_
  refine PJ.ok (fun G => ?_)
  show PJ g _ _ _ _ d 0 0 0 [(0, .ref a)] [] _ _
  obtain ⟨h1, h2, h3, h4⟩ := id hl
  refine pl_aload_n (pc := 0) dJ2_isEmpty_0 rfl rfl ?_
  refine pj_getf (pc := 1) ckJ2 2 q551 dJ2_isEmpty_1 (by decide) hl.1 rfl ?_
  refine pl_if_neN (pc := 4) (tgt := 11) dJ2_isEmpty_4 (by decide) (by omega) (fun c4 => ?_) (fun c4 => ?_)
  · refine pl_iconst (pc := 11) (v := 0) dJ2_isEmpty_11 (by rfl) ?_
    refine pj_zret (pc := 12) .boolean dJ2_isEmpty_12 rfl (by rfl) ?_
    refine ⟨?_, rfl⟩
    have e9 : decide (n = 0) = false := by simp; omega
    rw [e9]
    rfl
  · refine pl_iconst (pc := 7) (v := 1) dJ2_isEmpty_7 (by rfl) ?_
    refine pj_goto (pc := 8) (tgt := 12) dJ2_isEmpty_8 (by decide) ?_
    refine pj_zret (pc := 12) .boolean dJ2_isEmpty_12 rfl (by rfl) ?_
    refine ⟨?_, rfl⟩
    have e9 : decide (n = 0) = true := by simp; omega
    rw [e9]
    rfl
set_option maxHeartbeats 600000 in
theorem k_J2_elementData {g : GP} {μ : Mem} {d : Nat} (hd : 1 ≤ d) {a e n m : Nat} {f : Nat → Option Nat} {mc : Int32} (hl : LstC g μ a e n m f mc) {j p : Nat} (hj : j < n) (hp : f j = some p) : PM g yJ2_elementData (ws_ yJ2_elementData cJ2_elementData 2 (some (.object "java/lang/Object"))) d 0 0 [.ref a, .int (nI j)] μ (rQ (some (.ref p)) μ) := by
  refine PM.of (by decide +kernel) (Nat.le_of_ble_eq_true rfl) ?_
  refine PJ.ok (fun G => ?_)
  show PJ g _ _ _ _ d 0 0 0 [(0, .ref a), (1, .int (nI j))] [] _ _
  obtain ⟨h1, h2, h3, h4⟩ := id hl
  refine pl_aload_n (pc := 0) dJ2_elementData_0 rfl rfl ?_
  refine pj_getf (pc := 1) ckJ2 1 q550 dJ2_elementData_1 (by decide) hl.1 rfl ?_
  refine pl_iload_n (pc := 4) dJ2_elementData_4 rfl rfl ?_
  refine pl_aldO (pc := 5) dJ2_elementData_5 hl.2.1 (by omega) (by omega) ?_
  rw [hp]
  refine pj_aret (pc := 6) dJ2_elementData_6 rfl (Or.inl ⟨_, rfl⟩) (Or.inr ⟨_, rfl⟩) ?_
  exact ⟨rfl, rfl⟩
set_option maxHeartbeats 600000 in
theorem k_J2_get {g : GP} {μ : Mem} {d : Nat} (hd : 3 ≤ d) {a e n m : Nat} {f : Nat → Option Nat} {mc : Int32} (hl : LstC g μ a e n m f mc) {j p : Nat} (hj : j < n) (hp : f j = some p) : PM g yJ2_get (ws_ yJ2_get cJ2_get 2 (some (.object "java/lang/Object"))) d 0 0 [.ref a, .int (nI j)] μ (rQ (some (.ref p)) μ) := by
  refine PM.of (by decide +kernel) (Nat.le_of_ble_eq_true rfl) ?_
  refine PJ.ok (fun G => ?_)
  show PJ g _ _ _ _ d 0 0 0 [(0, .ref a), (1, .int (nI j))] [] _ _
  obtain ⟨h1, h2, h3, h4⟩ := id hl
  refine pl_iload_n (pc := 0) dJ2_get_0 rfl rfl ?_
  refine pl_aload_n (pc := 1) dJ2_get_1 rfl rfl ?_
  refine pj_getf (pc := 2) ckJ2 2 q551 dJ2_get_2 (by decide) hl.1 rfl ?_
  refine pl_callSd (pc := 5) (As := [_, _]) (C2 := 0) (N2 := 0) mdJ19_checkIndex q711 q712 q153 dJ2_get_5 rfl rfl (Nat.le_of_ble_eq_true rfl) (k_J19_checkIndex (d := d - 1) (by omega) hj (by omega)) (by omega) (by decide) (by decide) ?_
  refine pj_pop (pc := 8) dJ2_get_8 rfl ?_
  refine pl_aload_n (pc := 9) dJ2_get_9 rfl rfl ?_
  refine pl_iload_n (pc := 10) dJ2_get_10 rfl rfl ?_
  refine pl_callVd (pc := 11) (As := [_]) (C2 := 0) (N2 := 0) ckJ2 mdJ2_elementData rfl q717 q718 q719 q129 dJ2_get_11 rfl rfl (Nat.le_of_ble_eq_true rfl) hl.1 (k_J2_elementData (d := d - 1) (by omega) hl hj hp) (by omega) (by decide) (by decide) ?_
  refine pj_aret (pc := 14) dJ2_get_14 rfl (Or.inl ⟨_, rfl⟩) (Or.inr ⟨_, rfl⟩) ?_
  exact ⟨rfl, rfl⟩
