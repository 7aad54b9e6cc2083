set_option maxRecDepth 100000
theorem PJ.ok {g : GP} {own : String} {cc : ByteArray} {nL : Nat} {i : MI} {d C N pc : Nat} {ls : List (Nat × Value)} {st : List Value} {μ : Mem} {Q : OC → Mem → Prop} (k : OkG g → PJ g own cc nL i d C N pc ls st μ Q) : PJ g own cc nL i d C N pc ls st μ Q := fun G => k G G
theorem PM.ok {g : GP} {y : MethodName} {ws : List Cond} {d C N : Nat} {av : List Value} {μ : Mem} {Q : OC → Mem → Prop} (k : OkG g → PM g y ws d C N av μ Q) : PM g y ws d C N av μ Q := fun G => k G G
def KN (bs : List Nat) : List Int32 := bs.map nI
theorem KN_len (bs : List Nat) : (KN bs).length = bs.length := List.length_map _
theorem KN_get {bs : List Nat} {j : Nat} (h : j < bs.length) : (KN bs).getD j 0 = nI (bs.getD j 0) := by
  simp [KN, List.getD, h]
theorem getD_in {bs : List Nat} {j : Nat} (h : j < bs.length) : bs.getD j 0 ∈ bs := by
  show (bs[j]?).getD 0 ∈ bs
  rw [List.getElem?_eq_getElem h]
  exact List.getElem_mem h
theorem and255 : ∀ n, n < 256 → (((nI n &&& nI 255).toUInt32 % 65536).toInt32) = nI n := by decide +kernel
theorem sioobe {g : GP} (G : OkG g) : va_Zq "jdk/internal/util/Preconditions" "SIOOBE_FORMATTER" "Ljava/util/function/BiFunction;" (gF g) (gS g) (gS g).heap := va_Zqof (G_tbl G q385) (G_tbl G (lw_all_tbl q143)) (nr_leaf G [7, 0, 0, 1] (by decide +kernel)) (gF_out g)
set_option maxHeartbeats 600000 in
theorem k_J9_coder {g : GP} {μ : Mem} {d : Nat} (hd : 1 ≤ d) {a v : Nat} {bs : List Nat} (sc : StrC g a v (KN bs)) : PM g yJ9_coder (ws_ yJ9_coder cJ9_coder 1 (some .byte)) d 0 0 [.ref a] μ (rQ (some (.int (nI 0))) μ) := by
  refine PM.of (by decide +kernel) (Nat.le_of_ble_eq_true rfl) ?_
  refine PJ.ok (fun G => ?_)
  show PJ g _ _ _ _ d 0 0 0 [(0, .ref a)] [] _ _
  refine pj_gets (pc := 0) (st_compact G) q406 dJ9_coder_0 ?_
  refine pj_if_eq (pc := 3) (tgt := 13) dJ9_coder_3 (by decide) (fun h => absurd h (by decide)) (fun _ => ?_)
  refine pl_aload_n (pc := 6) dJ9_coder_6 rfl rfl ?_
  refine pj_getfK (pc := 7) sc.2.1 q537 dJ9_coder_7 ?_
  refine pj_goto (pc := 10) (tgt := 14) dJ9_coder_10 (by decide) ?_
  refine pj_zret (pc := 14) .byte dJ9_coder_14 rfl (by rfl) ?_
  exact ⟨rfl, rfl⟩
set_option maxHeartbeats 600000 in
theorem k_J9_isLatin1 {g : GP} {μ : Mem} {d : Nat} (hd : 1 ≤ d) {a v : Nat} {bs : List Nat} (sc : StrC g a v (KN bs)) : PM g yJ9_isLatin1 (ws_ yJ9_isLatin1 cJ9_isLatin1 1 (some .boolean)) d 0 0 [.ref a] μ (rQ (some (.int (nI 1))) μ) := by
  refine PM.of (by decide +kernel) (Nat.le_of_ble_eq_true rfl) ?_
  refine PJ.ok (fun G => ?_)
  show PJ g _ _ _ _ d 0 0 0 [(0, .ref a)] [] _ _
  refine pj_gets (pc := 0) (st_compact G) q406 dJ9_isLatin1_0 ?_
  refine pj_if_eq (pc := 3) (tgt := 17) dJ9_isLatin1_3 (by decide) (fun h => absurd h (by decide)) (fun _ => ?_)
  refine pl_aload_n (pc := 6) dJ9_isLatin1_6 rfl rfl ?_
  refine pj_getfK (pc := 7) sc.2.1 q537 dJ9_isLatin1_7 ?_
  refine pj_if_ne (pc := 10) (tgt := 17) dJ9_isLatin1_10 (by decide) (fun h => absurd h (by decide)) (fun _ => ?_)
  refine pl_iconst (pc := 13) (v := 1) dJ9_isLatin1_13 (by rfl) ?_
  refine pj_goto (pc := 14) (tgt := 18) dJ9_isLatin1_14 (by decide) ?_
  refine pj_zret (pc := 18) .boolean dJ9_isLatin1_18 rfl (by rfl) ?_
  exact ⟨rfl, rfl⟩
set_option maxHeartbeats 600000 in
theorem k_J9_length {g : GP} {μ : Mem} {d : Nat} (hd : 2 ≤ d) {a v : Nat} {bs : List Nat} (sc : StrC g a v (KN bs)) : PM g yJ9_length (ws_ yJ9_length cJ9_length 1 (some .int)) d 0 0 [.ref a] μ (rQ (some (.int (nI bs.length))) μ) := by
  refine PM.of (by decide +kernel) (Nat.le_of_ble_eq_true rfl) ?_
  refine PJ.ok (fun G => ?_)
  show PJ g _ _ _ _ d 0 0 0 [(0, .ref a)] [] _ _
  have hl := sc.2.2.2.2
  rw [KN_len] at hl
  refine pl_aload_n (pc := 0) dJ9_length_0 rfl rfl ?_
  refine pj_getfK (pc := 1) sc.2.2.1 q536 dJ9_length_1 ?_
  refine pj_alenK (pc := 4) sc.2.2.2.1 dJ9_length_4 ?_
  refine pl_aload_n (pc := 5) dJ9_length_5 rfl rfl ?_
  refine pl_callKd (pc := 6) (As := []) (C2 := 0) (N2 := 0) mdJ9_coder rfl q402 q403 q404 q136 dJ9_length_6 rfl rfl (Nat.le_of_ble_eq_true rfl) sc.1 (k_J9_coder (d := d - 1) (by omega) sc) (by omega) (by decide) (by decide) ?_
  refine pj_ishr (pc := 9) dJ9_length_9 ?_
  refine pj_iret (pc := 10) dJ9_length_10 rfl ?_
  exact ⟨vIe (by rw [KN_len]; exact sc_shr0 hl) rfl, rfl⟩
set_option maxHeartbeats 600000 in
theorem k_J15_checkIndex_n {g : GP} {μ : Mem} {d : Nat} (hd : 1 ≤ d) {z : Nat} {j n : Nat} (hj : j < n) (hn : n < 2147483648) : PM g yJ15_checkIndex (ws_ yJ15_checkIndex cJ15_checkIndex 3 (some .int)) d 0 0 [.int (nI j), .int (nI n), .null] μ (rQ (some (.int (nI j))) μ) := by
  refine PM.of (by decide +kernel) (Nat.le_of_ble_eq_true rfl) ?_
  refine PJ.ok (fun G => ?_)
  show PJ g _ _ _ _ d 0 0 0 [(0, .int (nI j)), (1, .int (nI n)), (2, .null)] [] _ _
  refine pl_iload_n (pc := 0) dJ15_checkIndex_0 rfl rfl ?_
  refine pl_if_ltN (pc := 1) dJ15_checkIndex_1 ⟨9, by decide⟩ (by omega) ?_
  refine pl_iload_n (pc := 4) dJ15_checkIndex_4 rfl rfl ?_
  refine pl_iload_n (pc := 5) dJ15_checkIndex_5 rfl rfl ?_
  refine pl_icmp_lt (pc := 6) (tgt := 16) dJ15_checkIndex_6 (by decide) (by omega) (by omega) (fun c6 => ?_) (fun c6 => ?_)
  · refine pl_iload_n (pc := 16) dJ15_checkIndex_16 rfl rfl ?_
    refine pj_iret (pc := 17) dJ15_checkIndex_17 rfl ?_
    exact ⟨rfl, rfl⟩
  · exact absurd c6 (by omega)
set_option maxHeartbeats 600000 in
theorem k_J15_checkIndex_r {g : GP} {μ : Mem} {d : Nat} (hd : 1 ≤ d) {z : Nat} {j n : Nat} (hj : j < n) (hn : n < 2147483648) : PM g yJ15_checkIndex (ws_ yJ15_checkIndex cJ15_checkIndex 3 (some .int)) d 0 0 [.int (nI j), .int (nI n), .ref z] μ (rQ (some (.int (nI j))) μ) := by
  refine PM.of (by decide +kernel) (Nat.le_of_ble_eq_true rfl) ?_
  refine PJ.ok (fun G => ?_)
  show PJ g _ _ _ _ d 0 0 0 [(0, .int (nI j)), (1, .int (nI n)), (2, .ref z)] [] _ _
  refine pl_iload_n (pc := 0) dJ15_checkIndex_0 rfl rfl ?_
  refine pl_if_ltN (pc := 1) dJ15_checkIndex_1 ⟨9, by decide⟩ (by omega) ?_
  refine pl_iload_n (pc := 4) dJ15_checkIndex_4 rfl rfl ?_
  refine pl_iload_n (pc := 5) dJ15_checkIndex_5 rfl rfl ?_
  refine pl_icmp_lt (pc := 6) (tgt := 16) dJ15_checkIndex_6 (by decide) (by omega) (by omega) (fun c6 => ?_) (fun c6 => ?_)
  · refine pl_iload_n (pc := 16) dJ15_checkIndex_16 rfl rfl ?_
    refine pj_iret (pc := 17) dJ15_checkIndex_17 rfl ?_
    exact ⟨rfl, rfl⟩
  · exact absurd c6 (by omega)
set_option maxHeartbeats 600000 in
theorem k_J9_checkIndex {g : GP} {μ : Mem} {d : Nat} (hd : 2 ≤ d) {j n : Nat} (hj : j < n) (hn : n < 2147483648) : PM g yJ9_checkIndex (ws_ yJ9_checkIndex cJ9_checkIndex 2 none) d 0 0 [.int (nI j), .int (nI n)] μ (rQ none μ) := by
  refine PM.of (by decide +kernel) (Nat.le_of_ble_eq_true rfl) ?_
  refine PJ.ok (fun G => ?_)
  show PJ g _ _ _ _ d 0 0 0 [(0, .int (nI j)), (1, .int (nI n))] [] _ _
  rcases sioobe G with hz | ⟨z, hz⟩
  · refine pl_iload_n (pc := 0) dJ9_checkIndex_0 rfl rfl ?_
    refine pl_iload_n (pc := 1) dJ9_checkIndex_1 rfl rfl ?_
    refine pj_gets (pc := 2) hz q384 dJ9_checkIndex_2 ?_
    refine pl_callSd (pc := 5) (As := [_, _, _]) (C2 := 0) (N2 := 0) mdJ15_checkIndex q1926 q715 q143 dJ9_checkIndex_5 rfl rfl (Nat.le_of_ble_eq_true rfl) (k_J15_checkIndex_n (d := d - 1) (z := 0) (by omega) hj hn) (by omega) (by decide) (by decide) ?_
    refine pj_pop (pc := 8) dJ9_checkIndex_8 rfl ?_
    refine pj_vret (pc := 9) dJ9_checkIndex_9 rfl ?_
    exact ⟨rfl, rfl⟩
  · refine pl_iload_n (pc := 0) dJ9_checkIndex_0 rfl rfl ?_
    refine pl_iload_n (pc := 1) dJ9_checkIndex_1 rfl rfl ?_
    refine pj_gets (pc := 2) hz q384 dJ9_checkIndex_2 ?_
    refine pl_callSd (pc := 5) (As := [_, _, _]) (C2 := 0) (N2 := 0) mdJ15_checkIndex q1926 q715 q143 dJ9_checkIndex_5 rfl rfl (Nat.le_of_ble_eq_true rfl) (k_J15_checkIndex_r (d := d - 1) (z := z) (by omega) hj hn) (by omega) (by decide) (by decide) ?_
    refine pj_pop (pc := 8) dJ9_checkIndex_8 rfl ?_
    refine pj_vret (pc := 9) dJ9_checkIndex_9 rfl ?_
    exact ⟨rfl, rfl⟩
set_option maxHeartbeats 600000 in
theorem k_J16_charAt {g : GP} {μ : Mem} {d : Nat} (hd : 3 ≤ d) {v j : Nat} {bs : List Nat} (hT : va_T .byte v (KN bs).length (fun j => .int ((KN bs).getD j 0)) (gF g) (gS g) (gS g).heap) (hj : j < bs.length) (hl : bs.length < 2147483648) (hb : ∀ x ∈ bs, x < 256) : PM g yJ16_charAt (ws_ yJ16_charAt cJ16_charAt 2 (some .char)) d 0 0 [.ref v, .int (nI j)] μ (rQ (some (.int (nI (bs.getD j 0)))) μ) := by
  refine PM.of (by decide +kernel) (Nat.le_of_ble_eq_true rfl) ?_
  refine PJ.ok (fun G => ?_)
  show PJ g _ _ _ _ d 0 0 0 [(0, .ref v), (1, .int (nI j))] [] _ _
  refine pl_iload_n (pc := 0) dJ16_charAt_0 rfl rfl ?_
  refine pl_aload_n (pc := 1) dJ16_charAt_1 rfl rfl ?_
  refine pj_alenK (pc := 2) hT dJ16_charAt_2 ?_
  refine pl_callSv (pc := 3) (As := [_, _]) (C2 := 0) (N2 := 0) mdJ9_checkIndex q2104 q1924 q136 dJ16_charAt_3 rfl rfl (Nat.le_of_ble_eq_true rfl) (k_J9_checkIndex (d := d - 1) (by omega) (by rw [KN_len]; exact hj) (by rw [KN_len]; exact hl)) (by omega) (by decide) (by decide) ?_
  refine pl_aload_n (pc := 6) dJ16_charAt_6 rfl rfl ?_
  refine pl_iload_n (pc := 7) dJ16_charAt_7 rfl rfl ?_
  refine pj_baldK (pc := 8) hT (by rw [KN_len]; exact hj) (by rw [KN_len]; exact hl) rfl dJ16_charAt_8 ?_
  refine pl_sipush (pc := 9) (v := 255) dJ16_charAt_9 (by rfl) ?_
  refine pj_iand (pc := 12) dJ16_charAt_12 ?_
  have e8 : bs.getD j 0 < 256 := hb _ (getD_in hj)
  have e9 : (((KN bs).getD j 0 &&& nI 255).toUInt32 % 65536).toInt32 = nI (bs.getD j 0) := by rw [KN_get hj]; exact and255 _ e8
  refine pj_i2c (pc := 13) dJ16_charAt_13 rfl ?_
  refine pj_zret (pc := 14) .char dJ16_charAt_14 rfl (by rw [show _ = nI (bs.getD j 0) from e9]; exact (pk_charN (by omega)).1) ?_
  exact ⟨vIe e9 rfl, rfl⟩
set_option maxHeartbeats 600000 in
theorem k_J9_charAt {g : GP} {μ : Mem} {d : Nat} (hd : 4 ≤ d) {a v : Nat} {bs : List Nat} (sc : StrC g a v (KN bs)) {j : Nat} (hj : j < bs.length) (hb : ∀ x ∈ bs, x < 256) : PM g yJ9_charAt (ws_ yJ9_charAt cJ9_charAt 2 (some .char)) d 0 0 [.ref a, .int (nI j)] μ (rQ (some (.int (nI (bs.getD j 0)))) μ) := by
  refine PM.of (by decide +kernel) (Nat.le_of_ble_eq_true rfl) ?_
  refine PJ.ok (fun G => ?_)
  show PJ g _ _ _ _ d 0 0 0 [(0, .ref a), (1, .int (nI j))] [] _ _
  have hl := sc.2.2.2.2
  rw [KN_len] at hl
  have e8 : bs.getD j 0 < 256 := hb _ (getD_in hj)
  refine pl_aload_n (pc := 0) dJ9_charAt_0 rfl rfl ?_
  refine pl_callKd (pc := 1) (As := []) (C2 := 0) (N2 := 0) mdJ9_isLatin1 rfl q1935 q1936 q1937 q136 dJ9_charAt_1 rfl rfl (Nat.le_of_ble_eq_true rfl) sc.1 (k_J9_isLatin1 (d := d - 1) (by omega) sc) (by omega) (by decide) (by decide) ?_
  refine pj_if_eq (pc := 4) (tgt := 16) dJ9_charAt_4 (by decide) (fun h => absurd h (by decide)) (fun _ => ?_)
  refine pl_aload_n (pc := 7) dJ9_charAt_7 rfl rfl ?_
  refine pj_getfK (pc := 8) sc.2.2.1 q536 dJ9_charAt_8 ?_
  refine pl_iload_n (pc := 11) dJ9_charAt_11 rfl rfl ?_
  refine pl_callSd (pc := 12) (As := [_, _]) (C2 := 0) (N2 := 0) mdJ16_charAt q2101 q2102 q144 dJ9_charAt_12 rfl rfl (Nat.le_of_ble_eq_true rfl) (k_J16_charAt (d := d - 1) (by omega) sc.2.2.2.1 hj hl hb) (by omega) (by decide) (by decide) ?_
  refine pj_zret (pc := 15) .char dJ9_charAt_15 rfl (pk_charN (by omega)).1 ?_
  exact ⟨rfl, rfl⟩
