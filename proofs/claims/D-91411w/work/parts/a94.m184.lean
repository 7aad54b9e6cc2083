set_option maxRecDepth 100000
section KB
variable {g : GP} {own : String} {cc : ByteArray} {nL : Nat} {i : MI} {d C N pc : Nat} {ls : List (Nat × Value)} {rest : List Value} {μ : Mem} {Q : OC → Mem → Prop}
theorem pj_castB {a n index : Nat} {f : Nat → Int32} (hm : μ a = some (.inl (gA g 2, n, .inl f))) (hlink : Cond.classLink own index "[B" ∈ lw_all) (hdg : decode cc pc = .ok (.checkcast index, 3)) (kk : PJ g own cc nL i d C N (pc + 3) ls (.ref a :: rest) μ Q) : PJ g own cc nL i d C N pc ls (.ref a :: rest) μ Q := by
  intro G p e R s m args below meth c E9 H locs cells slots K K9 B arr hl9
  obtain ⟨ws, hP, hD, hmm⟩ := Sim.list B.2.2.2.2.1
  obtain ⟨q0, hq0⟩ := (hmm _ _).mp hm
  have hK := G.K E9.2.2.2.2.2.2.2.2.2.1
  exact va_castA E9.1 E9.2.1 E9.2.2.2.1 (E9.2.2.2.2.1 _ hlink) hP q0 hq0 (hK.2 2 _ rfl).2 hdg (kk G p e R s m args below meth c E9 H locs cells slots K K9 B arr hl9)
end KB
/-- a String's hash -/
def hsF (f : Nat → Int32) : Nat → Int32
  | 0 => nI 0
  | j + 1 => nI 31 * hsF f j + (f j &&& nI 255)
theorem hs_one : ∀ x : Int32, nI 31 * nI 0 + (x &&& nI 255) = x &&& nI 255 := fun x => by
  rw [show nI 31 * nI 0 = (0 : Int32) by decide, Int32.zero_add]
set_option maxHeartbeats 600000 in
theorem k_J12_signed {g : GP} {μ : Mem} {d : Nat} {w n : Nat} {f : Nat → Int32} (hd : 1 ≤ d) (hw : μ w = some (intX g 2 n f)) (hn : n < 1000) : PM g yJ12_signedHashCode (ws_ yJ12_signedHashCode cJ12_signedHashCode 6 (some .int)) d 0 0 [.int (nI 0), .ref w, .int (nI 0), .int (nI n)] μ (rQ (some (.int (hsF f n))) μ) := by
  refine PM.of (by decide +kernel) (Nat.le_of_ble_eq_true rfl) ?_
  refine PJ.ok (fun G => ?_)
  show PJ g _ _ _ _ d 0 0 0 [(0, .int (nI 0)), (1, .ref w), (2, .int (nI 0)), (3, .int (nI n))] [] _ _
  refine pl_iload_n (pc := 0) dJ12_signedHashCode_0 rfl rfl ?_
  refine pl_iload_n (pc := 1) dJ12_signedHashCode_1 rfl rfl ?_
  refine pl_iadd (pc := 2) dJ12_signedHashCode_2 ?_
  refine PJ.top (y := nI n) (by rw [Nat.zero_add]) ?_
  refine pj_istore (pc := 3) (lv' := [(4, _), (0, _), (1, _), (2, _), (3, _)]) dJ12_signedHashCode_3 (by decide) rfl ?_
  refine pl_iload_n (pc := 5) dJ12_signedHashCode_5 rfl rfl ?_
  refine pj_istore (pc := 6) (lv' := [(5, _), (4, _), (0, _), (1, _), (2, _), (3, _)]) dJ12_signedHashCode_6 (by decide) rfl ?_
  refine PJ.sub [0, 1, 3, 2] rfl ?_
  refine ind_dn (n := n) (P := fun i => PJ g _ _ _ _ d 0 0 8 [(5, .int (nI i)), (4, .int (nI n)), (1, .ref w), (0, .int (hsF f i))] [] μ _) (fun i hi ih => ?_) 0 (Nat.zero_le _)
  refine pl_iload (pc := 8) dJ12_signedHashCode_8 rfl ?_
  refine pl_iload (pc := 10) dJ12_signedHashCode_10 rfl ?_
  refine pl_icmp_ge (pc := 12) (tgt := 35) dJ12_signedHashCode_12 (by decide) (by omega) (by omega) (fun c12 => ?_) (fun c12 => ?_)
  · refine pl_iload_n (pc := 35) dJ12_signedHashCode_35 rfl rfl ?_
    refine pj_iret (pc := 36) dJ12_signedHashCode_36 rfl ?_
    have ei : i = n := by omega
    rw [ei]
    exact ⟨rfl, rfl⟩
  · refine pl_bipush (pc := 15) (v := 31) dJ12_signedHashCode_15 (by rfl) ?_
    refine pl_iload_n (pc := 17) dJ12_signedHashCode_17 rfl rfl ?_
    refine pj_imul (pc := 18) dJ12_signedHashCode_18 ?_
    refine pl_aload_n (pc := 19) dJ12_signedHashCode_19 rfl rfl ?_
    refine pl_iload (pc := 20) dJ12_signedHashCode_20 rfl ?_
    refine pl_bald (pc := 22) (n := n) dJ12_signedHashCode_22 hw (by omega) (by omega) ?_
    refine pl_sipush (pc := 23) (v := 255) dJ12_signedHashCode_23 (by rfl) ?_
    refine pj_iand (pc := 26) dJ12_signedHashCode_26 ?_
    refine pj_iadd (pc := 27) dJ12_signedHashCode_27 ?_
    refine pj_istore_n (pc := 28) (lv' := [(0, _), (5, _), (4, _), (1, _)]) dJ12_signedHashCode_28 rfl (by decide) rfl ?_
    refine pl_iinc1 (pc := 29) (lv' := [(5, _), (0, _), (4, _), (1, _)]) dJ12_signedHashCode_29 rfl rfl (by decide) rfl ?_
    refine pj_goto (pc := 32) (tgt := 8) dJ12_signedHashCode_32 (by decide) ?_
    refine PJ.sub [0, 2, 3, 1] rfl ?_
    exact ih (by omega)
set_option maxHeartbeats 600000 in
theorem k_J12_vec {g : GP} {μ : Mem} {d : Nat} {w n : Nat} {f : Nat → Int32} (hd : 2 ≤ d) (hw : μ w = some (intX g 2 n f)) (hn : n < 1000) : PM g yJ12_vectorizedHashCode (ws_ yJ12_vectorizedHashCode cJ12_vectorizedHashCode 5 (some .int)) d 0 0 [.ref w, .int (nI 0), .int (nI n), .int (nI 0), .int (nI 4)] μ (rQ (some (.int (hsF f n))) μ) := by
  refine PM.of (by decide +kernel) (Nat.le_of_ble_eq_true rfl) ?_
  refine PJ.ok (fun G => ?_)
  show PJ g _ _ _ _ d 0 0 0 [(0, .ref w), (1, .int (nI 0)), (2, .int (nI n)), (3, .int (nI 0)), (4, .int (nI 4))] [] _ _
  refine pl_iload (pc := 0) dJ12_vectorizedHashCode_0 rfl ?_
  refine pj_tableIn (pc := 2) (tgt := 44) dJ12_vectorizedHashCode_2 (by decide) (by decide) (by rfl) (by decide) ?_
  refine pl_iload_n (pc := 44) dJ12_vectorizedHashCode_44 rfl rfl ?_
  refine pl_aload_n (pc := 45) dJ12_vectorizedHashCode_45 rfl rfl ?_
  refine pj_castB (pc := 46) hw q1945 dJ12_vectorizedHashCode_46 ?_
  refine pl_iload_n (pc := 49) dJ12_vectorizedHashCode_49 rfl rfl ?_
  refine pl_iload_n (pc := 50) dJ12_vectorizedHashCode_50 rfl rfl ?_
  refine pl_callSd (pc := 51) (As := [_, _, _, _]) (C1 := 0) (N1 := 0) (C2 := 0) (N2 := 0) mdJ12_signedHashCode q1946 q1947 q139 dJ12_vectorizedHashCode_51 rfl rfl (Nat.le_of_ble_eq_true rfl) (k_J12_signed (d := d - 1) (by omega) hw hn) (by omega) (by omega) (by omega) ?_
  refine pj_goto (pc := 54) (tgt := 157) dJ12_vectorizedHashCode_54 (by decide) ?_
  refine pj_iret (pc := 157) dJ12_vectorizedHashCode_157 rfl ?_
  exact ⟨rfl, rfl⟩
set_option maxHeartbeats 600000 in
theorem k_J16_hash {g : GP} {μ : Mem} {d : Nat} {w n : Nat} {f : Nat → Int32} (hd : 3 ≤ d) (hw : μ w = some (intX g 2 n f)) (hn : n < 1000) : PM g yJ16_hashCode (ws_ yJ16_hashCode cJ16_hashCode 1 (some .int)) d 0 0 [.ref w] μ (rQ (some (.int (hsF f n))) μ) := by
  refine PM.of (by decide +kernel) (Nat.le_of_ble_eq_true rfl) ?_
  refine PJ.ok (fun G => ?_)
  show PJ g _ _ _ _ d 0 0 0 [(0, .ref w)] [] _ _
  refine pl_aload_n (pc := 0) dJ16_hashCode_0 rfl rfl ?_
  refine pj_alen (pc := 1) 2 dJ16_hashCode_1 hw rfl (v := nI n) rfl ?_
  refine pl_lsw (pc := 2) 0 (tgt := 28) dJ16_hashCode_2 (by rfl) (by rfl) (by decide) (fun c2_0 => ?_) (fun c2_0 => ?_)
  · refine pl_iconst (pc := 28) (v := 0) dJ16_hashCode_28 (by rfl) ?_
    refine pj_goto (pc := 29) (tgt := 51) dJ16_hashCode_29 (by decide) ?_
    refine pj_iret (pc := 51) dJ16_hashCode_51 rfl ?_
    have n0 : n = 0 := (nI_eq (by omega) (by omega)).mp c2_0
    subst n0
    exact ⟨rfl, rfl⟩
  refine pl_lsw (pc := 2) 1 (tgt := 32) dJ16_hashCode_2 (by rfl) (by rfl) (by decide) (fun c2_1 => ?_) (fun c2_1 => ?_)
  · refine pl_aload_n (pc := 32) dJ16_hashCode_32 rfl rfl ?_
    have n1 : n = 1 := (nI_eq (by omega) (by omega)).mp c2_1
    refine pl_iconst (pc := 33) (v := 0) dJ16_hashCode_33 (by rfl) ?_
    refine pl_bald (pc := 34) (n := n) dJ16_hashCode_34 hw (by omega) (by omega) ?_
    refine pl_sipush (pc := 35) (v := 255) dJ16_hashCode_35 (by rfl) ?_
    refine pj_iand (pc := 38) dJ16_hashCode_38 ?_
    refine pj_goto (pc := 39) (tgt := 51) dJ16_hashCode_39 (by decide) ?_
    refine pj_iret (pc := 51) dJ16_hashCode_51 rfl ?_
    rw [n1]
    exact ⟨vIe (hs_one (f 0)).symm rfl, rfl⟩
  refine pj_lookup (pc := 2) (tgt := 42) dJ16_hashCode_2 (by rfl) ((lv_osw c2_0 rfl).trans ((lv_osw c2_1 rfl).trans (show Op.lookupswitch.offset [] (40) _ = 40 from rfl))) (by decide) ?_
  refine pl_aload_n (pc := 42) dJ16_hashCode_42 rfl rfl ?_
  refine pl_iconst (pc := 43) (v := 0) dJ16_hashCode_43 (by rfl) ?_
  refine pl_aload_n (pc := 44) dJ16_hashCode_44 rfl rfl ?_
  refine pj_alen (pc := 45) 2 dJ16_hashCode_45 hw rfl (v := nI n) rfl ?_
  refine pl_iconst (pc := 46) (v := 0) dJ16_hashCode_46 (by rfl) ?_
  refine pl_iconst (pc := 47) (v := 4) dJ16_hashCode_47 (by rfl) ?_
  refine pl_callSd (pc := 48) (As := [_, _, _, _, _]) (C1 := 0) (N1 := 0) (C2 := 0) (N2 := 0) mdJ12_vectorizedHashCode q1942 q1943 q139 dJ16_hashCode_48 rfl rfl (Nat.le_of_ble_eq_true rfl) (k_J12_vec (d := d - 1) (by omega) hw hn) (by omega) (by omega) (by omega) ?_
  refine pj_iret (pc := 51) dJ16_hashCode_51 rfl ?_
  exact ⟨rfl, rfl⟩
set_option maxHeartbeats 600000 in
theorem k_J9_hash_m {g : GP} {μ : Mem} {d : Nat} {q w n : Nat} {f : Nat → Int32} (hd : 4 ≤ d) (h : StM g q w n f 0 0 μ) (hn : n < 1000) : PM g yJ9_hashCode (ws_ yJ9_hashCode cJ9_hashCode 2 (some .int)) d 0 0 [.ref q] μ (WQ (some (.int (hsF f n))) (fun M => ∃ hh zz, StM g q w n f hh zz M ∧ ∀ x, x ≠ q → M x = μ x)) := by
  refine PM.of (by decide +kernel) (Nat.le_of_ble_eq_true rfl) ?_
  refine PJ.ok (fun G => ?_)
  show PJ g _ _ _ _ d 0 0 0 [(0, .ref q)] [] _ _
  have hwq : w ≠ q := fun z => by have z2 := h.2; rw [z, h.1] at z2; cases z2
  refine pl_aload_n (pc := 0) dJ9_hashCode_0 rfl rfl ?_
  refine pj_getf (pc := 1) ckJ9 2 q538 dJ9_hashCode_1 (by decide) (h.1) rfl ?_
  refine pj_istore_n (pc := 4) (lv' := [(1, _), (0, _)]) dJ9_hashCode_4 rfl (by decide) rfl ?_
  refine pl_iload_n (pc := 5) dJ9_hashCode_5 rfl rfl ?_
  refine pj_if_ne (pc := 6) (tgt := 58) dJ9_hashCode_6 (by decide) (fun h => absurd h (by decide)) (fun _ => ?_)
  refine pl_aload_n (pc := 9) dJ9_hashCode_9 rfl rfl ?_
  refine pj_getf (pc := 10) ckJ9 3 q539 dJ9_hashCode_10 (by decide) (h.1) rfl ?_
  refine pj_if_ne (pc := 13) (tgt := 58) dJ9_hashCode_13 (by decide) (fun h => absurd h (by decide)) (fun _ => ?_)
  refine pl_aload_n (pc := 16) dJ9_hashCode_16 rfl rfl ?_
  refine pl_callVd (pc := 17) (As := []) (C1 := 0) (N1 := 0) (C2 := 0) (N2 := 0) ckJ9 mdJ9_isLatin1 rfl q1935 q1936 q1937 q136 dJ9_hashCode_17 rfl rfl (Nat.le_of_ble_eq_true rfl) (h.1) (k_J9_isLatin1_m (d := d - 1) (by omega) h hn) (by omega) (by omega) (by omega) ?_
  refine pj_if_eq (pc := 20) (tgt := 33) dJ9_hashCode_20 (by decide) (fun h => absurd h (by decide)) (fun _ => ?_)
  refine pl_aload_n (pc := 23) dJ9_hashCode_23 rfl rfl ?_
  refine pj_getf (pc := 24) ckJ9 0 q536 dJ9_hashCode_24 (by decide) (h.1) rfl ?_
  refine pl_callSd (pc := 27) (As := [_]) (C1 := 0) (N1 := 0) (C2 := 0) (N2 := 0) mdJ16_hashCode q1939 q1940 q144 dJ9_hashCode_27 rfl rfl (Nat.le_of_ble_eq_true rfl) (k_J16_hash (d := d - 1) (by omega) h.2 hn) (by omega) (by omega) (by omega) ?_
  refine pj_goto (pc := 30) (tgt := 40) dJ9_hashCode_30 (by decide) ?_
  refine pj_istore_n (pc := 40) (lv' := [(1, _), (0, _)]) dJ9_hashCode_40 rfl (by decide) rfl ?_
  refine pl_iload_n (pc := 41) dJ9_hashCode_41 rfl rfl ?_
  refine pj_if_ne (pc := 42) (tgt := 53) dJ9_hashCode_42 (by decide) (fun c42 => ?_) (fun c42 => ?_)
  · refine pl_aload_n (pc := 53) dJ9_hashCode_53 rfl rfl ?_
    refine pl_iload_n (pc := 54) dJ9_hashCode_54 rfl rfl ?_
    refine pj_putf (pc := 55) ckJ9 2 q538 dJ9_hashCode_55 (by decide) rfl h.1 rfl rfl (Nat.le_of_ble_eq_true rfl) ?_
    refine pl_iload_n (pc := 58) dJ9_hashCode_58 rfl rfl ?_
    refine pj_iret (pc := 59) dJ9_hashCode_59 rfl ?_
    exact ⟨rfl, _, _, ⟨mset_s, (mset_n hwq).trans h.2⟩, fun x hx => mset_n hx⟩
  · refine pl_aload_n (pc := 45) dJ9_hashCode_45 rfl rfl ?_
    refine pl_iconst (pc := 46) (v := 1) dJ9_hashCode_46 (by rfl) ?_
    refine pj_putf (pc := 47) ckJ9 3 q539 dJ9_hashCode_47 (by decide) rfl h.1 rfl rfl (Nat.le_of_ble_eq_true rfl) ?_
    refine pj_goto (pc := 50) (tgt := 58) dJ9_hashCode_50 (by decide) ?_
    refine pl_iload_n (pc := 58) dJ9_hashCode_58 rfl rfl ?_
    refine pj_iret (pc := 59) dJ9_hashCode_59 rfl ?_
    exact ⟨rfl, _, _, ⟨mset_s, (mset_n hwq).trans h.2⟩, fun x hx => mset_n hx⟩
