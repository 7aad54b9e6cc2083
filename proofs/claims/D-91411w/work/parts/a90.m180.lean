set_option maxRecDepth 100000
theorem SbM.fresh {g : GP} {μ0 M : Mem} {a v n q : Nat} {f : Nat → Int32} {c : va_E} (h : SbM g μ0 a v f n M) (hq : M q = none) : SbM g (mset M q c) a v f n (mset M q c) ∧ q ≠ a ∧ q ≠ v := by
  have h1 : q ≠ a := fun z => by rw [z, h.1] at hq; cases hq
  have h2 : q ≠ v := fun z => by rw [z, h.2.1] at hq; cases hq
  exact ⟨⟨(mset_n (Ne.symm h1)).trans h.1, (mset_n (Ne.symm h2)).trans h.2.1, h.2.2.1, fun _ _ _ => rfl⟩, h1, h2⟩
theorem dfJ9 : ∀ j, j < 4 → defaultValue (tyJ9 j) = vp_V [.null, .int 0, .int 0, .int 0] j := by
  intro j hj
  rcases (by omega : j = 0 ∨ j = 1 ∨ j = 2 ∨ j = 3) with rfl | rfl | rfl | rfl <;> rfl
theorem dfJ8 : ∀ j, j < 4 → defaultValue (tyJ8 j) = vp_V [.null, .int 0, .int 0, .int 0] j := by
  intro j hj
  rcases (by omega : j = 0 ∨ j = 1 ∨ j = 2 ∨ j = 3) with rfl | rfl | rfl | rfl <;> rfl
set_option maxHeartbeats 600000 in
theorem k_J9_init_2 {g : GP} {μ : Mem} {d : Nat} {μ0 : Mem} {a v n : Nat} {f : Nat → Int32} (hd : 4 ≤ d) (h : SbM g μ0 a v f n μ) {q : Nat} (hm : μ q = some (.inr (10, [.null, .int 0, .int 0, .int 0]))) (hqa : q ≠ a) (hqv : q ≠ v) (hn : n < 16) (hf : ∀ i, i < n → ∃ b, b < 128 ∧ f i = nI b) : PM g yJ9_init_2 (ws_ yJ9_init_2 cJ9_init_2 5 none) d 1 n [.ref q, .ref a, .null] μ (WQ none (fun M => ∃ w9, μ w9 = none ∧ w9 ≠ q ∧ M = mset (mset μ w9 (intX g 2 n (va_cpy f (fun _ => 0) 0 0 n))) q (.inr (10, [.ref w9, .int 0, .int 0, .int 0])))) := by
  refine PM.of (by decide +kernel) (Nat.le_of_ble_eq_true rfl) ?_
  refine PJ.ok (fun G => ?_)
  show PJ g _ _ _ _ d 1 n 0 [(0, .ref q), (1, .ref a), (2, .null)] [] _ _
  refine pl_aload_n (pc := 0) dJ9_init_2_0 rfl rfl ?_
  refine pj_objInit (pc := 1) q478 q187 q188 dJ9_init_2_1 (by omega) (by decide) ?_
  refine pl_aload_n (pc := 4) dJ9_init_2_4 rfl rfl ?_
  refine pl_callOd (pc := 5) (As := []) (x := yJ7_getValue) (owner := "java/lang/AbstractStringBuilder") (C1 := 0) (N1 := 0) (C2 := 1) (N2 := n) ckJ8 mdJ7_getValue (lk_all q479) (lk_all q481) (dcl_c q480 q483) ⟨⟨by decide, by decide⟩, by decide +kernel⟩ q482 q480 q134 dJ9_init_2_5 rfl rfl (Nat.le_of_ble_eq_true rfl) h.1 (k_J7_getValue (d := d - 1) (by omega) h) (by omega) (by omega) (by omega) ?_
  refine pj_astore_n (pc := 8) (lv' := [(3, _), (0, _), (1, _), (2, _)]) dJ9_init_2_8 rfl (by decide) rfl ?_
  refine pl_aload_n (pc := 9) dJ9_init_2_9 rfl rfl ?_
  refine pl_callOd (pc := 10) (As := []) (x := yJ7_length) (owner := "java/lang/AbstractStringBuilder") (C1 := 0) (N1 := 0) (C2 := 1) (N2 := n) ckJ8 mdJ8_length (lk_all q484) (lk_all q486) (dcl_c q485 q491) ⟨⟨by decide, by decide⟩, by decide +kernel⟩ q487 q488 q135 dJ9_init_2_10 rfl rfl (Nat.le_of_ble_eq_true rfl) h.1 (k_J8_length (d := d - 1) (by omega) h) (by omega) (by omega) (by omega) ?_
  refine pj_istore (pc := 13) (lv' := [(4, _), (3, _), (0, _), (1, _), (2, _)]) dJ9_init_2_13 (by decide) rfl ?_
  refine pl_aload_n (pc := 15) dJ9_init_2_15 rfl rfl ?_
  refine pl_callOd (pc := 16) (As := []) (x := yJ7_isLatin1) (owner := "java/lang/AbstractStringBuilder") (C1 := 0) (N1 := 0) (C2 := 1) (N2 := n) ckJ8 mdJ7_isLatin1 (lk_all q492) (lk_all q369) (dcl_c q368 q371) ⟨⟨by decide, by decide⟩, by decide +kernel⟩ q370 q368 q134 dJ9_init_2_16 rfl rfl (Nat.le_of_ble_eq_true rfl) h.1 (k_J7_isLatin1 (d := d - 1) (by omega) h) (by omega) (by omega) (by omega) ?_
  refine pj_if_eq (pc := 19) (tgt := 41) dJ9_init_2_19 (by decide) (fun h => absurd h (by decide)) (fun _ => ?_)
  refine pl_aload_n (pc := 22) dJ9_init_2_22 rfl rfl ?_
  refine pl_iconst (pc := 23) (v := 0) dJ9_init_2_23 (by rfl) ?_
  refine pj_putfF (pc := 24) ckJ9 1 q537 dJ9_init_2_24 (by decide) rfl rfl rfl hm rfl rfl (Nat.le_of_ble_eq_true rfl) ?_
  refine pl_aload_n (pc := 27) dJ9_init_2_27 rfl rfl ?_
  refine pl_aload_n (pc := 28) dJ9_init_2_28 rfl rfl ?_
  refine pl_iconst (pc := 29) (v := 0) dJ9_init_2_29 (by rfl) ?_
  refine pl_iload (pc := 30) dJ9_init_2_30 rfl ?_
  have ha1 := (mset_n (μ := μ) (e := (.inr (10, [.null, .int (nI 0), .int 0, .int 0]) : va_E)) (Ne.symm hqv)).trans h.2.1
  refine pl_callSQ (pc := 32) (As := [_, _, _]) (C1 := 1) (N1 := n) (C2 := 0) (N2 := 0) mdJ14_copyOfRange q493 q494 q141 dJ9_init_2_32 rfl rfl (Nat.le_of_ble_eq_true rfl) (k_J14_copyOfRange (d := d - 1) (by omega) ha1 hn hf) (by omega) (by omega) (by omega) (fun q_32 M_32 hM_32 => ?_)
  obtain ⟨hn32, rfl⟩ := hM_32
  have hne : q ≠ q_32 := fun z => by rw [← z, mset_s] at hn32; cases hn32
  refine pj_putfF (pc := 35) ckJ9 0 q536 dJ9_init_2_35 (by decide) rfl rfl rfl ((mset_n hne).trans mset_s) rfl rfl (Nat.le_of_ble_eq_true rfl) ?_
  refine pj_goto (pc := 38) (tgt := 97) dJ9_init_2_38 (by decide) ?_
  refine pj_vret (pc := 97) dJ9_init_2_97 rfl ?_
  exact ⟨rfl, q_32, by rw [mset_n (Ne.symm hne)] at hn32; exact hn32, Ne.symm hne, by rw [mset_c hne, mset_m]; rfl⟩
set_option maxHeartbeats 600000 in
theorem k_J9_init {g : GP} {μ : Mem} {d : Nat} {μ0 : Mem} {a v n : Nat} {f : Nat → Int32} (hd : 5 ≤ d) (h : SbM g μ0 a v f n μ) {q : Nat} (hm : μ q = some (.inr (10, [.null, .int 0, .int 0, .int 0]))) (hqa : q ≠ a) (hqv : q ≠ v) (hn : n < 16) (hf : ∀ i, i < n → ∃ b, b < 128 ∧ f i = nI b) : PM g yJ9_init (ws_ yJ9_init cJ9_init 2 none) d 1 n [.ref q, .ref a] μ (WQ none (fun M => ∃ w9, μ w9 = none ∧ w9 ≠ q ∧ M = mset (mset μ w9 (intX g 2 n (va_cpy f (fun _ => 0) 0 0 n))) q (.inr (10, [.ref w9, .int 0, .int 0, .int 0])))) := by
  refine PM.of (by decide +kernel) (Nat.le_of_ble_eq_true rfl) ?_
  refine PJ.ok (fun G => ?_)
  show PJ g _ _ _ _ d 1 n 0 [(0, .ref q), (1, .ref a)] [] _ _
  refine pl_aload_n (pc := 0) dJ9_init_0 rfl rfl ?_
  refine pl_aload_n (pc := 1) dJ9_init_1 rfl rfl ?_
  refine pj_null (pc := 2) dJ9_init_2 ?_
  refine pl_callIWv (pc := 3) (As := [_, _]) (C1 := 1) (N1 := n) (C2 := 0) (N2 := 0) mdJ9_init_2 rfl q475 q476 q136 dJ9_init_3 rfl rfl (Nat.le_of_ble_eq_true rfl) (k_J9_init_2 (d := d - 1) (by omega) h hm hqa hqv hn hf) (by omega) (by omega) (by omega) (fun My1 qy1 => ?_)
  refine pj_vret (pc := 6) dJ9_init_6 rfl ?_
  exact ⟨rfl, qy1⟩
set_option maxHeartbeats 600000 in
theorem k_J8_toString {g : GP} {μ : Mem} {d : Nat} {μ0 : Mem} {a v n : Nat} {f : Nat → Int32} (hd : 6 ≤ d) (h : SbM g μ0 a v f n μ) (hn : n < 16) (hf : ∀ i, i < n → ∃ b, b < 128 ∧ f i = nI b) : PM g yJ8_toString (ws_ yJ8_toString cJ8_toString 1 (some (.object "java/lang/String"))) d 2 (4 + n) [.ref a] μ (fun o M => ∃ q : Nat, o = .inl (some (.ref q)) ∧ μ q = none ∧ gF g q ∧ ∃ w9, μ w9 = none ∧ w9 ≠ q ∧ M = mset (mset μ w9 (intX g 2 n (va_cpy f (fun _ => 0) 0 0 n))) q (.inr (10, [.ref w9, .int 0, .int 0, .int 0]))) := by
  refine PM.of (by decide +kernel) (Nat.le_of_ble_eq_true rfl) ?_
  refine PJ.ok (fun G => ?_)
  show PJ g _ _ _ _ d 2 (4 + n) 0 [(0, .ref a)] [] _ _
  refine pj_new (pc := 0) (C1 := 1) (N1 := n) ckJ9 q470 q471 q136 dJ8_toString_0 _ dfJ9 (by omega) (by omega) (fun q_0 hn_0 gq_0 => ?_)
  refine pj_dup (pc := 3) dJ8_toString_3 rfl ?_
  refine pl_aload_n (pc := 4) dJ8_toString_4 rfl rfl ?_
  obtain ⟨h1, hqa, hqv⟩ := h.fresh (c := (.inr (10, [.null, .int 0, .int 0, .int 0]) : va_E)) hn_0
  refine pl_callIWv (pc := 5) (As := [_]) (C1 := 1) (N1 := n) (C2 := 0) (N2 := 0) mdJ9_init rfl q472 q473 q136 dJ8_toString_5 rfl rfl (Nat.le_of_ble_eq_true rfl) (k_J9_init (d := d - 1) (by omega) h1 mset_s hqa hqv hn hf) (by omega) (by omega) (by omega) (fun My1 qy1 => ?_)
  refine pj_aret (pc := 8) dJ8_toString_8 rfl (Or.inl ⟨_, rfl⟩) (Or.inr ⟨_, rfl⟩) ?_
  obtain ⟨w9, hw1, hw2, rfl⟩ := qy1
  exact ⟨q_0, rfl, hn_0, gq_0, w9, by rw [mset_n hw2] at hw1; exact hw1, hw2, by rw [mset_c (Ne.symm hw2), mset_m]⟩
