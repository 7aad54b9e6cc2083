set_option maxRecDepth 100000
/-- nothing that was there is gone -/
def MoX (μ M : Mem) : Prop := ∀ a x, μ a = some x → M a = some x
theorem MoX.new {μ : Mem} {q : Nat} {c : va_E} (h : μ q = none) : MoX μ (mset μ q c) := fun a x hx => by
  rw [mset_n (fun z => by rw [z, h] at hx; cases hx)]
  exact hx
/-- a call of x beside the model's: answers alike, or throws what the model's code says -/
def CQ (codes : List String) (r : Int32 × MS) (T : MS → Mem → Prop) : OC → Mem → Prop := fun o M => ((r.2.1 0 = nI 0 ∧ o = .inl (some (.int r.1))) ∨ ∃ k q E, codes[k]? = some E ∧ r.2.1 0 = nI (k + 1) ∧ o = .inr (E, q)) ∧ T r.2 M
theorem CQ.ok {codes : List String} {r : Int32 × MS} {T : MS → Mem → Prop} {M : Mem} {v : Int32} {τ : MS} (e : r = (v, τ)) (h0 : τ.1 0 = nI 0) (hT : T τ M) : CQ codes r T (.inl (some (.int v))) M := by
  subst e
  exact ⟨Or.inl ⟨h0, rfl⟩, hT⟩
theorem CQ.no {codes : List String} {r : Int32 × MS} {T : MS → Mem → Prop} {M : Mem} {v : Int32} {τ : MS} {q : Nat} {E : String} (k : Nat) (e : r = (v, τ)) (hE : codes[k]? = some E) (h0 : τ.1 0 = nI (k + 1)) (hT : T τ M) : CQ codes r T (.inr (E, q)) M := by
  subst e
  exact ⟨Or.inr ⟨k, q, E, hE, h0, rfl⟩, hT⟩
section F0
variable {g : GP} {P : Nat → Prop} {F : Mem} {A : XA} {w : Nat} {S : Nat → Nat → Nat} {b : XS} {σ : MS} {e : XE} {M : Mem} {nw : Nat}
theorem SX.F0 {x : Int32} (h : SX g P F A w S b σ e M) : SX g P F A w S b (sF σ 0 x) e M := h.cg (fun _ _ _ _ => rfl) (fun y hy => by rcases hy with z | z | z | z | z | z | z | z <;> (subst z; rfl)) rfl rfl
theorem SB.F0 {x : Int32} (s : SB g P F A w S b σ nw M) : SB g P F A w S b (sF σ 0 x) nw M := by
  obtain ⟨e, h, t⟩ := s
  exact ⟨e, h.F0, t.cg h.hz (fun _ _ => rfl) rfl rfl (fun _ _ => rfl) rfl rfl⟩
theorem SB.mono {M1 : Mem} (s : SB g P F A w S b σ nw M) (hm : MoX M M1) : SB g P F A w S b σ nw M1 := by
  obtain ⟨e, h, t⟩ := s
  exact ⟨e, h.mono hm, t⟩
end F0
set_option maxHeartbeats 600000 in
theorem k_X1_need_ok {g : GP} {μ : Mem} {d : Nat} (hd : 1 ≤ d) {x : Int32} (hx : ¬ x = nI 0) : PM g yX1_need (ws_ yX1_need cX1_need 1 none) d 0 0 [.int x] μ (rQ none μ) := by
  refine PM.of (by decide +kernel) (Nat.le_of_ble_eq_true rfl) ?_
  refine PJ.ok (fun G => ?_)
  show PJ g _ _ _ _ d 0 0 0 [(0, .int x)] [] _ _
  refine pl_iload_n (pc := 0) dX1_need_0 rfl rfl ?_
  refine pj_if_ne (pc := 1) (tgt := 12) dX1_need_1 (by decide) (fun _ => ?_) (fun z9 => absurd z9 hx)
  refine pj_vret (pc := 12) dX1_need_12 rfl ?_
  exact ⟨rfl, rfl⟩
set_option maxHeartbeats 600000 in
theorem k_X1_need_no {g : GP} {μ : Mem} {d : Nat} (hd : 6 ≤ d) {x : Int32} (hx : x = nI 0) : PM g yX1_need (ws_ yX1_need cX1_need 1 none) d 1 6 [.int x] μ (XQ "java/lang/IllegalArgumentException" (MoX μ)) := by
  refine PM.of (by decide +kernel) (Nat.le_of_ble_eq_true rfl) ?_
  refine PJ.ok (fun G => ?_)
  show PJ g _ _ _ _ d 1 6 0 [(0, .int x)] [] _ _
  refine pl_iload_n (pc := 0) dX1_need_0 rfl rfl ?_
  refine pj_if_ne (pc := 1) (tgt := 12) dX1_need_1 (by decide) (fun z9 => absurd hx z9) (fun _ => ?_)
  refine pj_make0 (pc := 4) ["java/lang/RuntimeException", "java/lang/Exception"] ckE6 (by decide +kernel) (by decide +kernel) q1265 q133 at0_E6 ot0_E6 dX1_need_4 dX1_need_7 dX1_need_8 (by show (2 : Nat) + 3 < d; omega) (by decide) (Nat.le_of_ble_eq_true rfl) (C1 := 0) (N1 := 0) (by omega) (by omega) (fun q hn hg => ?_)
  refine pj_athrow (pc := 11) ckE6 dX1_need_11 mset_s ?_
  refine px_out0 rfl ?_
  exact ⟨q, rfl, MoX.new hn⟩
set_option maxHeartbeats 600000 in
theorem k_X1_right_ok {g : GP} {μ : Mem} {d : Nat} (hd : 1 ≤ d) {x : Int32} (hx : ¬ x = nI 0) : PM g yX1_right (ws_ yX1_right cX1_right 1 none) d 0 0 [.int x] μ (rQ none μ) := by
  refine PM.of (by decide +kernel) (Nat.le_of_ble_eq_true rfl) ?_
  refine PJ.ok (fun G => ?_)
  show PJ g _ _ _ _ d 0 0 0 [(0, .int x)] [] _ _
  refine pl_iload_n (pc := 0) dX1_right_0 rfl rfl ?_
  refine pj_if_ne (pc := 1) (tgt := 12) dX1_right_1 (by decide) (fun _ => ?_) (fun z9 => absurd z9 hx)
  refine pj_vret (pc := 12) dX1_right_12 rfl ?_
  exact ⟨rfl, rfl⟩
set_option maxHeartbeats 600000 in
theorem k_X1_right_no {g : GP} {μ : Mem} {d : Nat} (hd : 6 ≤ d) {x : Int32} (hx : x = nI 0) : PM g yX1_right (ws_ yX1_right cX1_right 1 none) d 1 6 [.int x] μ (XQ "java/lang/IllegalStateException" (MoX μ)) := by
  refine PM.of (by decide +kernel) (Nat.le_of_ble_eq_true rfl) ?_
  refine PJ.ok (fun G => ?_)
  show PJ g _ _ _ _ d 1 6 0 [(0, .int x)] [] _ _
  refine pl_iload_n (pc := 0) dX1_right_0 rfl rfl ?_
  refine pj_if_ne (pc := 1) (tgt := 12) dX1_right_1 (by decide) (fun z9 => absurd hx z9) (fun _ => ?_)
  refine pj_make0 (pc := 4) ["java/lang/RuntimeException", "java/lang/Exception"] ckE23 (by decide +kernel) (by decide +kernel) q2334 q180 at0_E23 ot0_E23 dX1_right_4 dX1_right_7 dX1_right_8 (by show (2 : Nat) + 3 < d; omega) (by decide) (Nat.le_of_ble_eq_true rfl) (C1 := 0) (N1 := 0) (by omega) (by omega) (fun q hn hg => ?_)
  refine pj_athrow (pc := 11) ckE23 dX1_right_11 mset_s ?_
  refine px_out0 rfl ?_
  exact ⟨q, rfl, MoX.new hn⟩
set_option maxHeartbeats 600000 in
theorem k_X1_there_ok {g : GP} {μ : Mem} {d : Nat} (hd : 1 ≤ d) {j n : Nat} (hj : j < n) (hn : n < 2147483648) : PM g yX1_there (ws_ yX1_there cX1_there 2 none) d 0 0 [.int (nI j), .int (nI n)] μ (rQ none μ) := by
  refine PM.of (by decide +kernel) (Nat.le_of_ble_eq_true rfl) ?_
  refine PJ.ok (fun G => ?_)
  show PJ g _ _ _ _ d 0 0 0 [(0, .int (nI j)), (1, .int (nI n))] [] _ _
  refine pl_iload_n (pc := 0) dX1_there_0 rfl rfl ?_
  refine pl_if_ltN (pc := 1) dX1_there_1 ⟨9, by decide⟩ (by omega) ?_
  refine pl_iload_n (pc := 4) dX1_there_4 rfl rfl ?_
  refine pl_iload_n (pc := 5) dX1_there_5 rfl rfl ?_
  refine pl_icmp_lt (pc := 6) (tgt := 17) dX1_there_6 (by decide) (by omega) (by omega) (fun _ => ?_) (fun z9 => absurd hj (by omega))
  refine pj_vret (pc := 17) dX1_there_17 rfl ?_
  exact ⟨rfl, rfl⟩
set_option maxHeartbeats 600000 in
theorem k_X1_there_no {g : GP} {μ : Mem} {d : Nat} (hd : 6 ≤ d) {x : Int32} {n : Nat} (hx : inN x n = false) : PM g yX1_there (ws_ yX1_there cX1_there 2 none) d 1 6 [.int x, .int (nI n)] μ (XQ "java/lang/IndexOutOfBoundsException" (MoX μ)) := by
  refine PM.of (by decide +kernel) (Nat.le_of_ble_eq_true rfl) ?_
  refine PJ.ok (fun G => ?_)
  show PJ g _ _ _ _ d 1 6 0 [(0, .int x), (1, .int (nI n))] [] _ _
  refine pl_iload_n (pc := 0) dX1_there_0 rfl rfl ?_
  refine pj_if_lt (pc := 1) (tgt := 9) dX1_there_1 (by decide) (fun c1 => ?_) (fun c1 => ?_)
  · refine pj_make0 (pc := 9) ["java/lang/RuntimeException", "java/lang/Exception"] ckE20 (by decide +kernel) (by decide +kernel) q1246 q155 at0_E20 ot0_E20 dX1_there_9 dX1_there_12 dX1_there_13 (by show (2 : Nat) + 3 < d; omega) (by decide) (Nat.le_of_ble_eq_true rfl) (C1 := 0) (N1 := 0) (by omega) (by omega) (fun q hn hg => ?_)
    refine pj_athrow (pc := 16) ckE20 dX1_there_16 mset_s ?_
    refine px_out0 rfl ?_
    exact ⟨q, rfl, MoX.new hn⟩
  · refine pl_iload_n (pc := 4) dX1_there_4 rfl rfl ?_
    refine pl_iload_n (pc := 5) dX1_there_5 rfl rfl ?_
    refine pj_icmp_lt (pc := 6) (tgt := 17) dX1_there_6 (by decide) (fun z9 => absurd hx (by simp only [inN, Bool.and_eq_false_iff, decide_eq_false_iff_not, not_or]; exact ⟨fun y8 => y8 (Int32.not_lt.mp c1), fun y8 => y8 z9⟩)) (fun _ => ?_)
    refine pj_make0 (pc := 9) ["java/lang/RuntimeException", "java/lang/Exception"] ckE20 (by decide +kernel) (by decide +kernel) q1246 q155 at0_E20 ot0_E20 dX1_there_9 dX1_there_12 dX1_there_13 (by show (2 : Nat) + 3 < d; omega) (by decide) (Nat.le_of_ble_eq_true rfl) (C1 := 0) (N1 := 0) (by omega) (by omega) (fun q hn hg => ?_)
    refine pj_athrow (pc := 16) ckE20 dX1_there_16 mset_s ?_
    refine px_out0 rfl ?_
    exact ⟨q, rfl, MoX.new hn⟩
set_option maxHeartbeats 600000 in
theorem x_X1_slotOf_ok {g : GP} {μ : Mem} {d : Nat} {P : Nat → Prop} {F : Mem} {A : XA} {S : Nat → Nat → Nat} {b : XS} {σ : MS} {e : XE}(hd : 4 ≤ d) (h : SX g P F A 0 S b σ e μ) {j : Nat} (hj : j < 96) : PM g yX1_slotOf (ws_ yX1_slotOf cX1_slotOf 2 (some (.object "SettlerColony$Slot"))) d 0 0 [.ref (A 0 0 0), .int (nI j)] μ (rQ (some (.ref (A 34 0 j))) μ) := by
  refine PM.of (by decide +kernel) (Nat.le_of_ble_eq_true rfl) ?_
  refine PJ.ok (fun G => ?_)
  show PJ g _ _ _ _ d 0 0 0 [(0, .ref (A 0 0 0)), (1, .int (nI j))] [] _ _
  have hS4 := h.hz.2.1
  have hS6 := h.hz.2.2.1
  have hS8 := h.hz.2.2.2.1
  have hS10 := h.hz.2.2.2.2.1
  refine pl_iload_n (pc := 0) dX1_slotOf_0 rfl rfl ?_
  refine pl_bipush (pc := 1) (v := 96) dX1_slotOf_1 (by rfl) ?_
  refine pl_callSv (pc := 3) (As := [_, _]) (C1 := 0) (N1 := 0) (C2 := 0) (N2 := 0) mdX1_there q1243 q1244 q125 dX1_slotOf_3 rfl rfl (Nat.le_of_ble_eq_true rfl) (k_X1_there_ok (d := d - 1) (by omega) (by omega) (by omega)) (by omega) (by omega) (by omega) ?_
  refine pl_aload_n (pc := 6) dX1_slotOf_6 rfl rfl ?_
  refine pj_getf (pc := 7) ckX1 0 q853 dX1_slotOf_7 (by decide) (h.r0) rfl ?_
  refine pj_getfN (pc := 10) ckX2 12 q748 dX1_slotOf_10 (by decide) (h.r1) rfl ?_
  refine pl_iload_n (pc := 13) dX1_slotOf_13 rfl rfl ?_
  obtain ⟨m_14, c_14, l_14⟩ := h.L2
  refine pl_callVd (pc := 14) (As := [_]) (C1 := 0) (N1 := 0) (C2 := 0) (N2 := 0) ckJ2 mdJ2_get rfl q1054 q708 q709 q129 dX1_slotOf_14 rfl rfl (Nat.le_of_ble_eq_true rfl) l_14.1 (k_J2_get (d := d - 1) (by omega) l_14 (j := j) (by rw [h.hz.s2]; omega) (if_pos (by rw [h.hz.s2]; omega))) (by omega) (by omega) (by omega) ?_
  obtain ⟨q_14, hm_14, hq_14, hdd_14⟩ := h.held (s := j) (by omega)
  refine pj_castS (pc := 17) ckX8 q1261 dX1_slotOf_17 hm_14 ?_
  refine pj_aret (pc := 20) dX1_slotOf_20 rfl (Or.inl ⟨_, rfl⟩) (Or.inr ⟨_, rfl⟩) ?_
  exact ⟨rfl, rfl⟩
set_option maxHeartbeats 600000 in
theorem x_X1_slotOf_no {g : GP} {μ : Mem} {d : Nat} {P : Nat → Prop} {F : Mem} {A : XA} {S : Nat → Nat → Nat} {b : XS} {σ : MS} {e : XE}(hd : 7 ≤ d) (h : SX g P F A 0 S b σ e μ) {x : Int32} (hx : inN x 96 = false) : PM g yX1_slotOf (ws_ yX1_slotOf cX1_slotOf 2 (some (.object "SettlerColony$Slot"))) d 1 6 [.ref (A 0 0 0), .int x] μ (XQ "java/lang/IndexOutOfBoundsException" (MoX μ)) := by
  refine PM.of (by decide +kernel) (Nat.le_of_ble_eq_true rfl) ?_
  refine PJ.ok (fun G => ?_)
  show PJ g _ _ _ _ d 1 6 0 [(0, .ref (A 0 0 0)), (1, .int x)] [] _ _
  have hS4 := h.hz.2.1
  have hS6 := h.hz.2.2.1
  have hS8 := h.hz.2.2.2.1
  have hS10 := h.hz.2.2.2.2.1
  refine pl_iload_n (pc := 0) dX1_slotOf_0 rfl rfl ?_
  refine pl_bipush (pc := 1) (v := 96) dX1_slotOf_1 (by rfl) ?_
  refine pl_callSX (pc := 3) (As := [_, _]) (C1 := 1) (N1 := 6) (C2 := 0) (N2 := 0) (E8 := "java/lang/IndexOutOfBoundsException") mdX1_there q1243 q1244 q125 dX1_slotOf_3 rfl rfl (Nat.le_of_ble_eq_true rfl) (k_X1_there_no (d := d - 1) (by omega) hx) (by omega) (by omega) (by omega) (fun q_3 M_3 hM_3 => ?_)
  refine px_out0 rfl ?_
  exact ⟨_, rfl, hM_3⟩
set_option maxHeartbeats 600000 in
theorem x_X1_personOf_ok {g : GP} {μ : Mem} {d : Nat} {P : Nat → Prop} {F : Mem} {A : XA} {S : Nat → Nat → Nat} {b : XS} {σ : MS} {e : XE}(hd : 4 ≤ d) (h : SX g P F A 0 S b σ e μ) {j : Nat} (hj : j < (S 4 0)) : PM g yX1_personOf (ws_ yX1_personOf cX1_personOf 2 (some (.object "SettlerColony$Person"))) d 0 0 [.ref (A 0 0 0), .int (nI j)] μ (rQ (some (.ref (A 35 0 j))) μ) := by
  refine PM.of (by decide +kernel) (Nat.le_of_ble_eq_true rfl) ?_
  refine PJ.ok (fun G => ?_)
  show PJ g _ _ _ _ d 0 0 0 [(0, .ref (A 0 0 0)), (1, .int (nI j))] [] _ _
  have hS4 := h.hz.2.1
  have hS6 := h.hz.2.2.1
  have hS8 := h.hz.2.2.2.1
  have hS10 := h.hz.2.2.2.2.1
  refine pl_iload_n (pc := 0) dX1_personOf_0 rfl rfl ?_
  refine pl_aload_n (pc := 1) dX1_personOf_1 rfl rfl ?_
  refine pj_getf (pc := 2) ckX1 0 q853 dX1_personOf_2 (by decide) (h.r0) rfl ?_
  refine pj_getfN (pc := 5) ckX2 26 q773 dX1_personOf_5 (by decide) (h.r1) rfl ?_
  obtain ⟨m_8, c_8, l_8⟩ := h.L4
  refine pl_callVd (pc := 8) (As := []) (C1 := 0) (N1 := 0) (C2 := 0) (N2 := 0) ckJ2 mdJ2_size rfl q1049 q948 q949 q129 dX1_personOf_8 rfl rfl (Nat.le_of_ble_eq_true rfl) l_8.1 (k_J2_size (d := d - 1) (by omega) l_8) (by omega) (by omega) (by omega) ?_
  refine pl_callSv (pc := 11) (As := [_, _]) (C1 := 0) (N1 := 0) (C2 := 0) (N2 := 0) mdX1_there q1243 q1244 q125 dX1_personOf_11 rfl rfl (Nat.le_of_ble_eq_true rfl) (k_X1_there_ok (d := d - 1) (by omega) (by omega) (by omega)) (by omega) (by omega) (by omega) ?_
  refine pl_aload_n (pc := 14) dX1_personOf_14 rfl rfl ?_
  refine pj_getf (pc := 15) ckX1 0 q853 dX1_personOf_15 (by decide) (h.r0) rfl ?_
  refine pj_getfN (pc := 18) ckX2 26 q773 dX1_personOf_18 (by decide) (h.r1) rfl ?_
  refine pl_iload_n (pc := 21) dX1_personOf_21 rfl rfl ?_
  obtain ⟨m_22, c_22, l_22⟩ := h.L4
  refine pl_callVd (pc := 22) (As := [_]) (C1 := 0) (N1 := 0) (C2 := 0) (N2 := 0) ckJ2 mdJ2_get rfl q1054 q708 q709 q129 dX1_personOf_22 rfl rfl (Nat.le_of_ble_eq_true rfl) l_22.1 (k_J2_get (d := d - 1) (by omega) l_22 (j := j) hj (if_pos hj)) (by omega) (by omega) (by omega) ?_
  refine pj_castS (pc := 25) ckX10 q1047 dX1_personOf_25 (h.r35 hj) ?_
  refine pj_aret (pc := 28) dX1_personOf_28 rfl (Or.inl ⟨_, rfl⟩) (Or.inr ⟨_, rfl⟩) ?_
  exact ⟨rfl, rfl⟩
set_option maxHeartbeats 600000 in
theorem x_X1_personOf_no {g : GP} {μ : Mem} {d : Nat} {P : Nat → Prop} {F : Mem} {A : XA} {S : Nat → Nat → Nat} {b : XS} {σ : MS} {e : XE}(hd : 7 ≤ d) (h : SX g P F A 0 S b σ e μ) {x : Int32} (hx : inN x (S 4 0) = false) : PM g yX1_personOf (ws_ yX1_personOf cX1_personOf 2 (some (.object "SettlerColony$Person"))) d 1 6 [.ref (A 0 0 0), .int x] μ (XQ "java/lang/IndexOutOfBoundsException" (MoX μ)) := by
  refine PM.of (by decide +kernel) (Nat.le_of_ble_eq_true rfl) ?_
  refine PJ.ok (fun G => ?_)
  show PJ g _ _ _ _ d 1 6 0 [(0, .ref (A 0 0 0)), (1, .int x)] [] _ _
  have hS4 := h.hz.2.1
  have hS6 := h.hz.2.2.1
  have hS8 := h.hz.2.2.2.1
  have hS10 := h.hz.2.2.2.2.1
  refine pl_iload_n (pc := 0) dX1_personOf_0 rfl rfl ?_
  refine pl_aload_n (pc := 1) dX1_personOf_1 rfl rfl ?_
  refine pj_getf (pc := 2) ckX1 0 q853 dX1_personOf_2 (by decide) (h.r0) rfl ?_
  refine pj_getfN (pc := 5) ckX2 26 q773 dX1_personOf_5 (by decide) (h.r1) rfl ?_
  obtain ⟨m_8, c_8, l_8⟩ := h.L4
  refine pl_callVd (pc := 8) (As := []) (C1 := 0) (N1 := 0) (C2 := 1) (N2 := 6) ckJ2 mdJ2_size rfl q1049 q948 q949 q129 dX1_personOf_8 rfl rfl (Nat.le_of_ble_eq_true rfl) l_8.1 (k_J2_size (d := d - 1) (by omega) l_8) (by omega) (by omega) (by omega) ?_
  refine pl_callSX (pc := 11) (As := [_, _]) (C1 := 1) (N1 := 6) (C2 := 0) (N2 := 0) (E8 := "java/lang/IndexOutOfBoundsException") mdX1_there q1243 q1244 q125 dX1_personOf_11 rfl rfl (Nat.le_of_ble_eq_true rfl) (k_X1_there_no (d := d - 1) (by omega) hx) (by omega) (by omega) (by omega) (fun q_11 M_11 hM_11 => ?_)
  refine px_out0 rfl ?_
  exact ⟨_, rfl, hM_11⟩
set_option maxHeartbeats 600000 in
theorem x_X1_lawOf_ok {g : GP} {μ : Mem} {d : Nat} {P : Nat → Prop} {F : Mem} {A : XA} {S : Nat → Nat → Nat} {b : XS} {σ : MS} {e : XE}(hd : 4 ≤ d) (h : SX g P F A 0 S b σ e μ) {j : Nat} (hj : j < (S 8 0)) : PM g yX1_lawOf (ws_ yX1_lawOf cX1_lawOf 2 (some (.object "SettlerColony$Law"))) d 0 0 [.ref (A 0 0 0), .int (nI j)] μ (rQ (some (.ref (A 38 0 j))) μ) := by
  refine PM.of (by decide +kernel) (Nat.le_of_ble_eq_true rfl) ?_
  refine PJ.ok (fun G => ?_)
  show PJ g _ _ _ _ d 0 0 0 [(0, .ref (A 0 0 0)), (1, .int (nI j))] [] _ _
  have hS4 := h.hz.2.1
  have hS6 := h.hz.2.2.1
  have hS8 := h.hz.2.2.2.1
  have hS10 := h.hz.2.2.2.2.1
  refine pl_iload_n (pc := 0) dX1_lawOf_0 rfl rfl ?_
  refine pl_aload_n (pc := 1) dX1_lawOf_1 rfl rfl ?_
  refine pj_getf (pc := 2) ckX1 0 q853 dX1_lawOf_2 (by decide) (h.r0) rfl ?_
  refine pj_getfN (pc := 5) ckX2 28 q777 dX1_lawOf_5 (by decide) (h.r1) rfl ?_
  obtain ⟨m_8, c_8, l_8⟩ := h.L8
  refine pl_callVd (pc := 8) (As := []) (C1 := 0) (N1 := 0) (C2 := 0) (N2 := 0) ckJ2 mdJ2_size rfl q1049 q948 q949 q129 dX1_lawOf_8 rfl rfl (Nat.le_of_ble_eq_true rfl) l_8.1 (k_J2_size (d := d - 1) (by omega) l_8) (by omega) (by omega) (by omega) ?_
  refine pl_callSv (pc := 11) (As := [_, _]) (C1 := 0) (N1 := 0) (C2 := 0) (N2 := 0) mdX1_there q1243 q1244 q125 dX1_lawOf_11 rfl rfl (Nat.le_of_ble_eq_true rfl) (k_X1_there_ok (d := d - 1) (by omega) (by omega) (by omega)) (by omega) (by omega) (by omega) ?_
  refine pl_aload_n (pc := 14) dX1_lawOf_14 rfl rfl ?_
  refine pj_getf (pc := 15) ckX1 0 q853 dX1_lawOf_15 (by decide) (h.r0) rfl ?_
  refine pj_getfN (pc := 18) ckX2 28 q777 dX1_lawOf_18 (by decide) (h.r1) rfl ?_
  refine pl_iload_n (pc := 21) dX1_lawOf_21 rfl rfl ?_
  obtain ⟨m_22, c_22, l_22⟩ := h.L8
  refine pl_callVd (pc := 22) (As := [_]) (C1 := 0) (N1 := 0) (C2 := 0) (N2 := 0) ckJ2 mdJ2_get rfl q1054 q708 q709 q129 dX1_lawOf_22 rfl rfl (Nat.le_of_ble_eq_true rfl) l_22.1 (k_J2_get (d := d - 1) (by omega) l_22 (j := j) hj (if_pos hj)) (by omega) (by omega) (by omega) ?_
  refine pj_castS (pc := 25) ckX12 q1854 dX1_lawOf_25 (h.r38 hj) ?_
  refine pj_aret (pc := 28) dX1_lawOf_28 rfl (Or.inl ⟨_, rfl⟩) (Or.inr ⟨_, rfl⟩) ?_
  exact ⟨rfl, rfl⟩
set_option maxHeartbeats 600000 in
theorem x_X1_lawOf_no {g : GP} {μ : Mem} {d : Nat} {P : Nat → Prop} {F : Mem} {A : XA} {S : Nat → Nat → Nat} {b : XS} {σ : MS} {e : XE}(hd : 7 ≤ d) (h : SX g P F A 0 S b σ e μ) {x : Int32} (hx : inN x (S 8 0) = false) : PM g yX1_lawOf (ws_ yX1_lawOf cX1_lawOf 2 (some (.object "SettlerColony$Law"))) d 1 6 [.ref (A 0 0 0), .int x] μ (XQ "java/lang/IndexOutOfBoundsException" (MoX μ)) := by
  refine PM.of (by decide +kernel) (Nat.le_of_ble_eq_true rfl) ?_
  refine PJ.ok (fun G => ?_)
  show PJ g _ _ _ _ d 1 6 0 [(0, .ref (A 0 0 0)), (1, .int x)] [] _ _
  have hS4 := h.hz.2.1
  have hS6 := h.hz.2.2.1
  have hS8 := h.hz.2.2.2.1
  have hS10 := h.hz.2.2.2.2.1
  refine pl_iload_n (pc := 0) dX1_lawOf_0 rfl rfl ?_
  refine pl_aload_n (pc := 1) dX1_lawOf_1 rfl rfl ?_
  refine pj_getf (pc := 2) ckX1 0 q853 dX1_lawOf_2 (by decide) (h.r0) rfl ?_
  refine pj_getfN (pc := 5) ckX2 28 q777 dX1_lawOf_5 (by decide) (h.r1) rfl ?_
  obtain ⟨m_8, c_8, l_8⟩ := h.L8
  refine pl_callVd (pc := 8) (As := []) (C1 := 0) (N1 := 0) (C2 := 1) (N2 := 6) ckJ2 mdJ2_size rfl q1049 q948 q949 q129 dX1_lawOf_8 rfl rfl (Nat.le_of_ble_eq_true rfl) l_8.1 (k_J2_size (d := d - 1) (by omega) l_8) (by omega) (by omega) (by omega) ?_
  refine pl_callSX (pc := 11) (As := [_, _]) (C1 := 1) (N1 := 6) (C2 := 0) (N2 := 0) (E8 := "java/lang/IndexOutOfBoundsException") mdX1_there q1243 q1244 q125 dX1_lawOf_11 rfl rfl (Nat.le_of_ble_eq_true rfl) (k_X1_there_no (d := d - 1) (by omega) hx) (by omega) (by omega) (by omega) (fun q_11 M_11 hM_11 => ?_)
  refine px_out0 rfl ?_
  exact ⟨_, rfl, hM_11⟩
set_option maxHeartbeats 600000 in
theorem x_X1_billOf_ok {g : GP} {μ : Mem} {d : Nat} {P : Nat → Prop} {F : Mem} {A : XA} {S : Nat → Nat → Nat} {b : XS} {σ : MS} {e : XE}(hd : 4 ≤ d) (h : SX g P F A 0 S b σ e μ) {j : Nat} (hj : j < (S 10 0)) : PM g yX1_billOf (ws_ yX1_billOf cX1_billOf 2 (some (.object "SettlerColony$Bill"))) d 0 0 [.ref (A 0 0 0), .int (nI j)] μ (rQ (some (.ref (A 40 0 j))) μ) := by
  refine PM.of (by decide +kernel) (Nat.le_of_ble_eq_true rfl) ?_
  refine PJ.ok (fun G => ?_)
  show PJ g _ _ _ _ d 0 0 0 [(0, .ref (A 0 0 0)), (1, .int (nI j))] [] _ _
  have hS4 := h.hz.2.1
  have hS6 := h.hz.2.2.1
  have hS8 := h.hz.2.2.2.1
  have hS10 := h.hz.2.2.2.2.1
  refine pl_iload_n (pc := 0) dX1_billOf_0 rfl rfl ?_
  refine pl_aload_n (pc := 1) dX1_billOf_1 rfl rfl ?_
  refine pj_getf (pc := 2) ckX1 0 q853 dX1_billOf_2 (by decide) (h.r0) rfl ?_
  refine pj_getfN (pc := 5) ckX2 29 q779 dX1_billOf_5 (by decide) (h.r1) rfl ?_
  obtain ⟨m_8, c_8, l_8⟩ := h.L10
  refine pl_callVd (pc := 8) (As := []) (C1 := 0) (N1 := 0) (C2 := 0) (N2 := 0) ckJ2 mdJ2_size rfl q1049 q948 q949 q129 dX1_billOf_8 rfl rfl (Nat.le_of_ble_eq_true rfl) l_8.1 (k_J2_size (d := d - 1) (by omega) l_8) (by omega) (by omega) (by omega) ?_
  refine pl_callSv (pc := 11) (As := [_, _]) (C1 := 0) (N1 := 0) (C2 := 0) (N2 := 0) mdX1_there q1243 q1244 q125 dX1_billOf_11 rfl rfl (Nat.le_of_ble_eq_true rfl) (k_X1_there_ok (d := d - 1) (by omega) (by omega) (by omega)) (by omega) (by omega) (by omega) ?_
  refine pl_aload_n (pc := 14) dX1_billOf_14 rfl rfl ?_
  refine pj_getf (pc := 15) ckX1 0 q853 dX1_billOf_15 (by decide) (h.r0) rfl ?_
  refine pj_getfN (pc := 18) ckX2 29 q779 dX1_billOf_18 (by decide) (h.r1) rfl ?_
  refine pl_iload_n (pc := 21) dX1_billOf_21 rfl rfl ?_
  obtain ⟨m_22, c_22, l_22⟩ := h.L10
  refine pl_callVd (pc := 22) (As := [_]) (C1 := 0) (N1 := 0) (C2 := 0) (N2 := 0) ckJ2 mdJ2_get rfl q1054 q708 q709 q129 dX1_billOf_22 rfl rfl (Nat.le_of_ble_eq_true rfl) l_22.1 (k_J2_get (d := d - 1) (by omega) l_22 (j := j) hj (if_pos hj)) (by omega) (by omega) (by omega) ?_
  refine pj_castS (pc := 25) ckX13 q2303 dX1_billOf_25 (h.r40 hj) ?_
  refine pj_aret (pc := 28) dX1_billOf_28 rfl (Or.inl ⟨_, rfl⟩) (Or.inr ⟨_, rfl⟩) ?_
  exact ⟨rfl, rfl⟩
set_option maxHeartbeats 600000 in
theorem x_X1_billOf_no {g : GP} {μ : Mem} {d : Nat} {P : Nat → Prop} {F : Mem} {A : XA} {S : Nat → Nat → Nat} {b : XS} {σ : MS} {e : XE}(hd : 7 ≤ d) (h : SX g P F A 0 S b σ e μ) {x : Int32} (hx : inN x (S 10 0) = false) : PM g yX1_billOf (ws_ yX1_billOf cX1_billOf 2 (some (.object "SettlerColony$Bill"))) d 1 6 [.ref (A 0 0 0), .int x] μ (XQ "java/lang/IndexOutOfBoundsException" (MoX μ)) := by
  refine PM.of (by decide +kernel) (Nat.le_of_ble_eq_true rfl) ?_
  refine PJ.ok (fun G => ?_)
  show PJ g _ _ _ _ d 1 6 0 [(0, .ref (A 0 0 0)), (1, .int x)] [] _ _
  have hS4 := h.hz.2.1
  have hS6 := h.hz.2.2.1
  have hS8 := h.hz.2.2.2.1
  have hS10 := h.hz.2.2.2.2.1
  refine pl_iload_n (pc := 0) dX1_billOf_0 rfl rfl ?_
  refine pl_aload_n (pc := 1) dX1_billOf_1 rfl rfl ?_
  refine pj_getf (pc := 2) ckX1 0 q853 dX1_billOf_2 (by decide) (h.r0) rfl ?_
  refine pj_getfN (pc := 5) ckX2 29 q779 dX1_billOf_5 (by decide) (h.r1) rfl ?_
  obtain ⟨m_8, c_8, l_8⟩ := h.L10
  refine pl_callVd (pc := 8) (As := []) (C1 := 0) (N1 := 0) (C2 := 1) (N2 := 6) ckJ2 mdJ2_size rfl q1049 q948 q949 q129 dX1_billOf_8 rfl rfl (Nat.le_of_ble_eq_true rfl) l_8.1 (k_J2_size (d := d - 1) (by omega) l_8) (by omega) (by omega) (by omega) ?_
  refine pl_callSX (pc := 11) (As := [_, _]) (C1 := 1) (N1 := 6) (C2 := 0) (N2 := 0) (E8 := "java/lang/IndexOutOfBoundsException") mdX1_there q1243 q1244 q125 dX1_billOf_11 rfl rfl (Nat.le_of_ble_eq_true rfl) (k_X1_there_no (d := d - 1) (by omega) hx) (by omega) (by omega) (by omega) (fun q_11 M_11 hM_11 => ?_)
  refine px_out0 rfl ?_
  exact ⟨_, rfl, hM_11⟩
set_option maxHeartbeats 600000 in
theorem x_X1_partyOf_ok {g : GP} {μ : Mem} {d : Nat} {P : Nat → Prop} {F : Mem} {A : XA} {S : Nat → Nat → Nat} {b : XS} {σ : MS} {e : XE}(hd : 4 ≤ d) (h : SX g P F A 0 S b σ e μ) {j : Nat} (hj : j < (S 6 0)) : PM g yX1_partyOf (ws_ yX1_partyOf cX1_partyOf 2 (some (.object "SettlerColony$Party"))) d 0 0 [.ref (A 0 0 0), .int (nI j)] μ (rQ (some (.ref (A 36 0 j))) μ) := by
  refine PM.of (by decide +kernel) (Nat.le_of_ble_eq_true rfl) ?_
  refine PJ.ok (fun G => ?_)
  show PJ g _ _ _ _ d 0 0 0 [(0, .ref (A 0 0 0)), (1, .int (nI j))] [] _ _
  have hS4 := h.hz.2.1
  have hS6 := h.hz.2.2.1
  have hS8 := h.hz.2.2.2.1
  have hS10 := h.hz.2.2.2.2.1
  refine pl_iload_n (pc := 0) dX1_partyOf_0 rfl rfl ?_
  refine pl_aload_n (pc := 1) dX1_partyOf_1 rfl rfl ?_
  refine pj_getf (pc := 2) ckX1 0 q853 dX1_partyOf_2 (by decide) (h.r0) rfl ?_
  refine pj_getfN (pc := 5) ckX2 27 q775 dX1_partyOf_5 (by decide) (h.r1) rfl ?_
  obtain ⟨m_8, c_8, l_8⟩ := h.L6
  refine pl_callVd (pc := 8) (As := []) (C1 := 0) (N1 := 0) (C2 := 0) (N2 := 0) ckJ2 mdJ2_size rfl q1049 q948 q949 q129 dX1_partyOf_8 rfl rfl (Nat.le_of_ble_eq_true rfl) l_8.1 (k_J2_size (d := d - 1) (by omega) l_8) (by omega) (by omega) (by omega) ?_
  refine pl_callSv (pc := 11) (As := [_, _]) (C1 := 0) (N1 := 0) (C2 := 0) (N2 := 0) mdX1_there q1243 q1244 q125 dX1_partyOf_11 rfl rfl (Nat.le_of_ble_eq_true rfl) (k_X1_there_ok (d := d - 1) (by omega) (by omega) (by omega)) (by omega) (by omega) (by omega) ?_
  refine pl_aload_n (pc := 14) dX1_partyOf_14 rfl rfl ?_
  refine pj_getf (pc := 15) ckX1 0 q853 dX1_partyOf_15 (by decide) (h.r0) rfl ?_
  refine pj_getfN (pc := 18) ckX2 27 q775 dX1_partyOf_18 (by decide) (h.r1) rfl ?_
  refine pl_iload_n (pc := 21) dX1_partyOf_21 rfl rfl ?_
  obtain ⟨m_22, c_22, l_22⟩ := h.L6
  refine pl_callVd (pc := 22) (As := [_]) (C1 := 0) (N1 := 0) (C2 := 0) (N2 := 0) ckJ2 mdJ2_get rfl q1054 q708 q709 q129 dX1_partyOf_22 rfl rfl (Nat.le_of_ble_eq_true rfl) l_22.1 (k_J2_get (d := d - 1) (by omega) l_22 (j := j) hj (if_pos hj)) (by omega) (by omega) (by omega) ?_
  refine pj_castS (pc := 25) ckX11 q1422 dX1_partyOf_25 (h.r36 hj) ?_
  refine pj_aret (pc := 28) dX1_partyOf_28 rfl (Or.inl ⟨_, rfl⟩) (Or.inr ⟨_, rfl⟩) ?_
  exact ⟨rfl, rfl⟩
set_option maxHeartbeats 600000 in
theorem x_X1_partyOf_no {g : GP} {μ : Mem} {d : Nat} {P : Nat → Prop} {F : Mem} {A : XA} {S : Nat → Nat → Nat} {b : XS} {σ : MS} {e : XE}(hd : 7 ≤ d) (h : SX g P F A 0 S b σ e μ) {x : Int32} (hx : inN x (S 6 0) = false) : PM g yX1_partyOf (ws_ yX1_partyOf cX1_partyOf 2 (some (.object "SettlerColony$Party"))) d 1 6 [.ref (A 0 0 0), .int x] μ (XQ "java/lang/IndexOutOfBoundsException" (MoX μ)) := by
  refine PM.of (by decide +kernel) (Nat.le_of_ble_eq_true rfl) ?_
  refine PJ.ok (fun G => ?_)
  show PJ g _ _ _ _ d 1 6 0 [(0, .ref (A 0 0 0)), (1, .int x)] [] _ _
  have hS4 := h.hz.2.1
  have hS6 := h.hz.2.2.1
  have hS8 := h.hz.2.2.2.1
  have hS10 := h.hz.2.2.2.2.1
  refine pl_iload_n (pc := 0) dX1_partyOf_0 rfl rfl ?_
  refine pl_aload_n (pc := 1) dX1_partyOf_1 rfl rfl ?_
  refine pj_getf (pc := 2) ckX1 0 q853 dX1_partyOf_2 (by decide) (h.r0) rfl ?_
  refine pj_getfN (pc := 5) ckX2 27 q775 dX1_partyOf_5 (by decide) (h.r1) rfl ?_
  obtain ⟨m_8, c_8, l_8⟩ := h.L6
  refine pl_callVd (pc := 8) (As := []) (C1 := 0) (N1 := 0) (C2 := 1) (N2 := 6) ckJ2 mdJ2_size rfl q1049 q948 q949 q129 dX1_partyOf_8 rfl rfl (Nat.le_of_ble_eq_true rfl) l_8.1 (k_J2_size (d := d - 1) (by omega) l_8) (by omega) (by omega) (by omega) ?_
  refine pl_callSX (pc := 11) (As := [_, _]) (C1 := 1) (N1 := 6) (C2 := 0) (N2 := 0) (E8 := "java/lang/IndexOutOfBoundsException") mdX1_there q1243 q1244 q125 dX1_partyOf_11 rfl rfl (Nat.le_of_ble_eq_true rfl) (k_X1_there_no (d := d - 1) (by omega) hx) (by omega) (by omega) (by omega) (fun q_11 M_11 hM_11 => ?_)
  refine px_out0 rfl ?_
  exact ⟨_, rfl, hM_11⟩
