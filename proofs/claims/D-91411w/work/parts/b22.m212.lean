set_option maxRecDepth 100000
set_option maxHeartbeats 600000 in
theorem x_X1_law_bad {g : GP} {μ : Mem} {d : Nat} (hd : 8 ≤ d) {P : Nat → Prop} {F : Mem} {A : XA} {S : Nat → Nat → Nat} {b : XS} {σ : MS} {nor nw : Nat} (s : SB g P F A 0 S b σ nw μ) {nn : Int32} (hn : nn < 0 ∨ ¬ nn ≤ σ.1 9) : PM g yX1_law (wsW_ yX1_law cX1_law 5 (some .int) [(20, 42, 102, 365), (49, 95, 102, 365), (20, 42, 126, 0), (49, 95, 126, 0), (102, 119, 126, 0), (126, 128, 126, 0)]) d 1 6 [.ref (A 0 0 0), .int nn] μ (CQ ["java/lang/IllegalArgumentException"] (nI 0, th σ 1) (fun τ M => SB g P F A 0 S b τ nw M)) := by
  have s0 := s
  obtain ⟨e, h, t⟩ := s
  refine PM.ofH (by decide +kernel) (Nat.le_of_ble_eq_true rfl) ?_
  refine PJ.ok (fun G => ?_)
  show PJ g _ _ _ _ d 1 6 0 [(0, .ref (A 0 0 0)), (1, .int nn)] [] _ _
  refine pl_iload_n (pc := 0) dX1_law_0 rfl rfl ?_
  refine pj_if_lt (pc := 1) (tgt := 16) dX1_law_1 (by decide) (fun c1 => ?_) (fun c1 => ?_)
  · refine pl_iconst (pc := 16) (v := 0) dX1_law_16 (by rfl) ?_
    refine pl_callSX (pc := 17) (As := [_]) (C1 := 1) (N1 := 6) (C2 := 0) (N2 := 0) (E8 := "java/lang/IllegalArgumentException") mdX1_need q1262 q1263 q125 dX1_law_17 rfl rfl (Nat.le_of_ble_eq_true rfl) (k_X1_need_no (d := d - 1) (by omega) rfl) (by omega) (by omega) (by omega) (fun q_17 M_17 hM_17 => ?_)
    refine px_out (fun z hz => Or.inl ((by decide : ∀ z ∈ tableOf [(20, 42, 102, 365), (49, 95, 102, 365), (20, 42, 126, 0), (49, 95, 126, 0), (102, 119, 126, 0), (126, 128, 126, 0)], covers z 17 = false) z hz)) ?_
    exact CQ.no 0 (v := nI 0) (τ := th σ 1) rfl rfl rfl (SB.mono (SB.F0 (SB.F0 s0)) hM_17)
  · refine pl_iload_n (pc := 4) dX1_law_4 rfl rfl ?_
    refine pl_aload_n (pc := 5) dX1_law_5 rfl rfl ?_
    refine pj_getf (pc := 6) ckX1 2 q855 dX1_law_6 (by decide) (h.r0) rfl ?_
    refine pj_icmp_gt (pc := 9) (tgt := 16) dX1_law_9 (by decide) (fun c9 => ?_) (fun c9 => ?_)
    · refine pl_iconst (pc := 16) (v := 0) dX1_law_16 (by rfl) ?_
      refine pl_callSX (pc := 17) (As := [_]) (C1 := 1) (N1 := 6) (C2 := 0) (N2 := 0) (E8 := "java/lang/IllegalArgumentException") mdX1_need q1262 q1263 q125 dX1_law_17 rfl rfl (Nat.le_of_ble_eq_true rfl) (k_X1_need_no (d := d - 1) (by omega) rfl) (by omega) (by omega) (by omega) (fun q_17 M_17 hM_17 => ?_)
      refine px_out (fun z hz => Or.inl ((by decide : ∀ z ∈ tableOf [(20, 42, 102, 365), (49, 95, 102, 365), (20, 42, 126, 0), (49, 95, 126, 0), (102, 119, 126, 0), (126, 128, 126, 0)], covers z 17 = false) z hz)) ?_
      exact CQ.no 0 (v := nI 0) (τ := th σ 1) rfl rfl rfl (SB.mono (SB.F0 (SB.F0 s0)) hM_17)
    · exact absurd hn (fun z => z.elim c1 (fun y => y (Int32.not_lt.mp c9)))
set_option maxHeartbeats 600000 in
theorem x_X1_law_full {g : GP} {μ : Mem} {d : Nat} (hd : 8 ≤ d) {P : Nat → Prop} {F : Mem} {A : XA} {S : Nat → Nat → Nat} {b : XS} {σ : MS} {nor nw : Nat} (s : SB g P F A 0 S b σ nw μ) {n tp : Nat} (htp : σ.1 9 = nI tp) (htp3 : tp ≤ 300) (hnt : n ≤ tp) (h8 : S 8 0 = 12) (hfp : σ.1 13 = -1) : PM g yX1_law (wsW_ yX1_law cX1_law 5 (some .int) [(20, 42, 102, 365), (49, 95, 102, 365), (20, 42, 126, 0), (49, 95, 126, 0), (102, 119, 126, 0), (126, 128, 126, 0)]) d 0 0 [.ref (A 0 0 0), .int (nI n)] μ (CQ ["java/lang/IllegalArgumentException"] (-1, sF (sF (s0 σ) 10 (nI n)) 9 (nI 0)) (fun τ M => SB g P F A 0 S b τ nw M)) := by
  obtain ⟨e, h, t⟩ := s
  refine PM.ofH (by decide +kernel) (Nat.le_of_ble_eq_true rfl) ?_
  refine PJ.ok (fun G => ?_)
  show PJ g _ _ _ _ d 0 0 0 [(0, .ref (A 0 0 0)), (1, .int (nI n))] [] _ _
  refine pl_iload_n (pc := 0) dX1_law_0 rfl rfl ?_
  refine pl_if_ltN (pc := 1) dX1_law_1 ⟨16, by decide⟩ (by omega) ?_
  refine pl_iload_n (pc := 4) dX1_law_4 rfl rfl ?_
  refine pl_aload_n (pc := 5) dX1_law_5 rfl rfl ?_
  refine pj_getf (pc := 6) ckX1 2 q855 dX1_law_6 (by decide) (h.r0) rfl ?_
  refine PJ.top (y := nI tp) htp ?_
  refine pl_icmp_gt (pc := 9) (tgt := 16) dX1_law_9 (by decide) (by omega) (by omega) (fun c9 => ?_) (fun c9 => ?_)
  · exact absurd c9 (by omega)
  · refine pl_iconst (pc := 12) (v := 1) dX1_law_12 (by rfl) ?_
    refine pj_goto (pc := 13) (tgt := 17) dX1_law_13 (by decide) ?_
    refine pl_callSv (pc := 17) (As := [_]) (C1 := 0) (N1 := 0) (C2 := 0) (N2 := 0) mdX1_need q1262 q1263 q125 dX1_law_17 rfl rfl (Nat.le_of_ble_eq_true rfl) (k_X1_need_ok (d := d - 1) (by omega) (by decide)) (by omega) (by omega) (by omega) ?_
    refine pl_aload_n (pc := 20) dX1_law_20 rfl rfl ?_
    refine pj_iconst (pc := 21) (v := (-1)) dX1_law_21 (by rfl) ?_
    refine pj_putf (pc := 22) ckX1 3 q856 dX1_law_22 (by decide) rfl (h.r0) rfl rfl (Nat.le_of_ble_eq_true rfl) ?_
    refine sxk (h.p0_3) (fun My1 y1 => ?_)
    refine pl_aload_n (pc := 25) dX1_law_25 rfl rfl ?_
    refine pj_getf (pc := 26) ckX1 0 q853 dX1_law_26 (by decide) (y1.r0) rfl ?_
    refine pj_getfN (pc := 29) ckX2 28 q777 dX1_law_29 (by decide) (y1.r1) rfl ?_
    obtain ⟨m_32, c_32, l_32⟩ := y1.L8
    refine pl_callVd (pc := 32) (As := []) (C1 := 0) (N1 := 0) (C2 := 0) (N2 := 0) ckJ2 mdJ2_size rfl q1049 q948 q949 q129 dX1_law_32 rfl rfl (Nat.le_of_ble_eq_true rfl) l_32.1 (k_J2_size (d := d - 1) (by omega) l_32) (by omega) (by omega) (by omega) ?_
    refine pl_bipush (pc := 35) (v := 12) dX1_law_35 (by rfl) ?_
    refine pl_icmp_ne (pc := 37) (tgt := 49) dX1_law_37 (by decide) (by omega) (by omega) (fun c37 => ?_) (fun c37 => ?_)
    · exact absurd h8 c37
    · refine pj_iconst (pc := 40) (v := (-1)) dX1_law_40 (by rfl) ?_
      refine pj_istore_n (pc := 41) (lv' := [(2, _), (0, _), (1, _)]) dX1_law_41 rfl (by decide) rfl ?_
      refine pl_aload_n (pc := 42) dX1_law_42 rfl rfl ?_
      refine pl_iconst (pc := 43) (v := 0) dX1_law_43 (by rfl) ?_
      refine pj_putf (pc := 44) ckX1 2 q855 dX1_law_44 (by decide) rfl (y1.r0) rfl rfl (Nat.le_of_ble_eq_true rfl) ?_
      refine sxk (y1.p0_2) (fun My2 y2 => ?_)
      refine pl_iload_n (pc := 47) dX1_law_47 rfl rfl ?_
      refine pj_iret (pc := 48) dX1_law_48 rfl ?_
      have g8 : SX g P F A 0 S b (sF (sF (s0 σ) 10 (nI n)) 9 (nI 0)) e _ := y2.cg (fun _ _ _ _ => rfl) (fun x hx => by rcases hx with z | z | z | z | z | z | z | z <;> subst z <;> first | rfl | exact hfp) rfl rfl
      exact CQ.ok rfl rfl ⟨e, g8, t.cg h.hz (fun _ _ => rfl) rfl rfl (fun _ _ => rfl) rfl rfl⟩
/-- how the class answers law, beside what the model makes of it -/
def LwQ (g : GP) (P : Nat → Prop) (F : Mem) (S : Nat → Nat → Nat) (b : XS) (σ : MS) (n nor nw : Nat) : OC → Mem → Prop := (fun o M => ∃ A1 S1 b1, S1 8 0 ≤ 12 ∧ (∀ x, x ≠ 8 → ∀ y, S1 x y = S x y) ∧ S1 8 1 = S 8 1 ∧ ((S1 = S ∧ b1 = b) ∨ (S1 8 0 = S 8 0 + 1 ∧ b1 = b39 b (S 8 0))) ∧ ∀ v σ1, LawR (BTx σ n) n (S 8 0) (lawB σ n (S 8 0)) (lawP (BTx σ n) n 10 (sk (BTx σ n) n 0) A0 false) v σ1 → o = .inl (some (.int v)) ∧ σ1.1 0 = nI 0 ∧ row σ1 2125 = nI (S1 8 0) ∧ IvG σ1 (S 4 0) (S1 8 0) (S 10 0) (S 6 0) nor nw ∧ LwK σ1 (S1 8 0) ∧ SB g P F A1 0 S1 b1 σ1 nw M)
set_option maxHeartbeats 1000000 in
theorem x_X1_law_ok {g : GP} {μ : Mem} {d : Nat} (hd : 118 ≤ d) {P : Nat → Prop} {F : Mem} {A : XA} {S : Nat → Nat → Nat} {b : XS} {σ : MS} {nor nw : Nat} (s : SB g P F A 0 S b σ nw μ) (iv : IvG σ (S 4 0) (S 8 0) (S 10 0) (S 6 0) nor nw) (ak : AkX S σ nor) (lk : LwK σ (S 8 0)) (lz : LzK σ (S 8 0)) (tb : TpX σ) {n tp : Nat} (htp : σ.1 9 = nI tp) (htp3 : tp ≤ 300) (hnt : n ≤ tp) (h8 : S 8 0 < 12) : PM g yX1_law (wsW_ yX1_law cX1_law 5 (some .int) [(20, 42, 102, 365), (49, 95, 102, 365), (20, 42, 126, 0), (49, 95, 126, 0), (102, 119, 126, 0), (126, 128, 126, 0)]) d 5300 60600 [.ref (A 0 0 0), .int (nI n)] μ (LwQ g P F S b σ n nor nw) := by
  obtain ⟨e, h, t⟩ := s
  have hz := h.hz
  have hn3 : n ≤ 300 := by omega
  have hB : ∀ k, n ≤ k → BTx σ n k = 0 := fun k hk => BTx_z hk
  refine PM.ofH (by decide +kernel) (Nat.le_of_ble_eq_true rfl) ?_
  refine PJ.ok (fun G => ?_)
  show PJ g _ _ _ _ d 5300 60600 0 [(0, .ref (A 0 0 0)), (1, .int (nI n))] [] _ _
  refine pl_iload_n (pc := 0) dX1_law_0 rfl rfl ?_
  refine pl_if_ltN (pc := 1) dX1_law_1 ⟨16, by decide⟩ (by omega) ?_
  refine pl_iload_n (pc := 4) dX1_law_4 rfl rfl ?_
  refine pl_aload_n (pc := 5) dX1_law_5 rfl rfl ?_
  refine pj_getf (pc := 6) ckX1 2 q855 dX1_law_6 (by decide) (h.r0) rfl ?_
  refine PJ.top (y := nI tp) htp ?_
  refine pl_icmp_gt (pc := 9) (tgt := 16) dX1_law_9 (by decide) (by omega) (by omega) (fun c9 => ?_) (fun c9 => ?_)
  · exact absurd c9 (by omega)
  · refine pl_iconst (pc := 12) (v := 1) dX1_law_12 (by rfl) ?_
    refine pj_goto (pc := 13) (tgt := 17) dX1_law_13 (by decide) ?_
    refine pl_callSv (pc := 17) (As := [_]) (C1 := 0) (N1 := 0) (C2 := 5300) (N2 := 60600) mdX1_need q1262 q1263 q125 dX1_law_17 rfl rfl (Nat.le_of_ble_eq_true rfl) (k_X1_need_ok (d := d - 1) (by omega) (by decide)) (by omega) (by omega) (by omega) ?_
    refine pl_aload_n (pc := 20) dX1_law_20 rfl rfl ?_
    refine pj_iconst (pc := 21) (v := (-1)) dX1_law_21 (by rfl) ?_
    refine pj_putf (pc := 22) ckX1 3 q856 dX1_law_22 (by decide) rfl (h.r0) rfl rfl (Nat.le_of_ble_eq_true rfl) ?_
    refine sxk (h.p0_3) (fun My1 y1 => ?_)
    refine pl_aload_n (pc := 25) dX1_law_25 rfl rfl ?_
    refine pj_getf (pc := 26) ckX1 0 q853 dX1_law_26 (by decide) (y1.r0) rfl ?_
    refine pj_getfN (pc := 29) ckX2 28 q777 dX1_law_29 (by decide) (y1.r1) rfl ?_
    obtain ⟨m_32, c_32, l_32⟩ := y1.L8
    refine pl_callVd (pc := 32) (As := []) (C1 := 0) (N1 := 0) (C2 := 5300) (N2 := 60600) ckJ2 mdJ2_size rfl q1049 q948 q949 q129 dX1_law_32 rfl rfl (Nat.le_of_ble_eq_true rfl) l_32.1 (k_J2_size (d := d - 1) (by omega) l_32) (by omega) (by omega) (by omega) ?_
    refine pl_bipush (pc := 35) (v := 12) dX1_law_35 (by rfl) ?_
    refine pl_icmp_ne (pc := 37) (tgt := 49) dX1_law_37 (by decide) (by omega) (by omega) (fun c37 => ?_) (fun c37 => ?_)
    · have y1 : SX g P F A 0 S b (sF σ 13 (-1)) e _ := y1
      refine pl_aload_n (pc := 49) dX1_law_49 rfl rfl ?_
      refine pj_getf (pc := 50) ckX1 0 q853 dX1_law_50 (by decide) (y1.r0) rfl ?_
      refine pj_getfN (pc := 53) ckX2 28 q777 dX1_law_53 (by decide) (y1.r1) rfl ?_
      refine pj_new (pc := 56) (C1 := 5299) (N1 := 60591) ckX12 q1854 q1490 q160 dX1_law_56 _ dfX12 (by omega) (by omega) (fun q_56 hn_56 gq_56 => ?_)
      have f56 := fresh_up (x := (.inr (14, [.null, .int 0, .int 0, .int 0, .int 0, .int 0, .int 0, .int 0, .null]))) hn_56
      refine pj_dup (pc := 59) dX1_law_59 rfl ?_
      refine pj_new (pc := 60) (C1 := 5298) (N1 := 60587) ckX18 q1855 q1856 q167 dX1_law_60 _ dfX18 (by omega) (by omega) (fun q_60 hn_60 gq_60 => ?_)
      refine pj_dup (pc := 63) dX1_law_63 rfl ?_
      have f60 : ∀ a y, My1 a = some y → _ := fun a y z => fresh_up (x := (.inr (20, [.null, .int 0, .int 0, .int 0]))) hn_60 a y (f56 a y z)
      have y3 : SX g P F A 0 S b (sF σ 13 (-1)) e _ := y1.mono f60
      refine pl_aload_n (pc := 64) dX1_law_64 rfl rfl ?_
      refine pj_getf (pc := 65) ckX1 7 q860 dX1_law_65 (by decide) (y3.r0) rfl ?_
      refine pl_iload_n (pc := 68) dX1_law_68 rfl rfl ?_
      refine pl_callIv (pc := 69) (As := [_, _]) (C1 := 0) (N1 := 0) (C2 := 5298) (N2 := 60587) mdX18_init rfl q1857 q1858 q167 dX1_law_69 rfl rfl (Nat.le_of_ble_eq_true rfl) (k_X18_init (d := d - 1) (by omega) mset_s) (by omega) (by omega) (by omega) ?_
      refine PJ.mem (show _ = (mset (mset My1 q_56 (.inr (14, [.null, .int 0, .int 0, .int 0, .int 0, .int 0, .int 0, .int 0, .null]))) q_60 (rdO (A 41 0 0) n 0 0)) from mset_m) ?_
      have mo : ∀ a y, My1 a = some y → a ≠ q_60 ∧ (mset (mset My1 q_56 (.inr (14, [.null, .int 0, .int 0, .int 0, .int 0, .int 0, .int 0, .int 0, .null]))) q_60 (rdO (A 41 0 0) n 0 0)) a = some y := fun a y z => ⟨fun w => (by have z2 := f56 a y z; rw [w, hn_60] at z2; cases z2), fresh_up (x := rdO (A 41 0 0) n 0 0) hn_60 a y (f56 a y z)⟩
      have ht41 := (mo _ _ y1.r41).2
      have htr := (mo _ _ y1.r41).1
      have tx : TxR (VX 0 S b (sF σ 13 (-1)) e 41 0 0) n (BTx σ n) := BTx_R tb hn3 (fun k hk => y1.v41 hk)
      have q56 : (mset (mset My1 q_56 (.inr (14, [.null, .int 0, .int 0, .int 0, .int 0, .int 0, .int 0, .int 0, .null]))) q_60 (rdO (A 41 0 0) n 0 0)) q_56 = some (.inr (14, [.null, .int 0, .int 0, .int 0, .int 0, .int 0, .int 0, .int 0, .null])) := (mset_n (fun w => by rw [← w, mset_s] at hn_60; cases hn_60)).trans mset_s
      rcases hlp : lawP (BTx σ n) n 10 (sk (BTx σ n) n 0) A0 false with ⟨k9, w9⟩ | ⟨Al, fb⟩
      · refine pj_callV (pc := 72) (As := []) (C1 := 16 * n + 30) (N1 := 200 * n + 200) (C2 := 0) (N2 := 0) ckX18 mdX18_law rfl q1874 q1875 q1876 q167 dX1_law_72 rfl rfl (Nat.le_of_ble_eq_true rfl) mset_s (x_X18_law (d := d - 1) htr tx (by omega) mset_s ht41) (by omega) (by omega) (by omega) (fun v8 M8 h8 => by rw [hlp] at h8; obtain ⟨q8, e8, -⟩ := h8; cases e8) (fun E8 q7 M8 h8 => ?_)
        rw [hlp] at h8
        obtain ⟨q8, e8, hq8, hP8⟩ := h8
        cases e8
        refine px_catch (name := "SettlerColony$Wrong") [⟨20, 42, 102, 365⟩] ⟨49, 95, 102, 365⟩ [⟨20, 42, 126, 0⟩, ⟨49, 95, 126, 0⟩, ⟨102, 119, 126, 0⟩, ⟨126, 128, 126, 0⟩] rfl (fun z hz => Or.inl (by cases List.mem_singleton.mp hz; rfl)) (by decide) (by decide) q1853 q2008 ?_
        have g8 : SX g P F A 0 S b (sF σ 13 (-1)) e M8 := y1.mono (fun a y z => hP8 a y (mo a y z).1 (mo a y z).2)
        have nq8 : q7 ≠ A 0 0 0 := fun z => by rw [z, g8.r0] at hq8; cases hq8
        refine pj_astore_n (pc := 102) (lv' := [(2, _), (0, _), (1, _)]) dX1_law_102 rfl (by decide) rfl ?_
        refine pl_aload_n (pc := 103) dX1_law_103 rfl rfl ?_
        refine pl_aload_n (pc := 104) dX1_law_104 rfl rfl ?_
        refine pj_getfN (pc := 105) ckX20 7 q2027 dX1_law_105 (by decide) hq8 rfl ?_
        refine pj_putf (pc := 108) ckX1 3 q856 dX1_law_108 (by decide) rfl g8.r0 rfl rfl (Nat.le_of_ble_eq_true rfl) ?_
        refine sxf (g8.p0_3 (v := nI w9)) ((mset_n nq8).trans hq8) (fun M9 g9 hq9 => ?_)
        refine pl_aload_n (pc := 111) dX1_law_111 rfl rfl ?_
        refine pj_getfN (pc := 112) ckX20 6 q2025 dX1_law_112 (by decide) hq9 rfl ?_
        refine pl_bipush (pc := 115) (v := 10) dX1_law_115 (by rfl) ?_
        refine pj_isub (pc := 117) dX1_law_117 ?_
        refine pj_istore_n (pc := 118) (lv' := [(3, _), (2, _), (0, _), (1, _)]) dX1_law_118 rfl (by decide) rfl ?_
        refine pl_aload_n (pc := 119) dX1_law_119 rfl rfl ?_
        refine pl_iconst (pc := 120) (v := 0) dX1_law_120 (by rfl) ?_
        refine pj_putf (pc := 121) ckX1 2 q855 dX1_law_121 (by decide) rfl (g9.r0) rfl rfl (Nat.le_of_ble_eq_true rfl) ?_
        refine sxk (g9.p0_2) (fun My2 y2 => ?_)
        refine pl_iload_n (pc := 124) dX1_law_124 rfl rfl ?_
        refine pj_iret (pc := 125) dX1_law_125 rfl ?_
        refine ⟨A, S, b, hz.2.2.2.1, fun _ _ _ => rfl, rfl, Or.inl ⟨rfl, rfl⟩, fun v σ1 hL => ?_⟩
        rw [hlp] at hL
        obtain ⟨rfl, -, -, sm, s13⟩ := hL
        exact ⟨rfl, law_flt y2 t iv lk sm s13⟩
      · refine pj_callV (pc := 72) (As := []) (C1 := 16 * n + 30) (N1 := 200 * n + 200) (C2 := 400) (N2 := 300) ckX18 mdX18_law rfl q1874 q1875 q1876 q167 dX1_law_72 rfl rfl (Nat.le_of_ble_eq_true rfl) mset_s (x_X18_law (d := d - 1) htr tx (by omega) mset_s ht41) (by omega) (by omega) (by omega) (fun v8 M8 h8 => ?_) (fun E8 q7 M8 h8 => by rw [hlp] at h8; obtain ⟨q8, e9, f9, im, p8, o8, e8, -⟩ := h8; cases e8)
        rw [hlp] at h8
        obtain ⟨qt, e9, f9, im, p8, o8, e8, yS, lT⟩ := h8
        cases e8
        have mo8 : ∀ a y, My1 a = some y → M8 a = some y := fun a y z => yS.get (mo a y z).1 (mo a y z).2
        have r56 : q_56 ≠ q_60 := fun w => by rw [← w, mset_s] at hn_60; cases hn_60
        have hl8 : M8 q_56 = some (.inr (14, [.null, .int 0, .int 0, .int 0, .int 0, .int 0, .int 0, .int 0, .null])) := yS.get r56 q56
        refine pl_callIWv (pc := 75) (As := [_]) (C1 := 1) (N1 := 100) (C2 := 399) (N2 := 200) mdX12_init rfl q2240 q1492 q160 dX1_law_75 rfl rfl (Nat.le_of_ble_eq_true rfl) (k_X12_init (d := d - 1) (by omega) hl8) (by omega) (by omega) (by omega) (fun My3 qy3 => ?_)
        obtain ⟨qv, hv0, hvl, e_75⟩ := qy3
        subst e_75
        refine PJ.mem (show _ = (mset (mset M8 qv (intX g 3 100 (fun _ => 0))) q_56 (.inr (14, [.ref qt, .int 0, .int (-1), .int (-1), .int (-1), .int 0, .int 0, .int 0, .ref qv]))) from by rw [mset_c (Ne.symm hvl)]; exact mset_m) ?_
        have mo2 : ∀ a y, My1 a = some y → (mset (mset M8 qv (intX g 3 100 (fun _ => 0))) q_56 (.inr (14, [.ref qt, .int 0, .int (-1), .int (-1), .int (-1), .int 0, .int 0, .int 0, .ref qv]))) a = some y := fun a y z => (mset_n (fun w => by rw [w, hn_56] at z; cases z)).trans ((mset_n (fun w => by have z2 := mo8 a y z; rw [w, hv0] at z2; cases z2)).trans (mo8 a y z))
        have g2 := y1.mono mo2
        have hc_78 : (mset (mset M8 qv (intX g 3 100 (fun _ => 0))) q_56 (.inr (14, [.ref qt, .int 0, .int (-1), .int (-1), .int (-1), .int 0, .int 0, .int 0, .ref qv]))) q_56 = some (.inr (14, [.ref qt, .int 0, .int (-1), .int (-1), .int (-1), .int 0, .int 0, .int 0, .ref qv])) := mset_s
        obtain ⟨m_78, c_78, l_78, b_78, el_78, ne_78⟩ := g2.LA8
        refine pl_add (pc := 78) (C1 := 300) (N1 := 0) q1114 dX1_law_78 (by omega) l_78 (by omega) b_78 (fun j hj => if_neg (by omega)) el_78 hc_78 rfl q3256 (ne_oo hc_78 l_78.1 (by decide)) ne_78 (Nat.le_of_ble_eq_true rfl) (by omega) (by omega) (fun q2 m1 mc1 hq2 hm1 hm2 => ?_)
        obtain ⟨xT, hxT, hx2, hxk⟩ := lT.fin
        have yS2 := (yS.keep lT.2.2.2.1.1 lT.1).keep lT.2.2.2.1.2 lT.2.1
        obtain ⟨σs, sp1, sp2, sp3⟩ := ex_law (l := S 8 0) hB hn3 hlp (sF σ 13 (-1))
        have lk0 : LwK (sF σ 13 (-1)) (S 8 0) := lk.cg (fun l _ => LwS.same rfl rfl rfl rfl)
        have aw : ∀ a, a ≠ 1 → (sR σs 2125 (nI (S 8 0 + 1))).2.1 a = σs.2.1 a := fun a h1 => wA_k h1
        have hmn : ∀ a, M8 a = none → My1 a = none := fun a z => by
          cases hc : My1 a with
          | none => rfl
          | some y => rw [mo8 a y hc] at z; cases z
        refine sxk (law_sx (q := qt) (ql := q_56) (qv := qv) (x := xT) (σ1 := sR σs 2125 (nI (S 8 0 + 1))) y1 rfl h8 mo2 (fun a y z => ?_) hxT hn_56 (yS2.2.1.no q56) mset_s (hmn _ hv0) (yS2.imn hv0) ((mset_n hvl).trans mset_s) (Ne.symm hvl) ((lz _ (Nat.le_refl _) h8).1 0 (by decide)) ((lz _ (Nat.le_refl _) h8).1 1 (by decide)) ((lz _ (Nat.le_refl _) h8).1 2 (by decide)) (lz _ (Nat.le_refl _) h8).2 hq2 ⟨hm1, hm2⟩ (or_of hz iv.f0 (ak.cg (fun _ _ _ => rfl))) (fun j hj => (rowS_ne (fun z => by subst z; unfold mapR at hj; omega)).trans (congrFun (sp1.2.1 1 (by decide) (by decide) (by decide) (by decide)) j)) (fun a h1 h2 h3 h4 h5 h6 h7 h8 => (aw a h1).trans (sp1.2.1 a h5 h6 h7 h8)) (fun x _ => congrFun sp2 x) sp1.2.2.2.2.2 (fun dn hd => DnX.new (σ := σ) h8 (DnX.law (by omega) hd (lk0.T (fun l hl => ?_))) (sp3.cg (LwS.same (aw 8 (by decide)) (aw 9 (by decide)) (aw 10 (by decide)) (aw 11 (by decide)))) hx2 hxk)) (fun My9 y9 => ?_)
        · obtain ⟨z1, z2⟩ := yS2.2.1 a y z
          have z3 : My1 a = none := by
            cases hc : My1 a with
            | none => rfl
            | some y2 => rw [(mo a y2 hc).2] at z2; cases z2
          exact ⟨(mset_n (fun w => by rw [w, q56] at z2; cases z2)).trans ((mset_n (fun w => by rw [w, hv0] at z1; cases z1)).trans z1), z3⟩
        · obtain ⟨x1, x2, x3⟩ := sp1.S (show l ≠ S 8 0 by omega)
          exact ⟨fun j h1 h2 => by rw [aw 8 (by decide), aw 9 (by decide)]; exact x1 j h1 h2, fun k hk => by rw [aw 10 (by decide)]; exact x2 k hk, by rw [aw 11 (by decide)]; exact x3⟩
        refine pj_pop (pc := 81) dX1_law_81 rfl ?_
        refine pl_aload_n (pc := 82) dX1_law_82 rfl rfl ?_
        refine pj_getf (pc := 83) ckX1 0 q853 dX1_law_83 (by decide) (y9.r0) rfl ?_
        refine pj_getfN (pc := 86) ckX2 28 q777 dX1_law_86 (by decide) (y9.r1) rfl ?_
        obtain ⟨m_89, c_89, l_89⟩ := y9.L8
        refine pl_callVd (pc := 89) (As := []) (C1 := 0) (N1 := 0) (C2 := 300) (N2 := 0) ckJ2 mdJ2_size rfl q1049 q948 q949 q129 dX1_law_89 rfl rfl (Nat.le_of_ble_eq_true rfl) l_89.1 (k_J2_size (d := d - 1) (by omega) l_89) (by omega) (by omega) (by omega) ?_
        refine PJ.top (y := nI (S 8 0 + 1)) (by rw [show SnX S 8 0 (S 8 0 + 1) 8 0 = S 8 0 + 1 from SnX_eq]) ?_
        refine pl_iconst (pc := 92) (v := 1) dX1_law_92 (by rfl) ?_
        refine pj_isub (pc := 93) dX1_law_93 ?_
        refine PJ.top (y := nI (S 8 0)) (by rw [nI_pdec (by omega)]; rfl) ?_
        refine pj_istore_n (pc := 94) (lv' := [(2, _), (0, _), (1, _)]) dX1_law_94 rfl (by decide) rfl ?_
        refine pl_aload_n (pc := 95) dX1_law_95 rfl rfl ?_
        refine pl_iconst (pc := 96) (v := 0) dX1_law_96 (by rfl) ?_
        refine pj_putf (pc := 97) ckX1 2 q855 dX1_law_97 (by decide) rfl (y9.r0) rfl rfl (Nat.le_of_ble_eq_true rfl) ?_
        refine sxk (y9.p0_2) (fun My4 y4 => ?_)
        refine pl_iload_n (pc := 100) dX1_law_100 rfl rfl ?_
        refine pj_iret (pc := 101) dX1_law_101 rfl ?_
        refine ⟨(A2X (A50 A (S 8 0) qt) 8 38 39 0 (S 8 0) q_56 qv q2), SnX S 8 0 (S 8 0 + 1), b39 b (S 8 0), by rw [SnX_eq]; omega, fun x hx y => SnX_ne (fun z => hx z.1), SnX_ne (by decide), Or.inr ⟨SnX_eq, rfl⟩, fun v σ1 hL => ?_⟩
        rw [hlp] at hL
        obtain ⟨rfl, σq, rfl, sq1, sq2, sq3⟩ := hL
        exact ⟨rfl, law_good y4 hz h8 t iv lk lz sp1 sp2 sp3 sq1 sq2 sq3 (fun k hk => (hxk k hk).elim (fun z => Or.inl z.2) (fun ⟨φ, L9, z1, z2, z3⟩ => Or.inr ⟨φ, L9, z2, z3⟩))⟩
    · exact absurd c37 (by omega)
