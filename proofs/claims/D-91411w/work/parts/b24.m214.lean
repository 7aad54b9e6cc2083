set_option maxRecDepth 100000
/-- a World's fields -/
def woV (f : Nat → Int32) (p : Nat → Nat) : va_E := .inr (22, [.int (f 0), .int (f 1), .int (f 2), .int (f 3), .int (f 4), .int (f 5), .int (f 6), .int (f 7), .int (f 8), .int (f 9), .int (f 10), .int (f 11), .ref (p 12), .ref (p 13), .ref (p 14), .ref (p 15), .ref (p 16), .ref (p 17), .ref (p 18), .ref (p 19), .ref (p 20), .ref (p 21), .ref (p 22), .ref (p 23), .ref (p 24), .ref (p 25), .ref (p 26), .ref (p 27), .ref (p 28), .ref (p 29), .ref (p 30), .ref (p 31)])
set_option maxHeartbeats 600000 in
theorem k_X2_wanted {g : GP} {μ : Mem} {d : Nat} (hd : 1 ≤ d) {a s : Nat} {f : Nat → Int32} {p : Nat → Nat} {so wa : Nat → Int32} (hs : s < 96) (hm : μ a = some (woV f p)) (h13 : μ (p 13) = some (intX g 2 96 so)) (h14 : μ (p 14) = some (intX g 3 96 wa)) : PM g yX2_wanted (ws_ yX2_wanted cX2_wanted 2 (some .int)) d 0 0 [.ref a, .int (nI s)] μ (rQ (some (.int (milesV (wa s) (so s)))) μ) := by
  refine PM.of (by decide +kernel) (Nat.le_of_ble_eq_true rfl) ?_
  refine PJ.ok (fun G => ?_)
  show PJ g _ _ _ _ d 0 0 0 [(0, .ref a), (1, .int (nI s))] [] _ _
  refine pl_bipush (pc := 0) (v := 6) dX2_wanted_0 (by rfl) ?_
  refine pl_aload_n (pc := 2) dX2_wanted_2 rfl rfl ?_
  refine pj_getf (pc := 3) ckX2 14 q751 dX2_wanted_3 (by decide) hm rfl ?_
  refine pl_iload_n (pc := 6) dX2_wanted_6 rfl rfl ?_
  refine pl_zald (pc := 7) (n := 96) dX2_wanted_7 h14 (by omega) (by decide) ?_
  refine pj_if_eq (pc := 8) (tgt := 15) dX2_wanted_8 (by decide) (fun c8 => ?_) (fun c8 => ?_)
  · refine pl_iconst (pc := 15) (v := 0) dX2_wanted_15 (by rfl) ?_
    refine pl_iadd (pc := 16) dX2_wanted_16 ?_
    refine pl_bipush (pc := 17) (v := 9) dX2_wanted_17 (by rfl) ?_
    refine pl_aload_n (pc := 19) dX2_wanted_19 rfl rfl ?_
    refine pj_getf (pc := 20) ckX2 13 q749 dX2_wanted_20 (by decide) hm rfl ?_
    refine pl_iload_n (pc := 23) dX2_wanted_23 rfl rfl ?_
    refine pl_bald (pc := 24) (n := 96) dX2_wanted_24 h13 (by omega) (by decide) ?_
    refine pj_isub (pc := 25) dX2_wanted_25 ?_
    refine pl_iconst (pc := 26) (v := 3) dX2_wanted_26 (by rfl) ?_
    refine pj_idiv (pc := 27) dX2_wanted_27 (by decide) ?_
    refine pj_iadd (pc := 28) dX2_wanted_28 ?_
    refine pj_iret (pc := 29) dX2_wanted_29 rfl ?_
    exact ⟨vI (by simp [milesV, nI_add, *]), rfl⟩
  · refine pl_iconst (pc := 11) (v := 3) dX2_wanted_11 (by rfl) ?_
    refine pj_goto (pc := 12) (tgt := 16) dX2_wanted_12 (by decide) ?_
    refine pl_iadd (pc := 16) dX2_wanted_16 ?_
    refine pl_bipush (pc := 17) (v := 9) dX2_wanted_17 (by rfl) ?_
    refine pl_aload_n (pc := 19) dX2_wanted_19 rfl rfl ?_
    refine pj_getf (pc := 20) ckX2 13 q749 dX2_wanted_20 (by decide) hm rfl ?_
    refine pl_iload_n (pc := 23) dX2_wanted_23 rfl rfl ?_
    refine pl_bald (pc := 24) (n := 96) dX2_wanted_24 h13 (by omega) (by decide) ?_
    refine pj_isub (pc := 25) dX2_wanted_25 ?_
    refine pl_iconst (pc := 26) (v := 3) dX2_wanted_26 (by rfl) ?_
    refine pj_idiv (pc := 27) dX2_wanted_27 (by decide) ?_
    refine pj_iadd (pc := 28) dX2_wanted_28 ?_
    refine pj_iret (pc := 29) dX2_wanted_29 rfl ?_
    exact ⟨vI (by simp [milesV, nI_add, *]), rfl⟩
set_option maxHeartbeats 600000 in
theorem k_X2_puts {g : GP} {μ : Mem} {d : Nat} (hd : 4 ≤ d) {β : Mem} {n js s a nl : Nat} {ad : Nat → Nat} {ce : Nat → va_E} {f : Nat → Int32} {p : Nat → Nat} {mc : Int32} {x : Value} {so wa mi st en fe : Nat → Int32} {fl : Nat → Option Nat} (h : Bl β n ad ce μ) (hb : β a = some (woV f p)) (hs : s < 96) (hjs : 27 ≤ js ∧ js < n) (hn : 27 ≤ n) (p12 : ad 0 = p 12) (p13 : ad 21 = p 13) (p14 : ad 22 = p 14) (p15 : ad 2 = p 15) (p16 : ad 3 = p 16) (p17 : ad 4 = p 17) (p18 : ad 5 = p 18) (c0 : ce 0 = .inr (2, [.int mc, .ref (ad 1), .int (nI nl)])) (c1 : ce 1 = lstA g 96 fl) (hnl : s < nl ∧ nl ≤ 96) (hfl : fl s = some (ad js)) (c2 : ce 2 = intX g 0 96 mi) (c3 : ce 3 = intX g 0 96 st) (c4 : ce 4 = intX g 0 96 en) (c5 : ce 5 = intX g 3 96 fe) (c21 : ce 21 = intX g 2 96 so) (c22 : ce 22 = intX g 3 96 wa) (cs : ce js = .inr (35, [x])) : PM g yX2_puts (ws_ yX2_puts cX2_puts 3 none) d 0 0 [.ref a, .int (nI s), .ref (p 19)] μ (WQ none (fun M => Bl β n ad (uN (uN (uN (uN (uN ce js (.inr (35, [.ref (p 19)]))) 2 (intX g 0 96 (upd mi s (milesV (wa s) (so s))))) 3 (intX g 0 96 (upd st s (nI 0)))) 4 (intX g 0 96 (upd en s (-1)))) 5 (intX g 3 96 (upd fe s (nI 0)))) M)) := by
  refine PM.of (by decide +kernel) (Nat.le_of_ble_eq_true rfl) ?_
  refine PJ.ok (fun G => ?_)
  show PJ g _ _ _ _ d 0 0 0 [(0, .ref a), (1, .int (nI s)), (2, .ref (p 19))] [] _ _
  refine pl_aload_n (pc := 0) dX2_puts_0 rfl rfl ?_
  refine pj_getf (pc := 1) ckX2 12 q747 dX2_puts_1 (by decide) (h.up hb) rfl ?_
  refine pl_iload_n (pc := 4) dX2_puts_4 rfl rfl ?_
  have l5 : LstC g μ (p 12) (ad 1) nl 96 fl mc := ⟨h.getq (j := 0) (by omega) p12 c0, h.getq (j := 1) (by omega) rfl c1, by omega, by decide⟩
  have hsl : μ (ad js) = some (.inr (35, [x])) := h.getq (j := js) (by omega) rfl cs
  refine pl_callVd (pc := 5) (As := [_]) (C1 := 0) (N1 := 0) (C2 := 0) (N2 := 0) ckJ2 mdJ2_get rfl q707 q708 q709 q129 dX2_puts_5 rfl rfl (Nat.le_of_ble_eq_true rfl) l5.1 (k_J2_get (d := d - 1) (by omega) l5 (j := s) (by omega) hfl) (by omega) (by omega) (by omega) ?_
  refine pj_castS (pc := 8) ckX8 q620 dX2_puts_8 hsl ?_
  refine pl_aload_n (pc := 11) dX2_puts_11 rfl rfl ?_
  refine pj_putfN (pc := 12) ckX8 0 q627 dX2_puts_12 (by decide) rfl hsl rfl rfl (Nat.le_of_ble_eq_true rfl) ?_
  refine blk (h.put (j := js) (by omega) rfl) (fun M1 h1 => ?_)
  refine pl_aload_n (pc := 15) dX2_puts_15 rfl rfl ?_
  refine pj_getf (pc := 16) ckX2 15 q753 dX2_puts_16 (by decide) (h1.up hb) rfl ?_
  refine pl_iload_n (pc := 19) dX2_puts_19 rfl rfl ?_
  refine pl_aload_n (pc := 20) dX2_puts_20 rfl rfl ?_
  refine pl_aload_n (pc := 21) dX2_puts_21 rfl rfl ?_
  refine pj_getf (pc := 22) ckX2 19 q761 dX2_puts_22 (by decide) (h1.up hb) rfl ?_
  refine pj_acmp_ne (pc := 25) (tgt := 36) (rx := some (p 19)) (ry := some (p 19)) dX2_puts_25 (by decide) (fun z => absurd rfl z) (fun _ => ?_)
  refine pl_aload_n (pc := 28) dX2_puts_28 rfl rfl ?_
  refine pl_iload_n (pc := 29) dX2_puts_29 rfl rfl ?_
  refine pl_callVd (pc := 30) (As := [_]) (C1 := 0) (N1 := 0) (C2 := 0) (N2 := 0) ckX2 mdX2_wanted rfl q721 q722 q723 q126 dX2_puts_30 rfl rfl (Nat.le_of_ble_eq_true rfl) (h1.up hb) (k_X2_wanted (d := d - 1) (by omega) hs (h1.up hb) (h1.getq (j := 21) (by omega) p13 ((uN_ne (by omega)).trans c21)) (h1.getq (j := 22) (by omega) p14 ((uN_ne (by omega)).trans c22))) (by omega) (by omega) (by omega) ?_
  refine pj_goto (pc := 33) (tgt := 37) dX2_puts_33 (by decide) ?_
  refine pl_iast (pc := 37) (n := 96) dX2_puts_37 (h1.getq (j := 2) (by omega) p15 ((uN_ne (by omega)).trans c2)) (by omega) (by decide) ?_
  refine blk (h1.put (j := 2) (by omega) p15) (fun M2 h2 => ?_)
  refine pl_aload_n (pc := 38) dX2_puts_38 rfl rfl ?_
  refine pj_getf (pc := 39) ckX2 16 q755 dX2_puts_39 (by decide) (h2.up hb) rfl ?_
  refine pl_iload_n (pc := 42) dX2_puts_42 rfl rfl ?_
  refine pl_iconst (pc := 43) (v := 0) dX2_puts_43 (by rfl) ?_
  refine pl_iast (pc := 44) (n := 96) dX2_puts_44 (h2.getq (j := 3) (by omega) p16 ((uN_ne (by decide)).trans ((uN_ne (by omega)).trans c3))) (by omega) (by decide) ?_
  refine blk (h2.put (j := 3) (by omega) p16) (fun M3 h3 => ?_)
  refine pl_aload_n (pc := 45) dX2_puts_45 rfl rfl ?_
  refine pj_getf (pc := 46) ckX2 17 q757 dX2_puts_46 (by decide) (h3.up hb) rfl ?_
  refine pl_iload_n (pc := 49) dX2_puts_49 rfl rfl ?_
  refine pj_iconst (pc := 50) (v := (-1)) dX2_puts_50 (by rfl) ?_
  refine pl_iast (pc := 51) (n := 96) dX2_puts_51 (h3.getq (j := 4) (by omega) p17 ((uN_ne (by decide)).trans ((uN_ne (by decide)).trans ((uN_ne (by omega)).trans c4)))) (by omega) (by decide) ?_
  refine blk (h3.put (j := 4) (by omega) p17) (fun M4 h4 => ?_)
  refine pl_aload_n (pc := 52) dX2_puts_52 rfl rfl ?_
  refine pj_getf (pc := 53) ckX2 18 q759 dX2_puts_53 (by decide) (h4.up hb) rfl ?_
  refine pl_iload_n (pc := 56) dX2_puts_56 rfl rfl ?_
  refine pl_iconst (pc := 57) (v := 0) dX2_puts_57 (by rfl) ?_
  refine pl_zast (pc := 58) (n := 96) dX2_puts_58 (h4.getq (j := 5) (by omega) p18 ((uN_ne (by decide)).trans ((uN_ne (by decide)).trans ((uN_ne (by decide)).trans ((uN_ne (by omega)).trans c5))))) (by omega) (by decide) ?_
  refine blk (h4.put (j := 5) (by omega) p18) (fun M5 h5 => ?_)
  refine pj_vret (pc := 59) dX2_puts_59 rfl ?_
  exact ⟨rfl, h5⟩
section BB
variable {μ M : Mem} {n : Nat} {ad : Nat → Nat} {ce : Nat → va_E}
theorem Bl.bput {q : Nat} {c0 c : va_E} (h : Bl (mset μ q c0) n ad ce M) (hq : μ q ≠ none) : Bl (mset μ q c) n ad ce (mset M q c) := by
  have hne : ∀ j, j < n → ad j ≠ q := fun j hj e => by
    have := (h.1 j hj).1
    rw [e, mset_s] at this
    cases this
  refine ⟨fun j hj => ⟨?_, ?_⟩, h.2.1, fun a ha => ?_⟩
  · rw [mset_n (hne j hj)]
    have := (h.1 j hj).1
    rw [mset_n (hne j hj)] at this
    exact this
  · rw [mset_n (hne j hj)]
    exact h.get hj
  · by_cases e : a = q
    · subst e
      rw [mset_s, mset_s]
    · rw [mset_n e, mset_n e, h.2.2 a ha, mset_n e]
/-- what another makes beside it -/
theorem Bl.app {m : Nat} {ad2 : Nat → Nat} {ce2 : Nat → va_E} {M2 : Mem} (h : Bl μ n ad ce M) (k : Bl M m ad2 ce2 M2) : Bl μ (n + m) (fun j => if j < n then ad j else ad2 (j - n)) (fun j => if j < n then ce j else ce2 (j - n)) M2 := by
  have hf : ∀ j, j < m → ∀ i, i < n → ad i ≠ ad2 j := fun j hj => (h.fr (k.1 j hj).1).2
  refine ⟨fun j hj => ?_, fun i j hi hj e => ?_, fun a ha => ?_⟩
  · dsimp only
    by_cases c : j < n
    · rw [if_pos c, if_pos c]
      exact ⟨(h.1 j c).1, k.up (h.get c)⟩
    · rw [if_neg c, if_neg c]
      exact ⟨(h.fr (k.1 (j - n) (by omega)).1).1, k.get (by omega)⟩
  · dsimp only at e
    by_cases c : i < n
    · by_cases c2 : j < n
      · rw [if_pos c, if_pos c2] at e
        exact h.2.1 i j c c2 e
      · rw [if_pos c, if_neg c2] at e
        exact absurd e (hf _ (by omega) i c)
    · by_cases c2 : j < n
      · rw [if_neg c, if_pos c2] at e
        exact absurd e.symm (hf _ (by omega) j c2)
      · rw [if_neg c, if_neg c2] at e
        have := k.2.1 _ _ (by omega) (by omega) e
        omega
  · rw [k.2.2 a (fun j hj => ?_)]
    · exact h.2.2 a (fun j hj => by
        have := ha j (by omega)
        dsimp only at this
        rw [if_pos hj] at this
        exact this)
    · have := ha (n + j) (by omega)
      dsimp only at this
      rw [if_neg (by omega), Nat.add_sub_cancel_left] at this
      exact this
end BB
