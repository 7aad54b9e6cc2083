set_option maxRecDepth 100000
section KI
variable {g : GP} {own : String} {cc : ByteArray} {nL : Nat} {i : MI} {d C N pc : Nat} {ls : List (Nat × Value)} {rest : List Value} {μ : Mem} {Q : OC → Mem → Prop}
theorem pj_instK {q index : Nat} {Cn : String} (hO : va_O Cn q (gF g) (gS g) (gS g).heap) (hlink : Cond.classLink own index Cn ∈ lw_all) (hdg : decode cc pc = .ok (.instanceof index, 3)) (kk : PJ g own cc nL i d C N (pc + 3) ls (.int 1 :: rest) μ Q) : PJ g own cc nL i d C N pc ls (.ref q :: rest) μ Q := by
  intro G p e R s m args below meth c E9 H locs cells slots K K9 B arr hl9
  have hO2 := (hO.moved E9.2.2.2.2.2.2.2.2.2.1.1.alike).kept (H1 := s.heap) (fun a ha _ => E9.2.2.2.2.2.2.2.2.2.1.2.2 a ha)
  have hO3 := hO2.kept (H1 := H) (fun a ha hA => B.2.2.2.2.2.2.1 a ha hA)
  obtain ⟨cell, c1, c2, c3, -⟩ := hO3
  exact va_instE E9.1 E9.2.1 E9.2.2.2.1 (E9.2.2.2.2.1 _ hlink) ⟨cell, c1, c2, c3⟩ hdg (kk G p e R s m args below meth c E9 H locs cells slots K K9 B arr hl9)
theorem pj_castK {q index : Nat} {Cn : String} (hO : va_O Cn q (gF g) (gS g) (gS g).heap) (hlink : Cond.classLink own index Cn ∈ lw_all) (hdg : decode cc pc = .ok (.checkcast index, 3)) (kk : PJ g own cc nL i d C N (pc + 3) ls (.ref q :: rest) μ Q) : PJ g own cc nL i d C N pc ls (.ref q :: rest) μ Q := by
  intro G p e R s m args below meth c E9 H locs cells slots K K9 B arr hl9
  have hO2 := (hO.moved E9.2.2.2.2.2.2.2.2.2.1.1.alike).kept (H1 := s.heap) (fun a ha _ => E9.2.2.2.2.2.2.2.2.2.1.2.2 a ha)
  have hO3 := hO2.kept (H1 := H) (fun a ha hA => B.2.2.2.2.2.2.1 a ha hA)
  obtain ⟨cell, c1, c2, c3, -⟩ := hO3
  exact va_castE E9.1 E9.2.1 E9.2.2.2.1 (E9.2.2.2.2.1 _ hlink) ⟨cell, c1, c2, c3⟩ hdg (kk G p e R s m args below meth c E9 H locs cells slots K K9 B arr hl9)
end KI
theorem ne_lit {g : GP} {q a : Nat} {Cn : String} (hg : gF g q) (hO : va_O Cn a (gF g) (gS g) (gS g).heap) : q ≠ a := fun z => by
  obtain ⟨cell, -, -, -, hna⟩ := hO
  exact hna (z ▸ hg)
/-- a String that was made: its bytes -/
def StM (g : GP) (q w n : Nat) (f : Nat → Int32) (hh zz : Int32) (M : Mem) : Prop := M q = some (.inr (10, [.ref w, .int 0, .int hh, .int zz])) ∧ M w = some (intX g 2 n f)
/-- a made String's bytes are a literal's -/
def eqW (f : Nat → Int32) (n : Nat) (bs : List Nat) : Bool := decide (n = bs.length) && !anyN (fun i => !decide (f i = nI (bs.getD i 0))) n
set_option maxHeartbeats 600000 in
theorem k_J9_coder_m {g : GP} {μ : Mem} {d : Nat} {q w n : Nat} {f : Nat → Int32} {hh zz : Int32} (hd : 1 ≤ d) (h : StM g q w n f hh zz μ) (hn : n < 1000)  : PM g yJ9_coder (ws_ yJ9_coder cJ9_coder 1 (some .byte)) d 0 0 [.ref q] μ (rQ (some (.int (nI 0))) μ) := by
  refine PM.of (by decide +kernel) (Nat.le_of_ble_eq_true rfl) ?_
  refine PJ.ok (fun G => ?_)
  show PJ g _ _ _ _ d 0 0 0 [(0, .ref q)] [] _ _
  refine pj_gets (pc := 0) (st_compact G) q406 dJ9_coder_0 ?_
  refine pj_if_eq (pc := 3) (tgt := 13) dJ9_coder_3 (by decide) (fun h => absurd h (by decide)) (fun _ => ?_)
  refine pl_aload_n (pc := 6) dJ9_coder_6 rfl rfl ?_
  refine pj_getf (pc := 7) ckJ9 1 q537 dJ9_coder_7 (by decide) (h.1) rfl ?_
  refine pj_goto (pc := 10) (tgt := 14) dJ9_coder_10 (by decide) ?_
  refine pj_zret (pc := 14) .byte dJ9_coder_14 rfl (by rfl) ?_
  exact ⟨rfl, rfl⟩
set_option maxHeartbeats 600000 in
theorem k_J9_isLatin1_m {g : GP} {μ : Mem} {d : Nat} {q w n : Nat} {f : Nat → Int32} {hh zz : Int32} (hd : 1 ≤ d) (h : StM g q w n f hh zz μ) (hn : n < 1000)  : PM g yJ9_isLatin1 (ws_ yJ9_isLatin1 cJ9_isLatin1 1 (some .boolean)) d 0 0 [.ref q] μ (rQ (some (.int (nI 1))) μ) := by
  refine PM.of (by decide +kernel) (Nat.le_of_ble_eq_true rfl) ?_
  refine PJ.ok (fun G => ?_)
  show PJ g _ _ _ _ d 0 0 0 [(0, .ref q)] [] _ _
  refine pj_gets (pc := 0) (st_compact G) q406 dJ9_isLatin1_0 ?_
  refine pj_if_eq (pc := 3) (tgt := 17) dJ9_isLatin1_3 (by decide) (fun h => absurd h (by decide)) (fun _ => ?_)
  refine pl_aload_n (pc := 6) dJ9_isLatin1_6 rfl rfl ?_
  refine pj_getf (pc := 7) ckJ9 1 q537 dJ9_isLatin1_7 (by decide) (h.1) rfl ?_
  refine pj_if_ne (pc := 10) (tgt := 17) dJ9_isLatin1_10 (by decide) (fun h => absurd h (by decide)) (fun _ => ?_)
  refine pl_iconst (pc := 13) (v := 1) dJ9_isLatin1_13 (by rfl) ?_
  refine pj_goto (pc := 14) (tgt := 18) dJ9_isLatin1_14 (by decide) ?_
  refine pj_zret (pc := 18) .boolean dJ9_isLatin1_18 rfl (by rfl) ?_
  exact ⟨rfl, rfl⟩
set_option maxHeartbeats 600000 in
theorem k_J9_length_m {g : GP} {μ : Mem} {d : Nat} {q w n : Nat} {f : Nat → Int32} {hh zz : Int32} (hd : 2 ≤ d) (h : StM g q w n f hh zz μ) (hn : n < 1000)  : PM g yJ9_length (ws_ yJ9_length cJ9_length 1 (some .int)) d 0 0 [.ref q] μ (rQ (some (.int (nI n))) μ) := by
  refine PM.of (by decide +kernel) (Nat.le_of_ble_eq_true rfl) ?_
  refine PJ.ok (fun G => ?_)
  show PJ g _ _ _ _ d 0 0 0 [(0, .ref q)] [] _ _
  refine pl_aload_n (pc := 0) dJ9_length_0 rfl rfl ?_
  refine pj_getf (pc := 1) ckJ9 0 q536 dJ9_length_1 (by decide) (h.1) rfl ?_
  refine pj_alen (pc := 4) 2 dJ9_length_4 (h.2) rfl (v := nI n) rfl ?_
  refine pl_aload_n (pc := 5) dJ9_length_5 rfl rfl ?_
  refine pl_callVd (pc := 6) (As := []) (C1 := 0) (N1 := 0) (C2 := 0) (N2 := 0) ckJ9 mdJ9_coder rfl q402 q403 q404 q136 dJ9_length_6 rfl rfl (Nat.le_of_ble_eq_true rfl) (h.1) (k_J9_coder_m (d := d - 1) (by omega) h hn) (by omega) (by omega) (by omega) ?_
  refine pj_ishr (pc := 9) dJ9_length_9 ?_
  refine PJ.top (y := nI n) (sc_shr0 (by omega)) ?_
  refine pj_iret (pc := 10) dJ9_length_10 rfl ?_
  exact ⟨rfl, rfl⟩
set_option maxHeartbeats 600000 in
theorem k_J16_equals_m {g : GP} {μ : Mem} {d : Nat} {w n v : Nat} {f : Nat → Int32} {bs : List Nat} (hd : 1 ≤ d) (hw : μ w = some (intX g 2 n f)) (hn : n < 1000) (hT : va_T .byte v (KN bs).length (fun j => .int ((KN bs).getD j 0)) (gF g) (gS g) (gS g).heap) (hb : bs.length < 1000) : PM g yJ16_equals (ws_ yJ16_equals cJ16_equals 3 (some .boolean)) d 0 0 [.ref w, .ref v] μ (rQ (some (.int (bI (eqW f n bs)))) μ) := by
  refine PM.of (by decide +kernel) (Nat.le_of_ble_eq_true rfl) ?_
  refine PJ.ok (fun G => ?_)
  show PJ g _ _ _ _ d 0 0 0 [(0, .ref w), (1, .ref v)] [] _ _
  have hkl : (KN bs).length = bs.length := KN_len bs
  refine pl_aload_n (pc := 0) dJ16_equals_0 rfl rfl ?_
  refine pj_alen (pc := 1) 2 dJ16_equals_1 hw rfl (v := nI n) rfl ?_
  refine pl_aload_n (pc := 2) dJ16_equals_2 rfl rfl ?_
  refine pj_alenK (pc := 3) hT dJ16_equals_3 ?_
  refine pl_icmp_ne (pc := 4) (tgt := 34) dJ16_equals_4 (by decide) (by omega) (by omega) (fun c4 => ?_) (fun c4 => ?_)
  · refine pl_iconst (pc := 34) (v := 0) dJ16_equals_34 (by rfl) ?_
    refine pj_zret (pc := 35) .boolean dJ16_equals_35 rfl (by rfl) ?_
    have e9 : eqW f n bs = false := by
      unfold eqW
      rw [decide_eq_false (show ¬ n = bs.length by omega), Bool.false_and]
    refine ⟨?_, rfl⟩
    rw [e9]
    rfl
  · refine pl_iconst (pc := 7) (v := 0) dJ16_equals_7 (by rfl) ?_
    refine pj_istore_n (pc := 8) (lv' := [(2, _), (0, _), (1, _)]) dJ16_equals_8 rfl (by decide) rfl ?_
    refine PJ.sub [0, 2, 1] rfl ?_
    refine ind_dn (n := n) (P := fun i => ∀ M9, μ = M9 → anyN (fun i => !decide (f i = nI (bs.getD i 0))) i = false → PJ g _ _ _ _ d 0 0 9 [(2, .int (nI i)), (1, .ref v), (0, .ref w)] [] M9 _) (fun i hi ih M9 e9 hs => ?_) 0 (Nat.zero_le _) _ rfl rfl
    subst e9
    refine pl_iload_n (pc := 9) dJ16_equals_9 rfl rfl ?_
    refine pl_aload_n (pc := 10) dJ16_equals_10 rfl rfl ?_
    refine pj_alen (pc := 11) 2 dJ16_equals_11 hw rfl (v := nI n) rfl ?_
    refine pl_icmp_ge (pc := 12) (tgt := 32) dJ16_equals_12 (by decide) (by omega) (by omega) (fun c12 => ?_) (fun c12 => ?_)
    · refine pl_iconst (pc := 32) (v := 1) dJ16_equals_32 (by rfl) ?_
      refine pj_zret (pc := 33) .boolean dJ16_equals_33 rfl (by rfl) ?_
      have e9 : eqW f n bs = true := by
        have ei : i = n := by omega
        rw [ei] at hs
        unfold eqW
        rw [hs, decide_eq_true (show n = bs.length by omega)]
        rfl
      refine ⟨?_, rfl⟩
      rw [e9]
      rfl
    · refine pl_aload_n (pc := 15) dJ16_equals_15 rfl rfl ?_
      refine pl_iload_n (pc := 16) dJ16_equals_16 rfl rfl ?_
      refine pl_bald (pc := 17) (n := n) dJ16_equals_17 hw (by omega) (by omega) ?_
      refine pl_aload_n (pc := 18) dJ16_equals_18 rfl rfl ?_
      refine pl_iload_n (pc := 19) dJ16_equals_19 rfl rfl ?_
      refine pj_baldK (pc := 20) hT (by omega) (by omega) rfl dJ16_equals_20 ?_
      refine PJ.top (y := nI (bs.getD i 0)) (KN_get (by omega)) ?_
      refine pj_icmp_eq (pc := 21) (tgt := 26) dJ16_equals_21 (by decide) (fun c21 => ?_) (fun c21 => ?_)
      · refine pl_iinc1 (pc := 26) (lv' := [(2, _), (1, _), (0, _)]) dJ16_equals_26 rfl rfl (by decide) rfl ?_
        refine pj_goto (pc := 29) (tgt := 9) dJ16_equals_29 (by decide) ?_
        exact ih (by omega) _ rfl (anyN_up hs (show (!decide (f i = nI (bs.getD i 0))) = false by rw [decide_eq_true c21]; rfl))
      · refine pl_iconst (pc := 24) (v := 0) dJ16_equals_24 (by rfl) ?_
        refine pj_zret (pc := 25) .boolean dJ16_equals_25 rfl (by rfl) ?_
        have e9 : eqW f n bs = false := by
          unfold eqW
          rw [anyN_hit (show i < n by omega) (show (!decide (f i = nI (bs.getD i 0))) = true by rw [decide_eq_false c21]; rfl), Bool.not_true, Bool.and_false]
        refine ⟨?_, rfl⟩
        rw [e9]
        rfl
set_option maxHeartbeats 600000 in
theorem k_J9_equals_m {g : GP} {μ : Mem} {d : Nat} {q w n : Nat} {f : Nat → Int32} {hh zz : Int32} (hd : 2 ≤ d) (h : StM g q w n f hh zz μ) (hn : n < 1000) {a v : Nat} {bs : List Nat} (hg : gF g q) (sc : StrC g a v (KN bs)) (hb : bs.length < 1000) : PM g yJ9_equals (ws_ yJ9_equals cJ9_equals 3 (some .boolean)) d 0 0 [.ref q, .ref a] μ (rQ (some (.int (bI (eqW f n bs)))) μ) := by
  refine PM.of (by decide +kernel) (Nat.le_of_ble_eq_true rfl) ?_
  refine PJ.ok (fun G => ?_)
  show PJ g _ _ _ _ d 0 0 0 [(0, .ref q), (1, .ref a)] [] _ _
  refine pl_aload_n (pc := 0) dJ9_equals_0 rfl rfl ?_
  refine pl_aload_n (pc := 1) dJ9_equals_1 rfl rfl ?_
  refine pj_acmp_ne (pc := 2) (tgt := 7) (rx := some q) (ry := some a) dJ9_equals_2 (by decide) (fun _ => ?_) (fun z => absurd (Option.some.inj z) (ne_lit hg sc.1))
  refine pl_aload_n (pc := 7) dJ9_equals_7 rfl rfl ?_
  refine pj_instK (pc := 8) sc.1 q1657 dJ9_equals_8 ?_
  refine pj_if_eq (pc := 11) (tgt := 54) dJ9_equals_11 (by decide) (fun h => absurd h (by decide)) (fun _ => ?_)
  refine pl_aload_n (pc := 14) dJ9_equals_14 rfl rfl ?_
  refine pj_castK (pc := 15) sc.1 q1657 dJ9_equals_15 ?_
  refine pj_astore_n (pc := 18) (lv' := [(2, _), (0, _), (1, _)]) dJ9_equals_18 rfl (by decide) rfl ?_
  refine pj_gets (pc := 19) (st_compact G) q406 dJ9_equals_19 ?_
  refine pj_if_eq (pc := 22) (tgt := 36) dJ9_equals_22 (by decide) (fun h => absurd h (by decide)) (fun _ => ?_)
  refine pl_aload_n (pc := 25) dJ9_equals_25 rfl rfl ?_
  refine pj_getf (pc := 26) ckJ9 1 q537 dJ9_equals_26 (by decide) (h.1) rfl ?_
  refine pl_aload_n (pc := 29) dJ9_equals_29 rfl rfl ?_
  refine pj_getfK (pc := 30) sc.2.1 q537 dJ9_equals_30 ?_
  refine pj_icmp_ne (pc := 33) (tgt := 54) dJ9_equals_33 (by decide) (fun h => absurd h (by decide)) (fun _ => ?_)
  refine pl_aload_n (pc := 36) dJ9_equals_36 rfl rfl ?_
  refine pj_getf (pc := 37) ckJ9 0 q536 dJ9_equals_37 (by decide) (h.1) rfl ?_
  refine pl_aload_n (pc := 40) dJ9_equals_40 rfl rfl ?_
  refine pj_getfK (pc := 41) sc.2.2.1 q536 dJ9_equals_41 ?_
  refine pl_callSd (pc := 44) (As := [_, _]) (C1 := 0) (N1 := 0) (C2 := 0) (N2 := 0) mdJ16_equals q1658 q1659 q144 dJ9_equals_44 rfl rfl (Nat.le_of_ble_eq_true rfl) (k_J16_equals_m (d := d - 1) (by omega) h.2 hn sc.2.2.2.1 hb) (by omega) (by omega) (by omega) ?_
  refine pl_if_eqB (pc := 47) (tgt := 54) dJ9_equals_47 (by decide) (fun c47 => ?_) (fun c47 => ?_)
  · refine pl_iconst (pc := 54) (v := 0) dJ9_equals_54 (by rfl) ?_
    refine pj_zret (pc := 55) .boolean dJ9_equals_55 rfl (by rfl) ?_
    refine ⟨?_, rfl⟩
    rw [c47]
    rfl
  · refine pl_iconst (pc := 50) (v := 1) dJ9_equals_50 (by rfl) ?_
    refine pj_goto (pc := 51) (tgt := 55) dJ9_equals_51 (by decide) ?_
    refine pj_zret (pc := 55) .boolean dJ9_equals_55 rfl (by rfl) ?_
    refine ⟨?_, rfl⟩
    rw [c47]
    rfl
