set_option maxRecDepth 100000
theorem va_ldcwS {p : Program} {l : Launch} {e : Env} {R : Room} {s : State} {m : MethodId} {args : Array Value} {below : List Frame} {meth : Method} {c : Code} {H : Heap} {locs : List Loc} {cells slots : Nat} {Q : State → Prop} {cc : ByteArray} {pc : Nat} {ls : Array Slot} {rest : List Value} (hexec : p.tables.exec = Jvm.exec) (hb : c.code = cc) {own tx : String} {index q : Nat} (hown : s.vm.findClass own = some m.cls) (hZ : vk_R own index tx q s) (hdg : decode cc pc = .ok (.ldc_w index, 3))
    (k : W p l e R s m args below meth c H locs cells slots Q (F0 m (pc + 3) ls (.ref q :: rest))) : W p l e R s m args below meth c H locs cells slots Q (F0 m pc ls rest) := by
  intro T hT X
  obtain ⟨t, a1, b1⟩ := k T hT X
  refine ⟨t, ?_, b1⟩
  obtain ⟨k9, cf, i9, a', hk, hcf, hcp, -, hr, hev'⟩ := Cond.stringRef_spec hown hZ.1
  cases hZ.2.symm.trans hev'
  obtain ⟨k', hk', he⟩ := X.warmed.alike.2.2 _ _ hk
  have hr' : k'.resolved[index]? = some (some (.string q)) := by
    rcases X.warmed.entry hk hk' index with h | ⟨h, -⟩
    · rw [h]; exact hr
    · rw [hr] at h; cases h
  have hdg2 : decode c.code (F0 m pc ls rest).pc = .ok (.ldc_w index, 3) := by rw [hb]; exact hdg
  jvm_step X.here [hexec, hdg2, Op.ldc_w.wp_string (e := e) (s := T) (f := F0 m pc ls rest) X.here.top hk' (by rw [he]; exact hcf) hcp hr']
  exact a1
section LS
variable {g : GP} {own : String} {cc : ByteArray} {nL : Nat} {i : MI} {d C N pc : Nat} {ls : List (Nat × Value)} {rest : List Value} {μ : Mem} {Q : OC → Mem → Prop}
theorem pj_ldcwS {tx : String} {index q : Nat} (hR : vk_R own index tx q (gS g)) (hdg : decode cc pc = .ok (.ldc_w index, 3)) (kk : PJ g own cc nL i d C N (pc + 3) ls (.ref q :: rest) μ Q) : PJ g own cc nL i d C N pc ls rest μ Q :=
  fun G p e R s m args below meth c E H locs cells slots K K9 B arr hl9 => va_ldcwS E.1 E.2.1 E.2.2.2.1 (vk_R.warm E.2.2.2.2.2.2.2.2.2.1.1 hR) hdg (kk G p e R s m args below meth c E H locs cells slots K K9 B arr hl9)
end LS
/-- the text: size, bytes -/
def Txt (σ : MS) (n : Nat) (B : Nat → Nat) : Prop := σ.1 10 = nI n ∧ n ≤ 300 ∧ (∀ k, k < n → σ.2.1 7 k &&& nI 255 = nI (B k)) ∧ (∀ k, B k < 256) ∧ ∀ k, n ≤ k → B k = 0
theorem Txt.F {σ : MS} {n j : Nat} {B : Nat → Nat} {x : Int32} (t : Txt σ n B) (hj : 10 ≠ j) : Txt (sF σ j x) n B := ⟨(show (sF σ j x).1 10 = σ.1 10 by simp only [sF, upd]; rw [if_neg hj]).trans t.1, t.2⟩
theorem sF_id {σ : MS} {j : Nat} {x : Int32} (h : σ.1 j = x) : sF σ j x = σ := by
  have e : upd σ.1 j x = σ.1 := by
    funext k
    simp only [upd]
    split
    · rename_i h1; rw [h1, h]
    · rfl
  unfold sF
  rw [e]
theorem sF_sF {σ : MS} {j : Nat} {x y : Int32} : sF (sF σ j x) j y = sF σ j y := by
  have e : upd (upd σ.1 j x) j y = upd σ.1 j y := by
    funext k
    simp only [upd]
    split <;> rfl
  show (upd (upd σ.1 j x) j y, σ.2) = _
  rw [e]
  rfl
def skF (B : Nat → Nat) : Nat → Nat → Nat
  | 0, p => p
  | f + 1, p => if B p = 32 then skF B f (p + 1) else p
def sk (B : Nat → Nat) (n p : Nat) : Nat := skF B (n - p) p
theorem skF_in (B : Nat → Nat) : ∀ f p, p ≤ skF B f p ∧ skF B f p ≤ p + f
  | 0, p => ⟨Nat.le_refl _, Nat.le_refl _⟩
  | f + 1, p => by
    have := skF_in B f (p + 1)
    simp only [skF]
    split <;> omega
theorem sk_in {B : Nat → Nat} {n p : Nat} (h : p ≤ n) : p ≤ sk B n p ∧ sk B n p ≤ n := by
  have := skF_in B (n - p) p
  unfold sk
  omega
theorem skF_not (B : Nat → Nat) : ∀ f p, B (p + f) = 0 → B (skF B f p) ≠ 32
  | 0, p, h => by
    show B p ≠ 32
    rw [show p = p + 0 from rfl, h]
    decide
  | f + 1, p, h => by
    simp only [skF]
    split
    · exact skF_not B f (p + 1) (by rw [← h]; congr 1; omega)
    · assumption
/-- a word stands here: its letters, no letter behind -/
def isW (B : Nat → Nat) (q : Nat) (w : List Nat) : Bool := !anyN (fun i => !decide (B (q + i) = w.getD i 0)) w.length && (decide (B (q + w.length) < 97) || decide (122 < B (q + w.length)))
def wrS (σ : MS) (k w : Int32) : MS := if ¬ σ.1 12 ≤ 0 then σ else sF (sF σ 12 k) 13 w
def emS (σ : MS) (k v : Int32) : MS := if ¬ σ.1 12 ≤ 0 then σ else (let j := 400 * tN (σ.1 16) + tN (σ.1 15); let σ1 := wA (wA σ 8 j k) 9 j v; sF σ1 15 (σ1.1 15 + nI 1))
def opS (σ : MS) (b : Int32) : MS := (let σ1 := if ¬ σ.1 14 = nI 8 then σ else wrS σ (nI 3) (σ.1 11); let σ2 := sF σ1 14 (σ1.1 14 + nI 1); sF σ2 11 (σ2.1 11 + b))
set_option maxHeartbeats 600000 in
theorem w_X9_byteAt {g : GP} {ad : Nat → Nat} {μ : Mem} {σ : MS} {d : Nat} {k : Nat} {n : Nat} {B : Nat → Nat} (hd : 1 ≤ d) (hA : Inj ad 18) (tx : Txt σ n B) (hk : k < 2147483648) : PM g yX9_byteAt (ws_ yX9_byteAt cX9_byteAt 2 (some .int)) d 0 0 [.ref (ad 0), .int (nI k)] (mm g ad μ σ) (rQ (some (.int (nI (B k)))) (mm g ad μ (σ))) := by
  refine PM.of (by decide +kernel) (Nat.le_of_ble_eq_true rfl) ?_
  show PJ g _ _ _ _ d 0 0 0 [(0, .ref (ad 0)), (1, .int (nI k))] [] _ _
  have hn3 := tx.2.1
  refine pl_iload_n (pc := 0) dX9_byteAt_0 rfl rfl ?_
  refine pl_aload_n (pc := 1) dX9_byteAt_1 rfl rfl ?_
  refine pj_getf (pc := 2) ckX9 10 q2526 dX9_byteAt_2 (by decide) (mm_o hA) rfl ?_
  refine PJ.top (y := nI _) (tx.1) ?_
  refine pl_icmp_ge (pc := 5) (tgt := 21) dX9_byteAt_5 (by decide) (by omega) (by omega) (fun c5 => ?_) (fun c5 => ?_)
  · refine pl_iconst (pc := 21) (v := 0) dX9_byteAt_21 (by rfl) ?_
    refine pj_iret (pc := 22) dX9_byteAt_22 rfl ?_
    exact ⟨vIe (congrArg nI (tx.2.2.2.2 k c5)).symm rfl, rfl⟩
  · refine pl_aload_n (pc := 8) dX9_byteAt_8 rfl rfl ?_
    refine pj_getf (pc := 9) ckX9 8 q2524 dX9_byteAt_9 (by decide) (mm_o hA) rfl ?_
    refine pl_iload_n (pc := 12) dX9_byteAt_12 rfl rfl ?_
    refine pl_bald (pc := 13) (n := 300) dX9_byteAt_13 (mm_a hA 7 (by decide) (by decide)) (by omega) (by decide) ?_
    refine pl_sipush (pc := 14) (v := 255) dX9_byteAt_14 (by rfl) ?_
    refine pj_iand (pc := 17) dX9_byteAt_17 ?_
    refine pj_goto (pc := 18) (tgt := 22) dX9_byteAt_18 (by decide) ?_
    refine pj_iret (pc := 22) dX9_byteAt_22 rfl ?_
    exact ⟨vIe (tx.2.2.1 k c5) rfl, rfl⟩
set_option maxHeartbeats 600000 in
theorem w_X9_blanks {g : GP} {ad : Nat → Nat} {μ : Mem} {σ : MS} {d : Nat}  {n : Nat} {B : Nat → Nat} {p : Nat} (hd : 2 ≤ d) (hA : Inj ad 18) (tx : Txt σ n B) (hp : σ.1 11 = nI p) (hp3 : p ≤ 100000) : PM g yX9_blanks (ws_ yX9_blanks cX9_blanks 1 none) d 0 0 [.ref (ad 0)] (mm g ad μ σ) (rQ none (mm g ad μ (sF σ 11 (nI (sk B n p))))) := by
  refine PM.of (by decide +kernel) (Nat.le_of_ble_eq_true rfl) ?_
  show PJ g _ _ _ _ d 0 0 0 [(0, .ref (ad 0))] [] _ _
  have key : ∀ (f p : Nat) (σ : MS), Txt σ n B → σ.1 11 = nI p → p ≤ 100000 → f = n - p → PJ g yX9_blanks.cls cX9_blanks 1 (none, yX9_blanks.name, []) d 0 0 0 [(0, .ref (ad 0))] [] (mm g ad μ σ) (rQ none (mm g ad μ (sF σ 11 (nI (skF B f p))))) := by
    intro f
    induction f with
    | zero =>
      intro p σ tx hp hp3 hf
      have hn3 := tx.2.1
      refine pl_aload_n (pc := 0) dX9_blanks_0 rfl rfl ?_
      refine pj_getf (pc := 1) ckX9 11 q2527 dX9_blanks_1 (by decide) (mm_o hA) rfl ?_
      refine PJ.top (y := nI _) (hp) ?_
      refine pl_aload_n (pc := 4) dX9_blanks_4 rfl rfl ?_
      refine pj_getf (pc := 5) ckX9 10 q2526 dX9_blanks_5 (by decide) (mm_o hA) rfl ?_
      refine PJ.top (y := nI _) (tx.1) ?_
      refine pl_icmp_ge (pc := 8) (tgt := 37) dX9_blanks_8 (by decide) (by omega) (by omega) (fun c8 => ?_) (fun c8 => ?_)
      · refine pj_vret (pc := 37) dX9_blanks_37 rfl ?_
        exact ⟨rfl, congrArg (mm g ad μ) (sF_id hp).symm⟩
      · exact absurd c8 (by omega)
    | succ f ih =>
      intro p σ tx hp hp3 hf
      have hn3 := tx.2.1
      have hB := tx.2.2.2.1 p
      refine pl_aload_n (pc := 0) dX9_blanks_0 rfl rfl ?_
      refine pj_getf (pc := 1) ckX9 11 q2527 dX9_blanks_1 (by decide) (mm_o hA) rfl ?_
      refine PJ.top (y := nI _) (hp) ?_
      refine pl_aload_n (pc := 4) dX9_blanks_4 rfl rfl ?_
      refine pj_getf (pc := 5) ckX9 10 q2526 dX9_blanks_5 (by decide) (mm_o hA) rfl ?_
      refine PJ.top (y := nI _) (tx.1) ?_
      refine pl_icmp_ge (pc := 8) (tgt := 37) dX9_blanks_8 (by decide) (by omega) (by omega) (fun c8 => ?_) (fun c8 => ?_)
      · exact absurd c8 (by omega)
      · refine pl_aload_n (pc := 11) dX9_blanks_11 rfl rfl ?_
        refine pl_aload_n (pc := 12) dX9_blanks_12 rfl rfl ?_
        refine pj_getf (pc := 13) ckX9 11 q2527 dX9_blanks_13 (by decide) (mm_o hA) rfl ?_
        refine PJ.top (y := nI _) (hp) ?_
        refine pl_callVd (pc := 16) (As := [_]) (C2 := 0) (N2 := 0) ckX9 mdX9_byteAt rfl q2808 q2810 qs73 q154 dX9_blanks_16 rfl rfl (Nat.le_of_ble_eq_true rfl) (mm_o hA) (w_X9_byteAt (d := d - 1) (by omega) hA tx (by omega)) (by omega) (by decide) (by decide) ?_
        refine pl_bipush (pc := 19) (v := 32) dX9_blanks_19 (by rfl) ?_
        refine pl_icmp_ne (pc := 21) (tgt := 37) dX9_blanks_21 (by decide) (by omega) (by omega) (fun c21 => ?_) (fun c21 => ?_)
        · refine pj_vret (pc := 37) dX9_blanks_37 rfl ?_
          exact ⟨rfl, congrArg (mm g ad μ) (by simp only [skF]; rw [if_neg c21]; exact (sF_id hp).symm)⟩
        · refine pl_aload_n (pc := 24) dX9_blanks_24 rfl rfl ?_
          refine pj_dup (pc := 25) dX9_blanks_25 rfl ?_
          refine pj_getf (pc := 26) ckX9 11 q2527 dX9_blanks_26 (by decide) (mm_o hA) rfl ?_
          refine PJ.top (y := nI _) (hp) ?_
          refine pl_iconst (pc := 29) (v := 1) dX9_blanks_29 (by rfl) ?_
          refine pl_iadd (pc := 30) dX9_blanks_30 ?_
          refine pm_putI (pc := 31) 11 hA q2527 dX9_blanks_31 (by decide) rfl (by rfl) (by rfl) rfl ?_
          refine pj_goto (pc := 34) (tgt := 0) dX9_blanks_34 (by decide) ?_
          rw [show skF B (f + 1) p = skF B f (p + 1) by simp only [skF]; rw [if_pos c21]]
          exact PJ.post (fun o M h => ⟨h.1, h.2.trans (congrArg (mm g ad μ) sF_sF)⟩) (ih (p + 1) (sF σ 11 (nI (p + 1))) (tx.F (by decide)) rfl (by omega) (by omega))
  exact key (n - p) p σ tx hp hp3 rfl
set_option maxHeartbeats 600000 in
theorem w_X9_wrong {g : GP} {ad : Nat → Nat} {μ : Mem} {σ : MS} {d : Nat} {k : Int32} {w : Int32}  (hd : 1 ≤ d) (hA : Inj ad 18) : PM g yX9_wrong (ws_ yX9_wrong cX9_wrong 3 none) d 0 0 [.ref (ad 0), .int k, .int w] (mm g ad μ σ) (rQ none (mm g ad μ (wrS σ k w))) := by
  refine PM.of (by decide +kernel) (Nat.le_of_ble_eq_true rfl) ?_
  show PJ g _ _ _ _ d 0 0 0 [(0, .ref (ad 0)), (1, .int k), (2, .int w)] [] _ _
  refine pl_aload_n (pc := 0) dX9_wrong_0 rfl rfl ?_
  refine pj_getf (pc := 1) ckX9 12 q2528 dX9_wrong_1 (by decide) (mm_o hA) rfl ?_
  refine pj_if_le (pc := 4) (tgt := 8) dX9_wrong_4 (by decide) (fun c4 => ?_) (fun c4 => ?_)
  · refine pl_aload_n (pc := 8) dX9_wrong_8 rfl rfl ?_
    refine pl_iload_n (pc := 9) dX9_wrong_9 rfl rfl ?_
    refine pm_putI (pc := 10) 12 hA q2528 dX9_wrong_10 (by decide) rfl (by rfl) (by rfl) rfl ?_
    refine pl_aload_n (pc := 13) dX9_wrong_13 rfl rfl ?_
    refine pl_iload_n (pc := 14) dX9_wrong_14 rfl rfl ?_
    refine pm_putI (pc := 15) 13 hA q2529 dX9_wrong_15 (by decide) rfl (by rfl) (by rfl) rfl ?_
    refine pj_vret (pc := 18) dX9_wrong_18 rfl ?_
    exact ⟨rfl, congrArg (mm g ad μ) (by simp [wrS, c4])⟩
  · refine pj_vret (pc := 7) dX9_wrong_7 rfl ?_
    exact ⟨rfl, congrArg (mm g ad μ) (by simp [wrS, c4])⟩
set_option maxHeartbeats 600000 in
theorem w_X9_emits {g : GP} {ad : Nat → Nat} {μ : Mem} {σ : MS} {d : Nat} {k : Int32} {v : Int32} {l c : Nat} (hd : 1 ≤ d) (hA : Inj ad 18) (hl : σ.1 16 = nI l) (hl12 : l < 12) (hc : σ.1 15 = nI c) (hc4 : c < 400) : PM g yX9_emits (ws_ yX9_emits cX9_emits 3 none) d 0 0 [.ref (ad 0), .int k, .int v] (mm g ad μ σ) (rQ none (mm g ad μ (emS σ k v))) := by
  refine PM.of (by decide +kernel) (Nat.le_of_ble_eq_true rfl) ?_
  show PJ g _ _ _ _ d 0 0 0 [(0, .ref (ad 0)), (1, .int k), (2, .int v)] [] _ _
  have g_l := tN_nI (n := l) (by omega)
  have g_c := tN_nI (n := c) (by omega)
  refine pl_aload_n (pc := 0) dX9_emits_0 rfl rfl ?_
  refine pj_getf (pc := 1) ckX9 12 q2528 dX9_emits_1 (by decide) (mm_o hA) rfl ?_
  refine pj_if_le (pc := 4) (tgt := 8) dX9_emits_4 (by decide) (fun c4 => ?_) (fun c4 => ?_)
  · refine pl_aload_n (pc := 8) dX9_emits_8 rfl rfl ?_
    refine pj_getf (pc := 9) ckX9 17 q2533 dX9_emits_9 (by decide) (mm_o hA) rfl ?_
    refine pl_sipush (pc := 12) (v := 400) dX9_emits_12 (by rfl) ?_
    refine pl_aload_n (pc := 15) dX9_emits_15 rfl rfl ?_
    refine pj_getf (pc := 16) ckX9 16 q2532 dX9_emits_16 (by decide) (mm_o hA) rfl ?_
    refine PJ.top (y := nI _) (hl) ?_
    refine pl_imul (pc := 19) dX9_emits_19 ?_
    refine pl_aload_n (pc := 20) dX9_emits_20 rfl rfl ?_
    refine pj_getf (pc := 21) ckX9 15 q2531 dX9_emits_21 (by decide) (mm_o hA) rfl ?_
    refine PJ.top (y := nI _) (hc) ?_
    refine pl_iadd (pc := 24) dX9_emits_24 ?_
    refine pl_iload_n (pc := 25) dX9_emits_25 rfl rfl ?_
    refine pm_iast (pc := 26) 8 hA (by decide) (by decide) rfl dX9_emits_26 (show _ < 4800 by omega) (by decide) ?_
    refine pl_aload_n (pc := 27) dX9_emits_27 rfl rfl ?_
    refine pj_getf (pc := 28) ckX9 18 q2534 dX9_emits_28 (by decide) (mm_o hA) rfl ?_
    refine pl_sipush (pc := 31) (v := 400) dX9_emits_31 (by rfl) ?_
    refine pl_aload_n (pc := 34) dX9_emits_34 rfl rfl ?_
    refine pj_getf (pc := 35) ckX9 16 q2532 dX9_emits_35 (by decide) (mm_o hA) rfl ?_
    refine PJ.top (y := nI _) (hl) ?_
    refine pl_imul (pc := 38) dX9_emits_38 ?_
    refine pl_aload_n (pc := 39) dX9_emits_39 rfl rfl ?_
    refine pj_getf (pc := 40) ckX9 15 q2531 dX9_emits_40 (by decide) (mm_o hA) rfl ?_
    refine PJ.top (y := nI _) (hc) ?_
    refine pl_iadd (pc := 43) dX9_emits_43 ?_
    refine pl_iload_n (pc := 44) dX9_emits_44 rfl rfl ?_
    refine pm_iast (pc := 45) 9 hA (by decide) (by decide) rfl dX9_emits_45 (show _ < 4800 by omega) (by decide) ?_
    refine pl_aload_n (pc := 46) dX9_emits_46 rfl rfl ?_
    refine pj_dup (pc := 47) dX9_emits_47 rfl ?_
    refine pj_getf (pc := 48) ckX9 15 q2531 dX9_emits_48 (by decide) (mm_o hA) rfl ?_
    refine pl_iconst (pc := 51) (v := 1) dX9_emits_51 (by rfl) ?_
    refine pj_iadd (pc := 52) dX9_emits_52 ?_
    refine pm_putI (pc := 53) 15 hA q2531 dX9_emits_53 (by decide) rfl (by rfl) (by rfl) rfl ?_
    refine pj_vret (pc := 56) dX9_emits_56 rfl ?_
    exact ⟨rfl, congrArg (mm g ad μ) (by first | (simp [emS, hl, hc, g_l, g_c, c4]; done) | (simp [emS, hl, hc, g_l, g_c, c4]; rfl))⟩
  · refine pj_vret (pc := 7) dX9_emits_7 rfl ?_
    exact ⟨rfl, congrArg (mm g ad μ) (by first | (simp [emS, hl, hc, g_l, g_c, c4]; done) | (simp [emS, hl, hc, g_l, g_c, c4]; rfl))⟩
set_option maxHeartbeats 600000 in
theorem w_X9_opens {g : GP} {ad : Nat → Nat} {μ : Mem} {σ : MS} {d : Nat} {b : Int32}  (hd : 2 ≤ d) (hA : Inj ad 18) : PM g yX9_opens (ws_ yX9_opens cX9_opens 2 none) d 0 0 [.ref (ad 0), .int b] (mm g ad μ σ) (rQ none (mm g ad μ (opS σ b))) := by
  refine PM.of (by decide +kernel) (Nat.le_of_ble_eq_true rfl) ?_
  show PJ g _ _ _ _ d 0 0 0 [(0, .ref (ad 0)), (1, .int b)] [] _ _
  refine pl_aload_n (pc := 0) dX9_opens_0 rfl rfl ?_
  refine pj_getf (pc := 1) ckX9 14 q2530 dX9_opens_1 (by decide) (mm_o hA) rfl ?_
  refine pl_bipush (pc := 4) (v := 8) dX9_opens_4 (by rfl) ?_
  refine pj_icmp_ne (pc := 6) (tgt := 18) dX9_opens_6 (by decide) (fun c6 => ?_) (fun c6 => ?_)
  · refine pl_aload_n (pc := 18) dX9_opens_18 rfl rfl ?_
    refine pj_dup (pc := 19) dX9_opens_19 rfl ?_
    refine pj_getf (pc := 20) ckX9 14 q2530 dX9_opens_20 (by decide) (mm_o hA) rfl ?_
    refine pl_iconst (pc := 23) (v := 1) dX9_opens_23 (by rfl) ?_
    refine pj_iadd (pc := 24) dX9_opens_24 ?_
    refine pm_putI (pc := 25) 14 hA q2530 dX9_opens_25 (by decide) rfl (by rfl) (by rfl) rfl ?_
    refine pl_aload_n (pc := 28) dX9_opens_28 rfl rfl ?_
    refine pj_dup (pc := 29) dX9_opens_29 rfl ?_
    refine pj_getf (pc := 30) ckX9 11 q2527 dX9_opens_30 (by decide) (mm_o hA) rfl ?_
    refine pl_iload_n (pc := 33) dX9_opens_33 rfl rfl ?_
    refine pj_iadd (pc := 34) dX9_opens_34 ?_
    refine pm_putI (pc := 35) 11 hA q2527 dX9_opens_35 (by decide) rfl (by rfl) (by rfl) rfl ?_
    refine pj_vret (pc := 38) dX9_opens_38 rfl ?_
    exact ⟨rfl, congrArg (mm g ad μ) (by simp [opS, c6])⟩
  · refine pl_aload_n (pc := 9) dX9_opens_9 rfl rfl ?_
    refine pl_iconst (pc := 10) (v := 3) dX9_opens_10 (by rfl) ?_
    refine pl_aload_n (pc := 11) dX9_opens_11 rfl rfl ?_
    refine pj_getf (pc := 12) ckX9 11 q2527 dX9_opens_12 (by decide) (mm_o hA) rfl ?_
    refine pl_callVv (pc := 15) (As := [_, _]) (C2 := 0) (N2 := 0) ckX9 mdX9_wrong rfl q2838 q2840 qs77 q154 dX9_opens_15 rfl rfl (Nat.le_of_ble_eq_true rfl) (mm_o hA) (w_X9_wrong (d := d - 1) (by omega) hA) (by omega) (by decide) (by decide) ?_
    refine pl_aload_n (pc := 18) dX9_opens_18 rfl rfl ?_
    refine pj_dup (pc := 19) dX9_opens_19 rfl ?_
    refine pj_getf (pc := 20) ckX9 14 q2530 dX9_opens_20 (by decide) (mm_o hA) rfl ?_
    refine pl_iconst (pc := 23) (v := 1) dX9_opens_23 (by rfl) ?_
    refine pj_iadd (pc := 24) dX9_opens_24 ?_
    refine pm_putI (pc := 25) 14 hA q2530 dX9_opens_25 (by decide) rfl (by rfl) (by rfl) rfl ?_
    refine pl_aload_n (pc := 28) dX9_opens_28 rfl rfl ?_
    refine pj_dup (pc := 29) dX9_opens_29 rfl ?_
    refine pj_getf (pc := 30) ckX9 11 q2527 dX9_opens_30 (by decide) (mm_o hA) rfl ?_
    refine pl_iload_n (pc := 33) dX9_opens_33 rfl rfl ?_
    refine pj_iadd (pc := 34) dX9_opens_34 ?_
    refine pm_putI (pc := 35) 11 hA q2527 dX9_opens_35 (by decide) rfl (by rfl) (by rfl) rfl ?_
    refine pj_vret (pc := 38) dX9_opens_38 rfl ?_
    exact ⟨rfl, congrArg (mm g ad μ) (by simp [opS, eq_true c6])⟩
set_option maxHeartbeats 600000 in
theorem w_X9_isWord {g : GP} {μ : Mem} {d : Nat} (hd : 5 ≤ d) {ad : Nat → Nat} {σ : MS} (hA : Inj ad 18) {n : Nat} {B : Nat → Nat} (tx : Txt σ n B) {a v : Nat} {ws : List Nat} (sc : StrC g a v (KN ws)) (hws : ∀ x ∈ ws, x < 256) (hw8 : ws.length ≤ 8) {p : Nat} (hp : σ.1 11 = nI p) (hpn : p ≤ n) : PM g yX9_isWord (ws_ yX9_isWord cX9_isWord 3 (some .boolean)) d 0 0 [.ref (ad 0), .ref a] (mm g ad μ σ) (rQ (some (.int (bI (isW B (sk B n p) ws)))) (mm g ad μ (sF σ 11 (nI (sk B n p))))) := by
  refine PM.of (by decide +kernel) (Nat.le_of_ble_eq_true rfl) ?_
  refine PJ.ok (fun G => ?_)
  show PJ g _ _ _ _ d 0 0 0 [(0, .ref (ad 0)), (1, .ref a)] [] _ _
  have hl := sc.2.2.2.2
  rw [KN_len] at hl
  have hn3 := tx.2.1
  have hq := sk_in (B := B) hpn
  have hB := tx.2.2.2.1
  refine pl_aload_n (pc := 0) dX9_isWord_0 rfl rfl ?_
  refine pl_callVv (pc := 1) (As := []) (C2 := 0) (N2 := 0) ckX9 mdX9_blanks rfl q2804 q2806 qs72 q154 dX9_isWord_1 rfl rfl (Nat.le_of_ble_eq_true rfl) (mm_o hA) (w_X9_blanks (d := d - 1) (by omega) hA tx hp (by omega)) (by omega) (by decide) (by decide) ?_
  refine pl_iconst (pc := 4) (v := 0) dX9_isWord_4 (by rfl) ?_
  refine pj_istore_n (pc := 5) (lv' := [(2, _), (0, _), (1, _)]) dX9_isWord_5 rfl (by decide) rfl ?_
  refine PJ.sub [0, 2, 1] rfl ?_
  refine ind_dn (n := ws.length) (P := fun i => anyN (fun i => !decide (B (sk B n p + i) = ws.getD i 0)) i = false → PJ g _ _ _ _ d 0 0 6 [(2, .int (nI i)), (1, .ref a), (0, .ref (ad 0))] [] (mm g ad μ (sF σ 11 (nI (sk B n p)))) _) (fun i hi ih hv => ?_) 0 (Nat.zero_le _) (rfl)
  refine pl_iload_n (pc := 6) dX9_isWord_6 rfl rfl ?_
  refine pl_aload_n (pc := 7) dX9_isWord_7 rfl rfl ?_
  refine pl_callKd (pc := 8) (As := []) (C2 := 0) (N2 := 0) mdJ9_length rfl q2835 q399 q400 q136 dX9_isWord_8 rfl rfl (Nat.le_of_ble_eq_true rfl) sc.1 (k_J9_length (d := d - 1) (by omega) sc) (by omega) (by decide) (by decide) ?_
  refine pl_icmp_ge (pc := 11) (tgt := 40) dX9_isWord_11 (by decide) (by omega) (by omega) (fun c11 => ?_) (fun c11 => ?_)
  · have e9 : ws.length = i := by omega
    subst e9
    refine pl_aload_n (pc := 40) dX9_isWord_40 rfl rfl ?_
    refine pl_aload_n (pc := 41) dX9_isWord_41 rfl rfl ?_
    refine pj_getf (pc := 42) ckX9 11 q2527 dX9_isWord_42 (by decide) (mm_o hA) rfl ?_
    refine PJ.top (y := nI _) (rfl) ?_
    refine pl_aload_n (pc := 45) dX9_isWord_45 rfl rfl ?_
    refine pl_callKd (pc := 46) (As := []) (C2 := 0) (N2 := 0) mdJ9_length rfl q2835 q399 q400 q136 dX9_isWord_46 rfl rfl (Nat.le_of_ble_eq_true rfl) sc.1 (k_J9_length (d := d - 1) (by omega) sc) (by omega) (by decide) (by decide) ?_
    refine pl_iadd (pc := 49) dX9_isWord_49 ?_
    refine pl_callVd (pc := 50) (As := [_]) (C2 := 0) (N2 := 0) ckX9 mdX9_byteAt rfl q2808 q2810 qs73 q154 dX9_isWord_50 rfl rfl (Nat.le_of_ble_eq_true rfl) (mm_o hA) (w_X9_byteAt (d := d - 1) (by omega) hA (tx.F (by decide)) (by omega)) (by omega) (by decide) (by decide) ?_
    have hb9 := hB (sk B n p + ws.length)
    refine pj_istore_n (pc := 53) (lv' := [(2, _), (1, _), (0, _)]) dX9_isWord_53 rfl (by decide) rfl ?_
    refine pl_iload_n (pc := 54) dX9_isWord_54 rfl rfl ?_
    refine pl_bipush (pc := 55) (v := 97) dX9_isWord_55 (by rfl) ?_
    refine pl_icmp_lt (pc := 57) (tgt := 66) dX9_isWord_57 (by decide) (by omega) (by omega) (fun c57 => ?_) (fun c57 => ?_)
    · refine pl_iconst (pc := 66) (v := 1) dX9_isWord_66 (by rfl) ?_
      refine pj_goto (pc := 67) (tgt := 71) dX9_isWord_67 (by decide) ?_
      refine pj_zret (pc := 71) .boolean dX9_isWord_71 rfl (by rfl) ?_
      exact ⟨vB1 (by unfold isW; rw [hv]; simp; omega), rfl⟩
    · refine pl_iload_n (pc := 60) dX9_isWord_60 rfl rfl ?_
      refine pl_bipush (pc := 61) (v := 122) dX9_isWord_61 (by rfl) ?_
      refine pl_icmp_le (pc := 63) (tgt := 70) dX9_isWord_63 (by decide) (by omega) (by omega) (fun c63 => ?_) (fun c63 => ?_)
      · refine pl_iconst (pc := 70) (v := 0) dX9_isWord_70 (by rfl) ?_
        refine pj_zret (pc := 71) .boolean dX9_isWord_71 rfl (by rfl) ?_
        exact ⟨vB0 (by unfold isW; rw [hv]; simp; omega), rfl⟩
      · refine pl_iconst (pc := 66) (v := 1) dX9_isWord_66 (by rfl) ?_
        refine pj_goto (pc := 67) (tgt := 71) dX9_isWord_67 (by decide) ?_
        refine pj_zret (pc := 71) .boolean dX9_isWord_71 rfl (by rfl) ?_
        exact ⟨vB1 (by unfold isW; rw [hv]; simp; omega), rfl⟩
  · refine pl_aload_n (pc := 14) dX9_isWord_14 rfl rfl ?_
    refine pl_aload_n (pc := 15) dX9_isWord_15 rfl rfl ?_
    refine pj_getf (pc := 16) ckX9 11 q2527 dX9_isWord_16 (by decide) (mm_o hA) rfl ?_
    refine PJ.top (y := nI _) (rfl) ?_
    refine pl_iload_n (pc := 19) dX9_isWord_19 rfl rfl ?_
    refine pl_iadd (pc := 20) dX9_isWord_20 ?_
    refine pl_callVd (pc := 21) (As := [_]) (C2 := 0) (N2 := 0) ckX9 mdX9_byteAt rfl q2808 q2810 qs73 q154 dX9_isWord_21 rfl rfl (Nat.le_of_ble_eq_true rfl) (mm_o hA) (w_X9_byteAt (d := d - 1) (by omega) hA (tx.F (by decide)) (by omega)) (by omega) (by decide) (by decide) ?_
    refine pl_aload_n (pc := 24) dX9_isWord_24 rfl rfl ?_
    refine pl_iload_n (pc := 25) dX9_isWord_25 rfl rfl ?_
    refine pl_callKd (pc := 26) (As := [_]) (C2 := 0) (N2 := 0) mdJ9_charAt rfl q2836 q2098 q2099 q136 dX9_isWord_26 rfl rfl (Nat.le_of_ble_eq_true rfl) sc.1 (k_J9_charAt (d := d - 1) (by omega) sc (by omega) hws) (by omega) (by decide) (by decide) ?_
    have hb9 := hB (sk B n p + i)
    have hw9 : ws.getD i 0 < 256 := hws _ (getD_in (by omega))
    refine pl_icmp_eq (pc := 29) (tgt := 34) dX9_isWord_29 (by decide) (by omega) (by omega) (fun c29 => ?_) (fun c29 => ?_)
    · refine pl_iinc1 (pc := 34) (lv' := [(2, _), (1, _), (0, _)]) dX9_isWord_34 rfl rfl (by decide) rfl ?_
      refine pj_goto (pc := 37) (tgt := 6) dX9_isWord_37 (by decide) ?_
      exact ih (by omega) (anyN_up hv (by simp [c29]))
    · refine pl_iconst (pc := 32) (v := 0) dX9_isWord_32 (by rfl) ?_
      refine pj_zret (pc := 33) .boolean dX9_isWord_33 rfl (by rfl) ?_
      exact ⟨vB0 (by unfold isW; rw [anyN_hit (p := fun i => !decide (B (sk B n p + i) = ws.getD i 0)) c11 (by show (!decide (B (sk B n p + i) = ws.getD i 0)) = true; rw [decide_eq_false c29]; rfl)]; rfl), rfl⟩
