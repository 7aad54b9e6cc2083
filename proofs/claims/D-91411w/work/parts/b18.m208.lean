set_option maxRecDepth 100000
/-- an expression is an object of the class Expr -/
theorem EcE_obj {g : GP} {im : Mem} {h r : Nat} {f : Fn4} (z : (EcX g im h).1 r f) : ∃ (ci : Nat) (vs : List Value) (rr : vw_C), im r = some (.inr (ci, vs)) ∧ vwCl[ci]? = some rr ∧ Cond.castable rr.1 "SettlerColony$Expr" ∈ lw_tbl := by
  cases h with
  | zero => exact absurd z (fun w => w)
  | succ h =>
    rcases z with ⟨n, hm, -⟩ | ⟨c, hm, -⟩ | ⟨a, b, s, f1, f2, hm, -⟩ | ⟨a, b, l, f1, f2, hm, -⟩ | ⟨a, b, c, f1, f2, t, hm, -⟩
    · exact ⟨24, _, _, hm, ckX22.2.1, q3278⟩
    · exact ⟨25, _, _, hm, ckX23.2.1, q3279⟩
    · exact ⟨26, _, _, hm, ckX24.2.1, q3282⟩
    · exact ⟨27, _, _, hm, ckX25.2.1, q3280⟩
    · exact ⟨32, _, _, hm, ckX30.2.1, q3281⟩
def exA (g : GP) (f : Nat → Option Nat) : va_E := .inl (gA g 7, 8, .inr (.inr (.inr (.inr f))))
/-- a Text that is being made -/
def TxS (g : GP) (μ im M : Mem) (rd q e9 : Nat) (A : LA) (fb : Bool) (f9 : Nat → Option Nat) : Prop := M q = some (txO e9 (bI fb)) ∧ M e9 = some (exA g f9) ∧ (q ≠ rd ∧ e9 ≠ rd ∧ q ≠ e9) ∧ (μ q = none ∧ μ e9 = none) ∧ (im q = none ∧ im e9 = none) ∧ ∀ k, k < 8 → (A k = none ∧ f9 k = none) ∨ ∃ L r h, h ≤ 300 ∧ A k = some (L ++ [(16, nI 0)]) ∧ f9 k = some r ∧ GdE g im h r L
section TS
variable {g : GP} {μ i9 im2 M M1 : Mem} {rd t n p o q e9 : Nat} {A : LA} {fb : Bool} {f9 : Nat → Option Nat}
theorem TxS.kp (l : TxS g μ i9 M rd q e9 A fb f9) (k : RdX M rd t n p o M1) : TxS g μ i9 M1 rd q e9 A fb f9 := ⟨k.2 q _ l.2.2.1.1 l.1, k.2 e9 _ l.2.2.1.2.1 l.2.1, l.2.2⟩
theorem TxS.but (l : TxS g μ i9 M rd q e9 A fb f9) {w : Nat} (h1 : q ≠ w) (h2 : e9 ≠ w) (k : ∀ x, x ≠ w → M1 x = M x) : TxS g μ i9 M1 rd q e9 A fb f9 := ⟨(k q h1).trans l.1, (k e9 h2).trans l.2.1, l.2.2⟩
theorem TxS.nn (l : TxS g μ i9 M rd q e9 A fb f9) {w : Nat} (h : M w = none) : q ≠ w ∧ e9 ≠ w := ⟨fun z => (by rw [← z, l.1] at h; cases h), fun z => (by rw [← z, l.2.1] at h; cases h)⟩
theorem TxS.new (l : TxS g μ i9 M rd q e9 A fb f9) {w : Nat} {c : va_E} (h : M w = none) : TxS g μ i9 (mset M w c) rd q e9 A fb f9 := l.but (l.nn h).1 (l.nn h).2 (fun x hx => mset_n hx)
theorem TxS.mv (l : TxS g μ i9 M rd q e9 A fb f9) {c : va_E} : TxS g μ i9 (mset M rd c) rd q e9 A fb f9 := l.but l.2.2.1.1 l.2.2.1.2.1 (fun x hx => mset_n hx)
theorem TxS.im (l : TxS g μ i9 M rd q e9 A fb f9) (hm : ∀ a e, i9 a = some e → im2 a = some e) (h1 : im2 q = none) (h2 : im2 e9 = none) : TxS g μ im2 M rd q e9 A fb f9 := ⟨l.1, l.2.1, l.2.2.1, l.2.2.2.1, ⟨h1, h2⟩, fun k hk => (l.2.2.2.2.2 k hk).elim Or.inl (fun ⟨L, r, h, a, b, c, d⟩ => Or.inr ⟨L, r, h, a, b, c, d.mono hm (Nat.le_refl _)⟩)⟩
theorem TxS.told (l : TxS g μ i9 M rd q e9 A fb f9) {k r h : Nat} {L : List Cd} (hk : k < 8) (hh : h ≤ 300) (z : GdE g i9 h r L) : TxS g μ i9 (mset M e9 (exA g (va_up f9 k (some r)))) rd q e9 (updA A (.inl (k, L ++ [(16, nI 0)]))) fb (va_up f9 k (some r)) := by
  refine ⟨(mset_n l.2.2.1.2.2).trans l.1, mset_s, l.2.2.1, l.2.2.2.1, l.2.2.2.2.1, fun j hj => ?_⟩
  by_cases e : j = k
  · subst e
    exact Or.inr ⟨L, r, h, hh, if_pos rfl, by unfold va_up; rw [if_pos rfl], z⟩
  · have e1 : updA A (.inl (k, L ++ [(16, nI 0)])) j = A j := if_neg e
    have e2 : va_up f9 k (some r) j = f9 j := by unfold va_up; rw [if_neg e]
    rw [e1, e2]
    exact l.2.2.2.2.2 j hj
theorem TxS.fall (l : TxS g μ i9 M rd q e9 A fb f9) {b : Bool} (h1 : M1 q = some (txO e9 (bI b))) (h2 : FrX M rd q M1) : TxS g μ i9 M1 rd q e9 (updA A (.inr b)) (updF fb (.inr b)) f9 := ⟨h1, h2 e9 _ l.2.2.1.2.1 (Ne.symm l.2.2.1.2.2) l.2.1, l.2.2⟩
end TS
/-- how the reading of a law ends -/
def RLW (g : GP) (μ : Mem) (rd t n : Nat) (r : (Nat × Nat) ⊕ (LA × Bool)) : OC → Mem → Prop := fun o9 M => match r with
  | .inl (k, w) => ∃ q, o9 = .inr ("SettlerColony$Wrong", q) ∧ M q = some (wr0 (nI k) (nI w)) ∧ PeX μ rd M
  | .inr (A, fb) => ∃ q e9 f9 im p o, o9 = .inl (some (.ref q)) ∧ StX μ rd t n p o im M ∧ TxS g μ im M rd q e9 A fb f9
section LP
variable {B : Nat → Nat} {n p j : Nat} {A : LA} {fb : Bool}
theorem lawP_e (h : ¬ p < n) : lawP B n j p A fb = .inr (A, fb) := by
  cases j <;> (simp only [lawP]; rw [if_neg h])
theorem lawP_0 (h : p < n) : lawP B n 0 p A fb = .inl (if isCl B (sk B n p) = true then 3 else 1, sk B n p) := by
  simp only [lawP]; rw [if_pos h]
theorem lawP_f {k w : Nat} (h : p < n) (hc : clauseP B n p = .inl (k, w)) : lawP B n (j + 1) p A fb = .inl (k, w) := by
  simp only [lawP]; rw [if_pos h, hc]
theorem lawP_s {p2 : Nat} {x : (Nat × List Cd) ⊕ Bool} (h : p < n) (hc : clauseP B n p = .inr (p2, x)) : lawP B n (j + 1) p A fb = lawP B n j (sk B n p2) (updA A x) (updF fb x) := by
  simp only [lawP]; rw [if_pos h, hc]
theorem clauseP_n {k : Nat} {y : RP} (hs : sk B n p = p) (hf : firstW B nameW p 8 0 = some k) (hy : nameP B n (p + (nameW k).length) 0 = some y) : clauseP B n p = nameC k (some y) := by
  unfold clauseP
  rw [hs, hf]
  show nameC k (nameP B n (p + (nameW k).length) 0) = _
  rw [hy]
theorem clauseP_w (hs : sk B n p = p) (hf : firstW B nameW p 8 0 = none) (h : ¬ isW B p wUndo = true) : clauseP B n p = .inl (1, p) := by
  unfold clauseP
  rw [hs, hf]
  show (if isW B p wUndo = true then _ else _) = _
  rw [if_neg h]
theorem clauseP_u (hs : sk B n p = p) (hf : firstW B nameW p 8 0 = none) (h : isW B p wUndo = true) : clauseP B n p = match undR B n (p + 4) with
    | .inl e => .inl e
    | .inr (p1, b) => undoP B n p1 b := by
  unfold clauseP undR
  rw [hs, hf]
  show (if isW B p wUndo = true then _ else _) = _
  rw [if_pos h]
  by_cases c1 : isW B (sk B n (p + 4)) wFall = true
  · rw [if_pos c1, if_pos c1]
  · rw [if_neg c1, if_neg c1]
    by_cases c2 : isW B (sk B n (p + 4)) wStand = true
    · rw [if_pos c2, if_pos c2]
    · rw [if_neg c2, if_neg c2]
theorem und_in (hB : ∀ k, n ≤ k → B k = 0) (hp : p ≤ n) {p1 : Nat} {b : Bool} (h : undR B n p = .inr (p1, b)) : p + 4 ≤ p1 ∧ p1 ≤ n := by
  have hq := sk_in (B := B) hp
  unfold undR at h
  split at h
  · rename_i c
    have h9 : sk B n p + 4 ≤ n := isW_in c (by decide) hB hq.2
    cases h
    exact ⟨by omega, h9⟩
  · split at h
    · rename_i c
      have h9 : sk B n p + 5 ≤ n := isW_in c (by decide) hB hq.2
      cases h
      exact ⟨by omega, h9⟩
    · cases h
theorem undoP_f (hB : ∀ k, n ≤ k → B k = 0) {b : Bool} {k w : Nat} (h : needP B n 59 p 0 = .inl (k, w)) : undoP B n p b = .inl (k, w) := by
  unfold undoP
  rw [signP_V (ch := 59) hB (by decide), h]
  rfl
theorem undoP_s (hB : ∀ k, n ≤ k → B k = 0) {b : Bool} {p2 o2 : Nat} (h : needP B n 59 p 0 = .inr (p2, o2)) : undoP B n p b = .inr (p2, .inr b) := by
  unfold undoP
  rw [signP_V (ch := 59) hB (by decide), h]
  rfl
theorem isCl_n {k : Nat} (hf : firstW B nameW p 8 0 = some k) : isCl B p = true := by unfold isCl; rw [hf]; rfl
theorem isCl_u (h : isW B p wUndo = true) : isCl B p = true := by unfold isCl; rw [h, Bool.or_true]
theorem isCl_w (hf : firstW B nameW p 8 0 = none) (h : ¬ isW B p wUndo = true) : ¬ isCl B p = true := by
  unfold isCl
  rw [hf]
  intro z
  exact h z
end LP
section VU
variable {g : GP} {own : String} {cc : ByteArray} {nL : Nat} {i : MI} {d C N pc : Nat} {ls : List (Nat × Value)} {rest : List Value} {μ : Mem} {Q : OC → Mem → Prop}
theorem pl_callVU {ci nf : Nat} {Cn : String} {Tn : u_T} {ty : Nat → FieldType} {fs : List Value} {a : Nat} {y : MethodName} {b : ByteArray} {L n d1 C1 N1 C2 N2 index : Nat} {r : Option FieldType} {rd a9 e9 o9 t n9 : Nat} {X9 : (Nat × Nat) ⊕ (Nat × Bool)} {st : List Value} (As : List Value) (cl : CLk ci Cn Tn nf ty) (md : MDy y b L r n) (hy : y.cls = Cn) (h1 : Cond.methodLink own index y ∈ lw_all) (h2 : Cond.instanceMethod y ∈ lw_all) (h3 : Cond.selects Cn y y ∈ lw_all) (h4 : Cond.initialized Cn ∈ lw_all) (hdg : decode cc pc = .ok (.invokevirtual index, 3)) (hst : st = As.reverse ++ .ref a :: rest) (hn : As.length = n) (hr8 : (rest.map fun v => v.category).sum ≤ 8) (hm : μ a = some (.inr (ci, fs))) (hM : PM g y (ws_ y b L r) d1 C1 N1 (.ref a :: As) μ (fun o M => match X9 with
  | .inl (k, w) => ∃ q, o = .inr ("SettlerColony$Wrong", q) ∧ M q = some (wr0 (nI k) (nI w)) ∧ FrX μ rd a9 M
  | .inr (p1, b) => o = .inl none ∧ M rd = some (rdO t n9 p1 o9) ∧ M a9 = some (txO e9 (bI b)) ∧ FrX μ rd a9 M)) (hd : d1 + 1 ≤ d) (hC : C1 + C2 ≤ C) (hN : N1 + N2 ≤ N) (kr : ∀ (p1 : Nat) (b9 : Bool) (M1 : Mem), X9 = .inr (p1, b9) → M1 rd = some (rdO t n9 p1 o9) → M1 a9 = some (txO e9 (bI b9)) → FrX μ rd a9 M1 → PJ g own cc nL i d C2 N2 (pc + 3) ls rest M1 Q) (kx : ∀ (k w q : Nat) (M1 : Mem), X9 = .inl (k, w) → M1 q = some (wr0 (nI k) (nI w)) → FrX μ rd a9 M1 → PX g own cc nL i d C2 N2 pc ls rest "SettlerColony$Wrong" q M1 Q) : PJ g own cc nL i d C N pc ls st μ Q :=
  pj_callV As cl md hy h1 h2 h3 h4 hdg hst hn hr8 hm hM hd hC hN (fun v9 μ8 h => by
    rcases X9 with ⟨k, w⟩ | ⟨p1, b9⟩
    · obtain ⟨q, e1, -⟩ := h
      cases e1
    · obtain ⟨e1, h1, h2, h3⟩ := h
      cases e1
      exact kr p1 b9 μ8 rfl h1 h2 h3) (fun E9 q μ8 h => by
    rcases X9 with ⟨k, w⟩ | ⟨p1, b9⟩
    · obtain ⟨q9, e1, h1, h2⟩ := h
      cases e1
      exact kx k w q μ8 rfl h1 h2
    · obtain ⟨e1, -⟩ := h
      cases e1)
end VU
theorem StX.fr {μ im M M1 : Mem} {rd t n p o a p1 o1 : Nat} (h : StX μ rd t n p o im M) (ha : μ a = none) (hi : im a = none) (h1 : M1 rd = some (rdO t n p1 o1)) (k : FrX M rd a M1) : StX μ rd t n p1 o1 im M1 :=
  ⟨⟨h1, fun x e hx hm => k x e hx (fun z => by rw [z, ha] at hm; cases hm) (h.1.2 x e hx hm)⟩, fun x e hm => ⟨k x e (fun z => by rw [z, h.imrd] at hm; cases hm) (fun z => by rw [z, hi] at hm; cases hm) (h.2.1 x e hm).1, (h.2.1 x e hm).2⟩, h.2.2⟩
theorem StX.frP {μ im M M1 : Mem} {rd t n p o a : Nat} (h : StX μ rd t n p o im M) (ha : μ a = none) (k : FrX M rd a M1) : PeX μ rd M1 := fun x e hx hm => k x e hx (fun z => by rw [z, ha] at hm; cases hm) (h.1.2 x e hx hm)
theorem nameW_3 (k : Nat) : 3 ≤ (nameW k).length := by
  match k with
  | 0 => decide
  | 1 => decide
  | 2 => decide
  | 3 => decide
  | 4 => decide
  | 5 => decide
  | 6 => decide
  | k + 7 => show 3 ≤ [115, 113, 117, 97, 116].length; decide
set_option maxHeartbeats 1000000 in
theorem x_X18_law {g : GP} {rd t n : Nat} {r : Nat → Int32} {B : Nat → Nat} (htr : t ≠ rd) (tx : TxR r n B) {d : Nat} {μ : Mem} (hd : 110 ≤ d) (h0 : μ rd = some (rdO t n 0 0)) (ht : μ t = some (intX g 2 300 r)) : PM g yX18_law (ws_ yX18_law cX18_law 5 (some (.object "SettlerColony$Text"))) d (16 * n + 30) (200 * n + 200) [.ref rd] μ (RLW g μ rd t n (lawP B n 10 (sk B n 0) A0 false)) := by
  have hn3 := tx.1
  have hB := tx.2.2.2
  have hBy := tx.2.2.1
  have y0 := StX.rf h0
  have H := KAX_all (g := g) htr tx BF
  refine PM.of (by decide +kernel) (Nat.le_of_ble_eq_true rfl) ?_
  refine PJ.ok (fun G => ?_)
  have key : ∀ j, ∀ (i p q e9 : Nat) (A : LA) (fb : Bool) (f9 : Nat → Option Nat) (im M : Mem), i + j = 10 → StX μ rd t n p 0 im M → TxS g μ im M rd q e9 A fb f9 → p ≤ n → sk B n p = p → PJ g yX18_law.cls cX18_law 5 (some (.object "SettlerColony$Text"), yX18_law.name, []) d (16 * (n - p) + 20) (200 * (n - p) + 150) 15 [(2, .int (nI i)), (1, .ref q), (0, .ref rd)] [] M (RLW g μ rd t n (lawP B n j p A fb)) := by
    intro j
    induction j with
    | zero =>
      intro i p q e9 A fb fe im M hij y l hp hsp
      have hi : i = 10 := by omega
      subst hi
      refine pl_aload_n (pc := 15) dX18_law_15 rfl rfl ?_
      refine pj_getf (pc := 16) ckX18 2 q1863 dX18_law_16 (by decide) y.rd rfl ?_
      refine pl_aload_n (pc := 19) dX18_law_19 rfl rfl ?_
      refine pj_getf (pc := 20) ckX18 1 q1862 dX18_law_20 (by decide) y.rd rfl ?_
      refine pl_icmp_ge (pc := 23) (tgt := 137) dX18_law_23 (by decide) (by omega) (by omega) (fun c23 => ?_) (fun c23 => ?_)
      · refine pl_aload_n (pc := 137) dX18_law_137 rfl rfl ?_
        refine pj_aret (pc := 138) dX18_law_138 rfl (Or.inl ⟨_, rfl⟩) (Or.inr ⟨_, rfl⟩) ?_
        rw [lawP_e (by omega)]
        exact ⟨q, e9, fe, im, p, 0, rfl, y, l⟩
      · refine pl_aload_n (pc := 26) dX18_law_26 rfl rfl ?_
        refine pl_callVQ (pc := 27) (As := []) (C1 := 4) (N1 := 32) (C2 := (16 * (n - p) + 16)) (N2 := (200 * (n - p) + 118)) ckX18 mdX18_word rfl q1900 q1902 qs16 q167 dX18_law_27 rfl rfl (Nat.le_of_ble_eq_true rfl) y.rd (x_X18_word (d := d - 1) (by omega) y.rd (y.get htr ht) htr tx (by omega)) (by omega) (by omega) (by omega) (fun q_27 M_27 hM => ?_)
        obtain ⟨gq, w9, f9, hst, hf, hX, hfr⟩ := hM
        rw [hsp] at hst hf hX
        have yw := y.callV hX
        have hwl := (wlF_sp (B := B) 8 p).1
        have hwl2 : wlen B p < 1000 := Nat.lt_of_le_of_lt hwl (by decide)
        have lw := l.kp hX
        have hqr : q_27 ≠ rd := fun z => by have z2 := hst.1; rw [z, yw.rd] at z2; cases z2
        have hwr : w9 ≠ rd := fun z => by have z2 := hst.2; rw [z, yw.rd] at z2; cases z2
        have hqt := l.nn hfr
        refine pj_astore_n (pc := 30) (lv' := [(3, _), (2, _), (1, _), (0, _)]) dX18_law_30 rfl (by decide) rfl ?_
        refine pl_aload_n (pc := 31) dX18_law_31 rfl rfl ?_
        refine pl_callSWd (pc := 32) (As := [_]) (C1 := 0) (N1 := 0) (C2 := (16 * (n - p) + 16)) (N2 := (200 * (n - p) + 118)) mdX18_nameOf q1928 q1929 q167 dX18_law_32 rfl rfl (Nat.le_of_ble_eq_true rfl) (x_X18_nameOf (d := d - 1) (by omega) hst gq hf hBy) (by omega) (by omega) (by omega) (fun My1 qy1 => ?_)
        obtain ⟨hh9, zz9, hst9, hup9⟩ := qy1
        have yh := yw.but hqr (y.mu hfr) (y.imn hfr) hup9
        have lh := lw.but hqt.1 hqt.2 hup9
        cases hfw : firstW B nameW p 8 0 with
        | none =>
          refine PJ.top (y := -1) (namV_n hfw) ?_
          refine pj_istore (pc := 35) (lv' := [(4, _), (3, _), (2, _), (1, _), (0, _)]) dX18_law_35 (by decide) rfl ?_
          refine pl_iload (pc := 37) dX18_law_37 rfl ?_
          refine pj_iconst (pc := 39) (v := (-1)) dX18_law_39 (by rfl) ?_
          refine pj_icmp_ne (pc := 40) (tgt := 57) dX18_law_40 (by decide) (fun c40 => ?_) (fun c40 => ?_)
          · exact absurd rfl c40
          · refine pl_aload_n (pc := 43) dX18_law_43 rfl rfl ?_
            obtain ⟨a73, v73, vr73, sc73⟩ := lit_X18_73 G
            refine pj_ldcS (pc := 44) vr73 dX18_law_44 ?_
            have hq46 := k_J9_equals_m (μ := My1) (d := d - 1) (bs := wUndo) (by omega) hst9 hwl2 gq sc73 (by decide)
            rw [eqW_isW hf hBy (by decide) (by decide)] at hq46
            refine pl_callVd (pc := 46) (As := [_]) (C1 := 0) (N1 := 0) (C2 := (16 * (n - p) + 16)) (N2 := (200 * (n - p) + 118)) ckJ9 mdJ9_equals rfl q1993 q1655 q3212 q136 dX18_law_46 rfl rfl (Nat.le_of_ble_eq_true rfl) hst9.1 (hq46) (by omega) (by omega) (by omega) ?_
            refine pl_if_neB (pc := 49) (tgt := 57) dX18_law_49 (by decide) (fun c49 => ?_) (fun c49 => ?_)
            · refine pl_iload_n (pc := 57) dX18_law_57 rfl rfl ?_
              refine pl_bipush (pc := 58) (v := 10) dX18_law_58 (by rfl) ?_
              refine pj_icmp_ne (pc := 60) (tgt := 76) dX18_law_60 (by decide) (fun h => absurd h (by decide)) (fun _ => ?_)
              refine pj_new (pc := 63) (C1 := 0) (N1 := 0) ckX20 q2006 q2007 q169 dX18_law_63 _ dfX20 (by omega) (by omega) (fun q_63 hn_63 gq_63 => ?_)
              have w_63 := StX.new (c := wr0 0 0) yh hn_63
              refine pj_dup (pc := 66) dX18_law_66 rfl ?_
              refine pl_iconst (pc := 67) (v := 3) dX18_law_67 (by rfl) ?_
              refine pl_aload_n (pc := 68) dX18_law_68 rfl rfl ?_
              refine pj_getf (pc := 69) ckX18 2 q1863 dX18_law_69 (by decide) w_63.rd rfl ?_
              refine pl_callIv (pc := 72) (As := [_, _]) (C1 := 0) (N1 := 0) (C2 := 0) (N2 := 0) mdX20_init rfl q2015 q2016 q169 dX18_law_72 rfl rfl (Nat.le_of_ble_eq_true rfl) (k_X20_init (d := d - 1) (by omega) mset_s) (by omega) (by omega) (by omega) ?_
              refine PJ.mem mset_m ?_
              rw [lawP_0 (by omega), hsp, if_pos (isCl_u c49)]
              refine pj_athrow (pc := 75) ckX20 dX18_law_75 mset_s ?_
              exact px_out0 rfl ⟨q_63, rfl, mset_s, (StX.new (c := wr0 (nI 3) (nI p)) yh hn_63).1.2⟩
            · refine pl_aload_n (pc := 52) dX18_law_52 rfl rfl ?_
              rw [lawP_0 (by omega), hsp, if_neg (isCl_w hfw (by rw [c49]; decide))]
              refine pl_callVQ (pc := 53) (As := []) (C1 := 1) (N1 := 8) (C2 := 0) (N2 := 0) ckX18 mdX18_wrong rfl q2002 q2004 qs17 q167 dX18_law_53 rfl rfl (Nat.le_of_ble_eq_true rfl) yh.rd (k_X18_wrong (d := d - 1) (by omega) yh.rd) (by omega) (by omega) (by omega) (fun q_9 M_9 hM_9 => ?_)
              obtain ⟨hn9, rfl⟩ := hM_9
              refine pj_athrow (pc := 56) ckX20 dX18_law_56 mset_s ?_
              exact px_out0 rfl ⟨q_9, rfl, mset_s, (StX.new (c := wr0 (nI 1) (nI p)) yh hn9).1.2⟩
        | some k9 =>
          have hk9 : k9 < 8 := firstW_lt _ _ _ hfw
          refine PJ.top (y := nI k9) (namV_s hfw) ?_
          refine pj_istore (pc := 35) (lv' := [(4, _), (3, _), (2, _), (1, _), (0, _)]) dX18_law_35 (by decide) rfl ?_
          refine pl_iload (pc := 37) dX18_law_37 rfl ?_
          refine pj_iconst (pc := 39) (v := (-1)) dX18_law_39 (by rfl) ?_
          refine pj_icmp_ne (pc := 40) (tgt := 57) dX18_law_40 (by decide) (fun c40 => ?_) (fun c40 => ?_)
          · refine pl_iload_n (pc := 57) dX18_law_57 rfl rfl ?_
            refine pl_bipush (pc := 58) (v := 10) dX18_law_58 (by rfl) ?_
            refine pj_icmp_ne (pc := 60) (tgt := 76) dX18_law_60 (by decide) (fun h => absurd h (by decide)) (fun _ => ?_)
            refine pj_new (pc := 63) (C1 := 0) (N1 := 0) ckX20 q2006 q2007 q169 dX18_law_63 _ dfX20 (by omega) (by omega) (fun q_63 hn_63 gq_63 => ?_)
            have w_63 := StX.new (c := wr0 0 0) yh hn_63
            refine pj_dup (pc := 66) dX18_law_66 rfl ?_
            refine pl_iconst (pc := 67) (v := 3) dX18_law_67 (by rfl) ?_
            refine pl_aload_n (pc := 68) dX18_law_68 rfl rfl ?_
            refine pj_getf (pc := 69) ckX18 2 q1863 dX18_law_69 (by decide) w_63.rd rfl ?_
            refine pl_callIv (pc := 72) (As := [_, _]) (C1 := 0) (N1 := 0) (C2 := 0) (N2 := 0) mdX20_init rfl q2015 q2016 q169 dX18_law_72 rfl rfl (Nat.le_of_ble_eq_true rfl) (k_X20_init (d := d - 1) (by omega) mset_s) (by omega) (by omega) (by omega) ?_
            refine PJ.mem mset_m ?_
            rw [lawP_0 (by omega), hsp, if_pos (isCl_n hfw)]
            refine pj_athrow (pc := 75) ckX20 dX18_law_75 mset_s ?_
            exact px_out0 rfl ⟨q_63, rfl, mset_s, (StX.new (c := wr0 (nI 3) (nI p)) yh hn_63).1.2⟩
          · exact absurd c40.symm (nI_m1 (by omega))
    | succ j ih =>
      intro i p q e9 A fb fe im M hij y l hp hsp
      refine pl_aload_n (pc := 15) dX18_law_15 rfl rfl ?_
      refine pj_getf (pc := 16) ckX18 2 q1863 dX18_law_16 (by decide) y.rd rfl ?_
      refine pl_aload_n (pc := 19) dX18_law_19 rfl rfl ?_
      refine pj_getf (pc := 20) ckX18 1 q1862 dX18_law_20 (by decide) y.rd rfl ?_
      refine pl_icmp_ge (pc := 23) (tgt := 137) dX18_law_23 (by decide) (by omega) (by omega) (fun c23 => ?_) (fun c23 => ?_)
      · refine pl_aload_n (pc := 137) dX18_law_137 rfl rfl ?_
        refine pj_aret (pc := 138) dX18_law_138 rfl (Or.inl ⟨_, rfl⟩) (Or.inr ⟨_, rfl⟩) ?_
        rw [lawP_e (by omega)]
        exact ⟨q, e9, fe, im, p, 0, rfl, y, l⟩
      · refine pl_aload_n (pc := 26) dX18_law_26 rfl rfl ?_
        refine pl_callVQ (pc := 27) (As := []) (C1 := 4) (N1 := 32) (C2 := (16 * (n - p) + 16)) (N2 := (200 * (n - p) + 118)) ckX18 mdX18_word rfl q1900 q1902 qs16 q167 dX18_law_27 rfl rfl (Nat.le_of_ble_eq_true rfl) y.rd (x_X18_word (d := d - 1) (by omega) y.rd (y.get htr ht) htr tx (by omega)) (by omega) (by omega) (by omega) (fun q_27 M_27 hM => ?_)
        obtain ⟨gq, w9, f9, hst, hf, hX, hfr⟩ := hM
        rw [hsp] at hst hf hX
        have yw := y.callV hX
        have hwl := (wlF_sp (B := B) 8 p).1
        have hwl2 : wlen B p < 1000 := Nat.lt_of_le_of_lt hwl (by decide)
        have lw := l.kp hX
        have hqr : q_27 ≠ rd := fun z => by have z2 := hst.1; rw [z, yw.rd] at z2; cases z2
        have hwr : w9 ≠ rd := fun z => by have z2 := hst.2; rw [z, yw.rd] at z2; cases z2
        have hqt := l.nn hfr
        refine pj_astore_n (pc := 30) (lv' := [(3, _), (2, _), (1, _), (0, _)]) dX18_law_30 rfl (by decide) rfl ?_
        refine pl_aload_n (pc := 31) dX18_law_31 rfl rfl ?_
        refine pl_callSWd (pc := 32) (As := [_]) (C1 := 0) (N1 := 0) (C2 := (16 * (n - p) + 16)) (N2 := (200 * (n - p) + 118)) mdX18_nameOf q1928 q1929 q167 dX18_law_32 rfl rfl (Nat.le_of_ble_eq_true rfl) (x_X18_nameOf (d := d - 1) (by omega) hst gq hf hBy) (by omega) (by omega) (by omega) (fun My1 qy1 => ?_)
        obtain ⟨hh9, zz9, hst9, hup9⟩ := qy1
        have yh := yw.but hqr (y.mu hfr) (y.imn hfr) hup9
        have lh := lw.but hqt.1 hqt.2 hup9
        cases hfw : firstW B nameW p 8 0 with
        | none =>
          refine PJ.top (y := -1) (namV_n hfw) ?_
          refine pj_istore (pc := 35) (lv' := [(4, _), (3, _), (2, _), (1, _), (0, _)]) dX18_law_35 (by decide) rfl ?_
          refine pl_iload (pc := 37) dX18_law_37 rfl ?_
          refine pj_iconst (pc := 39) (v := (-1)) dX18_law_39 (by rfl) ?_
          refine pj_icmp_ne (pc := 40) (tgt := 57) dX18_law_40 (by decide) (fun c40 => ?_) (fun c40 => ?_)
          · exact absurd rfl c40
          · refine pl_aload_n (pc := 43) dX18_law_43 rfl rfl ?_
            obtain ⟨a73, v73, vr73, sc73⟩ := lit_X18_73 G
            refine pj_ldcS (pc := 44) vr73 dX18_law_44 ?_
            have hq46 := k_J9_equals_m (μ := My1) (d := d - 1) (bs := wUndo) (by omega) hst9 hwl2 gq sc73 (by decide)
            rw [eqW_isW hf hBy (by decide) (by decide)] at hq46
            refine pl_callVd (pc := 46) (As := [_]) (C1 := 0) (N1 := 0) (C2 := (16 * (n - p) + 16)) (N2 := (200 * (n - p) + 118)) ckJ9 mdJ9_equals rfl q1993 q1655 q3212 q136 dX18_law_46 rfl rfl (Nat.le_of_ble_eq_true rfl) hst9.1 (hq46) (by omega) (by omega) (by omega) ?_
            refine pl_if_neB (pc := 49) (tgt := 57) dX18_law_49 (by decide) (fun c49 => ?_) (fun c49 => ?_)
            · refine pl_iload_n (pc := 57) dX18_law_57 rfl rfl ?_
              refine pl_bipush (pc := 58) (v := 10) dX18_law_58 (by rfl) ?_
              refine pl_icmp_ne (pc := 60) (tgt := 76) dX18_law_60 (by decide) (by omega) (by omega) (fun c60 => ?_) (fun c60 => ?_)
              · refine pl_aload_n (pc := 76) dX18_law_76 rfl rfl ?_
                refine pj_dup (pc := 77) dX18_law_77 rfl ?_
                refine pj_getf (pc := 78) ckX18 2 q1863 dX18_law_78 (by decide) yh.rd rfl ?_
                refine pl_aload_n (pc := 81) dX18_law_81 rfl rfl ?_
                refine pl_callVd (pc := 82) (As := []) (C1 := 0) (N1 := 0) (C2 := (16 * (n - p) + 16)) (N2 := (200 * (n - p) + 118)) ckJ9 mdJ9_length rfl q2034 q399 q400 q136 dX18_law_82 rfl rfl (Nat.le_of_ble_eq_true rfl) hst9.1 (k_J9_length_m (d := d - 1) (by omega) hst9 hwl2) (by omega) (by omega) (by omega) ?_
                have hwn : wlen B p = 4 := (word_is hf hBy (by decide) (by decide) c49).1
                have hlen : p + 4 ≤ n := isW_in c49 (by decide) hB hp
                refine PJ.top (y := nI 4) (by rw [hwn]) ?_
                refine pl_iadd (pc := 85) dX18_law_85 ?_
                refine pj_putf (pc := 86) ckX18 2 q1863 dX18_law_86 (by decide) rfl yh.rd rfl rfl (Nat.le_of_ble_eq_true rfl) ?_
                refine PJ.mem (show _ = (mset My1 rd (rdO t n (p + 4) 0)) from rfl) ?_
                have y2 := StX.of (p1 := (p + 4)) (o1 := 0) yh
                have lm := lh.mv (c := rdO t n (p + 4) 0)
                refine pl_iload (pc := 89) dX18_law_89 rfl ?_
                refine pj_iconst (pc := 91) (v := (-1)) dX18_law_91 (by rfl) ?_
                refine pj_icmp_ne (pc := 92) (tgt := 103) dX18_law_92 (by decide) (fun c92 => ?_) (fun c92 => ?_)
                · exact absurd rfl c92
                · refine pl_aload_n (pc := 95) dX18_law_95 rfl rfl ?_
                  refine pl_aload_n (pc := 96) dX18_law_96 rfl rfl ?_
                  have hta : t ≠ q := fun z => by rw [z, lm.2.2.2.1.1] at ht; cases ht
                  have hcl := clauseP_u hsp hfw c49
                  rcases hu : undR B n (p + 4) with ⟨k8, w8⟩ | ⟨p_u, b_u⟩
                  · rw [hu] at hcl
                    rw [lawP_f (by omega) hcl]
                    refine pl_callVU (pc := 97) (As := [_]) (C1 := 9) (N1 := 72) (C2 := 0) (N2 := 0) ckX18 mdX18_undo rfl q2035 q2037 qs18 q167 dX18_law_97 rfl rfl (Nat.le_of_ble_eq_true rfl) y2.rd (x_X18_undo (d := d - 1) (by omega) y2.rd (y2.get htr ht) htr tx (by omega) lm.1 lm.2.2.1.1 hta) (by omega) (by omega) (by omega) (fun _ _ _ e _ _ _ => by rw [hu] at e; cases e) (fun k7 w7 q8 M8 e8 hq8 hP8 => by rw [hu] at e8; cases e8; exact px_out0 rfl ⟨q8, rfl, hq8, y2.frP lm.2.2.2.1.1 hP8⟩)
                  rw [hu] at hcl
                  have hcl : clauseP B n p = undoP B n p_u b_u := hcl
                  have hui := und_in hB (by omega) hu
                  refine pl_callVU (pc := 97) (As := [_]) (C1 := 9) (N1 := 72) (C2 := (16 * (n - p_u) + 60)) (N2 := (200 * (n - p_u) + 800)) ckX18 mdX18_undo rfl q2035 q2037 qs18 q167 dX18_law_97 rfl rfl (Nat.le_of_ble_eq_true rfl) y2.rd (x_X18_undo (d := d - 1) (by omega) y2.rd (y2.get htr ht) htr tx (by omega) lm.1 lm.2.2.1.1 hta) (by omega) (by omega) (by omega) (fun p7 b7 M_u e7 hr7 ha7 hF7 => ?_) (fun _ _ _ _ e _ _ => by rw [hu] at e; cases e)
                  rw [hu] at e7
                  cases e7
                  have y_u := y2.fr lm.2.2.2.1.1 lm.2.2.2.2.1.1 hr7 hF7
                  have l_u := lm.fall ha7 hF7
                  refine pj_goto (pc := 100) (tgt := 120) dX18_law_100 (by decide) ?_
                  refine pl_aload_n (pc := 120) dX18_law_120 rfl rfl ?_
                  refine pl_bipush (pc := 121) (v := 59) dX18_law_121 (by rfl) ?_
                  rcases hv_123 : needP B n 59 p_u 0 with ⟨k9_, w9_⟩ | ⟨p_123, o_123⟩
                  · have hv := hv_123
                    rw [lawP_f (by omega) (hcl.trans (undoP_f hB hv))]
                    refine pl_callVE (pc := 123) (As := [_]) (C1 := 1) (N1 := 8) (C2 := 0) (N2 := 0) ckX18 mdX18_need rfl q2045 q2047 qs20 q167 dX18_law_123 rfl rfl (Nat.le_of_ble_eq_true rfl) y_u.rd (x_X18_need (d := d - 1) (by omega) y_u.rd (y_u.get htr ht) htr tx (by omega) (by decide) (by decide)) (by omega) (by omega) (by omega) (fun _ _ _ e _ => by rw [hv] at e; cases e) (fun k8 w8 q8 M8 e8 hq8 hP8 => by rw [hv] at e8; cases e8; exact px_out0 rfl ⟨q8, rfl, hq8, y_u.fault hP8⟩)
                  have hi_123 := need_in hB (by decide) (by omega) hv_123
                  refine pl_callVE (pc := 123) (As := [_]) (C1 := 1) (N1 := 8) (C2 := (16 * (n - p_123) + 20)) (N2 := (200 * (n - p_123) + 150)) ckX18 mdX18_need rfl q2045 q2047 qs20 q167 dX18_law_123 rfl rfl (Nat.le_of_ble_eq_true rfl) y_u.rd (x_X18_need (d := d - 1) (by omega) y_u.rd (y_u.get htr ht) htr tx (by omega) (by decide) (by decide)) (by omega) (by omega) (by omega) (fun p9 o9 M_123 e9_ hX_123 => ?_) (fun _ _ _ _ e _ _ => by rw [hv_123] at e; cases e)
                  rw [hv_123] at e9_
                  cases e9_
                  have y3 := y_u.callV hX_123
                  have l_123 := l_u.kp hX_123
                  refine pl_iinc1 (pc := 126) (lv' := [(2, _), (4, _), (3, _), (1, _), (0, _)]) dX18_law_126 rfl rfl (by decide) rfl ?_
                  refine pl_aload_n (pc := 129) dX18_law_129 rfl rfl ?_
                  refine pl_callVWd (pc := 130) (As := []) (C1 := 0) (N1 := 0) (C2 := (16 * (n - p_123) + 20)) (N2 := (200 * (n - p_123) + 150)) ckX18 mdX18_sign rfl q1896 q1898 qs15 q167 dX18_law_130 rfl rfl (Nat.le_of_ble_eq_true rfl) y3.rd (x_X18_sign (d := d - 1) (by omega) y3.rd (y3.get htr ht) htr tx (by omega)) (by omega) (by omega) (by omega) (fun My4 qy4 => ?_)
                  have y4 := y3.callV (RdS.X qy4)
                  have hpy4 := (sk_in (B := B) (show p_123 ≤ n by omega))
                  refine pj_pop (pc := 133) dX18_law_133 rfl ?_
                  refine pj_goto (pc := 134) (tgt := 15) dX18_law_134 (by decide) ?_
                  refine PJ.sub [0, 3, 4] rfl ?_
                  have lz := l_123.kp (RdS.X qy4)
                  have ho9 : o_123 = 0 := by omega
                  rw [ho9] at y4
                  rw [lawP_s (by omega) (hcl.trans (undoP_s hB hv_123))]
                  exact PJ.widen (by omega) (by omega) (ih (i + 1) (sk B n p_123) q e9 _ _ _ _ _ (by omega) y4 lz (by omega) (sk_sk hB))
              · exact absurd c60 (by omega)
            · refine pl_aload_n (pc := 52) dX18_law_52 rfl rfl ?_
              rw [lawP_f (by omega) (clauseP_w hsp hfw (by rw [c49]; decide))]
              refine pl_callVQ (pc := 53) (As := []) (C1 := 1) (N1 := 8) (C2 := 0) (N2 := 0) ckX18 mdX18_wrong rfl q2002 q2004 qs17 q167 dX18_law_53 rfl rfl (Nat.le_of_ble_eq_true rfl) yh.rd (k_X18_wrong (d := d - 1) (by omega) yh.rd) (by omega) (by omega) (by omega) (fun q_9 M_9 hM_9 => ?_)
              obtain ⟨hn9, rfl⟩ := hM_9
              refine pj_athrow (pc := 56) ckX20 dX18_law_56 mset_s ?_
              exact px_out0 rfl ⟨q_9, rfl, mset_s, (StX.new (c := wr0 (nI 1) (nI p)) yh hn9).1.2⟩
        | some k9 =>
          have hk9 : k9 < 8 := firstW_lt _ _ _ hfw
          refine PJ.top (y := nI k9) (namV_s hfw) ?_
          refine pj_istore (pc := 35) (lv' := [(4, _), (3, _), (2, _), (1, _), (0, _)]) dX18_law_35 (by decide) rfl ?_
          refine pl_iload (pc := 37) dX18_law_37 rfl ?_
          refine pj_iconst (pc := 39) (v := (-1)) dX18_law_39 (by rfl) ?_
          refine pj_icmp_ne (pc := 40) (tgt := 57) dX18_law_40 (by decide) (fun c40 => ?_) (fun c40 => ?_)
          · refine pl_iload_n (pc := 57) dX18_law_57 rfl rfl ?_
            refine pl_bipush (pc := 58) (v := 10) dX18_law_58 (by rfl) ?_
            refine pl_icmp_ne (pc := 60) (tgt := 76) dX18_law_60 (by decide) (by omega) (by omega) (fun c60 => ?_) (fun c60 => ?_)
            · refine pl_aload_n (pc := 76) dX18_law_76 rfl rfl ?_
              refine pj_dup (pc := 77) dX18_law_77 rfl ?_
              refine pj_getf (pc := 78) ckX18 2 q1863 dX18_law_78 (by decide) yh.rd rfl ?_
              refine pl_aload_n (pc := 81) dX18_law_81 rfl rfl ?_
              refine pl_callVd (pc := 82) (As := []) (C1 := 0) (N1 := 0) (C2 := (16 * (n - p) + 16)) (N2 := (200 * (n - p) + 118)) ckJ9 mdJ9_length rfl q2034 q399 q400 q136 dX18_law_82 rfl rfl (Nat.le_of_ble_eq_true rfl) hst9.1 (k_J9_length_m (d := d - 1) (by omega) hst9 hwl2) (by omega) (by omega) (by omega) ?_
              have hw := firstW_in _ _ _ hfw
              have hwn : wlen B p = (nameW k9).length := (word_is hf hBy (nameW_l k9 hk9).1 (nameW_l k9 hk9).2 hw).1
              have hlen := isW_in hw (fun x hx => Nat.lt_of_lt_of_le (by decide) (lt_in ((nameW_l k9 hk9).1 x hx)).1) hB hp
              have hl3 := nameW_3 k9
              refine PJ.top (y := nI (nameW k9).length) (by rw [hwn]) ?_
              refine pl_iadd (pc := 85) dX18_law_85 ?_
              refine pj_putf (pc := 86) ckX18 2 q1863 dX18_law_86 (by decide) rfl yh.rd rfl rfl (Nat.le_of_ble_eq_true rfl) ?_
              refine PJ.mem (show _ = (mset My1 rd (rdO t n (p + (nameW k9).length) 0)) from rfl) ?_
              have y5 := StX.of (p1 := (p + (nameW k9).length)) (o1 := 0) yh
              have lm := lh.mv (c := rdO t n (p + (nameW k9).length) 0)
              refine pl_iload (pc := 89) dX18_law_89 rfl ?_
              refine pj_iconst (pc := 91) (v := (-1)) dX18_law_91 (by rfl) ?_
              refine pj_icmp_ne (pc := 92) (tgt := 103) dX18_law_92 (by decide) (fun c92 => ?_) (fun c92 => ?_)
              · refine pl_aload_n (pc := 103) dX18_law_103 rfl rfl ?_
                refine pl_bipush (pc := 104) (v := 61) dX18_law_104 (by rfl) ?_
                obtain ⟨yy, hy⟩ := nameP_tot (o := 0) hB hn3 hlen
                have hcl := clauseP_n hsp hfw hy
                unfold nameP at hy
                rw [thenR_assoc, thenR_assoc] at hy
                rw [signP_V (ch := 61) hB (by decide)] at hy
                rcases thenV_cases (v := needP B n 61 (p + (nameW k9).length) 0) hy with ⟨k9_, w9_, hv, rfl⟩ | ⟨p_106, o_106, hv_106, hy⟩
                · rw [lawP_f (by omega) hcl]
                  refine pl_callVE (pc := 106) (As := [_]) (C1 := 1) (N1 := 8) (C2 := 0) (N2 := 0) ckX18 mdX18_need rfl q2045 q2047 qs20 q167 dX18_law_106 rfl rfl (Nat.le_of_ble_eq_true rfl) y5.rd (x_X18_need (d := d - 1) (by omega) y5.rd (y5.get htr ht) htr tx (by omega) (by decide) (by decide)) (by omega) (by omega) (by omega) (fun _ _ _ e _ => by rw [hv] at e; cases e) (fun k8 w8 q8 M8 e8 hq8 hP8 => by rw [hv] at e8; cases e8; exact px_out0 rfl ⟨q8, rfl, hq8, y5.fault hP8⟩)
                have hi_106 := need_in hB (by decide) (by omega) hv_106
                refine pl_callVE (pc := 106) (As := [_]) (C1 := 1) (N1 := 8) (C2 := (16 * (n - p_106) + 60)) (N2 := (200 * (n - p_106) + 800)) ckX18 mdX18_need rfl q2045 q2047 qs20 q167 dX18_law_106 rfl rfl (Nat.le_of_ble_eq_true rfl) y5.rd (x_X18_need (d := d - 1) (by omega) y5.rd (y5.get htr ht) htr tx (by omega) (by decide) (by decide)) (by omega) (by omega) (by omega) (fun p9 o9 M_106 e9_ hX_106 => ?_) (fun _ _ _ _ e _ _ => by rw [hv_106] at e; cases e)
                rw [hv_106] at e9_
                cases e9_
                have y6 := y5.callV hX_106
                have l_106 := lm.kp hX_106
                refine pl_aload_n (pc := 109) dX18_law_109 rfl rfl ?_
                refine pj_getfN (pc := 110) ckX19 0 q1887 dX18_law_110 (by decide) l_106.1 rfl ?_
                refine pl_iload (pc := 113) dX18_law_113 rfl ?_
                refine pl_aload_n (pc := 115) dX18_law_115 rfl rfl ?_
                obtain ⟨X, hX, hy⟩ := thenR_get hy
                rcases X with ⟨k9_, w9_⟩ | ⟨p_116, o_116, L_116⟩
                · have e9_ := bind_l hy
                  subst e9_
                  rw [lawP_f (by omega) hcl]
                  refine pl_callVR (pc := 116) (As := []) (C1 := _) (N1 := _) (C2 := 0) (N2 := 0) ckX18 mdX18_expr rfl q2049 q2051 qs21 q167 dX18_law_116 rfl rfl (Nat.le_of_ble_eq_true rfl) y6.rd ((H BF (Nat.le_refl _)).1 p_106 o_106 (d - 1) _ (.inl (k9_, w9_)) (by omega) (by omega) (by omega) y6.rd (y6.get htr ht) hX) (by omega) (by simp only [coX]; omega) (by simp only [coX]; omega) (fun _ _ _ _ _ _ _ e _ _ _ => by cases e) (fun k8 w8 q8 M8 e8 hq8 hP8 => by cases e8; exact px_out0 rfl ⟨q8, rfl, hq8, y6.fault hP8⟩)
                obtain ⟨x1, hy1, ey1⟩ := bind_r hy
                clear hy
                obtain ⟨x2, hz2, ey2⟩ := emit_get hy1
                subst ey2
                subst ey1
                have hy := hz2
                obtain ⟨ho_116, hi_116, hn_116⟩ := PF_in hB BF 0 _ _ (by decide) (by omega) _ _ _ hX
                have hm_116 := (PF_min BF 0 _ _ _ _ _ hX).1 (by decide)
                refine pl_callVR (pc := 116) (As := []) (C1 := _) (N1 := _) (C2 := (16 * (n - p_116) + 60)) (N2 := (200 * (n - p_116) + 800)) ckX18 mdX18_expr rfl q2049 q2051 qs21 q167 dX18_law_116 rfl rfl (Nat.le_of_ble_eq_true rfl) y6.rd ((H BF (Nat.le_refl _)).1 p_106 o_106 (d - 1) _ (.inr (p_116, o_116, L_116)) (by omega) (by omega) (by omega) y6.rd (y6.get htr ht) hX) (by omega) (by simp only [coX]; omega) (by simp only [coX]; omega) (fun p9 o9 L9 q_3 h_3 im_3 M_3 e9_ y9 z_3 hh_3 => ?_) (fun _ _ _ _ e _ _ => by cases e)
                cases e9_
                have y_3 := y6.call y9.1 y9.2.1
                have u_3 := y6.upr y9.2.1
                have l_3 := (l_106.kp y9.1).im imU_l (imU_no l_106.2.2.2.2.1.1 (y9.2.1.no l_106.1)) (imU_no l_106.2.2.2.2.1.2 (y9.2.1.no l_106.2.1))
                obtain ⟨f_3, zf1, zf2⟩ := z_3
                obtain ⟨ci_3, vs_3, rr_3, c1_3, c2_3, c3_3⟩ := EcE_obj zf1
                refine pl_astq (pc := 119) 7 dX18_law_119 l_3.2.1 rfl (y_3.im (u_3 _ _ c1_3)) c2_3 c3_3 hk9 (by decide) ?_
                have l_119 := l_3.told (k := k9) (h := h_3) (r := q_3) (L := L_116) hk9 (by omega) ⟨f_3, (EcX.mono u_3 h_3).1 _ _ zf1, zf2⟩
                have y_119 := y_3.cell (c := exA g (va_up fe k9 (some q_3))) l_3.2.2.1.2.1 l_3.2.2.2.1.2 l_3.2.2.2.2.1.2
                refine pl_aload_n (pc := 120) dX18_law_120 rfl rfl ?_
                refine pl_bipush (pc := 121) (v := 59) dX18_law_121 (by rfl) ?_
                rw [signP_V (ch := 59) hB (by decide)] at hy
                rcases lastV_cases (v := needP B n 59 p_116 o_116) hy with ⟨k9_, w9_, hv, rfl⟩ | ⟨p_123, o_123, hv_123, rfl⟩
                · rw [lawP_f (by omega) (show clauseP B n p = .inl (k9_, w9_) from hcl)]
                  refine pl_callVE (pc := 123) (As := [_]) (C1 := 1) (N1 := 8) (C2 := 0) (N2 := 0) ckX18 mdX18_need rfl q2045 q2047 qs20 q167 dX18_law_123 rfl rfl (Nat.le_of_ble_eq_true rfl) y_119.rd (x_X18_need (d := d - 1) (by omega) y_119.rd (y_119.get htr ht) htr tx (by omega) (by decide) (by decide)) (by omega) (by omega) (by omega) (fun _ _ _ e _ => by rw [hv] at e; cases e) (fun k8 w8 q8 M8 e8 hq8 hP8 => by rw [hv] at e8; cases e8; exact px_out0 rfl ⟨q8, rfl, hq8, y_119.fault hP8⟩)
                have hi_123 := need_in hB (by decide) (by omega) hv_123
                refine pl_callVE (pc := 123) (As := [_]) (C1 := 1) (N1 := 8) (C2 := (16 * (n - p_123) + 20)) (N2 := (200 * (n - p_123) + 150)) ckX18 mdX18_need rfl q2045 q2047 qs20 q167 dX18_law_123 rfl rfl (Nat.le_of_ble_eq_true rfl) y_119.rd (x_X18_need (d := d - 1) (by omega) y_119.rd (y_119.get htr ht) htr tx (by omega) (by decide) (by decide)) (by omega) (by omega) (by omega) (fun p9 o9 M_123 e9_ hX_123 => ?_) (fun _ _ _ _ e _ _ => by rw [hv_123] at e; cases e)
                rw [hv_123] at e9_
                cases e9_
                have y7 := y_119.callV hX_123
                have l_123 := l_119.kp hX_123
                refine pl_iinc1 (pc := 126) (lv' := [(2, _), (4, _), (3, _), (1, _), (0, _)]) dX18_law_126 rfl rfl (by decide) rfl ?_
                refine pl_aload_n (pc := 129) dX18_law_129 rfl rfl ?_
                refine pl_callVWd (pc := 130) (As := []) (C1 := 0) (N1 := 0) (C2 := (16 * (n - p_123) + 20)) (N2 := (200 * (n - p_123) + 150)) ckX18 mdX18_sign rfl q1896 q1898 qs15 q167 dX18_law_130 rfl rfl (Nat.le_of_ble_eq_true rfl) y7.rd (x_X18_sign (d := d - 1) (by omega) y7.rd (y7.get htr ht) htr tx (by omega)) (by omega) (by omega) (by omega) (fun My8 qy8 => ?_)
                have y8 := y7.callV (RdS.X qy8)
                have hpy8 := (sk_in (B := B) (show p_123 ≤ n by omega))
                refine pj_pop (pc := 133) dX18_law_133 rfl ?_
                refine pj_goto (pc := 134) (tgt := 15) dX18_law_134 (by decide) ?_
                refine PJ.sub [0, 3, 4] rfl ?_
                have lz := l_123.kp (RdS.X qy8)
                have ho9 : o_123 = 0 := by omega
                rw [ho9] at y8
                rw [lawP_s (by omega) (show clauseP B n p = .inr (p_123, .inl (k9, L_116 ++ [(16, nI 0)])) from hcl)]
                exact PJ.widen (by omega) (by omega) (ih (i + 1) (sk B n p_123) q e9 _ _ _ _ _ (by omega) y8 lz (by omega) (sk_sk hB))
              · exact absurd c92.symm (nI_m1 (by omega))
            · exact absurd c60 (by omega)
          · exact absurd c40.symm (nI_m1 (by omega))
  show PJ g _ _ _ _ d (16 * n + 30) (200 * n + 200) 0 [(0, .ref rd)] [] _ _
  refine pj_new (pc := 0) (C1 := (16 * n + 29)) (N1 := (200 * n + 198)) ckX19 q1878 q1879 q168 dX18_law_0 _ dfX19 (by omega) (by omega) (fun q_0 hn_0 gq_0 => ?_)
  refine pj_dup (pc := 3) dX18_law_3 rfl ?_
  refine pl_callINWv (pc := 4) (As := []) (C1 := 1) (N1 := 8) (C2 := (16 * n + 28)) (N2 := (200 * n + 190)) mdX19_init rfl q1880 q1881 q168 dX18_law_4 rfl rfl (Nat.le_of_ble_eq_true rfl) (k_X19_init (d := d - 1) (by omega) mset_s) (by omega) (by omega) (by omega) (fun My1 qy1 => ?_)
  obtain ⟨e_1, he1, n2, rfl⟩ := qy1
  have he2 : μ e_1 = none := by rw [mset_n n2] at he1; exact he1
  have yt := (y0.cell (c := exA g (fun _ => none)) (y0.nrd he2) (y0.mu he2) rfl).cell (c := txO e_1 (bI false)) (y0.nrd hn_0) (y0.mu hn_0) rfl
  have lt : TxS g μ (fun _ => none) (mset (mset μ e_1 (exA g (fun _ => none))) q_0 (txO e_1 (bI false))) rd q_0 e_1 A0 false (fun _ => none) := ⟨mset_s, (mset_n n2).trans mset_s, ⟨y0.nrd hn_0, y0.nrd he2, Ne.symm n2⟩, ⟨hn_0, he2⟩, ⟨rfl, rfl⟩, fun k hk => Or.inl ⟨rfl, rfl⟩⟩
  refine PJ.mem (show _ = mset (mset μ e_1 (exA g (fun _ => none))) q_0 (txO e_1 (bI false)) from by rw [mset_c (Ne.symm n2)]; exact mset_m) ?_
  refine pj_astore_n (pc := 7) (lv' := [(1, _), (0, _)]) dX18_law_7 rfl (by decide) rfl ?_
  refine pl_iconst (pc := 8) (v := 0) dX18_law_8 (by rfl) ?_
  refine pj_istore_n (pc := 9) (lv' := [(2, _), (1, _), (0, _)]) dX18_law_9 rfl (by decide) rfl ?_
  refine pl_aload_n (pc := 10) dX18_law_10 rfl rfl ?_
  refine pl_callVWd (pc := 11) (As := []) (C1 := 0) (N1 := 0) (C2 := (16 * n + 28)) (N2 := (200 * n + 190)) ckX18 mdX18_sign rfl q1896 q1898 qs15 q167 dX18_law_11 rfl rfl (Nat.le_of_ble_eq_true rfl) yt.rd (x_X18_sign (d := d - 1) (by omega) yt.rd (yt.get htr ht) htr tx (by omega)) (by omega) (by omega) (by omega) (fun My2 qy2 => ?_)
  have y2 := yt.callV (RdS.X qy2)
  have hpy2 := (sk_in (B := B) (show 0 ≤ n by omega))
  refine pj_pop (pc := 14) dX18_law_14 rfl ?_
  exact PJ.widen (by omega) (by omega) (key 10 0 (sk B n 0) q_0 e_1 A0 false _ _ _ rfl y2 (lt.kp (RdS.X qy2)) (by omega) (sk_sk hB))
