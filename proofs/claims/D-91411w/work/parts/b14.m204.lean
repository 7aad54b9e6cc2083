set_option maxRecDepth 100000
/-- a test is an object -/
theorem EcT_obj {g : GP} {im : Mem} {h r : Nat} {t : Fb4} (z : (EcX g im h).2 r t) : ∃ (ci : Nat) (vs : List Value) (rr : vw_C), im r = some (.inr (ci, vs)) ∧ vwCl[ci]? = some rr ∧ Cond.castable rr.1 "java/lang/Object" ∈ lw_tbl := by
  cases h with
  | zero => exact absurd z (fun w => w)
  | succ h =>
    rcases z with ⟨al, p, e, n, m, mc, fn, ts, hm, -⟩ | ⟨p, t1, hm, -⟩ | ⟨a, b, s, f1, f2, hm, -⟩
    · cases al
      · exact ⟨28, _, _, hm, ckX26.2.1, q3270⟩
      · exact ⟨29, _, _, hm, ckX27.2.1, q3271⟩
    · exact ⟨30, _, _, hm, ckX28.2.1, q3272⟩
    · exact ⟨31, _, _, hm, ckX29.2.1, q3273⟩
/-- what several tests say together -/
def tsT (al : Bool) (m : Nat) (ts : Nat → Fb4) : Fb4 := fun w x y z => if al = true then !(anyN (fun j => !(ts j w x y z)) m) else anyN (fun j => ts j w x y z) m
theorem tsT_0 {L : List Cd} {t : Fb4} {al : Bool} {ts : Nat → Fb4} (h : DenT L t) : DenT L (tsT al 1 (fun j => if j = 0 then t else ts j)) := h.cg (fun w x y z => by
  cases al <;> simp [tsT, anyN])
theorem tsT_s {L L2 : List Cd} {t : Fb4} {al : Bool} {m : Nat} {ts : Nat → Fb4} (h : DenT L (tsT al m ts)) (h2 : DenT L2 t) : DenT (L ++ (L2 ++ [(if al = true then 9 else 10, nI 0)])) (tsT al (m + 1) (fun j => if j = m then t else ts j)) := by
  cases al
  · refine DenT.cg (DenT.or h h2) (fun w x y z => ?_)
    have e : anyN (fun j => (if j = m then t else ts j) w x y z) m = anyN (fun j => ts j w x y z) m := anyN_cg (fun i hi => by simp [show ¬ i = m by omega])
    show (anyN (fun j => ts j w x y z) m || t w x y z) = (anyN (fun j => (if j = m then t else ts j) w x y z) m || (if m = m then t else ts m) w x y z)
    rw [e, if_pos rfl]
  · refine DenT.cg (DenT.and h h2) (fun w x y z => ?_)
    have e : anyN (fun j => !((if j = m then t else ts j) w x y z)) m = anyN (fun j => !(ts j w x y z)) m := anyN_cg (fun i hi => by simp [show ¬ i = m by omega])
    show (!(anyN (fun j => !(ts j w x y z)) m) && t w x y z) = !(anyN (fun j => !((if j = m then t else ts j) w x y z)) m || !((if m = m then t else ts m) w x y z))
    rw [e, if_pos rfl, Bool.not_or, Bool.not_not]
/-- an Any or an All that is being made -/
def LsT (g : GP) (μ im M : Mem) (rd a pl : Nat) (al : Bool) (m h : Nat) (ts : Nat → Fb4) : Prop := ∃ (e cap : Nat) (fn : Nat → Option Nat) (mc : Int32), M a = some (.inr (if al = true then 29 else 28, [.ref pl])) ∧ LstC g M pl e m cap fn mc ∧ (1 ≤ cap ∧ cap < 1000) ∧ (∀ j, m ≤ j → fn j = none) ∧ (a ≠ rd ∧ pl ≠ rd ∧ e ≠ rd ∧ a ≠ pl ∧ a ≠ e ∧ pl ≠ e) ∧ (μ a = none ∧ μ pl = none ∧ μ e = none) ∧ (im a = none ∧ im pl = none ∧ im e = none) ∧ ∀ j, j < m → ∃ r, fn j = some r ∧ (EcX g im h).2 r (ts j)
section LT
variable {g : GP} {μ im im2 M M1 : Mem} {rd a pl m h h2 t n p o p1 o1 q : Nat} {al : Bool} {ts : Nat → Fb4} {L0 L2 : List Cd}
theorem LsT.cell (l : LsT g μ im M rd a pl al m h ts) : M a = some (.inr (if al = true then 29 else 28, [.ref pl])) := by
  obtain ⟨e, cap, fn, mc, h1, -⟩ := l
  exact h1
theorem LsT.kp (l : LsT g μ im M rd a pl al m h ts) (k : RdX M rd t n p o M1) : LsT g μ im M1 rd a pl al m h ts := by
  obtain ⟨e, cap, fn, mc, h1, hl, hcap, hf, ⟨na, np, ne, nx⟩, hmu, him, hts⟩ := l
  exact ⟨e, cap, fn, mc, k.2 a _ na h1, ⟨k.2 pl _ np hl.1, k.2 e _ ne hl.2.1, hl.2.2⟩, hcap, hf, ⟨na, np, ne, nx⟩, hmu, him, hts⟩
theorem LsT.add (l : LsT g μ im M rd a pl al m h ts) (y : StX μ rd t n p o im M) (k : StX M rd t n p1 o1 im2 M1) (z : GdT g im2 h2 q L2) :
    ∃ (e cap : Nat) (fn : Nat → Option Nat) (mc : Int32) (ci : Nat) (vs : List Value) (rr : vw_C), LstC g M1 pl e m cap fn mc ∧ (1 ≤ cap ∧ cap < 1000) ∧ (∀ j, m ≤ j → fn j = none) ∧ (∀ i, i < m → ∀ y, fn i = some y → ElO M1 "java/lang/Object" y) ∧ M1 q = some (.inr (ci, vs)) ∧ vwCl[ci]? = some rr ∧ Cond.castable rr.1 "java/lang/Object" ∈ lw_tbl ∧ q ≠ pl ∧ (∀ i, i < m → ∀ y, fn i = some y → y ≠ pl) ∧
      ∀ (q2 m1 : Nat) (mc1 : Int32), (q2 = e ∨ M1 q2 = none) → m + 1 ≤ m1 → m1 < 1000 → ∃ ts1, StX μ rd t n p1 o1 (imU im im2) (mset (mset M1 q2 (lstA g m1 (fun j => if j < m then fn j else if j = m then some q else none))) pl (lstO mc1 q2 (m + 1))) ∧ LsT g μ (imU im im2) (mset (mset M1 q2 (lstA g m1 (fun j => if j < m then fn j else if j = m then some q else none))) pl (lstO mc1 q2 (m + 1))) rd a pl al (m + 1) (max h h2) ts1 ∧ (m = 0 → DenT L2 (tsT al (m + 1) ts1)) ∧ ∀ L0, DenT L0 (tsT al m ts) → DenT (L0 ++ (L2 ++ [(if al = true then 9 else 10, nI 0)])) (tsT al (m + 1) ts1) := by
  obtain ⟨e, cap, fn, mc, h1, hl, hcap, hf, ⟨na, np, ne, nap, nae, npe⟩, ⟨ma, mp, me⟩, ⟨ia, ip, ie⟩, hts⟩ := l
  obtain ⟨t9, z1, z2⟩ := z
  obtain ⟨ci, vs, rr, c1, c2, c3⟩ := EcT_obj z1
  have hqM : M q = none := (k.2.1 q _ c1).2
  have hqp : q ≠ pl := fun w => by rw [w, hl.1] at hqM; cases hqM
  have g1 := k.get na h1
  have g2 := k.get np hl.1
  have g3 := k.get ne hl.2.1
  have hyy := y.call k.1 k.2.1
  have ia2 : imU im im2 a = none := imU_no ia (k.2.1.no h1)
  have ip2 : imU im im2 pl = none := imU_no ip (k.2.1.no hl.1)
  have ie2 : imU im im2 e = none := imU_no ie (k.2.1.no hl.2.1)
  refine ⟨e, cap, fn, mc, ci, vs, rr, ⟨g2, g3, hl.2.2⟩, hcap, hf, fun i hi y9 hy => ?_, k.im c1, c2, c3, hqp, fun i hi y9 hy => ?_, fun q2 m1 mc1 hq2 hm1 hm2 => ?_⟩
  · obtain ⟨r, e1, e2⟩ := hts i hi
    rw [hy] at e1
    cases e1
    obtain ⟨ci9, vs9, rr9, d1, d2, d3⟩ := EcT_obj e2
    exact ⟨ci9, vs9, rr9, hyy.im (imU_l _ _ d1), d2, d3⟩
  · obtain ⟨r, e1, e2⟩ := hts i hi
    rw [hy] at e1
    cases e1
    obtain ⟨ci9, vs9, rr9, d1, d2, d3⟩ := EcT_obj e2
    exact fun w => by rw [w, ip] at d1; cases d1
  · have q2rd : q2 ≠ rd := hq2.elim (fun w => w ▸ ne) hyy.nrd
    have q2mu : μ q2 = none := hq2.elim (fun w => w ▸ me) hyy.mu
    have q2im : imU im im2 q2 = none := hq2.elim (fun w => w ▸ ie2) hyy.imn
    have q2a : a ≠ q2 := hq2.elim (fun w => w ▸ nae) (fun w v => by rw [← v, g1] at w; cases w)
    have q2p : pl ≠ q2 := hq2.elim (fun w => w ▸ npe) (fun w v => by rw [← v, g2] at w; cases w)
    refine ⟨fun j => if j = m then t9 else ts j, (hyy.cell q2rd q2mu q2im).cell np mp ip2, ⟨q2, m1, _, mc1, (mset_n nap).trans ((mset_n q2a).trans g1), ⟨mset_s, (mset_n (Ne.symm q2p)).trans mset_s, hm1, by omega⟩, ⟨by omega, hm2⟩, fun j hj => ?_, ⟨na, np, q2rd, nap, q2a, q2p⟩, ⟨ma, mp, q2mu⟩, ⟨ia2, ip2, q2im⟩, fun j hj => ?_⟩, fun h0 => ?_, fun L0 hL => tsT_s hL z2⟩
    · show (if j < m then fn j else if j = m then some q else none) = none
      rw [if_neg (by omega), if_neg (by omega)]
    · by_cases c : j = m
      · subst c
        refine ⟨q, ?_, ?_⟩
        · show (if j < j then fn j else if j = j then some q else none) = some q
          rw [if_neg (by omega), if_pos rfl]
        · show (EcX g (imU im im2) (max h h2)).2 q (if j = j then t9 else ts j)
          rw [if_pos rfl]
          have w := (EcX.mono (y.upr k.2.1) h2).2 _ _ z1
          have w2 := EcX.leT w (max h h2 - h2)
          rw [show h2 + (max h h2 - h2) = max h h2 by omega] at w2
          exact w2
      · obtain ⟨r, e1, e2⟩ := hts j (by omega)
        refine ⟨r, ?_, ?_⟩
        · show (if j < m then fn j else if j = m then some q else none) = some r
          rw [if_pos (by omega)]
          exact e1
        · show (EcX g (imU im im2) (max h h2)).2 r (if j = m then t9 else ts j)
          rw [if_neg c]
          have w := (EcX.mono (imU_l (i2 := im2)) h).2 _ _ e2
          have w2 := EcX.leT w (max h h2 - h)
          rw [show h + (max h h2 - h) = max h h2 by omega] at w2
          exact w2
    · subst h0
      exact tsT_0 z2
theorem LsT.fin (l : LsT g μ im M rd a pl al m h ts) (y : StX μ rd t n p o im M) (hm : m < 1000) (hD : DenT L0 (tsT al m ts)) : ∃ im1, StX μ rd t n p o im1 M ∧ GdT g im1 (h + 1) a L0 := by
  obtain ⟨e, cap, fn, mc, h1, hl, hcap, hf, ⟨na, np, ne, nap, nae, npe⟩, ⟨ma, mp, me⟩, ⟨ia, ip, ie⟩, hts⟩ := l
  have y3 := ((y.keep ma h1).keep mp hl.1).keep me hl.2.1
  refine ⟨_, y3, _, Or.inl ⟨al, pl, e, m, cap, mc, fn, ts, ?_, ⟨?_, ?_, hl.2.2⟩, hm, fun j hj => ?_, rfl⟩, hD⟩
  · rw [mset_n nae, mset_n nap]
    exact mset_s
  · rw [mset_n npe]
    exact mset_s
  · exact mset_s
  · obtain ⟨r, e1, e2⟩ := hts j hj
    refine ⟨r, e1, (EcX.mono (fun x e9 w => ?_) h).2 _ _ e2⟩
    rw [mset_n (fun v => by rw [v, ie] at w; cases w), mset_n (fun v => by rw [v, ip] at w; cases w), mset_n (fun v => by rw [v, ia] at w; cases w)]
    exact w
end LT
/-- an All or an Any was made -/
theorem LsT.new {g : GP} {μ M : Mem} {rd t n p o a pl e1 : Nat} {al : Bool} (y : StX μ rd t n p o (fun _ => none) M) (ha : M a = none) (hp : M pl = none) (he : M e1 = none) (n1 : e1 ≠ pl) (n2 : a ≠ pl) (n3 : a ≠ e1) : StX μ rd t n p o (fun _ => none) (mset (mset (mset M e1 (lstA g 2 (fun _ => none))) pl (.inr (2, [.int (nI 0), .ref e1, .int 0]))) a (.inr (if al = true then 29 else 28, [.ref pl]))) ∧ LsT g μ (fun _ => none) (mset (mset (mset M e1 (lstA g 2 (fun _ => none))) pl (.inr (2, [.int (nI 0), .ref e1, .int 0]))) a (.inr (if al = true then 29 else 28, [.ref pl]))) rd a pl al 0 0 (fun _ _ _ _ _ => true) :=
  ⟨((y.cell (y.nrd he) (y.mu he) rfl).cell (y.nrd hp) (y.mu hp) rfl).cell (y.nrd ha) (y.mu ha) rfl,
   e1, 2, fun _ => none, nI 0, mset_s, ⟨(mset_n (Ne.symm n2)).trans mset_s, (mset_n (Ne.symm n3)).trans ((mset_n n1).trans mset_s), by decide, by decide⟩, by decide, fun _ _ => rfl, ⟨y.nrd ha, y.nrd hp, y.nrd he, n2, n3, Ne.symm n1⟩, ⟨y.mu ha, y.mu hp, y.mu he⟩, ⟨rfl, rfl, rfl⟩, fun j hj => absurd hj (Nat.not_lt_zero _)⟩
set_option maxHeartbeats 600000 in
theorem k_X27_init {g : GP} {μ : Mem} {d : Nat} (hd : 6 ≤ d) {q : Nat} (hm : μ q = some (.inr (29, [.null]))) : PM g yX27_init (ws_ yX27_init cX27_init 1 none) d 2 5 [.ref q] μ (WQ none (fun M => ∃ p e9, μ p = none ∧ μ e9 = none ∧ e9 ≠ p ∧ q ≠ p ∧ q ≠ e9 ∧ M = mset (mset (mset μ e9 (lstA g 2 (fun _ => none))) p (.inr (2, [.int (nI 0), .ref e9, .int 0]))) q (.inr (29, [.ref p])))) := by
  refine PM.of (by decide +kernel) (Nat.le_of_ble_eq_true rfl) ?_
  refine PJ.ok (fun G => ?_)
  show PJ g _ _ _ _ d 2 5 0 [(0, .ref q)] [] _ _
  refine pl_aload_n (pc := 0) dX27_init_0 rfl rfl ?_
  refine pl_callINWv (pc := 1) (As := []) (C1 := 2) (N1 := 5) (C2 := 0) (N2 := 0) mdX26_init rfl q2183 q2161 q175 dX27_init_1 rfl rfl (Nat.le_of_ble_eq_true rfl) (k_X26_init_a (d := d - 1) (by omega) hm) (by omega) (by omega) (by omega) (fun My1 qy1 => ?_)
  have y1 := qy1
  refine pj_vret (pc := 4) dX27_init_4 rfl ?_
  exact ⟨rfl, y1⟩
