/-! ===== THE MODEL's MEMORY: one object, 17 arrays ===== -/
set_option maxRecDepth 100000
/-- the model's numbers: its int fields by their places, its arrays by their numbers, its longs -/
abbrev MS : Type := (Nat → Int32) × (Nat → Nat → Int32) × (Nat → Int64)
def sF (σ : MS) (j : Nat) (v : Int32) : MS := (upd σ.1 j v, σ.2)
def sA (σ : MS) (k : Nat) (f : Nat → Int32) : MS := (σ.1, (fun q => if q = k then f else σ.2.1 q), σ.2.2)
def sL (σ : MS) (j : Nat) (v : Int64) : MS := (σ.1, σ.2.1, vp_updL σ.2.2 j v)
def mtyp : Nat → Nat
  | 4 => 3 | 7 => 2 | 11 => 3 | 12 => 3 | _ => 0
def mlen : Nat → Nat
  | 1 => 2132 | 2 => 2132 | 3 => 96 | 4 => 96 | 5 => 4000 | 6 => 4 | 7 => 300 | 8 => 4800 | 9 => 4800 | 10 => 96 | 11 => 12 | 12 => 1200 | 13 => 400 | 14 => 7007 | 15 => 3 | 16 => 3 | _ => 196
def mfs (ad : Nat → Nat) (σ : MS) : List Value := [.int (σ.1 0), .ref (ad 1), .ref (ad 2), .ref (ad 3), .ref (ad 4), .ref (ad 5), .ref (ad 6), .int (σ.1 7), .ref (ad 7), .int (σ.1 9), .int (σ.1 10), .int (σ.1 11), .int (σ.1 12), .int (σ.1 13), .int (σ.1 14), .int (σ.1 15), .int (σ.1 16), .ref (ad 8), .ref (ad 9), .ref (ad 10), .ref (ad 11), .ref (ad 12), .ref (ad 13), .int (σ.1 23), .int (σ.1 24), .ref (ad 14), .ref (ad 15), .ref (ad 16), .int (σ.1 28), .int (σ.1 29), .ref (ad 17), .int (σ.1 31), .long (σ.2.2 32), .long (σ.2.2 33)]
def mcel (g : GP) (ad : Nat → Nat) (σ : MS) : Nat → va_E
  | 0 => .inr (36, mfs ad σ)
  | k + 1 => .inl (gA g (mtyp (k + 1)), mlen (k + 1), .inl (σ.2.1 (k + 1)))
def mm (g : GP) (ad : Nat → Nat) (μ : Mem) (σ : MS) : Mem := mput ad (mcel g ad σ) 18 μ
theorem mm_o {g : GP} {ad : Nat → Nat} {μ : Mem} {σ : MS} (hA : Inj ad 18) : mm g ad μ σ (ad 0) = some (.inr (36, mfs ad σ)) := mput_get hA (by decide)
theorem mm_a {g : GP} {ad : Nat → Nat} {μ : Mem} {σ : MS} (hA : Inj ad 18) (k : Nat) (h0 : 0 < k) (hk : k < 18) : mm g ad μ σ (ad k) = some (.inl (gA g (mtyp k), mlen k, .inl (σ.2.1 k))) := by
  cases k with
  | zero => exact absurd h0 (Nat.lt_irrefl _)
  | succ k => exact mput_get hA hk
theorem mm_set {g : GP} {ad : Nat → Nat} {μ : Mem} {σ σ1 : MS} (hA : Inj ad 18) (k : Nat) (hk : k < 18) {e : va_E} (h : ∀ j, j < 18 → (updC (mcel g ad σ) k e) j = mcel g ad σ1 j) : mset (mm g ad μ σ) (ad k) e = mm g ad μ σ1 := by
  unfold mm
  rw [mput_set hA hk]
  exact mput_cong h
theorem mm_setF {g : GP} {ad : Nat → Nat} {μ : Mem} {σ σ1 : MS} (hA : Inj ad 18) {fs : List Value} (h : fs = mfs ad σ1) (h2 : σ1.2.1 = σ.2.1) : mset (mm g ad μ σ) (ad 0) (.inr (36, fs)) = mm g ad μ σ1 := by
  refine mm_set hA 0 (by decide) (fun j _ => ?_)
  cases j with
  | zero => simp [updC, mcel, h]
  | succ j => simp [updC, mcel, h2]
theorem mm_setA {g : GP} {ad : Nat → Nat} {μ : Mem} {σ : MS} (hA : Inj ad 18) (k : Nat) (h0 : 0 < k) (hk : k < 18) {f : Nat → Int32} : mset (mm g ad μ σ) (ad k) (.inl (gA g (mtyp k), mlen k, .inl f)) = mm g ad μ (sA σ k f) := by
  cases k with
  | zero => exact absurd h0 (Nat.lt_irrefl _)
  | succ k =>
    refine mm_set hA (k + 1) hk (fun j _ => ?_)
    cases j with
    | zero => rfl
    | succ j =>
      by_cases hj : j = k
      · subst hj
        simp [updC, mcel, sA]
      · simp [updC, mcel, sA, hj]
theorem narrow_bI (b : Bool) : narrow .boolean (.int (bI b)) = .int (bI b) := by cases b <;> rfl
theorem nar_bI (b : Bool) : vp_nar .boolean (bI b) = bI b := by cases b <;> rfl
section PMrules
variable {g : GP} {own : String} {cc : ByteArray} {nL : Nat} {i : MI} {d C N pc : Nat} {ls : List (Nat × Value)} {rest : List Value} {μ : Mem} {Q : OC → Mem → Prop} {ad : Nat → Nat} {σ : MS}
theorem pm_put {index : Nat} {v : Value} (k : Nat) (σ1 : MS) (hA : Inj ad 18) (hlink : Cond.fieldLink own index (TX9 k).1 (TX9 k).2.1 (TX9 k).2.2.1 ∈ lw_all) (hdg : decode cc pc = .ok (.putfield index, 3)) (hk : k < 34) (hfin : (TX9 k).2.2.2 = false) (hn : narrow (tyX9 k) v = v) (hfit : fits (tyX9 k) v = true) (hs : (mfs ad σ).set k v = mfs ad σ1) (h2 : σ1.2.1 = σ.2.1) (kk : PJ g own cc nL i d C N (pc + 3) ls rest (mm g ad μ σ1) Q) : PJ g own cc nL i d C N pc ls (v :: .ref (ad 0) :: rest) (mm g ad μ σ) Q := by
  refine pj_putf ckX9 k hlink hdg hk hfin (mm_o hA) hn hfit hk ?_
  rw [mm_setF hA hs h2]
  exact kk
theorem pm_iast {j : Nat} {x : Int32} (k : Nat) (hA : Inj ad 18) (h0 : 0 < k) (hk : k < 18) (ht : mtyp k = 0) (hdg : decode cc pc = .ok (.iastore, 1)) (hj : j < mlen k) (hn : mlen k < 2147483648) (kk : PJ g own cc nL i d C N (pc + 1) ls rest (mm g ad μ (sA σ k (upd (σ.2.1 k) j x))) Q) : PJ g own cc nL i d C N pc ls (.int x :: .int (nI j) :: .ref (ad k) :: rest) (mm g ad μ σ) Q := by
  have hm := mm_a (g := g) (μ := μ) (σ := σ) hA k h0 hk
  rw [ht] at hm
  refine pl_iast hdg hm hj hn ?_
  have h := mm_setA (g := g) (μ := μ) (σ := σ) hA k h0 hk (f := upd (σ.2.1 k) j x)
  rw [ht] at h
  rw [h]
  exact kk
theorem pm_bast {j : Nat} {x : Int32} (k : Nat) (hA : Inj ad 18) (h0 : 0 < k) (hk : k < 18) (ht : mtyp k = 2) (hdg : decode cc pc = .ok (.bastore, 1)) (hj : j < mlen k) (hn : mlen k < 2147483648) (kk : PJ g own cc nL i d C N (pc + 1) ls rest (mm g ad μ (sA σ k (upd (σ.2.1 k) j (vp_nar .byte x)))) Q) : PJ g own cc nL i d C N pc ls (.int x :: .int (nI j) :: .ref (ad k) :: rest) (mm g ad μ σ) Q := by
  have hm := mm_a (g := g) (μ := μ) (σ := σ) hA k h0 hk
  rw [ht] at hm
  refine pl_bast hdg hm hj hn ?_
  have h := mm_setA (g := g) (μ := μ) (σ := σ) hA k h0 hk (f := upd (σ.2.1 k) j (vp_nar .byte x))
  rw [ht] at h
  rw [h]
  exact kk
theorem pm_zast {j : Nat} {x : Int32} (k : Nat) (hA : Inj ad 18) (h0 : 0 < k) (hk : k < 18) (ht : mtyp k = 3) (hdg : decode cc pc = .ok (.bastore, 1)) (hj : j < mlen k) (hn : mlen k < 2147483648) (kk : PJ g own cc nL i d C N (pc + 1) ls rest (mm g ad μ (sA σ k (upd (σ.2.1 k) j (vp_nar .boolean x)))) Q) : PJ g own cc nL i d C N pc ls (.int x :: .int (nI j) :: .ref (ad k) :: rest) (mm g ad μ σ) Q := by
  have hm := mm_a (g := g) (μ := μ) (σ := σ) hA k h0 hk
  rw [ht] at hm
  refine pl_zast hdg hm hj hn ?_
  have h := mm_setA (g := g) (μ := μ) (σ := σ) hA k h0 hk (f := upd (σ.2.1 k) j (vp_nar .boolean x))
  rw [ht] at h
  rw [h]
  exact kk
end PMrules
theorem test_put {ad : Nat → Nat} {σ : MS} {v : Int32} : (mfs ad σ).set 11 (.int v) = mfs ad (sF σ 11 v) := rfl
section PMrules2
variable {g : GP} {own : String} {cc : ByteArray} {nL : Nat} {i : MI} {d C N pc : Nat} {ls : List (Nat × Value)} {rest : List Value} {μ : Mem} {Q : OC → Mem → Prop} {ad : Nat → Nat} {σ : MS}
theorem pm_putI {index : Nat} {x : Int32} (k : Nat) (hA : Inj ad 18) (hlink : Cond.fieldLink own index (TX9 k).1 (TX9 k).2.1 (TX9 k).2.2.1 ∈ lw_all) (hdg : decode cc pc = .ok (.putfield index, 3)) (hk : k < 34) (hfin : (TX9 k).2.2.2 = false) (hn : narrow (tyX9 k) (.int x) = .int x) (hfit : fits (tyX9 k) (.int x) = true) (hs : (mfs ad σ).set k (.int x) = mfs ad (sF σ k x)) (kk : PJ g own cc nL i d C N (pc + 3) ls rest (mm g ad μ (sF σ k x)) Q) : PJ g own cc nL i d C N pc ls (.int x :: .ref (ad 0) :: rest) (mm g ad μ σ) Q := pm_put k _ hA hlink hdg hk hfin hn hfit hs rfl kk
theorem pm_putL {index : Nat} {x : Int64} (k : Nat) (hA : Inj ad 18) (hlink : Cond.fieldLink own index (TX9 k).1 (TX9 k).2.1 (TX9 k).2.2.1 ∈ lw_all) (hdg : decode cc pc = .ok (.putfield index, 3)) (hk : k < 34) (hfin : (TX9 k).2.2.2 = false) (hn : narrow (tyX9 k) (.long x) = .long x) (hfit : fits (tyX9 k) (.long x) = true) (hs : (mfs ad σ).set k (.long x) = mfs ad (sL σ k x)) (kk : PJ g own cc nL i d C N (pc + 3) ls rest (mm g ad μ (sL σ k x)) Q) : PJ g own cc nL i d C N pc ls (.long x :: .ref (ad 0) :: rest) (mm g ad μ σ) Q := pm_put k _ hA hlink hdg hk hfin hn hfit hs rfl kk
end PMrules2
/-! ===== reading and writing the row of what goes on ===== -/
abbrev row (σ : MS) : Nat → Int32 := σ.2.1 1
abbrev sec (σ : MS) (c w : Nat) : Int32 := row σ (8 * c + w)
abbrev per (σ : MS) (p w : Nat) : Int32 := row σ (768 + 8 * p + w)
abbrev lawv (σ : MS) (l w : Nat) : Int32 := row σ (1568 + 6 * l + w)
abbrev sR (σ : MS) (j : Nat) (v : Int32) : MS := sA σ 1 (upd (row σ) j v)
/-- a number in 0..n-1 -/
def inN (x : Int32) (n : Nat) : Bool := decide (0 ≤ x) && decide (x < nI n)
theorem inN_of {x : Int32} {n : Nat} (hn : n < 2147483648) (h : inN x n = true) : ∃ j : Nat, j < n ∧ x = nI j := by
  simp only [inN, Bool.and_eq_true, decide_eq_true_eq] at h
  have h0 : ¬ x < 0 := fun z => Int32.lt_irrefl (Int32.lt_of_lt_of_le z h.1)
  obtain ⟨j, hj, rfl⟩ := nI_of h0
  exact ⟨j, (nI_ltI hj hn).mp h.2, rfl⟩
theorem inN_nI {j n : Nat} (h : j < n) (hn : n < 2147483648) : inN (nI j) n = true := by
  simp only [inN, Bool.and_eq_true, decide_eq_true_eq]
  exact ⟨nI_pos' (by omega), nI_lt h hn⟩
theorem inN_lt0 {x : Int32} {n : Nat} (h : x < 0) : inN x n = false := by
  simp only [inN, Bool.and_eq_false_iff, decide_eq_false_iff_not]
  exact Or.inl (Int32.not_le.mpr h)
theorem inN_ge {x : Int32} {n : Nat} (h : nI n ≤ x) : inN x n = false := by
  simp only [inN, Bool.and_eq_false_iff, decide_eq_false_iff_not]
  exact Or.inr (Int32.not_lt.mpr h)
theorem inN_ok {x : Int32} {n : Nat} (h0 : ¬ x < 0) (h1 : ¬ nI n ≤ x) : inN x n = true := by
  simp only [inN, Bool.and_eq_true, decide_eq_true_eq]
  exact ⟨Int32.not_lt.mp h0, Int32.not_le.mp h1⟩
theorem nI0 : (0 : Int32) = nI 0 := rfl
theorem vB1 {b : Bool} (h : b = true) : (Sum.inl (some (Value.int (nI 1))) : OC) = .inl (some (.int (bI b))) := by rw [h]; rfl
theorem vB0 {b : Bool} (h : b = false) : (Sum.inl (some (Value.int (nI 0))) : OC) = .inl (some (.int (bI b))) := by rw [h]; rfl
theorem vI {a b : Int32} (h : a = b) : (Sum.inl (some (Value.int a)) : OC) = .inl (some (.int b)) := by rw [h]
/-! ===== loops ===== -/
theorem ind_dn {n : Nat} {P : Nat → Prop} (h : ∀ i, i ≤ n → (i < n → P (i + 1)) → P i) : ∀ i, i ≤ n → P i := by
  have : ∀ m i, i + m = n → P i := by
    intro m
    induction m with
    | zero => intro i hi; exact h i (by omega) (fun hl => absurd hl (by omega))
    | succ m ih => intro i hi; exact h i (by omega) (fun _ => ih (i + 1) (by omega))
  exact fun i hi => this (n - i) i (by omega)
def cnt (p : Nat → Bool) : Nat → Nat
  | 0 => 0
  | n + 1 => cnt p n + (if p n then 1 else 0)
theorem cnt_t {p : Nat → Bool} {n : Nat} (h : p n = true) : cnt p (n + 1) = cnt p n + 1 := by simp [cnt, h]
theorem cnt_f {p : Nat → Bool} {n : Nat} (h : p n = false) : cnt p (n + 1) = cnt p n + 0 := by simp [cnt, h]
theorem cnt_le (p : Nat → Bool) : ∀ n, cnt p n ≤ n
  | 0 => Nat.le_refl _
  | n + 1 => by
    have := cnt_le p n
    unfold cnt
    split <;> omega
def upto {α : Type} (f : Nat → α → α) : Nat → α → α
  | 0, a => a
  | n + 1, a => f n (upto f n a)
def anyN (p : Nat → Bool) : Nat → Bool
  | 0 => false
  | n + 1 => anyN p n || p n
theorem anyN_hit {p : Nat → Bool} {i : Nat} : ∀ {n : Nat}, i < n → p i = true → anyN p n = true
  | n + 1, h, hp => by
    unfold anyN
    rcases Nat.lt_or_ge i n with h1 | h1
    · rw [anyN_hit h1 hp]; rfl
    · have : i = n := by omega
      subst this
      rw [hp]; simp
theorem anyN_up {p : Nat → Bool} {i : Nat} (h : anyN p i = false) (hp : p i = false) : anyN p (i + 1) = false := by
  unfold anyN
  rw [h, hp]; rfl
/-- the last place below n that holds; -1: none -/
def lastI (p : Nat → Bool) : Nat → Int32
  | 0 => -1
  | n + 1 => if p n then nI n else lastI p n
/-- one below -/
def dnI : Nat → Int32
  | 0 => -1
  | n + 1 => nI n
theorem dnI_of (n : Nat) : nI n + (-1) = dnI n := by
  cases n with
  | zero => rfl
  | succ n => exact pk_m1 n
abbrev nP (σ : MS) : Nat := (row σ 2124).toNatClampNeg
abbrev nLw (σ : MS) : Nat := (row σ 2125).toNatClampNeg
theorem PJ.conv {g : GP} {own : String} {cc : ByteArray} {nL : Nat} {i : MI} {d C N pc : Nat} {ls ls1 : List (Nat × Value)} {st st1 : List Value} {μ μ1 : Mem} {Q : OC → Mem → Prop} (hl : ls = ls1) (hs : st = st1) (hm : μ = μ1) (k : PJ g own cc nL i d C N pc ls1 st1 μ1 Q) : PJ g own cc nL i d C N pc ls st μ Q := by
  subst hl; subst hs; subst hm; exact k
theorem nI_nec {x : Int32} {n : Nat} (h : ¬ x = nI n) : x.toInt ≠ (n : Int) := fun z => h (nI_eqc z)
section SW
variable {g : GP} {own : String} {cc : ByteArray} {nL : Nat} {i : MI} {d C N pc : Nat} {ls : List (Nat × Value)} {rest : List Value} {μ : Mem} {Q : OC → Mem → Prop}
theorem pl_tsw {x : Int32} (K : Nat) {dflt lo hi off : Int} {offs : Array Int} {len tgt : Nat} (hdg : decode cc pc = .ok (.tableswitch dflt lo hi offs, len)) (hK : (nI K).toInt = (K : Int)) (h1 : ¬ (K : Int) < lo) (h2 : ¬ hi < (K : Int)) (ho : offs[((K : Int) - lo).toNat]? = some off) (ht : (pc : Int) + off = (tgt : Int)) (kt : x = nI K → PJ g own cc nL i d C N tgt ls rest μ Q) (kf : ¬ x = nI K → PJ g own cc nL i d C N pc ls (.int x :: rest) μ Q) : PJ g own cc nL i d C N pc ls (.int x :: rest) μ Q := by
  by_cases hx : x = nI K
  · subst hx
    exact pj_tableIn hdg (by rw [hK]; exact h1) (by rw [hK]; exact h2) (by rw [hK]; exact ho) ht (kt rfl)
  · exact kf hx
end SW
theorem vIe {a b : Int32} {o : OC} (h : a = b) (ho : o = .inl (some (.int a))) : o = .inl (some (.int b)) := by rw [ho, h]
theorem vBe {a b : Bool} (h : a = b) : (Sum.inl (some (Value.int (bI a))) : OC) = .inl (some (.int (bI b))) := by rw [h]
section LW
variable {g : GP} {own : String} {cc : ByteArray} {nL : Nat} {i : MI} {d C N pc : Nat} {ls : List (Nat × Value)} {rest : List Value} {μ : Mem} {Q : OC → Mem → Prop}
theorem pj_ldcw {index : Nat} {v : Int32} (hc : Cond.constant own index v ∈ lw_all) (hdg : decode cc pc = .ok (.ldc_w index, 3)) (kk : PJ g own cc nL i d C N (pc + 3) ls (.int v :: rest) μ Q) : PJ g own cc nL i d C N pc ls rest μ Q :=
  fun G p e R s m args below meth c E H locs cells slots K K9 B arr hl9 => lv_ldcw E.1 E.2.1 E.2.2.2.1 (E.2.2.2.2.1 _ hc) hdg (kk G p e R s m args below meth c E H locs cells slots K K9 B arr hl9)
end LW
theorem inN_ok2 {x : Int32} {n : Nat} (h0 : ¬ x < 0) (h1 : x < nI n) : inN x n = true := inN_ok h0 (Int32.not_le.mpr h1)
theorem PJ.top {g : GP} {own : String} {cc : ByteArray} {nL : Nat} {i : MI} {d C N pc : Nat} {ls : List (Nat × Value)} {rest : List Value} {μ : Mem} {Q : OC → Mem → Prop} {x y : Int32} (h : x = y) (k : PJ g own cc nL i d C N pc ls (.int y :: rest) μ Q) : PJ g own cc nL i d C N pc ls (.int x :: rest) μ Q := by
  subst h; exact k
