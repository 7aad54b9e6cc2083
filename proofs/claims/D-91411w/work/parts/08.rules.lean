/-! ===== BASE 2: rules that read off more ===== -/
def lkL : List (Nat × Value) → Nat → Option Value
  | [], _ => none
  | q :: t, j => cond (Nat.beq q.1 j) (some q.2) (lkL t j)
theorem lkL_at {v : Value} : ∀ {ls : List (Nat × Value)} {j : Nat}, lkL ls j = some v → ∃ k : Nat, ls[k]? = some (j, v)
  | [], _, h => by cases h
  | q :: t, j, h => by
    unfold lkL at h
    cases hb : Nat.beq q.1 j with
    | true =>
      rw [hb] at h
      have he : q.1 = j := Nat.eq_of_beq_eq_true hb
      refine ⟨0, ?_⟩
      cases h
      rw [← he]
      rfl
    | false =>
      rw [hb] at h
      obtain ⟨k, hk⟩ := lkL_at (ls := t) h
      exact ⟨k + 1, hk⟩
def bI (b : Bool) : Int32 := cond b 1 0
def rQ (v : Option Value) (μ1 : Mem) : OC → Mem → Prop := fun o μ => o = .inl v ∧ μ = μ1
theorem nI_eqc {n : Nat} {v : Int32} (h : v.toInt = (n : Int)) : v = nI n := by
  have hn : n < 2 ^ 31 := by
    have := Int32.toInt_lt v
    omega
  apply Int32.toInt_inj.mp
  rw [h, nI_toInt hn]
section PL
variable {g : GP} {own : String} {cc : ByteArray} {nL : Nat} {i : MI} {d C N pc : Nat} {ls : List (Nat × Value)} {rest : List Value} {μ : Mem} {Q : OC → Mem → Prop}
theorem pl_iload_n {k : Fin 4} {j : Nat} {x : Int32} (hdg : decode cc pc = .ok (.iload_n k, 1)) (hi : (k : Nat) = j) (hl : lkL ls j = some (.int x)) (kk : PJ g own cc nL i d C N (pc + 1) ls (.int x :: rest) μ Q) : PJ g own cc nL i d C N pc ls rest μ Q := by
  obtain ⟨k0, h0⟩ := lkL_at hl
  exact pj_iload_n hdg hi k0 h0 kk
theorem pl_iload {j : Nat} {x : Int32} (hdg : decode cc pc = .ok (.iload j, 2)) (hl : lkL ls j = some (.int x)) (kk : PJ g own cc nL i d C N (pc + 2) ls (.int x :: rest) μ Q) : PJ g own cc nL i d C N pc ls rest μ Q := by
  obtain ⟨k0, h0⟩ := lkL_at hl
  exact pj_iload hdg k0 h0 kk
theorem pl_lload_n {k : Fin 4} {j : Nat} {x : Int64} (hdg : decode cc pc = .ok (.lload_n k, 1)) (hi : (k : Nat) = j) (hl : lkL ls j = some (.long x)) (kk : PJ g own cc nL i d C N (pc + 1) ls (.long x :: rest) μ Q) : PJ g own cc nL i d C N pc ls rest μ Q := by
  obtain ⟨k0, h0⟩ := lkL_at hl
  exact pj_lload_n hdg hi k0 h0 kk
theorem pl_lload {j : Nat} {x : Int64} (hdg : decode cc pc = .ok (.lload j, 2)) (hl : lkL ls j = some (.long x)) (kk : PJ g own cc nL i d C N (pc + 2) ls (.long x :: rest) μ Q) : PJ g own cc nL i d C N pc ls rest μ Q := by
  obtain ⟨k0, h0⟩ := lkL_at hl
  exact pj_lload hdg k0 h0 kk
theorem pl_fload_n {k : Fin 4} {j : Nat} {x : UInt32} (hdg : decode cc pc = .ok (.fload_n k, 1)) (hi : (k : Nat) = j) (hl : lkL ls j = some (.float x)) (kk : PJ g own cc nL i d C N (pc + 1) ls (.float x :: rest) μ Q) : PJ g own cc nL i d C N pc ls rest μ Q := by
  obtain ⟨k0, h0⟩ := lkL_at hl
  exact pj_fload_n hdg hi k0 h0 kk
theorem pl_fload {j : Nat} {x : UInt32} (hdg : decode cc pc = .ok (.fload j, 2)) (hl : lkL ls j = some (.float x)) (kk : PJ g own cc nL i d C N (pc + 2) ls (.float x :: rest) μ Q) : PJ g own cc nL i d C N pc ls rest μ Q := by
  obtain ⟨k0, h0⟩ := lkL_at hl
  exact pj_fload hdg k0 h0 kk
theorem pl_aload_n {k : Fin 4} {j : Nat} {x : Nat} (hdg : decode cc pc = .ok (.aload_n k, 1)) (hi : (k : Nat) = j) (hl : lkL ls j = some (.ref x)) (kk : PJ g own cc nL i d C N (pc + 1) ls (.ref x :: rest) μ Q) : PJ g own cc nL i d C N pc ls rest μ Q := by
  obtain ⟨k0, h0⟩ := lkL_at hl
  exact pj_aload_n hdg hi k0 h0 kk
theorem pl_aload {j : Nat} {x : Nat} (hdg : decode cc pc = .ok (.aload j, 2)) (hl : lkL ls j = some (.ref x)) (kk : PJ g own cc nL i d C N (pc + 2) ls (.ref x :: rest) μ Q) : PJ g own cc nL i d C N pc ls rest μ Q := by
  obtain ⟨k0, h0⟩ := lkL_at hl
  exact pj_aload hdg k0 h0 kk
theorem pl_aload_nN {k : Fin 4} {j : Nat} (hdg : decode cc pc = .ok (.aload_n k, 1)) (hi : (k : Nat) = j) (hl : lkL ls j = some .null) (kk : PJ g own cc nL i d C N (pc + 1) ls (.null :: rest) μ Q) : PJ g own cc nL i d C N pc ls rest μ Q := by
  obtain ⟨k0, h0⟩ := lkL_at hl
  exact pj_aload_nN hdg hi k0 h0 kk
theorem pl_aloadN {j : Nat} (hdg : decode cc pc = .ok (.aload j, 2)) (hl : lkL ls j = some .null) (kk : PJ g own cc nL i d C N (pc + 2) ls (.null :: rest) μ Q) : PJ g own cc nL i d C N pc ls rest μ Q := by
  obtain ⟨k0, h0⟩ := lkL_at hl
  exact pj_aloadN hdg k0 h0 kk
theorem pl_iinc {j : Nat} {n : Int} {x v : Int32} {lv' : List (Nat × Value)} (hdg : decode cc pc = .ok (.iinc j n, 3)) (hl : lkL ls j = some (.int x)) (hv : x + Int32.ofInt n = v) (hn : j < nL) (hs : (j, Value.int v) :: ls.filter (fun q => !(q.1 == j) && !(q.1 + 1 == j && q.2.category == 2)) = lv') (kk : PJ g own cc nL i d C N (pc + 3) lv' rest μ Q) : PJ g own cc nL i d C N pc ls rest μ Q := by
  obtain ⟨k0, h0⟩ := lkL_at hl
  exact pj_iinc hdg h0 hv hn hs kk
/-- numbers that are natural -/
theorem pl_iconst {n : Int} {v : Nat} (hdg : decode cc pc = .ok (.iconst n, 1)) (hv : Int32.ofInt n = nI v) (kk : PJ g own cc nL i d C N (pc + 1) ls (.int (nI v) :: rest) μ Q) : PJ g own cc nL i d C N pc ls rest μ Q := pj_iconst hdg hv kk
theorem pl_bipush {n : Int} {v : Nat} (hdg : decode cc pc = .ok (.bipush n, 2)) (hv : (Int8.ofInt n).toInt32 = nI v) (kk : PJ g own cc nL i d C N (pc + 2) ls (.int (nI v) :: rest) μ Q) : PJ g own cc nL i d C N pc ls rest μ Q := pj_bipush hdg hv kk
theorem pl_sipush {n : Int} {v : Nat} (hdg : decode cc pc = .ok (.sipush n, 3)) (hv : (Int16.ofInt n).toInt32 = nI v) (kk : PJ g own cc nL i d C N (pc + 3) ls (.int (nI v) :: rest) μ Q) : PJ g own cc nL i d C N pc ls rest μ Q := pj_sipush hdg hv kk
theorem pl_iadd {a b : Nat} (hdg : decode cc pc = .ok (.iadd, 1)) (kk : PJ g own cc nL i d C N (pc + 1) ls (.int (nI (a + b)) :: rest) μ Q) : PJ g own cc nL i d C N pc ls (.int (nI b) :: .int (nI a) :: rest) μ Q := pj_iadd hdg (by rw [nI_add]; exact kk)
theorem pl_imul {a b : Nat} (hdg : decode cc pc = .ok (.imul, 1)) (kk : PJ g own cc nL i d C N (pc + 1) ls (.int (nI (a * b)) :: rest) μ Q) : PJ g own cc nL i d C N pc ls (.int (nI b) :: .int (nI a) :: rest) μ Q := pj_imul hdg (by rw [pk_mul]; exact kk)
theorem pl_isub {a b : Nat} (hdg : decode cc pc = .ok (.isub, 1)) (h : b ≤ a) (kk : PJ g own cc nL i d C N (pc + 1) ls (.int (nI (a - b)) :: rest) μ Q) : PJ g own cc nL i d C N pc ls (.int (nI b) :: .int (nI a) :: rest) μ Q := pj_isub hdg (by rw [pk_sub h]; exact kk)
theorem pl_idiv {a b : Nat} (hdg : decode cc pc = .ok (.idiv, 1)) (ha : a < 2147483648) (h0 : 0 < b) (hb : b < 2147483648) (kk : PJ g own cc nL i d C N (pc + 1) ls (.int (nI (a / b)) :: rest) μ Q) : PJ g own cc nL i d C N pc ls (.int (nI b) :: .int (nI a) :: rest) μ Q := pj_idiv hdg (nI_ne0 h0 hb) (by rw [pk_div ha h0 hb]; exact kk)
theorem pl_irem {a b : Nat} (hdg : decode cc pc = .ok (.irem, 1)) (ha : a < 2147483648) (h0 : 0 < b) (hb : b < 2147483648) (kk : PJ g own cc nL i d C N (pc + 1) ls (.int (nI (a % b)) :: rest) μ Q) : PJ g own cc nL i d C N pc ls (.int (nI b) :: .int (nI a) :: rest) μ Q := pj_irem hdg (nI_ne0 h0 hb) (by rw [pk_rem ha h0 hb]; exact kk)
theorem pl_iinc1 {j n : Nat} {z : Int} {lv' : List (Nat × Value)} (hdg : decode cc pc = .ok (.iinc j z, 3)) (hz : z = 1) (hl : lkL ls j = some (.int (nI n))) (hn : j < nL) (hs : (j, Value.int (nI (n + 1))) :: ls.filter (fun q => !(q.1 == j) && !(q.1 + 1 == j && q.2.category == 2)) = lv') (kk : PJ g own cc nL i d C N (pc + 3) lv' rest μ Q) : PJ g own cc nL i d C N pc ls rest μ Q := by
  subst hz
  exact pl_iinc hdg hl (nI_1 n) hn hs kk
theorem pl_icmp_lt {a b : Nat} {off : Int} {tgt : Nat} (hdg : decode cc pc = .ok (.if_icmp .lt off, 3)) (ht : (pc : Int) + off = (tgt : Int)) (ha : a < 2147483648) (hb : b < 2147483648) (kt : a < b → PJ g own cc nL i d C N tgt ls rest μ Q) (kf : b ≤ a → PJ g own cc nL i d C N (pc + 3) ls rest μ Q) : PJ g own cc nL i d C N pc ls (.int (nI b) :: .int (nI a) :: rest) μ Q := pj_icmp_lt hdg ht (fun h => kt ((nI_ltI ha hb).mp h)) (fun h => kf (Nat.not_lt.mp (fun z => h ((nI_ltI ha hb).mpr z))))
theorem pl_icmp_ge {a b : Nat} {off : Int} {tgt : Nat} (hdg : decode cc pc = .ok (.if_icmp .ge off, 3)) (ht : (pc : Int) + off = (tgt : Int)) (ha : a < 2147483648) (hb : b < 2147483648) (kt : b ≤ a → PJ g own cc nL i d C N tgt ls rest μ Q) (kf : a < b → PJ g own cc nL i d C N (pc + 3) ls rest μ Q) : PJ g own cc nL i d C N pc ls (.int (nI b) :: .int (nI a) :: rest) μ Q := pj_icmp_ge hdg ht (fun h => kt ((nI_leI hb ha).mp h)) (fun h => kf (Nat.not_le.mp (fun z => h ((nI_leI hb ha).mpr z))))
theorem pl_icmp_gt {a b : Nat} {off : Int} {tgt : Nat} (hdg : decode cc pc = .ok (.if_icmp .gt off, 3)) (ht : (pc : Int) + off = (tgt : Int)) (ha : a < 2147483648) (hb : b < 2147483648) (kt : b < a → PJ g own cc nL i d C N tgt ls rest μ Q) (kf : a ≤ b → PJ g own cc nL i d C N (pc + 3) ls rest μ Q) : PJ g own cc nL i d C N pc ls (.int (nI b) :: .int (nI a) :: rest) μ Q := pj_icmp_gt hdg ht (fun h => kt ((nI_ltI hb ha).mp h)) (fun h => kf (Nat.not_lt.mp (fun z => h ((nI_ltI hb ha).mpr z))))
theorem pl_icmp_le {a b : Nat} {off : Int} {tgt : Nat} (hdg : decode cc pc = .ok (.if_icmp .le off, 3)) (ht : (pc : Int) + off = (tgt : Int)) (ha : a < 2147483648) (hb : b < 2147483648) (kt : a ≤ b → PJ g own cc nL i d C N tgt ls rest μ Q) (kf : b < a → PJ g own cc nL i d C N (pc + 3) ls rest μ Q) : PJ g own cc nL i d C N pc ls (.int (nI b) :: .int (nI a) :: rest) μ Q := pj_icmp_le hdg ht (fun h => kt ((nI_leI ha hb).mp h)) (fun h => kf (Nat.not_le.mp (fun z => h ((nI_leI ha hb).mpr z))))
theorem pl_icmp_eq {a b : Nat} {off : Int} {tgt : Nat} (hdg : decode cc pc = .ok (.if_icmp .eq off, 3)) (ht : (pc : Int) + off = (tgt : Int)) (ha : a < 2147483648) (hb : b < 2147483648) (kt : a = b → PJ g own cc nL i d C N tgt ls rest μ Q) (kf : ¬ a = b → PJ g own cc nL i d C N (pc + 3) ls rest μ Q) : PJ g own cc nL i d C N pc ls (.int (nI b) :: .int (nI a) :: rest) μ Q := pj_icmp_eq hdg ht (fun h => kt ((nI_eq ha hb).mp h)) (fun h => kf (fun z => h ((nI_eq ha hb).mpr z)))
theorem pl_icmp_ne {a b : Nat} {off : Int} {tgt : Nat} (hdg : decode cc pc = .ok (.if_icmp .ne off, 3)) (ht : (pc : Int) + off = (tgt : Int)) (ha : a < 2147483648) (hb : b < 2147483648) (kt : ¬ a = b → PJ g own cc nL i d C N tgt ls rest μ Q) (kf : a = b → PJ g own cc nL i d C N (pc + 3) ls rest μ Q) : PJ g own cc nL i d C N pc ls (.int (nI b) :: .int (nI a) :: rest) μ Q := pj_icmp_ne hdg ht (fun h => kt (fun z => h ((nI_eq ha hb).mpr z))) (fun h => kf ((nI_eq ha hb).mp h))
theorem pl_if_eqB {b : Bool} {off : Int} {tgt : Nat} (hdg : decode cc pc = .ok (.ifCond .eq off, 3)) (ht : (pc : Int) + off = (tgt : Int)) (kt : b = false → PJ g own cc nL i d C N tgt ls rest μ Q) (kf : b = true → PJ g own cc nL i d C N (pc + 3) ls rest μ Q) : PJ g own cc nL i d C N pc ls (.int (bI b) :: rest) μ Q := by
  refine pj_if_eq hdg ht (fun h => kt ?_) (fun h => kf ?_)
  · cases b
    · rfl
    · exact absurd h (by decide)
  · cases b
    · exact absurd rfl h
    · rfl
theorem pl_if_neB {b : Bool} {off : Int} {tgt : Nat} (hdg : decode cc pc = .ok (.ifCond .ne off, 3)) (ht : (pc : Int) + off = (tgt : Int)) (kt : b = true → PJ g own cc nL i d C N tgt ls rest μ Q) (kf : b = false → PJ g own cc nL i d C N (pc + 3) ls rest μ Q) : PJ g own cc nL i d C N pc ls (.int (bI b) :: rest) μ Q := by
  refine pj_if_ne hdg ht (fun h => kt ?_) (fun h => kf ?_)
  · cases b
    · exact absurd rfl h
    · rfl
  · cases b
    · rfl
    · exact absurd (h : (1 : Int32) = 0) (by decide)
theorem pl_if_ltN {a : Nat} {off : Int} (hdg : decode cc pc = .ok (.ifCond .lt off, 3)) (ht : ∃ tgt : Nat, (pc : Int) + off = (tgt : Int)) (ha : a < 2147483648) (kf : PJ g own cc nL i d C N (pc + 3) ls rest μ Q) : PJ g own cc nL i d C N pc ls (.int (nI a) :: rest) μ Q := by
  obtain ⟨tgt, ht⟩ := ht
  exact pj_if_lt hdg ht (fun h => absurd h (nI_pos ha)) (fun _ => kf)
theorem pl_if_eqN {a : Nat} {off : Int} {tgt : Nat} (hdg : decode cc pc = .ok (.ifCond .eq off, 3)) (ht : (pc : Int) + off = (tgt : Int)) (ha : a < 2147483648) (kt : a = 0 → PJ g own cc nL i d C N tgt ls rest μ Q) (kf : 0 < a → PJ g own cc nL i d C N (pc + 3) ls rest μ Q) : PJ g own cc nL i d C N pc ls (.int (nI a) :: rest) μ Q := by
  refine pj_if_eq hdg ht (fun h => kt ?_) (fun h => kf ?_)
  · exact (nI_eq ha (by decide)).mp (h.trans nI_0.symm)
  · rcases Nat.eq_zero_or_pos a with h0 | h0
    · subst h0
      exact absurd nI_0 h
    · exact h0
theorem pl_if_neN {a : Nat} {off : Int} {tgt : Nat} (hdg : decode cc pc = .ok (.ifCond .ne off, 3)) (ht : (pc : Int) + off = (tgt : Int)) (ha : a < 2147483648) (kt : 0 < a → PJ g own cc nL i d C N tgt ls rest μ Q) (kf : a = 0 → PJ g own cc nL i d C N (pc + 3) ls rest μ Q) : PJ g own cc nL i d C N pc ls (.int (nI a) :: rest) μ Q := by
  refine pj_if_ne hdg ht (fun h => kt ?_) (fun h => kf ?_)
  · rcases Nat.eq_zero_or_pos a with h0 | h0
    · subst h0
      exact absurd nI_0 h
    · exact h0
  · have h1 : nI a = 0 := h
    exact (nI_eq ha (by decide)).mp (h1.trans nI_0.symm)
theorem pl_if_leN {a : Nat} {off : Int} {tgt : Nat} (hdg : decode cc pc = .ok (.ifCond .le off, 3)) (ht : (pc : Int) + off = (tgt : Int)) (ha : a < 2147483648) (kt : a = 0 → PJ g own cc nL i d C N tgt ls rest μ Q) (kf : 0 < a → PJ g own cc nL i d C N (pc + 3) ls rest μ Q) : PJ g own cc nL i d C N pc ls (.int (nI a) :: rest) μ Q := by
  refine pj_if_le hdg ht (fun h => kt ?_) (fun h => kf ?_)
  · rcases Nat.eq_zero_or_pos a with h0 | h0
    · exact h0
    · exact absurd h (nI_nle h0 ha)
  · rcases Nat.eq_zero_or_pos a with h0 | h0
    · subst h0
      exact absurd (by rw [nI_0]; decide) h
    · exact h0
theorem pl_if_gtN {a : Nat} {off : Int} {tgt : Nat} (hdg : decode cc pc = .ok (.ifCond .gt off, 3)) (ht : (pc : Int) + off = (tgt : Int)) (ha : a < 2147483648) (kt : 0 < a → PJ g own cc nL i d C N tgt ls rest μ Q) (kf : a = 0 → PJ g own cc nL i d C N (pc + 3) ls rest μ Q) : PJ g own cc nL i d C N pc ls (.int (nI a) :: rest) μ Q := by
  refine pj_if_gt hdg ht (fun h => kt ?_) (fun h => kf ?_)
  · rcases Nat.eq_zero_or_pos a with h0 | h0
    · subst h0
      exact absurd h (by rw [nI_0]; decide)
    · exact h0
  · rcases Nat.eq_zero_or_pos a with h0 | h0
    · exact h0
    · exact absurd (by rw [← nI_0]; exact (nI_ltI (by decide) ha).mpr h0) h
theorem pl_iald {a n j : Nat} {f : Nat → Int32} (hdg : decode cc pc = .ok (.iaload, 1)) (hm : μ a = some (.inl (gA g 0, n, .inl f))) (hj : j < n) (hn : n < 2147483648) (kk : PJ g own cc nL i d C N (pc + 1) ls (.int (f j) :: rest) μ Q) : PJ g own cc nL i d C N pc ls (.int (nI j) :: .ref a :: rest) μ Q := pj_iald hdg hm (vp_in_nI hj hn) (by rw [nI_clamp (Nat.lt_trans hj hn)]; exact kk)
theorem pl_bald {a n j : Nat} {f : Nat → Int32} (hdg : decode cc pc = .ok (.baload, 1)) (hm : μ a = some (.inl (gA g 2, n, .inl f))) (hj : j < n) (hn : n < 2147483648) (kk : PJ g own cc nL i d C N (pc + 1) ls (.int (f j) :: rest) μ Q) : PJ g own cc nL i d C N pc ls (.int (nI j) :: .ref a :: rest) μ Q := pj_bald hdg hm (vp_in_nI hj hn) (by rw [nI_clamp (Nat.lt_trans hj hn)]; exact kk)
theorem pl_zald {a n j : Nat} {f : Nat → Int32} (hdg : decode cc pc = .ok (.baload, 1)) (hm : μ a = some (.inl (gA g 3, n, .inl f))) (hj : j < n) (hn : n < 2147483648) (kk : PJ g own cc nL i d C N (pc + 1) ls (.int (f j) :: rest) μ Q) : PJ g own cc nL i d C N pc ls (.int (nI j) :: .ref a :: rest) μ Q := pj_zald hdg hm (vp_in_nI hj hn) (by rw [nI_clamp (Nat.lt_trans hj hn)]; exact kk)
theorem pl_lald {a n j : Nat} {f : Nat → Int64} (hdg : decode cc pc = .ok (.laload, 1)) (hm : μ a = some (.inl (gA g 1, n, .inr (.inl f)))) (hj : j < n) (hn : n < 2147483648) (kk : PJ g own cc nL i d C N (pc + 1) ls (.long (f j) :: rest) μ Q) : PJ g own cc nL i d C N pc ls (.int (nI j) :: .ref a :: rest) μ Q := pj_lald hdg hm (vp_in_nI hj hn) (by rw [nI_clamp (Nat.lt_trans hj hn)]; exact kk)
theorem pl_fald {a n j : Nat} {f : Nat → UInt32} (hdg : decode cc pc = .ok (.faload, 1)) (hm : μ a = some (.inl (gA g 4, n, .inr (.inr (.inl f))))) (hj : j < n) (hn : n < 2147483648) (kk : PJ g own cc nL i d C N (pc + 1) ls (.float (f j) :: rest) μ Q) : PJ g own cc nL i d C N pc ls (.int (nI j) :: .ref a :: rest) μ Q := pj_fald hdg hm (vp_in_nI hj hn) (by rw [nI_clamp (Nat.lt_trans hj hn)]; exact kk)
theorem pl_aldO {a n j : Nat} {f : Nat → Option Nat} (hdg : decode cc pc = .ok (.aaload, 1)) (hm : μ a = some (.inl (gA g 5, n, .inr (.inr (.inr (.inr f)))))) (hj : j < n) (hn : n < 2147483648) (kk : PJ g own cc nL i d C N (pc + 1) ls (va_rf (f j) :: rest) μ Q) : PJ g own cc nL i d C N pc ls (.int (nI j) :: .ref a :: rest) μ Q := pj_aldO hdg hm (vp_in_nI hj hn) (by rw [nI_clamp (Nat.lt_trans hj hn)]; exact kk)
theorem pl_aldP {a n j : Nat} {f : Nat → Option Nat} (hdg : decode cc pc = .ok (.aaload, 1)) (hm : μ a = some (.inl (gA g 6, n, .inr (.inr (.inr (.inr f)))))) (hj : j < n) (hn : n < 2147483648) (kk : PJ g own cc nL i d C N (pc + 1) ls (va_rf (f j) :: rest) μ Q) : PJ g own cc nL i d C N pc ls (.int (nI j) :: .ref a :: rest) μ Q := pj_aldP hdg hm (vp_in_nI hj hn) (by rw [nI_clamp (Nat.lt_trans hj hn)]; exact kk)
theorem pl_aldE {a n j : Nat} {f : Nat → Option Nat} (hdg : decode cc pc = .ok (.aaload, 1)) (hm : μ a = some (.inl (gA g 7, n, .inr (.inr (.inr (.inr f)))))) (hj : j < n) (hn : n < 2147483648) (kk : PJ g own cc nL i d C N (pc + 1) ls (va_rf (f j) :: rest) μ Q) : PJ g own cc nL i d C N pc ls (.int (nI j) :: .ref a :: rest) μ Q := pj_aldE hdg hm (vp_in_nI hj hn) (by rw [nI_clamp (Nat.lt_trans hj hn)]; exact kk)
theorem pl_iast {a n j : Nat} {f : Nat → Int32} {x : Int32} (hdg : decode cc pc = .ok (.iastore, 1)) (hm : μ a = some (.inl (gA g 0, n, .inl f))) (hj : j < n) (hn : n < 2147483648) (kk : PJ g own cc nL i d C N (pc + 1) ls rest (mset μ a (.inl (gA g 0, n, .inl (upd f j x)))) Q) : PJ g own cc nL i d C N pc ls (.int x :: .int (nI j) :: .ref a :: rest) μ Q := pj_iast hdg hm (vp_in_nI hj hn) (by rw [nI_clamp (Nat.lt_trans hj hn)]; exact kk)
theorem pl_bast {a n j : Nat} {f : Nat → Int32} {x : Int32} (hdg : decode cc pc = .ok (.bastore, 1)) (hm : μ a = some (.inl (gA g 2, n, .inl f))) (hj : j < n) (hn : n < 2147483648) (kk : PJ g own cc nL i d C N (pc + 1) ls rest (mset μ a (.inl (gA g 2, n, .inl (upd f j (vp_nar .byte x))))) Q) : PJ g own cc nL i d C N pc ls (.int x :: .int (nI j) :: .ref a :: rest) μ Q := pj_bast hdg hm (vp_in_nI hj hn) (by rw [nI_clamp (Nat.lt_trans hj hn)]; exact kk)
theorem pl_zast {a n j : Nat} {f : Nat → Int32} {x : Int32} (hdg : decode cc pc = .ok (.bastore, 1)) (hm : μ a = some (.inl (gA g 3, n, .inl f))) (hj : j < n) (hn : n < 2147483648) (kk : PJ g own cc nL i d C N (pc + 1) ls rest (mset μ a (.inl (gA g 3, n, .inl (upd f j (vp_nar .boolean x))))) Q) : PJ g own cc nL i d C N pc ls (.int x :: .int (nI j) :: .ref a :: rest) μ Q := pj_zast hdg hm (vp_in_nI hj hn) (by rw [nI_clamp (Nat.lt_trans hj hn)]; exact kk)
theorem pl_last {a n j : Nat} {f : Nat → Int64} {x : Int64} (hdg : decode cc pc = .ok (.lastore, 1)) (hm : μ a = some (.inl (gA g 1, n, .inr (.inl f)))) (hj : j < n) (hn : n < 2147483648) (kk : PJ g own cc nL i d C N (pc + 1) ls rest (mset μ a (.inl (gA g 1, n, .inr (.inl (vp_updL f j x))))) Q) : PJ g own cc nL i d C N pc ls (.long x :: .int (nI j) :: .ref a :: rest) μ Q := pj_last hdg hm (vp_in_nI hj hn) (by rw [nI_clamp (Nat.lt_trans hj hn)]; exact kk)
theorem pl_fast {a n j : Nat} {f : Nat → UInt32} {x : UInt32} (hdg : decode cc pc = .ok (.fastore, 1)) (hm : μ a = some (.inl (gA g 4, n, .inr (.inr (.inl f))))) (hj : j < n) (hn : n < 2147483648) (kk : PJ g own cc nL i d C N (pc + 1) ls rest (mset μ a (.inl (gA g 4, n, .inr (.inr (.inl (vf_upd f j x)))))) Q) : PJ g own cc nL i d C N pc ls (.float x :: .int (nI j) :: .ref a :: rest) μ Q := pj_fast hdg hm (vp_in_nI hj hn) (by rw [nI_clamp (Nat.lt_trans hj hn)]; exact kk)
theorem pl_callSd {v : Value} {y : MethodName} {b : ByteArray} {L n d1 C1 N1 C2 N2 index : Nat} {r : Option FieldType} {μ1 : Mem} {st : List Value} (As : List Value) (md : MDy y b L r n) (h1 : Cond.methodLink own index y ∈ lw_all) (h2 : Cond.static y ∈ lw_all) (h3 : Cond.initialized y.cls ∈ lw_all) (hdg : decode cc pc = .ok (.invokestatic index, 3)) (hst : st = As.reverse ++ rest) (hn : As.length = n) (hr8 : (rest.map fun v => v.category).sum ≤ 8) (hM : PM g y (ws_ y b L r) d1 C1 N1 As μ (rQ (some v) μ1)) (hd : d1 + 1 ≤ d) (hC : C1 + C2 ≤ C) (hN : N1 + N2 ≤ N) (kk : PJ g own cc nL i d C2 N2 (pc + 3) ls (v :: rest) μ1 Q) : PJ g own cc nL i d C N pc ls st μ Q :=
  pj_callS As md h1 h2 h3 hdg hst hn hr8 hM hd hC hN (fun v μ9 h => by
    obtain ⟨e1, rfl⟩ := h
    cases e1
    exact kk) (fun E9 q μ9 h => by cases h.1)
theorem pl_callSv  {y : MethodName} {b : ByteArray} {L n d1 C1 N1 C2 N2 index : Nat} {r : Option FieldType} {μ1 : Mem} {st : List Value} (As : List Value) (md : MDy y b L r n) (h1 : Cond.methodLink own index y ∈ lw_all) (h2 : Cond.static y ∈ lw_all) (h3 : Cond.initialized y.cls ∈ lw_all) (hdg : decode cc pc = .ok (.invokestatic index, 3)) (hst : st = As.reverse ++ rest) (hn : As.length = n) (hr8 : (rest.map fun v => v.category).sum ≤ 8) (hM : PM g y (ws_ y b L r) d1 C1 N1 As μ (rQ none μ1)) (hd : d1 + 1 ≤ d) (hC : C1 + C2 ≤ C) (hN : N1 + N2 ≤ N) (kk : PJ g own cc nL i d C2 N2 (pc + 3) ls (rest) μ1 Q) : PJ g own cc nL i d C N pc ls st μ Q :=
  pj_callS As md h1 h2 h3 hdg hst hn hr8 hM hd hC hN (fun v μ9 h => by
    obtain ⟨e1, rfl⟩ := h
    cases e1
    exact kk) (fun E9 q μ9 h => by cases h.1)
theorem pl_callVd {v : Value} {ci nf : Nat} {Cn : String} {Tn : u_T} {ty : Nat → FieldType} {fs : List Value} {a : Nat} {y : MethodName} {b : ByteArray} {L n d1 C1 N1 C2 N2 index : Nat} {r : Option FieldType} {μ1 : Mem} {st : List Value} (As : List Value) (cl : CLk ci Cn Tn nf ty) (md : MDy y b L r n) (hy : y.cls = Cn) (h1 : Cond.methodLink own index y ∈ lw_all) (h2 : Cond.instanceMethod y ∈ lw_all) (h3 : Cond.selects Cn y y ∈ lw_all) (h4 : Cond.initialized Cn ∈ lw_all) (hdg : decode cc pc = .ok (.invokevirtual index, 3)) (hst : st = As.reverse ++ .ref a :: rest) (hn : As.length = n) (hr8 : (rest.map fun v => v.category).sum ≤ 8) (hm : μ a = some (.inr (ci, fs))) (hM : PM g y (ws_ y b L r) d1 C1 N1 (.ref a :: As) μ (rQ (some v) μ1)) (hd : d1 + 1 ≤ d) (hC : C1 + C2 ≤ C) (hN : N1 + N2 ≤ N) (kk : PJ g own cc nL i d C2 N2 (pc + 3) ls (v :: rest) μ1 Q) : PJ g own cc nL i d C N pc ls st μ Q :=
  pj_callV As cl md hy h1 h2 h3 h4 hdg hst hn hr8 hm hM hd hC hN (fun v μ9 h => by
    obtain ⟨e1, rfl⟩ := h
    cases e1
    exact kk) (fun E9 q μ9 h => by cases h.1)
theorem pl_callVv  {ci nf : Nat} {Cn : String} {Tn : u_T} {ty : Nat → FieldType} {fs : List Value} {a : Nat} {y : MethodName} {b : ByteArray} {L n d1 C1 N1 C2 N2 index : Nat} {r : Option FieldType} {μ1 : Mem} {st : List Value} (As : List Value) (cl : CLk ci Cn Tn nf ty) (md : MDy y b L r n) (hy : y.cls = Cn) (h1 : Cond.methodLink own index y ∈ lw_all) (h2 : Cond.instanceMethod y ∈ lw_all) (h3 : Cond.selects Cn y y ∈ lw_all) (h4 : Cond.initialized Cn ∈ lw_all) (hdg : decode cc pc = .ok (.invokevirtual index, 3)) (hst : st = As.reverse ++ .ref a :: rest) (hn : As.length = n) (hr8 : (rest.map fun v => v.category).sum ≤ 8) (hm : μ a = some (.inr (ci, fs))) (hM : PM g y (ws_ y b L r) d1 C1 N1 (.ref a :: As) μ (rQ none μ1)) (hd : d1 + 1 ≤ d) (hC : C1 + C2 ≤ C) (hN : N1 + N2 ≤ N) (kk : PJ g own cc nL i d C2 N2 (pc + 3) ls (rest) μ1 Q) : PJ g own cc nL i d C N pc ls st μ Q :=
  pj_callV As cl md hy h1 h2 h3 h4 hdg hst hn hr8 hm hM hd hC hN (fun v μ9 h => by
    obtain ⟨e1, rfl⟩ := h
    cases e1
    exact kk) (fun E9 q μ9 h => by cases h.1)
theorem pl_callIv  {a : Nat} {y : MethodName} {b : ByteArray} {L n d1 C1 N1 C2 N2 index : Nat} {μ1 : Mem} {st : List Value} (As : List Value) (md : MDy y b L none n) (hy : y.name = "<init>") (h1 : Cond.methodLink own index y ∈ lw_all) (h2 : Cond.instanceMethod y ∈ lw_all) (h3 : Cond.initialized y.cls ∈ lw_all) (hdg : decode cc pc = .ok (.invokespecial index, 3)) (hst : st = As.reverse ++ .ref a :: rest) (hn : As.length = n) (hr8 : (rest.map fun v => v.category).sum ≤ 8) (hM : PM g y (ws_ y b L none) d1 C1 N1 (.ref a :: As) μ (rQ none μ1)) (hd : d1 + 1 ≤ d) (hC : C1 + C2 ≤ C) (hN : N1 + N2 ≤ N) (kk : PJ g own cc nL i d C2 N2 (pc + 3) ls (rest) μ1 Q) : PJ g own cc nL i d C N pc ls st μ Q :=
  pj_callI As md hy h1 h2 h3 hdg hst hn hr8 hM hd hC hN (fun v μ9 h => by
    obtain ⟨e1, rfl⟩ := h
    cases e1
    exact kk) (fun E9 q μ9 h => by cases h.1)
theorem pl_callVNd {v : Value} {ci nf : Nat} {Cn host : String} {Tn : u_T} {ty : Nat → FieldType} {fs : List Value} {a : Nat} {y : MethodName} {b : ByteArray} {L n d1 C1 N1 C2 N2 index : Nat} {r : Option FieldType} {μ1 : Mem} {st : List Value} (As : List Value) (cl : CLk ci Cn Tn nf ty) (md : MDy y b L r n) (h1 : Cond.methodLinkNest own index y host ∈ lw_tbl) (h2 : Cond.instanceMethod y ∈ lw_all) (h3 : Cond.selects Cn y y ∈ lw_all) (h4 : Cond.initialized y.cls ∈ lw_all) (hdg : decode cc pc = .ok (.invokevirtual index, 3)) (hst : st = As.reverse ++ .ref a :: rest) (hn : As.length = n) (hr8 : (rest.map fun v => v.category).sum ≤ 8) (hm : μ a = some (.inr (ci, fs))) (hM : PM g y (ws_ y b L r) d1 C1 N1 (.ref a :: As) μ (rQ (some v) μ1)) (hd : d1 + 1 ≤ d) (hC : C1 + C2 ≤ C) (hN : N1 + N2 ≤ N) (kk : PJ g own cc nL i d C2 N2 (pc + 3) ls (v :: rest) μ1 Q) : PJ g own cc nL i d C N pc ls st μ Q :=
  pj_callVN As cl md h1 h2 h3 h4 hdg hst hn hr8 hm hM hd hC hN (fun v μ9 h => by
    obtain ⟨e1, rfl⟩ := h
    cases e1
    exact kk) (fun E9 q μ9 h => by cases h.1)
theorem pl_callVNv  {ci nf : Nat} {Cn host : String} {Tn : u_T} {ty : Nat → FieldType} {fs : List Value} {a : Nat} {y : MethodName} {b : ByteArray} {L n d1 C1 N1 C2 N2 index : Nat} {r : Option FieldType} {μ1 : Mem} {st : List Value} (As : List Value) (cl : CLk ci Cn Tn nf ty) (md : MDy y b L r n) (h1 : Cond.methodLinkNest own index y host ∈ lw_tbl) (h2 : Cond.instanceMethod y ∈ lw_all) (h3 : Cond.selects Cn y y ∈ lw_all) (h4 : Cond.initialized y.cls ∈ lw_all) (hdg : decode cc pc = .ok (.invokevirtual index, 3)) (hst : st = As.reverse ++ .ref a :: rest) (hn : As.length = n) (hr8 : (rest.map fun v => v.category).sum ≤ 8) (hm : μ a = some (.inr (ci, fs))) (hM : PM g y (ws_ y b L r) d1 C1 N1 (.ref a :: As) μ (rQ none μ1)) (hd : d1 + 1 ≤ d) (hC : C1 + C2 ≤ C) (hN : N1 + N2 ≤ N) (kk : PJ g own cc nL i d C2 N2 (pc + 3) ls (rest) μ1 Q) : PJ g own cc nL i d C N pc ls st μ Q :=
  pj_callVN As cl md h1 h2 h3 h4 hdg hst hn hr8 hm hM hd hC hN (fun v μ9 h => by
    obtain ⟨e1, rfl⟩ := h
    cases e1
    exact kk) (fun E9 q μ9 h => by cases h.1)
theorem pl_callSNd {v : Value} {host : String} {y : MethodName} {b : ByteArray} {L n d1 C1 N1 C2 N2 index : Nat} {r : Option FieldType} {μ1 : Mem} {st : List Value} (As : List Value) (md : MDy y b L r n) (h1 : Cond.methodLinkNest own index y host ∈ lw_tbl) (h2 : Cond.static y ∈ lw_all) (h4 : Cond.initialized y.cls ∈ lw_all) (hdg : decode cc pc = .ok (.invokestatic index, 3)) (hst : st = As.reverse ++ rest) (hn : As.length = n) (hr8 : (rest.map fun v => v.category).sum ≤ 8) (hM : PM g y (ws_ y b L r) d1 C1 N1 As μ (rQ (some v) μ1)) (hd : d1 + 1 ≤ d) (hC : C1 + C2 ≤ C) (hN : N1 + N2 ≤ N) (kk : PJ g own cc nL i d C2 N2 (pc + 3) ls (v :: rest) μ1 Q) : PJ g own cc nL i d C N pc ls st μ Q :=
  pj_callSN As md h1 h2 h4 hdg hst hn hr8 hM hd hC hN (fun v μ9 h => by
    obtain ⟨e1, rfl⟩ := h
    cases e1
    exact kk) (fun E9 q μ9 h => by cases h.1)
theorem pl_callSNv  {host : String} {y : MethodName} {b : ByteArray} {L n d1 C1 N1 C2 N2 index : Nat} {r : Option FieldType} {μ1 : Mem} {st : List Value} (As : List Value) (md : MDy y b L r n) (h1 : Cond.methodLinkNest own index y host ∈ lw_tbl) (h2 : Cond.static y ∈ lw_all) (h4 : Cond.initialized y.cls ∈ lw_all) (hdg : decode cc pc = .ok (.invokestatic index, 3)) (hst : st = As.reverse ++ rest) (hn : As.length = n) (hr8 : (rest.map fun v => v.category).sum ≤ 8) (hM : PM g y (ws_ y b L r) d1 C1 N1 As μ (rQ none μ1)) (hd : d1 + 1 ≤ d) (hC : C1 + C2 ≤ C) (hN : N1 + N2 ≤ N) (kk : PJ g own cc nL i d C2 N2 (pc + 3) ls (rest) μ1 Q) : PJ g own cc nL i d C N pc ls st μ Q :=
  pj_callSN As md h1 h2 h4 hdg hst hn hr8 hM hd hC hN (fun v μ9 h => by
    obtain ⟨e1, rfl⟩ := h
    cases e1
    exact kk) (fun E9 q μ9 h => by cases h.1)
theorem pl_callINv  {host : String} {a : Nat} {y : MethodName} {b : ByteArray} {L n d1 C1 N1 C2 N2 index : Nat} {μ1 : Mem} {st : List Value} (As : List Value) (md : MDy y b L none n) (hy : y.name = "<init>") (h1 : Cond.methodLinkNest own index y host ∈ lw_tbl) (h2 : Cond.instanceMethod y ∈ lw_all) (h4 : Cond.initialized y.cls ∈ lw_all) (hdg : decode cc pc = .ok (.invokespecial index, 3)) (hst : st = As.reverse ++ .ref a :: rest) (hn : As.length = n) (hr8 : (rest.map fun v => v.category).sum ≤ 8) (hM : PM g y (ws_ y b L none) d1 C1 N1 (.ref a :: As) μ (rQ none μ1)) (hd : d1 + 1 ≤ d) (hC : C1 + C2 ≤ C) (hN : N1 + N2 ≤ N) (kk : PJ g own cc nL i d C2 N2 (pc + 3) ls (rest) μ1 Q) : PJ g own cc nL i d C N pc ls st μ Q :=
  pj_callIN As md hy h1 h2 h4 hdg hst hn hr8 hM hd hC hN (fun v μ9 h => by
    obtain ⟨e1, rfl⟩ := h
    cases e1
    exact kk) (fun E9 q μ9 h => by cases h.1)
theorem pl_callSHd {v : Value} {y : MethodName} {b : ByteArray} {L n d1 C1 N1 C2 N2 index : Nat} {r : Option FieldType} {hh : List (Nat × Nat × Nat × Nat)} {μ1 : Mem} {st : List Value} (As : List Value) (md : MDz y b L r hh n) (h1 : Cond.methodLink own index y ∈ lw_all) (h2 : Cond.static y ∈ lw_all) (h3 : Cond.initialized y.cls ∈ lw_all) (hdg : decode cc pc = .ok (.invokestatic index, 3)) (hst : st = As.reverse ++ rest) (hn : As.length = n) (hr8 : (rest.map fun v => v.category).sum ≤ 8) (hM : PM g y (wsW_ y b L r hh) d1 C1 N1 As μ (rQ (some v) μ1)) (hd : d1 + 1 ≤ d) (hC : C1 + C2 ≤ C) (hN : N1 + N2 ≤ N) (kk : PJ g own cc nL i d C2 N2 (pc + 3) ls (v :: rest) μ1 Q) : PJ g own cc nL i d C N pc ls st μ Q :=
  pj_callSH As md h1 h2 h3 hdg hst hn hr8 hM hd hC hN (fun v μ9 h => by
    obtain ⟨e1, rfl⟩ := h
    cases e1
    exact kk) (fun E9 q μ9 h => by cases h.1)
theorem pl_callSHv  {y : MethodName} {b : ByteArray} {L n d1 C1 N1 C2 N2 index : Nat} {r : Option FieldType} {hh : List (Nat × Nat × Nat × Nat)} {μ1 : Mem} {st : List Value} (As : List Value) (md : MDz y b L r hh n) (h1 : Cond.methodLink own index y ∈ lw_all) (h2 : Cond.static y ∈ lw_all) (h3 : Cond.initialized y.cls ∈ lw_all) (hdg : decode cc pc = .ok (.invokestatic index, 3)) (hst : st = As.reverse ++ rest) (hn : As.length = n) (hr8 : (rest.map fun v => v.category).sum ≤ 8) (hM : PM g y (wsW_ y b L r hh) d1 C1 N1 As μ (rQ none μ1)) (hd : d1 + 1 ≤ d) (hC : C1 + C2 ≤ C) (hN : N1 + N2 ≤ N) (kk : PJ g own cc nL i d C2 N2 (pc + 3) ls (rest) μ1 Q) : PJ g own cc nL i d C N pc ls st μ Q :=
  pj_callSH As md h1 h2 h3 hdg hst hn hr8 hM hd hC hN (fun v μ9 h => by
    obtain ⟨e1, rfl⟩ := h
    cases e1
    exact kk) (fun E9 q μ9 h => by cases h.1)
theorem pl_callVHd {v : Value} {ci nf : Nat} {Cn : String} {Tn : u_T} {ty : Nat → FieldType} {fs : List Value} {a : Nat} {y : MethodName} {b : ByteArray} {L n d1 C1 N1 C2 N2 index : Nat} {r : Option FieldType} {hh : List (Nat × Nat × Nat × Nat)} {μ1 : Mem} {st : List Value} (As : List Value) (cl : CLk ci Cn Tn nf ty) (md : MDz y b L r hh n) (hy : y.cls = Cn) (h1 : Cond.methodLink own index y ∈ lw_all) (h2 : Cond.instanceMethod y ∈ lw_all) (h3 : Cond.selects Cn y y ∈ lw_all) (h4 : Cond.initialized Cn ∈ lw_all) (hdg : decode cc pc = .ok (.invokevirtual index, 3)) (hst : st = As.reverse ++ .ref a :: rest) (hn : As.length = n) (hr8 : (rest.map fun v => v.category).sum ≤ 8) (hm : μ a = some (.inr (ci, fs))) (hM : PM g y (wsW_ y b L r hh) d1 C1 N1 (.ref a :: As) μ (rQ (some v) μ1)) (hd : d1 + 1 ≤ d) (hC : C1 + C2 ≤ C) (hN : N1 + N2 ≤ N) (kk : PJ g own cc nL i d C2 N2 (pc + 3) ls (v :: rest) μ1 Q) : PJ g own cc nL i d C N pc ls st μ Q :=
  pj_callVH As cl md hy h1 h2 h3 h4 hdg hst hn hr8 hm hM hd hC hN (fun v μ9 h => by
    obtain ⟨e1, rfl⟩ := h
    cases e1
    exact kk) (fun E9 q μ9 h => by cases h.1)
theorem pl_callVHv  {ci nf : Nat} {Cn : String} {Tn : u_T} {ty : Nat → FieldType} {fs : List Value} {a : Nat} {y : MethodName} {b : ByteArray} {L n d1 C1 N1 C2 N2 index : Nat} {r : Option FieldType} {hh : List (Nat × Nat × Nat × Nat)} {μ1 : Mem} {st : List Value} (As : List Value) (cl : CLk ci Cn Tn nf ty) (md : MDz y b L r hh n) (hy : y.cls = Cn) (h1 : Cond.methodLink own index y ∈ lw_all) (h2 : Cond.instanceMethod y ∈ lw_all) (h3 : Cond.selects Cn y y ∈ lw_all) (h4 : Cond.initialized Cn ∈ lw_all) (hdg : decode cc pc = .ok (.invokevirtual index, 3)) (hst : st = As.reverse ++ .ref a :: rest) (hn : As.length = n) (hr8 : (rest.map fun v => v.category).sum ≤ 8) (hm : μ a = some (.inr (ci, fs))) (hM : PM g y (wsW_ y b L r hh) d1 C1 N1 (.ref a :: As) μ (rQ none μ1)) (hd : d1 + 1 ≤ d) (hC : C1 + C2 ≤ C) (hN : N1 + N2 ≤ N) (kk : PJ g own cc nL i d C2 N2 (pc + 3) ls (rest) μ1 Q) : PJ g own cc nL i d C N pc ls st μ Q :=
  pj_callVH As cl md hy h1 h2 h3 h4 hdg hst hn hr8 hm hM hd hC hN (fun v μ9 h => by
    obtain ⟨e1, rfl⟩ := h
    cases e1
    exact kk) (fun E9 q μ9 h => by cases h.1)
end PL
theorem PM.ret {g : GP} {y : MethodName} {ws : List Cond} {d C N : Nat} {av : List Value} {μ μ1 μ2 : Mem} {v w : Option Value} (hv : v = w) (hm : μ1 = μ2) (k : PM g y ws d C N av μ (rQ v μ1)) : PM g y ws d C N av μ (rQ w μ2) := by
  subst hv; subst hm; exact k
/-- a family of cells -/
def mput (ad : Nat → Nat) (cel : Nat → va_E) : Nat → Mem → Mem
  | 0, μ => μ
  | n + 1, μ => mset (mput ad cel n μ) (ad n) (cel n)
def Inj (ad : Nat → Nat) (n : Nat) : Prop := ∀ i j : Nat, i < n → j < n → ad i = ad j → i = j
theorem mput_get {ad : Nat → Nat} {cel : Nat → va_E} {μ : Mem} {k : Nat} : ∀ {n : Nat}, Inj ad n → k < n → mput ad cel n μ (ad k) = some (cel k)
  | 0, _, h => absurd h (Nat.not_lt_zero _)
  | n + 1, hI, h => by
    unfold mput
    rcases Nat.lt_or_ge k n with h1 | h1
    · rw [mset_n (fun e => by have := hI k n h (Nat.lt_succ_self n) e; omega)]
      exact mput_get (fun i j hi hj => hI i j (by omega) (by omega)) h1
    · have : k = n := by omega
      subst this
      exact mset_s
theorem mput_off {ad : Nat → Nat} {cel : Nat → va_E} {μ : Mem} {b : Nat} : ∀ {n : Nat}, (∀ k, k < n → b ≠ ad k) → mput ad cel n μ b = μ b
  | 0, _ => rfl
  | n + 1, h => by
    unfold mput
    rw [mset_n (h n (Nat.lt_succ_self n))]
    exact mput_off (fun k hk => h k (by omega))
def updC (cel : Nat → va_E) (k : Nat) (e : va_E) : Nat → va_E := fun j => if j = k then e else cel j
theorem mput_set {ad : Nat → Nat} {cel : Nat → va_E} {μ : Mem} {n k : Nat} {e : va_E} (hI : Inj ad n) (hk : k < n) : mset (mput ad cel n μ) (ad k) e = mput ad (updC cel k e) n μ := by
  funext b
  by_cases hb : ∃ j, j < n ∧ b = ad j
  · obtain ⟨j, hj, rfl⟩ := hb
    rw [mput_get hI hj]
    by_cases hjk : j = k
    · subst hjk
      rw [mset_s]
      simp [updC]
    · rw [mset_n (fun h => hjk (hI j k hj hk h)), mput_get hI hj]
      simp [updC, hjk]
  · have h1 : ∀ j, j < n → b ≠ ad j := fun j hj h => hb ⟨j, hj, h⟩
    rw [mset_n (h1 k hk), mput_off h1, mput_off h1]
theorem mput_cong {ad : Nat → Nat} {cel cel' : Nat → va_E} {μ : Mem} : ∀ {n : Nat}, (∀ k, k < n → cel k = cel' k) → mput ad cel n μ = mput ad cel' n μ
  | 0, _ => rfl
  | n + 1, h => by
    unfold mput
    rw [h n (Nat.lt_succ_self n), mput_cong (fun k hk => h k (by omega))]
