set_option maxRecDepth 100000
theorem fp_val : ∀ m : Fin 1001, FP.Core.decode FP.Core.b32 (FP.i2f (nI m.1)).toNat = (if m.1 = 0 then FP.Core.Datum.fin false 0 (-149) else FP.Core.Datum.fin false (m.1 * 2 ^ (23 - m.1.log2)) (-(23 - (m.1.log2 : Int)))) := by decide +kernel
theorem fp_one : ∀ m : Fin 501, FP.fadd FP.fconst0 (FP.i2f (nI m.1)) = FP.i2f (nI m.1) ∧ FP.f2i (FP.i2f (nI m.1)) = nI m.1 ∧ FP.fcmp (FP.i2f (nI m.1)) FP.fconst0 = (if m.1 = 0 then some .eq else some .gt) ∧ FP.fcmp (FP.i2f (nI m.1)) (FP.i2f (nI m.1)) = some .eq := by decide +kernel
theorem fp_one2 : ∀ m : Fin 501, FP.fadd (FP.i2f (nI m.1)) FP.fconst0 = FP.i2f (nI m.1) ∧ m.1.log2 ≤ 8 := by decide +kernel
theorem fp_rr : ∀ m : Fin 9, ∀ n : Fin 1001, FP.Core.roundRatio FP.Core.b32 false (n.1 * 2 ^ (m.1 + 15)) 1 (-((m.1 + 15 : Nat) : Int)) = FP.Core.roundRatio FP.Core.b32 false n.1 1 0 := by decide +kernel
theorem fp_d1 : ∀ m : Fin 501, FP.f2i (FP.fdiv (FP.i2f (nI m.1)) (FP.i2f (nI 1))) = nI m.1 ∧ FP.fdiv (FP.i2f (nI m.1)) (FP.i2f (nI 1)) &&& 0x7fffffff ≤ 0x7f800000 := by decide +kernel
theorem fp_d2 : ∀ m : Fin 1001, FP.f2i (FP.fdiv (FP.i2f (nI m.1)) (FP.i2f (nI 2))) = nI (m.1 / 2) ∧ FP.fdiv (FP.i2f (nI m.1)) (FP.i2f (nI 2)) &&& 0x7fffffff ≤ 0x7f800000 ∧ FP.i2f (nI m.1) &&& 0x7fffffff ≤ 0x7f800000 := by decide +kernel
theorem fp_int : ∀ m : Fin 1001, (nI m.1).toInt = (m.1 : Int) ∧ m.1.log2 ≤ 9 := by decide +kernel
theorem fp_c0 : FP.i2f (nI 0) = FP.fconst0 := by decide +kernel
theorem fp_c1 : FP.i2f (nI 1) = FP.fconst1 := by decide +kernel
theorem fp_add {a b : Nat} (ha : a ≤ 500) (hb : b ≤ 500) : FP.fadd (FP.i2f (nI a)) (FP.i2f (nI b)) = FP.i2f (nI (a + b)) := by
  by_cases a0 : a = 0
  · subst a0
    rw [fp_c0, Nat.zero_add]
    exact (fp_one ⟨b, by omega⟩).1
  by_cases b0 : b = 0
  · subst b0
    rw [fp_c0, Nat.add_zero]
    exact (fp_one2 ⟨a, by omega⟩).1
  have va := fp_val ⟨a, by omega⟩
  have vb := fp_val ⟨b, by omega⟩
  have la := (fp_one2 ⟨a, by omega⟩).2
  have lb := (fp_one2 ⟨b, by omega⟩).2
  simp only at va vb la lb
  rw [if_neg a0] at va
  rw [if_neg b0] at vb
  show UInt32.ofNat (FP.Core.encode FP.Core.b32 (FP.Core.round FP.Core.b32 (FP.Core.exactSum (FP.Core.decode FP.Core.b32 (FP.i2f (nI a)).toNat) (FP.Core.decode FP.Core.b32 (FP.i2f (nI b)).toNat)))) = UInt32.ofNat (FP.Core.encode FP.Core.b32 (FP.Core.round FP.Core.b32 (FP.Core.ofInt (nI (a + b)).toInt)))
  rw [va, vb, show (nI (a + b)).toInt = ((a + b : Nat) : Int) from (fp_int ⟨a + b, by omega⟩).1]
  refine congrArg (fun z => UInt32.ofNat (FP.Core.encode FP.Core.b32 z)) ?_
  obtain ⟨k, hk⟩ : ∃ k, k = 23 - a.log2 := ⟨_, rfl⟩
  obtain ⟨l, hl⟩ : ∃ l, l = 23 - b.log2 := ⟨_, rfl⟩
  have ek : (23 - (a.log2 : Int)) = (k : Int) := by omega
  have el : (23 - (b.log2 : Int)) = (l : Int) := by omega
  rw [ek, el, ← hk, ← hl]
  have hu : FP.Core.sumUnits false (a * 2 ^ k) (-(k : Int)) false (b * 2 ^ l) (-(l : Int)) (min (-(k : Int)) (-(l : Int))) = (((a + b) * 2 ^ (max k l) : Nat) : Int) := by
    unfold FP.Core.sumUnits FP.Core.signed FP.Core.inUnits
    rw [if_neg (by decide), if_neg (by decide), Nat.mul_assoc, Nat.mul_assoc, ← Nat.pow_add, ← Nat.pow_add, show k + (-(k : Int) - min (-(k : Int)) (-(l : Int))).toNat = max k l by omega, show l + (-(l : Int) - min (-(k : Int)) (-(l : Int))).toNat = max k l by omega, Nat.add_mul]
    exact (Int.natCast_add _ _).symm
  have hp : 0 < (a + b) * 2 ^ (max k l) := Nat.mul_pos (by omega) (Nat.two_pow_pos _)
  simp only [FP.Core.exactSum]
  rw [hu, Int.natAbs_natCast]
  have hs : FP.Core.sumSign false false (((a + b) * 2 ^ (max k l) : Nat) : Int) = false := by
    unfold FP.Core.sumSign
    rw [if_neg (by omega)]
    exact decide_eq_false (by omega)
  rw [hs]
  show FP.Core.roundRatio FP.Core.b32 false ((a + b) * 2 ^ (max k l)) 1 (min (-(k : Int)) (-(l : Int))) = FP.Core.roundRatio FP.Core.b32 (decide (((a + b : Nat) : Int) < 0)) (((a + b : Nat) : Int).natAbs) 1 0
  rw [decide_eq_false (by omega), Int.natAbs_natCast]
  obtain ⟨m, hm⟩ : ∃ m, m + 15 = max k l := ⟨max k l - 15, by omega⟩
  have r := fp_rr ⟨m, by omega⟩ ⟨a + b, by omega⟩
  simp only at r
  rw [← hm, show min (-(k : Int)) (-(l : Int)) = -((m + 15 : Nat) : Int) by omega]
  exact r
