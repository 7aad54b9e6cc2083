set_option maxRecDepth 100000
section CR
variable {g : GP} {own : String} {cc : ByteArray} {nL : Nat} {i : MI} {d C N pc : Nat} {ls : List (Nat × Value)} {rest : List Value} {μ : Mem} {Q : OC → Mem → Prop}
/-- System.arraycopy of ints, bytes or booleans -/
theorem pj_copyi {a0 a n0 n1 index : Nat} {f f1 : Nat → Int32} {ty : FieldType} {sp dp k : Nat} (t0 : Nat) (hlink : Cond.methodLink own index arraycopyName ∈ lw_all) (hdg : decode cc pc = .ok (.invokestatic index, 3)) (hm0 : μ a0 = some (.inl (gA g t0, n0, .inl f))) (hm1 : μ a = some (.inl (gA g t0, n1, .inl f1))) (ht : (tysG g)[t0]? = some (gA g t0, ty)) (hprim : refKind ty = false) (h4 : sp + k ≤ n0) (h5 : dp + k ≤ n1) (hn0 : n0 < 2147483648) (hn1 : n1 < 2147483648) (hfit : ∀ i, i < k → fits ty (.int (f (sp + i))) = true) (hd : 1 ≤ d) (hr : (rest.map fun v => v.category).sum ≤ 8)
    (kk : PJ g own cc nL i d C N (pc + 3) ls rest (mset μ a (.inl (gA g t0, n1, .inl (va_cpy f f1 sp dp k)))) Q) : PJ g own cc nL i d C N pc ls (.int (nI k) :: .int (nI dp) :: .ref a :: .int (nI sp) :: .ref a0 :: rest) μ Q := by
  intro G p e R s m args below meth c E H locs cells slots K K9 B arr hl9
  obtain ⟨ws, hP, hD, hmm⟩ := Sim.list B.2.2.2.2.1
  obtain ⟨q0, hq0⟩ := (hmm _ _).mp hm0
  obtain ⟨q1, hq1⟩ := (hmm _ _).mp hm1
  have e1 : (nI sp).toNatClampNeg = sp := nI_clamp (by omega)
  have e2 : (nI dp).toNatClampNeg = dp := nI_clamp (by omega)
  have e3 : (nI k).toNatClampNeg = k := nI_clamp (by omega)
  have hw9 : nativeFrameWords "java/lang/System" "arraycopy" 5 ≤ 60 := by decide +kernel
  have nn : ∀ z : Nat, z < 2147483648 → ¬ nI z < 0 := fun z hz => Int32.not_lt.mpr (nI_pos' (by omega))
  exact va_copyi E.1 E.2.1 (by rw [E.2.2.1]; exact hl9.1.symm) E.2.2.2.1 (E.2.2.2.2.1 _ hlink) (E.2.2.2.2.1 _ q366) (E.2.2.2.2.1 _ q365) (E.2.2.2.2.1 _ q142) (G.K E.2.2.2.2.2.2.2.2.2.1) hP hD B.2.2.2.2.2 q0 q1 t0 t0 hq0 hq1 ht ht hprim (nn sp (by omega)) (nn dp (by omega)) (nn k (by omega)) (by rw [e1, e3]; exact h4) (by rw [e2, e3]; exact h5) (by rw [e1, e3]; exact hfit) (by rw [E.2.2.2.2.2.2.2.2.2.2.1]; exact hd) (by rw [E.2.2.2.2.2.2.2.2.2.2.2]; omega) hdg (fun H1 locs1 hP1 hD1 hS1 => by
    rw [e1, e2, e3] at hP1 hD1
    exact kk G p e R s m args below meth c E H1 locs1 cells slots K K9 (B.mem (Sim.set hmm hq1 hP1 hD1) hS1) arr hl9)
end CR
