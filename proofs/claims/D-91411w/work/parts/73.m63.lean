set_option maxRecDepth 100000
theorem mirO {g : GP} (G : OkG g) : ∃ mi : Nat, va_Mi "[Ljava/lang/Object;" mi (gS g) := va_Mi.of (nr_leaf G [0, 0, 4, 1, 1, 0, 0] (by decide +kernel))
section GC
variable {g : GP} {own : String} {cc : ByteArray} {nL : Nat} {i : MI} {d C N pc : Nat} {ls : List (Nat × Value)} {rest : List Value} {μ : Mem} {Q : OC → Mem → Prop}
theorem pj_ldcM {mi index : Nat} {nm : String} (hM : va_Mi nm mi (gS g)) (hlink : Cond.classLink own index nm ∈ lw_all) (hdg : decode cc pc = .ok (.ldc index, 2)) (kk : PJ g own cc nL i d C N (pc + 2) ls (.ref mi :: rest) μ Q) : PJ g own cc nL i d C N pc ls rest μ Q :=
  fun G p e R s m args below meth c E H locs cells slots K K9 B arr hl9 => va_ldcM E.1 E.2.1 E.2.2.2.1 (E.2.2.2.2.1 _ hlink) (va_Mi.moved E.2.2.2.2.2.2.2.2.2.1.1.alike hM) hdg (kk G p e R s m args below meth c E H locs cells slots K K9 B arr hl9)
theorem pj_getCO {mi index a m0 : Nat} {f : Nat → Option Nat} (hM : va_Mi "[Ljava/lang/Object;" mi (gS g)) (hlink : Cond.methodLink own index ⟨"java/lang/Object", "getClass", "()Ljava/lang/Class;"⟩ ∈ lw_all) (hm : μ a = some (.inl (gA g 5, m0, .inr (.inr (.inr (.inr f)))))) (hd : 1 ≤ d) (hr : (rest.map fun v => v.category).sum ≤ 8) (hdg : decode cc pc = .ok (.invokevirtual index, 3)) (kk : PJ g own cc nL i d C N (pc + 3) ls (.ref mi :: rest) μ Q) : PJ g own cc nL i d C N pc ls (.ref a :: rest) μ Q := by
  intro G p e R s m args below meth c E H locs cells slots K K9 B arr hl9
  have hK := G.K E.2.2.2.2.2.2.2.2.2.1
  have hRA := (hK.2 5 (gA g 5, .object "java/lang/Object") rfl).2
  have hP := Sim.one B.2.2.2.2.1 hm
  exact va_getC (C := "[Ljava/lang/Object;") E.1 E.2.1 (by rw [E.2.2.1]; exact hl9.1.symm) E.2.2.2.1 (E.2.2.2.2.1 _ hlink) (va_Nw.use rfl (va_Nw.warmD E.2.2.2.2.2.2.2.2.2.1.1 (va_Nw.of rfl (G_tbl G q3285)))) (E.2.2.2.2.1 _ q3284) (E.2.2.2.2.1 _ q655) (E.2.2.2.2.1 _ q696) (va_Mi.moved E.2.2.2.2.2.2.2.2.2.1.1.alike hM) (by
    have h9 := hP 0 _ rfl
    exact ⟨_, h9, rfl, va_nmO (C := "java/lang/Object") hRA (by decide +kernel)⟩) (by rw [E.2.2.2.2.2.2.2.2.2.2.1]; exact hd) (by rw [E.2.2.2.2.2.2.2.2.2.2.2]; omega) hdg (kk G p e R s m args below meth c E H locs cells slots K K9 B arr hl9)
end GC
