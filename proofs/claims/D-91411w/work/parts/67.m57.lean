set_option maxRecDepth 100000
section MR
variable {g : GP} {own : String} {cc : ByteArray} {nL : Nat} {i : MI} {d C N pc : Nat} {ls : List (Nat × Value)} {rest : List Value} {μ : Mem} {Q : OC → Mem → Prop}
theorem pj_mmin {x y : Int32} {index : Nat} (hlink : Cond.methodLink own index Lib.Math.min.name ∈ lw_all) (hdg : decode cc pc = .ok (.invokestatic index, 3)) (hd : 1 ≤ d) (hr : (rest.map fun v => v.category).sum ≤ 8) (kk : PJ g own cc nL i d C N (pc + 3) ls (.int (if y < x then y else x) :: rest) μ Q) : PJ g own cc nL i d C N pc ls (.int y :: .int x :: rest) μ Q := by
  intro G p e R s m args below meth c E H locs cells slots K K9 B arr hl9
  have hr9 := B.room (C1 := 0) (C2 := C) (N1 := 0) (N2 := N) (by omega) (by omega)
  exact va_mmin E.1 E.2.1 (by rw [E.2.2.1]; exact hl9.1.symm) E.2.2.2.1 (E.2.2.2.2.1 _ hlink) (E.2.2.2.2.1 _ q362) (E.2.2.2.2.1 _ q140) (E.2.2.2.2.1 _ q363) (by rw [E.2.2.2.2.2.2.2.2.2.2.1]; exact hd) (by rw [E.2.2.2.2.2.2.2.2.2.2.2]; omega) hr9.1 hr9.2 hdg (kk G p e R s m args below meth c E H locs cells slots K K9 B arr hl9)
theorem pj_mmax {x y : Int32} {index : Nat} (hlink : Cond.methodLink own index Lib.Math.max.name ∈ lw_all) (hdg : decode cc pc = .ok (.invokestatic index, 3)) (hd : 1 ≤ d) (hr : (rest.map fun v => v.category).sum ≤ 8) (kk : PJ g own cc nL i d C N (pc + 3) ls (.int (if x < y then y else x) :: rest) μ Q) : PJ g own cc nL i d C N pc ls (.int y :: .int x :: rest) μ Q := by
  intro G p e R s m args below meth c E H locs cells slots K K9 B arr hl9
  have hr9 := B.room (C1 := 0) (C2 := C) (N1 := 0) (N2 := N) (by omega) (by omega)
  exact va_mmax E.1 E.2.1 (by rw [E.2.2.1]; exact hl9.1.symm) E.2.2.2.1 (E.2.2.2.2.1 _ hlink) (E.2.2.2.2.1 _ q344) (E.2.2.2.2.1 _ q140) (E.2.2.2.2.1 _ q345) (by rw [E.2.2.2.2.2.2.2.2.2.2.1]; exact hd) (by rw [E.2.2.2.2.2.2.2.2.2.2.2]; omega) hr9.1 hr9.2 hdg (kk G p e R s m args below meth c E H locs cells slots K K9 B arr hl9)
theorem pj_mabs {x y : Int32} {index : Nat} (hlink : Cond.methodLink own index Lib.Math.abs.name ∈ lw_all) (hdg : decode cc pc = .ok (.invokestatic index, 3)) (hd : 1 ≤ d) (hr : (rest.map fun v => v.category).sum ≤ 8) (kk : PJ g own cc nL i d C N (pc + 3) ls (.int (if 0 ≤ x then x else 0 - x) :: rest) μ Q) : PJ g own cc nL i d C N pc ls (.int x :: rest) μ Q := by
  intro G p e R s m args below meth c E H locs cells slots K K9 B arr hl9
  have hr9 := B.room (C1 := 0) (C2 := C) (N1 := 0) (N2 := N) (by omega) (by omega)
  exact va_mabs E.1 E.2.1 (by rw [E.2.2.1]; exact hl9.1.symm) E.2.2.2.1 (E.2.2.2.2.1 _ hlink) (E.2.2.2.2.1 _ q1579) (E.2.2.2.2.1 _ q140) (E.2.2.2.2.1 _ q1580) (by rw [E.2.2.2.2.2.2.2.2.2.2.1]; exact hd) (by rw [E.2.2.2.2.2.2.2.2.2.2.2]; omega) hr9.1 hr9.2 hdg (kk G p e R s m args below meth c E H locs cells slots K K9 B arr hl9)
end MR
