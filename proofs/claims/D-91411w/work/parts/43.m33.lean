set_option maxRecDepth 100000
/-! ===== what the start's own premises say; constants of the start's heap ===== -/
def goN : Jvm.Cond → Nat → Jvm.Cond
  | c, 0 => c
  | .and x _, n + 1 => goN x n
  | c, _ + 1 => c
def goR : Jvm.Cond → Jvm.Cond
  | .and _ y => y
  | c => c
def goP : Jvm.Cond → List Nat → Jvm.Cond
  | c, [] => c
  | c, [n] => goN c n
  | c, n :: m :: ns => goP (goR (goN c n)) (m :: ns)
theorem goN_b {args : Array Value} {s : State} : ∀ (n : Nat) (c : Jvm.Cond), c.before args s = true → (goN c n).before args s = true
  | 0, c, h => by cases c <;> exact h
  | n + 1, c, h => by
    cases c <;> first | exact h | (simp only [goN]; rw [Cond.before_and, Bool.and_eq_true] at h; exact goN_b n _ h.1)
theorem goR_b {args : Array Value} {s : State} {c : Jvm.Cond} (h : c.before args s = true) : (goR c).before args s = true := by
  cases c <;> first | exact h | (simp only [goR]; rw [Cond.before_and, Bool.and_eq_true] at h; exact h.2)
theorem goP_b {args : Array Value} {s : State} : ∀ (ns : List Nat) (c : Jvm.Cond), c.before args s = true → (goP c ns).before args s = true
  | [], _, h => h
  | [n], c, h => goN_b n c h
  | n :: m :: ns, c, h => goP_b (m :: ns) _ (goR_b (goN_b n c h))
theorem nr_leaf {g : GP} (G : OkG g) (ns : List Nat) {w : Jvm.Cond} (h : goP narrow_1 ns = w) : w.before #[Value.ref (gb g)] (gS g) = true := by
  have h1 := G.2.2.2.2.2.1
  rw [Cond.before_and, Bool.and_eq_true] at h1
  rw [← h]
  exact goP_b ns _ h1.2
theorem gF_out (g : GP) : ∀ a : Nat, a < (gS g).heap.size → ¬ gF g a := fun a ha h => absurd ha (Nat.not_lt.mpr h)
/-- a String of the start's heap -/
def StrC (g : GP) (a v : Nat) (bs : List Int32) : Prop := va_O "java/lang/String" a (gF g) (gS g) (gS g).heap ∧ va_OF "java/lang/String" "coder" "B" (.int 0) a (gF g) (gS g) (gS g).heap ∧ va_OF "java/lang/String" "value" "[B" (.ref v) a (gF g) (gS g) (gS g).heap ∧ va_T .byte v bs.length (fun j => .int (bs.getD j 0)) (gF g) (gS g) (gS g).heap ∧ bs.length < 2147483648
theorem lit_mk {g : GP} (G : OkG g) {own text : String} {idx : Nat} (bs : List Int32) (hb : bs.length < 2147483648) (hr : Cond.stringRef own idx text ∈ lw_tbl)
    (h1 : (Cond.exactly (.string own idx) "java/lang/String").before #[Value.ref (gb g)] (gS g) = true)
    (h2 : (Cond.eq (.field (.string own idx) "java/lang/String" "coder" "B") (.int 0)).before #[Value.ref (gb g)] (gS g) = true)
    (h3 : (Cond.arrayOf (.field (.string own idx) "java/lang/String" "value" "[B") .byte).before #[Value.ref (gb g)] (gS g) = true)
    (h4 : (Cond.eq (.length (.field (.string own idx) "java/lang/String" "value" "[B")) (.int (Int32.ofNat bs.length))).before #[Value.ref (gb g)] (gS g) = true)
    (h5 : ∀ j : Nat, j < bs.length → (Cond.eq (.elem (.field (.string own idx) "java/lang/String" "value" "[B") (.int (Int32.ofNat j))) (.int (bs.getD j 0))).before #[Value.ref (gb g)] (gS g) = true) :
    ∃ a v : Nat, vk_R own idx text a (gS g) ∧ StrC g a v bs := by
  obtain ⟨adK, adV, hS, hev⟩ := vk_Sof (N := 1) (tm := fun _ => .string own idx) (len := [bs.length]) (byt := [bs]) (A := gF g) (s := gS g) (args := #[Value.ref (gb g)])
    (fun i hi => by have e : i = 0 := by omega
                    subst e; exact hb)
    (fun i _ => h1) (fun i _ => h2) (fun i _ => h3)
    (fun i hi => by have e : i = 0 := by omega
                    subst e; exact h4)
    (fun i hi j hj => by have e : i = 0 := by omega
                         subst e; exact h5 j hj)
    (fun i j hi hj hne => absurd (show i = j by omega) hne) (gF_out g)
  obtain ⟨s1, s2, s3, s4⟩ := hS.1 0 (by decide)
  exact ⟨adK 0, adV 0, vk_R.of (G_tbl G hr) (hev 0 (by decide)), s1, s2, s3, s4, hb⟩
section KR
variable {g : GP} {own : String} {cc : ByteArray} {nL : Nat} {i : MI} {d C N pc : Nat} {ls : List (Nat × Value)} {rest : List Value} {μ : Mem} {Q : OC → Mem → Prop}
theorem pj_getfK {o n d9 : String} {index q : Nat} {v : Value} (hE : va_OF o n d9 v q (gF g) (gS g) (gS g).heap) (hlink : Cond.fieldLink own index o n d9 ∈ lw_all) (hdg : decode cc pc = .ok (.getfield index, 3)) (kk : PJ g own cc nL i d C N (pc + 3) ls (v :: rest) μ Q) : PJ g own cc nL i d C N pc ls (.ref q :: rest) μ Q :=
  fun G p e R s m args below meth c E H locs cells slots K K9 B arr hl9 => vk_getf E.1 E.2.1 ((hE.moved E.2.2.2.2.2.2.2.2.2.1.1.alike).kept (fun a ha _ => E.2.2.2.2.2.2.2.2.2.1.2.2 a ha)) B.2.2.2.2.2 E.2.2.2.1 (E.2.2.2.2.1 _ hlink) (fun _ h => h) hdg (kk G p e R s m args below meth c E H locs cells slots K K9 B arr hl9)
theorem pj_alenK {ty : FieldType} {t n : Nat} {f : Nat → Value} (hT : va_T ty t n f (gF g) (gS g) (gS g).heap) (hdg : decode cc pc = .ok (.arraylength, 1)) (kk : PJ g own cc nL i d C N (pc + 1) ls (.int (nI n) :: rest) μ Q) : PJ g own cc nL i d C N pc ls (.ref t :: rest) μ Q :=
  fun G p e R s m args below meth c E H locs cells slots K K9 B arr hl9 => va_tlen E.1 E.2.1 ((hT.moved E.2.2.2.2.2.2.2.2.2.1.1.alike).kept (fun a ha _ => E.2.2.2.2.2.2.2.2.2.1.2.2 a ha)) B.2.2.2.2.2 rfl hdg (kk G p e R s m args below meth c E H locs cells slots K K9 B arr hl9)
theorem pj_baldK {t n j : Nat} {f : Nat → Value} {v : Value} (hT : va_T .byte t n f (gF g) (gS g) (gS g).heap) (hj : j < n) (hn : n < 2147483648) (hv : f j = v) (hdg : decode cc pc = .ok (.baload, 1)) (kk : PJ g own cc nL i d C N (pc + 1) ls (v :: rest) μ Q) : PJ g own cc nL i d C N pc ls (.int (nI j) :: .ref t :: rest) μ Q :=
  fun G p e R s m args below meth c E H locs cells slots K K9 B arr hl9 => va_tb E.1 E.2.1 ((hT.moved E.2.2.2.2.2.2.2.2.2.1.1.alike).kept (fun a ha _ => E.2.2.2.2.2.2.2.2.2.1.2.2 a ha)) B.2.2.2.2.2 (vp_in_nI hj hn) (by rw [nI_clamp (Nat.lt_trans hj hn)]; exact hv) hdg (kk G p e R s m args below meth c E H locs cells slots K K9 B arr hl9)
theorem pj_gets {C9 n d9 : String} {index : Nat} {v : Value} (hZ : va_Z C9 n d9 v (gF g) (gS g) (gS g).heap) (hlink : Cond.fieldLink own index C9 n d9 ∈ lw_all) (hdg : decode cc pc = .ok (.getstatic index, 3)) (kk : PJ g own cc nL i d C N (pc + 3) ls (v :: rest) μ Q) : PJ g own cc nL i d C N pc ls rest μ Q :=
  fun G p e R s m args below meth c E H locs cells slots K K9 B arr hl9 => va_gets E.1 E.2.1 ((hZ.moved E.2.2.2.2.2.2.2.2.2.1.1.alike).kept (fun a ha _ => E.2.2.2.2.2.2.2.2.2.1.2.2 a ha)) B.2.2.2.2.2 E.2.2.2.1 (E.2.2.2.2.1 _ hlink) (fun _ h => h) hdg (kk G p e R s m args below meth c E H locs cells slots K K9 B arr hl9)
theorem pj_ldcS {tx : String} {index q : Nat} (hR : vk_R own index tx q (gS g)) (hdg : decode cc pc = .ok (.ldc index, 2)) (kk : PJ g own cc nL i d C N (pc + 2) ls (.ref q :: rest) μ Q) : PJ g own cc nL i d C N pc ls rest μ Q :=
  fun G p e R s m args below meth c E H locs cells slots K K9 B arr hl9 => va_ldcS E.1 E.2.1 E.2.2.2.1 (vk_R.warm E.2.2.2.2.2.2.2.2.2.1.1 hR) hdg (kk G p e R s m args below meth c E H locs cells slots K K9 B arr hl9)
/-- a call on an object of the start's heap -/
theorem pj_callK {Cn : String} {a : Nat} {y : MethodName} {b : ByteArray} {L n d1 C1 N1 C2 N2 index : Nat} {r : Option FieldType} {Qc : OC → Mem → Prop} {st : List Value} (As : List Value) (md : MDy y b L r n) (hy : y.cls = Cn) (h1 : Cond.methodLink own index y ∈ lw_all) (h2 : Cond.instanceMethod y ∈ lw_all) (h3 : Cond.selects Cn y y ∈ lw_all) (h4 : Cond.initialized Cn ∈ lw_all) (hdg : decode cc pc = .ok (.invokevirtual index, 3)) (hst : st = As.reverse ++ .ref a :: rest) (hn : As.length = n) (hr8 : (rest.map fun v => v.category).sum ≤ 8) (hO : va_O Cn a (gF g) (gS g) (gS g).heap) (hM : PM g y (ws_ y b L r) d1 C1 N1 (.ref a :: As) μ Qc) (hd : d1 + 1 ≤ d) (hC : C1 + C2 ≤ C) (hN : N1 + N2 ≤ N)
    (kr : ∀ (v : Option Value) (μ1 : Mem), Qc (.inl v) μ1 → PJ g own cc nL i d C2 N2 (pc + 3) ls (v.toList ++ rest) μ1 Q)
    (kx : ∀ (E9 : String) (q : Nat) (μ1 : Mem), Qc (.inr (E9, q)) μ1 → PX g own cc nL i d C2 N2 pc ls rest E9 q μ1 Q) : PJ g own cc nL i d C N pc ls st μ Q := by
  subst hst
  refine PJ.behind (As := As) (rest0 := rest) (len := 3) (av := (Value.ref a :: As).toArray) hC hN (fun p e R s m args below meth c G E H locs cells slots K K9 B arr hl9 => ?_) kr kx
  have hO2 := (hO.moved E.2.2.2.2.2.2.2.2.2.1.1.alike).kept (H1 := s.heap) (fun a ha _ => E.2.2.2.2.2.2.2.2.2.1.2.2 a ha)
  have hO3 := hO2.kept (H1 := H) (fun a ha hA => B.2.2.2.2.2.2.1 a ha hA)
  obtain ⟨cell, c1, c2, c3, -⟩ := hO3
  exact vx_runV ⟨E.1, E.2.1, E.2.2.1, E.2.2.2.1, E.2.2.2.2.1⟩ (hM G) (cwV n E.2.2.2.2.1 (lw_V h1 h2 h3 h4 md.2.1) rfl rfl rfl ⟨hy, md.1⟩ (rm_fits E.2.2.2.2.2.2.2.2.2.2.1 E.2.2.2.2.2.2.2.2.2.2.2 hd md.2.2)) ⟨Pc_blind, ⟨cell, c1, c2, c3⟩, Pc_now E.2.2.2.2.2.2.2.2.2.1 B.2.2.2.2.1 B.2.2.2.2.2⟩ rfl hn hl9.1 rfl (lv_room hr8) hdg (B.room hC hN)
theorem pl_callKd {v : Value} {Cn : String} {a : Nat} {y : MethodName} {b : ByteArray} {L n d1 C1 N1 C2 N2 index : Nat} {r : Option FieldType} {μ1 : Mem} {st : List Value} (As : List Value) (md : MDy y b L r n) (hy : y.cls = Cn) (h1 : Cond.methodLink own index y ∈ lw_all) (h2 : Cond.instanceMethod y ∈ lw_all) (h3 : Cond.selects Cn y y ∈ lw_all) (h4 : Cond.initialized Cn ∈ lw_all) (hdg : decode cc pc = .ok (.invokevirtual index, 3)) (hst : st = As.reverse ++ .ref a :: rest) (hn : As.length = n) (hr8 : (rest.map fun v => v.category).sum ≤ 8) (hO : va_O Cn a (gF g) (gS g) (gS g).heap) (hM : PM g y (ws_ y b L r) d1 C1 N1 (.ref a :: As) μ (rQ (some v) μ1)) (hd : d1 + 1 ≤ d) (hC : C1 + C2 ≤ C) (hN : N1 + N2 ≤ N) (kk : PJ g own cc nL i d C2 N2 (pc + 3) ls (v :: rest) μ1 Q) : PJ g own cc nL i d C N pc ls st μ Q :=
  pj_callK As md hy h1 h2 h3 h4 hdg hst hn hr8 hO hM hd hC hN (fun v μ9 h => by
    obtain ⟨e1, rfl⟩ := h
    cases e1
    exact kk) (fun E9 q μ9 h => by cases h.1)
end KR
theorem st_compact {g : GP} (G : OkG g) : va_Z "java/lang/String" "COMPACT_STRINGS" "Z" (.int 1) (gF g) (gS g) (gS g).heap := va_Zof (G_tbl G q266) (G_tbl G (lw_all_tbl q136)) (va_eqi (nr_leaf G [7, 0, 1] (by decide +kernel))) (gF_out g)
set_option maxRecDepth 100000 in
theorem lit_X9_198 {g : GP} (G : OkG g) : ∃ a v : Nat, vk_R "SettlerColonyModel" 198 "price" a (gS g) ∧ StrC g a v [112, 114, 105, 99, 101] := by
  refine lit_mk G [112, 114, 105, 99, 101] (by decide) q2823 (nr_leaf G [0, 0, 1, 0, 2, 0, 0, 2] (by decide +kernel)) (nr_leaf G [0, 0, 1, 0, 2, 0, 0, 1, 0] (by decide +kernel)) (nr_leaf G [0, 0, 1, 0, 2, 0, 0, 0, 1] (by decide +kernel)) (nr_leaf G [0, 0, 1, 0, 2, 0, 0, 0, 0, 0] (by decide +kernel)) (fun j hj => ?_)
  match j, hj with
  | 0, _ => exact nr_leaf G [0, 0, 1, 0, 1, 4] (by decide +kernel)
  | 1, _ => exact nr_leaf G [0, 0, 1, 0, 1, 3, 1] (by decide +kernel)
  | 2, _ => exact nr_leaf G [0, 0, 1, 0, 1, 3, 0, 0] (by decide +kernel)
  | 3, _ => exact nr_leaf G [0, 0, 1, 0, 1, 2, 1] (by decide +kernel)
  | 4, _ => exact nr_leaf G [0, 0, 1, 0, 1, 2, 0, 1] (by decide +kernel)
set_option maxRecDepth 100000 in
theorem lit_X9_200 {g : GP} (G : OkG g) : ∃ a v : Nat, vk_R "SettlerColonyModel" 200 "share" a (gS g) ∧ StrC g a v [115, 104, 97, 114, 101] := by
  refine lit_mk G [115, 104, 97, 114, 101] (by decide) q2824 (nr_leaf G [0, 0, 1, 0, 1, 1, 1, 0, 0] (by decide +kernel)) (nr_leaf G [0, 0, 1, 0, 1, 1, 0, 1] (by decide +kernel)) (nr_leaf G [0, 0, 1, 0, 1, 1, 0, 0, 1] (by decide +kernel)) (nr_leaf G [0, 0, 1, 0, 1, 1, 0, 0, 0, 0] (by decide +kernel)) (fun j hj => ?_)
  match j, hj with
  | 0, _ => exact nr_leaf G [0, 0, 1, 0, 1, 0, 3] (by decide +kernel)
  | 1, _ => exact nr_leaf G [0, 0, 1, 0, 1, 0, 2, 1] (by decide +kernel)
  | 2, _ => exact nr_leaf G [0, 0, 1, 0, 1, 0, 2, 0, 0] (by decide +kernel)
  | 3, _ => exact nr_leaf G [0, 0, 1, 0, 1, 0, 1, 1] (by decide +kernel)
  | 4, _ => exact nr_leaf G [0, 0, 1, 0, 1, 0, 1, 0, 1] (by decide +kernel)
set_option maxRecDepth 100000 in
theorem lit_X9_202 {g : GP} (G : OkG g) : ∃ a v : Nat, vk_R "SettlerColonyModel" 202 "wage" a (gS g) ∧ StrC g a v [119, 97, 103, 101] := by
  refine lit_mk G [119, 97, 103, 101] (by decide) q2825 (nr_leaf G [0, 0, 1, 0, 1, 0, 0, 1, 0, 0] (by decide +kernel)) (nr_leaf G [0, 0, 1, 0, 1, 0, 0, 0, 2] (by decide +kernel)) (nr_leaf G [0, 0, 1, 0, 1, 0, 0, 0, 1, 0] (by decide +kernel)) (nr_leaf G [0, 0, 1, 0, 1, 0, 0, 0, 0, 1] (by decide +kernel)) (fun j hj => ?_)
  match j, hj with
  | 0, _ => exact nr_leaf G [0, 0, 1, 0, 1, 0, 0, 0, 0, 0, 0] (by decide +kernel)
  | 1, _ => exact nr_leaf G [0, 0, 1, 0, 0, 5] (by decide +kernel)
  | 2, _ => exact nr_leaf G [0, 0, 1, 0, 0, 4, 1] (by decide +kernel)
  | 3, _ => exact nr_leaf G [0, 0, 1, 0, 0, 4, 0, 0] (by decide +kernel)
set_option maxRecDepth 100000 in
theorem lit_X9_204 {g : GP} (G : OkG g) : ∃ a v : Nat, vk_R "SettlerColonyModel" 204 "run" a (gS g) ∧ StrC g a v [114, 117, 110] := by
  refine lit_mk G [114, 117, 110] (by decide) q2826 (nr_leaf G [0, 0, 1, 0, 0, 2, 2] (by decide +kernel)) (nr_leaf G [0, 0, 1, 0, 0, 2, 1, 1] (by decide +kernel)) (nr_leaf G [0, 0, 1, 0, 0, 2, 1, 0, 0] (by decide +kernel)) (nr_leaf G [0, 0, 1, 0, 0, 2, 0, 1] (by decide +kernel)) (fun j hj => ?_)
  match j, hj with
  | 0, _ => exact nr_leaf G [0, 0, 1, 0, 0, 2, 0, 0, 1] (by decide +kernel)
  | 1, _ => exact nr_leaf G [0, 0, 1, 0, 0, 2, 0, 0, 0, 0] (by decide +kernel)
  | 2, _ => exact nr_leaf G [0, 0, 1, 0, 0, 1, 3] (by decide +kernel)
set_option maxRecDepth 100000 in
theorem lit_X9_206 {g : GP} (G : OkG g) : ∃ a v : Nat, vk_R "SettlerColonyModel" 206 "fine" a (gS g) ∧ StrC g a v [102, 105, 110, 101] := by
  refine lit_mk G [102, 105, 110, 101] (by decide) q2827 (nr_leaf G [0, 0, 1, 0, 0, 1, 1, 0, 1] (by decide +kernel)) (nr_leaf G [0, 0, 1, 0, 0, 1, 1, 0, 0, 0] (by decide +kernel)) (nr_leaf G [0, 0, 1, 0, 0, 1, 0, 2] (by decide +kernel)) (nr_leaf G [0, 0, 1, 0, 0, 1, 0, 1, 1] (by decide +kernel)) (fun j hj => ?_)
  match j, hj with
  | 0, _ => exact nr_leaf G [0, 0, 1, 0, 0, 1, 0, 1, 0, 0] (by decide +kernel)
  | 1, _ => exact nr_leaf G [0, 0, 1, 0, 0, 1, 0, 0, 2] (by decide +kernel)
  | 2, _ => exact nr_leaf G [0, 0, 1, 0, 0, 1, 0, 0, 1, 0] (by decide +kernel)
  | 3, _ => exact nr_leaf G [0, 0, 1, 0, 0, 1, 0, 0, 0, 1] (by decide +kernel)
set_option maxRecDepth 100000 in
theorem lit_X9_208 {g : GP} (G : OkG g) : ∃ a v : Nat, vk_R "SettlerColonyModel" 208 "votes" a (gS g) ∧ StrC g a v [118, 111, 116, 101, 115] := by
  refine lit_mk G [118, 111, 116, 101, 115] (by decide) q2828 (nr_leaf G [0, 0, 1, 0, 0, 0, 3, 0, 0] (by decide +kernel)) (nr_leaf G [0, 0, 1, 0, 0, 0, 2, 1] (by decide +kernel)) (nr_leaf G [0, 0, 1, 0, 0, 0, 2, 0, 1] (by decide +kernel)) (nr_leaf G [0, 0, 1, 0, 0, 0, 2, 0, 0, 0] (by decide +kernel)) (fun j hj => ?_)
  match j, hj with
  | 0, _ => exact nr_leaf G [0, 0, 1, 0, 0, 0, 1, 2] (by decide +kernel)
  | 1, _ => exact nr_leaf G [0, 0, 1, 0, 0, 0, 1, 1, 1] (by decide +kernel)
  | 2, _ => exact nr_leaf G [0, 0, 1, 0, 0, 0, 1, 1, 0, 0] (by decide +kernel)
  | 3, _ => exact nr_leaf G [0, 0, 1, 0, 0, 0, 1, 0, 1] (by decide +kernel)
  | 4, _ => exact nr_leaf G [0, 0, 1, 0, 0, 0, 1, 0, 0, 1] (by decide +kernel)
set_option maxRecDepth 100000 in
theorem lit_X9_210 {g : GP} (G : OkG g) : ∃ a v : Nat, vk_R "SettlerColonyModel" 210 "choice" a (gS g) ∧ StrC g a v [99, 104, 111, 105, 99, 101] := by
  refine lit_mk G [99, 104, 111, 105, 99, 101] (by decide) q2829 (nr_leaf G [0, 0, 1, 0, 0, 0, 0, 2, 0, 0] (by decide +kernel)) (nr_leaf G [0, 0, 1, 0, 0, 0, 0, 1, 1] (by decide +kernel)) (nr_leaf G [0, 0, 1, 0, 0, 0, 0, 1, 0, 1] (by decide +kernel)) (nr_leaf G [0, 0, 1, 0, 0, 0, 0, 1, 0, 0, 0] (by decide +kernel)) (fun j hj => ?_)
  match j, hj with
  | 0, _ => exact nr_leaf G [0, 0, 1, 0, 0, 0, 0, 0, 2] (by decide +kernel)
  | 1, _ => exact nr_leaf G [0, 0, 1, 0, 0, 0, 0, 0, 1, 1] (by decide +kernel)
  | 2, _ => exact nr_leaf G [0, 0, 1, 0, 0, 0, 0, 0, 1, 0, 0] (by decide +kernel)
  | 3, _ => exact nr_leaf G [0, 0, 1, 0, 0, 0, 0, 0, 0, 2] (by decide +kernel)
  | 4, _ => exact nr_leaf G [0, 0, 1, 0, 0, 0, 0, 0, 0, 1, 0] (by decide +kernel)
  | 5, _ => exact nr_leaf G [0, 0, 1, 0, 0, 0, 0, 0, 0, 0, 1] (by decide +kernel)
set_option maxRecDepth 100000 in
theorem lit_X9_212 {g : GP} (G : OkG g) : ∃ a v : Nat, vk_R "SettlerColonyModel" 212 "squat" a (gS g) ∧ StrC g a v [115, 113, 117, 97, 116] := by
  refine lit_mk G [115, 113, 117, 97, 116] (by decide) q2830 (nr_leaf G [0, 0, 0, 6, 0, 0] (by decide +kernel)) (nr_leaf G [0, 0, 0, 5, 2] (by decide +kernel)) (nr_leaf G [0, 0, 0, 5, 1, 0] (by decide +kernel)) (nr_leaf G [0, 0, 0, 5, 0, 1] (by decide +kernel)) (fun j hj => ?_)
  match j, hj with
  | 0, _ => exact nr_leaf G [0, 0, 0, 5, 0, 0, 0] (by decide +kernel)
  | 1, _ => exact nr_leaf G [0, 0, 0, 4, 2] (by decide +kernel)
  | 2, _ => exact nr_leaf G [0, 0, 0, 4, 1, 1] (by decide +kernel)
  | 3, _ => exact nr_leaf G [0, 0, 0, 4, 1, 0, 0] (by decide +kernel)
  | 4, _ => exact nr_leaf G [0, 0, 0, 4, 0, 2] (by decide +kernel)
set_option maxRecDepth 100000 in
theorem lit_X9_214 {g : GP} (G : OkG g) : ∃ a v : Nat, vk_R "SettlerColonyModel" 214 "week" a (gS g) ∧ StrC g a v [119, 101, 101, 107] := by
  refine lit_mk G [119, 101, 101, 107] (by decide) q2877 (nr_leaf G [0, 0, 0, 3, 0, 0, 2] (by decide +kernel)) (nr_leaf G [0, 0, 0, 3, 0, 0, 1, 0] (by decide +kernel)) (nr_leaf G [0, 0, 0, 3, 0, 0, 0, 1] (by decide +kernel)) (nr_leaf G [0, 0, 0, 3, 0, 0, 0, 0, 0] (by decide +kernel)) (fun j hj => ?_)
  match j, hj with
  | 0, _ => exact nr_leaf G [0, 0, 0, 2, 4] (by decide +kernel)
  | 1, _ => exact nr_leaf G [0, 0, 0, 2, 3, 1] (by decide +kernel)
  | 2, _ => exact nr_leaf G [0, 0, 0, 2, 3, 0, 0] (by decide +kernel)
  | 3, _ => exact nr_leaf G [0, 0, 0, 2, 2, 2] (by decide +kernel)
set_option maxRecDepth 100000 in
theorem lit_X9_216 {g : GP} (G : OkG g) : ∃ a v : Nat, vk_R "SettlerColonyModel" 216 "year" a (gS g) ∧ StrC g a v [121, 101, 97, 114] := by
  refine lit_mk G [121, 101, 97, 114] (by decide) q2878 (nr_leaf G [0, 0, 0, 2, 1, 3] (by decide +kernel)) (nr_leaf G [0, 0, 0, 2, 1, 2, 0] (by decide +kernel)) (nr_leaf G [0, 0, 0, 2, 1, 1, 1] (by decide +kernel)) (nr_leaf G [0, 0, 0, 2, 1, 1, 0, 0] (by decide +kernel)) (fun j hj => ?_)
  match j, hj with
  | 0, _ => exact nr_leaf G [0, 0, 0, 2, 1, 0, 2] (by decide +kernel)
  | 1, _ => exact nr_leaf G [0, 0, 0, 2, 1, 0, 1, 0] (by decide +kernel)
  | 2, _ => exact nr_leaf G [0, 0, 0, 2, 1, 0, 0, 1] (by decide +kernel)
  | 3, _ => exact nr_leaf G [0, 0, 0, 2, 1, 0, 0, 0, 0] (by decide +kernel)
set_option maxRecDepth 100000 in
theorem lit_X9_218 {g : GP} (G : OkG g) : ∃ a v : Nat, vk_R "SettlerColonyModel" 218 "sold" a (gS g) ∧ StrC g a v [115, 111, 108, 100] := by
  refine lit_mk G [115, 111, 108, 100] (by decide) q2879 (nr_leaf G [0, 0, 0, 2, 0, 1, 2] (by decide +kernel)) (nr_leaf G [0, 0, 0, 2, 0, 1, 1, 0] (by decide +kernel)) (nr_leaf G [0, 0, 0, 2, 0, 1, 0, 1] (by decide +kernel)) (nr_leaf G [0, 0, 0, 2, 0, 1, 0, 0, 0] (by decide +kernel)) (fun j hj => ?_)
  match j, hj with
  | 0, _ => exact nr_leaf G [0, 0, 0, 2, 0, 0, 3] (by decide +kernel)
  | 1, _ => exact nr_leaf G [0, 0, 0, 2, 0, 0, 2, 0] (by decide +kernel)
  | 2, _ => exact nr_leaf G [0, 0, 0, 2, 0, 0, 1, 1] (by decide +kernel)
  | 3, _ => exact nr_leaf G [0, 0, 0, 2, 0, 0, 1, 0, 0] (by decide +kernel)
set_option maxRecDepth 100000 in
theorem lit_X9_220 {g : GP} (G : OkG g) : ∃ a v : Nat, vk_R "SettlerColonyModel" 220 "people" a (gS g) ∧ StrC g a v [112, 101, 111, 112, 108, 101] := by
  refine lit_mk G [112, 101, 111, 112, 108, 101] (by decide) q2880 (nr_leaf G [0, 0, 0, 2, 0, 0, 0, 0, 0, 0] (by decide +kernel)) (nr_leaf G [0, 0, 0, 1, 5] (by decide +kernel)) (nr_leaf G [0, 0, 0, 1, 4, 1] (by decide +kernel)) (nr_leaf G [0, 0, 0, 1, 4, 0, 0] (by decide +kernel)) (fun j hj => ?_)
  match j, hj with
  | 0, _ => exact nr_leaf G [0, 0, 0, 1, 3, 2] (by decide +kernel)
  | 1, _ => exact nr_leaf G [0, 0, 0, 1, 3, 1, 0] (by decide +kernel)
  | 2, _ => exact nr_leaf G [0, 0, 0, 1, 3, 0, 1] (by decide +kernel)
  | 3, _ => exact nr_leaf G [0, 0, 0, 1, 3, 0, 0, 0] (by decide +kernel)
  | 4, _ => exact nr_leaf G [0, 0, 0, 1, 2, 2] (by decide +kernel)
  | 5, _ => exact nr_leaf G [0, 0, 0, 1, 2, 1, 1] (by decide +kernel)
set_option maxRecDepth 100000 in
theorem lit_X9_222 {g : GP} (G : OkG g) : ∃ a v : Nat, vk_R "SettlerColonyModel" 222 "soil" a (gS g) ∧ StrC g a v [115, 111, 105, 108] := by
  refine lit_mk G [115, 111, 105, 108] (by decide) q2881 (nr_leaf G [0, 0, 0, 1, 2, 0, 0, 1] (by decide +kernel)) (nr_leaf G [0, 0, 0, 1, 2, 0, 0, 0, 0] (by decide +kernel)) (nr_leaf G [0, 0, 0, 1, 1, 3] (by decide +kernel)) (nr_leaf G [0, 0, 0, 1, 1, 2, 1] (by decide +kernel)) (fun j hj => ?_)
  match j, hj with
  | 0, _ => exact nr_leaf G [0, 0, 0, 1, 1, 2, 0, 0] (by decide +kernel)
  | 1, _ => exact nr_leaf G [0, 0, 0, 1, 1, 1, 2] (by decide +kernel)
  | 2, _ => exact nr_leaf G [0, 0, 0, 1, 1, 1, 1, 0] (by decide +kernel)
  | 3, _ => exact nr_leaf G [0, 0, 0, 1, 1, 1, 0, 1] (by decide +kernel)
set_option maxRecDepth 100000 in
theorem lit_X9_273 {g : GP} (G : OkG g) : ∃ a v : Nat, vk_R "SettlerColonyModel" 273 "least" a (gS g) ∧ StrC g a v [108, 101, 97, 115, 116] := by
  refine lit_mk G [108, 101, 97, 115, 116] (by decide) q2894 (nr_leaf G [0, 0, 0, 1, 1, 0, 1, 1] (by decide +kernel)) (nr_leaf G [0, 0, 0, 1, 1, 0, 1, 0, 0] (by decide +kernel)) (nr_leaf G [0, 0, 0, 1, 1, 0, 0, 2] (by decide +kernel)) (nr_leaf G [0, 0, 0, 1, 1, 0, 0, 1, 0] (by decide +kernel)) (fun j hj => ?_)
  match j, hj with
  | 0, _ => exact nr_leaf G [0, 0, 0, 1, 1, 0, 0, 0, 1] (by decide +kernel)
  | 1, _ => exact nr_leaf G [0, 0, 0, 1, 1, 0, 0, 0, 0, 0] (by decide +kernel)
  | 2, _ => exact nr_leaf G [0, 0, 0, 1, 0, 4] (by decide +kernel)
  | 3, _ => exact nr_leaf G [0, 0, 0, 1, 0, 3, 1] (by decide +kernel)
  | 4, _ => exact nr_leaf G [0, 0, 0, 1, 0, 3, 0, 0] (by decide +kernel)
set_option maxRecDepth 100000 in
theorem lit_X9_275 {g : GP} (G : OkG g) : ∃ a v : Nat, vk_R "SettlerColonyModel" 275 "most" a (gS g) ∧ StrC g a v [109, 111, 115, 116] := by
  refine lit_mk G [109, 111, 115, 116] (by decide) q2895 (nr_leaf G [0, 0, 0, 1, 0, 2, 0, 0, 0] (by decide +kernel)) (nr_leaf G [0, 0, 0, 1, 0, 1, 3] (by decide +kernel)) (nr_leaf G [0, 0, 0, 1, 0, 1, 2, 0] (by decide +kernel)) (nr_leaf G [0, 0, 0, 1, 0, 1, 1, 1] (by decide +kernel)) (fun j hj => ?_)
  match j, hj with
  | 0, _ => exact nr_leaf G [0, 0, 0, 1, 0, 1, 1, 0, 0] (by decide +kernel)
  | 1, _ => exact nr_leaf G [0, 0, 0, 1, 0, 1, 0, 2] (by decide +kernel)
  | 2, _ => exact nr_leaf G [0, 0, 0, 1, 0, 1, 0, 1, 0] (by decide +kernel)
  | 3, _ => exact nr_leaf G [0, 0, 0, 1, 0, 1, 0, 0, 1] (by decide +kernel)
set_option maxRecDepth 100000 in
theorem lit_X9_280 {g : GP} (G : OkG g) : ∃ a v : Nat, vk_R "SettlerColonyModel" 280 "if" a (gS g) ∧ StrC g a v [105, 102] := by
  refine lit_mk G [105, 102] (by decide) q2900 (nr_leaf G [0, 0, 0, 1, 0, 0, 2, 0, 0] (by decide +kernel)) (nr_leaf G [0, 0, 0, 1, 0, 0, 1, 2] (by decide +kernel)) (nr_leaf G [0, 0, 0, 1, 0, 0, 1, 1, 0] (by decide +kernel)) (nr_leaf G [0, 0, 0, 1, 0, 0, 1, 0, 1] (by decide +kernel)) (fun j hj => ?_)
  match j, hj with
  | 0, _ => exact nr_leaf G [0, 0, 0, 1, 0, 0, 1, 0, 0, 0] (by decide +kernel)
  | 1, _ => exact nr_leaf G [0, 0, 0, 1, 0, 0, 0, 3] (by decide +kernel)
set_option maxRecDepth 100000 in
theorem lit_X9_289 {g : GP} (G : OkG g) : ∃ a v : Nat, vk_R "SettlerColonyModel" 289 "or" a (gS g) ∧ StrC g a v [111, 114] := by
  refine lit_mk G [111, 114] (by decide) q2915 (nr_leaf G [0, 0, 0, 0, 2, 2, 0, 0] (by decide +kernel)) (nr_leaf G [0, 0, 0, 0, 2, 1, 2] (by decide +kernel)) (nr_leaf G [0, 0, 0, 0, 2, 1, 1, 0] (by decide +kernel)) (nr_leaf G [0, 0, 0, 0, 2, 1, 0, 1] (by decide +kernel)) (fun j hj => ?_)
  match j, hj with
  | 0, _ => exact nr_leaf G [0, 0, 0, 0, 2, 1, 0, 0, 0] (by decide +kernel)
  | 1, _ => exact nr_leaf G [0, 0, 0, 0, 2, 0, 3] (by decide +kernel)
set_option maxRecDepth 100000 in
theorem lit_X9_294 {g : GP} (G : OkG g) : ∃ a v : Nat, vk_R "SettlerColonyModel" 294 "and" a (gS g) ∧ StrC g a v [97, 110, 100] := by
  refine lit_mk G [97, 110, 100] (by decide) q2914 (nr_leaf G [0, 0, 0, 0, 4, 0, 0, 0] (by decide +kernel)) (nr_leaf G [0, 0, 0, 0, 3, 2] (by decide +kernel)) (nr_leaf G [0, 0, 0, 0, 3, 1, 1] (by decide +kernel)) (nr_leaf G [0, 0, 0, 0, 3, 1, 0, 0] (by decide +kernel)) (fun j hj => ?_)
  match j, hj with
  | 0, _ => exact nr_leaf G [0, 0, 0, 0, 3, 0, 2] (by decide +kernel)
  | 1, _ => exact nr_leaf G [0, 0, 0, 0, 3, 0, 1, 0] (by decide +kernel)
  | 2, _ => exact nr_leaf G [0, 0, 0, 0, 3, 0, 0, 1] (by decide +kernel)
set_option maxRecDepth 100000 in
theorem lit_X9_296 {g : GP} (G : OkG g) : ∃ a v : Nat, vk_R "SettlerColonyModel" 296 "not" a (gS g) ∧ StrC g a v [110, 111, 116] := by
  refine lit_mk G [110, 111, 116] (by decide) q2913 (nr_leaf G [0, 0, 0, 1, 0, 0, 0, 0, 2] (by decide +kernel)) (nr_leaf G [0, 0, 0, 1, 0, 0, 0, 0, 1, 0] (by decide +kernel)) (nr_leaf G [0, 0, 0, 1, 0, 0, 0, 0, 0, 1] (by decide +kernel)) (nr_leaf G [0, 0, 0, 1, 0, 0, 0, 0, 0, 0, 0] (by decide +kernel)) (fun j hj => ?_)
  match j, hj with
  | 0, _ => exact nr_leaf G [0, 0, 0, 0, 6] (by decide +kernel)
  | 1, _ => exact nr_leaf G [0, 0, 0, 0, 5, 1] (by decide +kernel)
  | 2, _ => exact nr_leaf G [0, 0, 0, 0, 5, 0, 0] (by decide +kernel)
set_option maxRecDepth 100000 in
theorem lit_X9_301 {g : GP} (G : OkG g) : ∃ a v : Nat, vk_R "SettlerColonyModel" 301 "undo" a (gS g) ∧ StrC g a v [117, 110, 100, 111] := by
  refine lit_mk G [117, 110, 100, 111] (by decide) q2837 (nr_leaf G [0, 0, 0, 3, 3] (by decide +kernel)) (nr_leaf G [0, 0, 0, 3, 2, 1] (by decide +kernel)) (nr_leaf G [0, 0, 0, 3, 2, 0, 0] (by decide +kernel)) (nr_leaf G [0, 0, 0, 3, 1, 2] (by decide +kernel)) (fun j hj => ?_)
  match j, hj with
  | 0, _ => exact nr_leaf G [0, 0, 0, 3, 1, 1, 0] (by decide +kernel)
  | 1, _ => exact nr_leaf G [0, 0, 0, 3, 1, 0, 1] (by decide +kernel)
  | 2, _ => exact nr_leaf G [0, 0, 0, 3, 1, 0, 0, 0] (by decide +kernel)
  | 3, _ => exact nr_leaf G [0, 0, 0, 3, 0, 3] (by decide +kernel)
set_option maxRecDepth 100000 in
theorem lit_X9_303 {g : GP} (G : OkG g) : ∃ a v : Nat, vk_R "SettlerColonyModel" 303 "fall" a (gS g) ∧ StrC g a v [102, 97, 108, 108] := by
  refine lit_mk G [102, 97, 108, 108] (by decide) q2916 (nr_leaf G [0, 0, 0, 0, 2, 0, 0, 2] (by decide +kernel)) (nr_leaf G [0, 0, 0, 0, 2, 0, 0, 1, 0] (by decide +kernel)) (nr_leaf G [0, 0, 0, 0, 2, 0, 0, 0, 1] (by decide +kernel)) (nr_leaf G [0, 0, 0, 0, 2, 0, 0, 0, 0, 0] (by decide +kernel)) (fun j hj => ?_)
  match j, hj with
  | 0, _ => exact nr_leaf G [0, 0, 0, 0, 1, 4] (by decide +kernel)
  | 1, _ => exact nr_leaf G [0, 0, 0, 0, 1, 3, 1] (by decide +kernel)
  | 2, _ => exact nr_leaf G [0, 0, 0, 0, 1, 3, 0, 0] (by decide +kernel)
  | 3, _ => exact nr_leaf G [0, 0, 0, 0, 1, 2, 2] (by decide +kernel)
set_option maxRecDepth 100000 in
theorem lit_X9_305 {g : GP} (G : OkG g) : ∃ a v : Nat, vk_R "SettlerColonyModel" 305 "stand" a (gS g) ∧ StrC g a v [115, 116, 97, 110, 100] := by
  refine lit_mk G [115, 116, 97, 110, 100] (by decide) q2917 (nr_leaf G [0, 0, 0, 0, 1, 1, 3] (by decide +kernel)) (nr_leaf G [0, 0, 0, 0, 1, 1, 2, 0] (by decide +kernel)) (nr_leaf G [0, 0, 0, 0, 1, 1, 1, 1] (by decide +kernel)) (nr_leaf G [0, 0, 0, 0, 1, 1, 1, 0, 0] (by decide +kernel)) (fun j hj => ?_)
  match j, hj with
  | 0, _ => exact nr_leaf G [0, 0, 0, 0, 1, 1, 0, 2] (by decide +kernel)
  | 1, _ => exact nr_leaf G [0, 0, 0, 0, 1, 1, 0, 1, 0] (by decide +kernel)
  | 2, _ => exact nr_leaf G [0, 0, 0, 0, 1, 1, 0, 0, 1] (by decide +kernel)
  | 3, _ => exact nr_leaf G [0, 0, 0, 0, 1, 1, 0, 0, 0, 0] (by decide +kernel)
  | 4, _ => exact nr_leaf G [0, 0, 0, 0, 1, 0, 3] (by decide +kernel)
