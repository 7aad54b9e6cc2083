set_option maxRecDepth 100000
section IF
variable {g : GP} {own : String} {cc : ByteArray} {nL : Nat} {i : MI} {d C N pc : Nat} {ls : List (Nat × Value)} {rest : List Value} {μ : Mem} {Q : OC → Mem → Prop}
theorem PJ.behind5 {st0 : List Value} {C1 N1 C2 N2 : Nat} {Qc : OC → Mem → Prop} (hC : C1 + C2 ≤ C) (hN : N1 + N2 ≤ N) {av : Array Value}
    (run : ∀ (p : Program) (e : Env) (R : Room) (s : State) (m : MethodId) (args : Array Value) (below : List Frame) (meth : Method) (c : Code), OkG g → ME g own cc nL i d p R s m args meth c → ∀ (H : Heap) (locs : List Loc) (cells slots K K9 : Nat), MB g C N μ R s H locs cells slots K K9 → ∀ arr : Array Slot, lv_has arr nL ls → vx_Run5 p (gL g) e R s m args below meth c H locs cells slots C1 N1 (F0 m pc arr st0) rest (QcR g Qc av) (QcX g Qc) (gF g))
    (kr : ∀ (v : Option Value) (μ1 : Mem), Qc (.inl v) μ1 → PJ g own cc nL i d C2 N2 (pc + 5) ls (v.toList ++ rest) μ1 Q)
    (kx : ∀ (E9 : String) (q : Nat) (μ1 : Mem), Qc (.inr (E9, q)) μ1 → PX g own cc nL i d C2 N2 pc ls rest E9 q μ1 Q) : PJ g own cc nL i d C N pc ls st0 μ Q := by
  intro G p e R s m args below meth c E H locs cells slots K K9 B arr hl9 T hT X
  rcases run p e R s m args below meth c G E H locs cells slots K K9 B arr hl9 T hT X with ⟨v, st₀, t, T', L, h0, X', hL, e1, e2, ⟨⟨v9, μ1, hv, hq, hsim, hwk⟩, hF⟩, st⟩ | ⟨q, st₀, t, T', L, E9, ce, h0, X', hL, e1, e2, ⟨⟨μ1, hq, hsim, hwk⟩, hF⟩, hce, hcv, hcl, st⟩
  · cases hv
    obtain ⟨k1, k2, k3⟩ := vx_keep h0 e1 B.2.2.2.2.2 (fun _ _ h => h) (fun _ h => h) hL hF
    obtain ⟨t2, a1, b1⟩ := kr v μ1 hq G p e R s m args below meth c E T'.heap (locs ++ L) (cells + C1) (slots + N1) K K9 (B.call hC hN (by rw [e1]; exact hsim) k3) arr hl9 T' rfl X'
    exact ⟨t2, st t2 a1, b1⟩
  · obtain ⟨k1, k2, k3⟩ := vx_keep h0 e1 B.2.2.2.2.2 (fun _ _ h => h) (fun _ h => h) hL hF
    obtain ⟨t2, a1, b1⟩ := kx E9 q μ1 hq G p e R s m args below meth c E T'.heap (locs ++ L) (cells + C1) (slots + N1) K K9 (B.call hC hN (by rw [e1]; exact hsim) k3) arr hl9 ce (by rw [e1]; exact hce) hcv hcl T' rfl X'
    exact ⟨t2, st.trans a1, b1⟩
theorem pj_callF {ci nf : Nat} {Cn : String} {Tn : u_T} {ty : Nat → FieldType} {fs : List Value} {a : Nat} {x y : MethodName} {b : ByteArray} {L n d1 C1 N1 C2 N2 index count : Nat} {r : Option FieldType} {Qc : OC → Mem → Prop} {st : List Value} (As : List Value) (cl : CLk ci Cn Tn nf ty) (md : MDy y b L r n) (h1 : Cond.methodLink own index x ∈ lw_all) (h2 : Cond.selects Cn x y ∈ lw_all) (h3 : Cond.instanceMethod y ∈ lw_all) (h4 : Cond.initialized y.cls ∈ lw_all) (f1 : Cond.declares x ∈ lw_tbl) (f2 : Cond.interfaceMethod x.cls x.cls x.name x.desc ∈ lw_tbl) (f3 : Cond.publicMethod y ∈ lw_tbl) (f4 : Cond.unhidden Cn x.name x.desc ∈ lw_tbl) (f5 : Cond.castable Cn x.cls ∈ lw_tbl) (hx : x.cls ≠ "java/lang/invoke/MethodHandle" ∧ x.cls ≠ "java/lang/invoke/VarHandle" ∧ (parseMethodDescriptor x.desc).map (fun d => d.parameters.length) = some n) (hdg : decode cc pc = .ok (.invokeinterface index count, 5)) (hst : st = As.reverse ++ .ref a :: rest) (hn : As.length = n) (hr8 : (rest.map fun v => v.category).sum ≤ 8) (hm : μ a = some (.inr (ci, fs))) (hM : PM g y (ws_ y b L r) d1 C1 N1 (.ref a :: As) μ Qc) (hd : d1 + 1 ≤ d) (hC : C1 + C2 ≤ C) (hN : N1 + N2 ≤ N)
    (kr : ∀ (v : Option Value) (μ1 : Mem), Qc (.inl v) μ1 → PJ g own cc nL i d C2 N2 (pc + 5) ls (v.toList ++ rest) μ1 Q)
    (kx : ∀ (E9 : String) (q : Nat) (μ1 : Mem), Qc (.inr (E9, q)) μ1 → PX g own cc nL i d C2 N2 pc ls rest E9 q μ1 Q) : PJ g own cc nL i d C N pc ls st μ Q := by
  subst hst
  refine PJ.behind5 (av := (Value.ref a :: As).toArray) hC hN (fun p e R s m args below meth c G E H locs cells slots K K9 B arr hl9 => ?_) kr kx
  have hw := E.2.2.2.2.2.2.2.2.2.1
  have hF := (va_Fw.of (A := #[Value.ref (gb g)]) (G_tbl G f1) (G_tbl G f2) (G_tbl G f3) (G_tbl G f4) (G_tbl G f5)).moved ⟨hx.1, hx.2.1⟩ hw.1.alike
  have hT : GoodIn lw_all (va_wsF own index Cn x y (ws_ y b L r)) := lw_app (fun w h => by
    rcases List.mem_cons.mp h with rfl | h
    · exact h1
    rcases List.mem_cons.mp h with rfl | h
    · exact h2
    rcases List.mem_cons.mp h with rfl | h
    · exact h3
    rcases List.mem_cons.mp h with rfl | h
    · exact h4
    · cases h) (lw_meth md.2.1)
  exact vx_runF ((G.K hw).1 ci _ cl.2.1).2 ⟨E.1, E.2.1, E.2.2.1, E.2.2.2.1, E.2.2.2.2.1⟩ (hM G) (va_cwF n E.2.2.2.2.1 hT rfl rfl rfl hF hx (rm_fits E.2.2.2.2.2.2.2.2.2.2.1 E.2.2.2.2.2.2.2.2.2.2.2 hd md.2.2)) ⟨Pc_blind, Sim.recv G hw B.2.2.2.2.1 cl.2.1 hm, Pc_now hw B.2.2.2.2.1 B.2.2.2.2.2⟩ rfl hn hl9.1 rfl (lv_room hr8) hdg (B.room hC hN)
theorem pl_callFd {v : Value} {ci nf : Nat} {Cn : String} {Tn : u_T} {ty : Nat → FieldType} {fs : List Value} {a : Nat} {x y : MethodName} {b : ByteArray} {L n d1 C1 N1 C2 N2 index count : Nat} {r : Option FieldType} {μ1 : Mem} {st : List Value} (As : List Value) (cl : CLk ci Cn Tn nf ty) (md : MDy y b L r n) (h1 : Cond.methodLink own index x ∈ lw_all) (h2 : Cond.selects Cn x y ∈ lw_all) (h3 : Cond.instanceMethod y ∈ lw_all) (h4 : Cond.initialized y.cls ∈ lw_all) (f1 : Cond.declares x ∈ lw_tbl) (f2 : Cond.interfaceMethod x.cls x.cls x.name x.desc ∈ lw_tbl) (f3 : Cond.publicMethod y ∈ lw_tbl) (f4 : Cond.unhidden Cn x.name x.desc ∈ lw_tbl) (f5 : Cond.castable Cn x.cls ∈ lw_tbl) (hx : x.cls ≠ "java/lang/invoke/MethodHandle" ∧ x.cls ≠ "java/lang/invoke/VarHandle" ∧ (parseMethodDescriptor x.desc).map (fun d => d.parameters.length) = some n) (hdg : decode cc pc = .ok (.invokeinterface index count, 5)) (hst : st = As.reverse ++ .ref a :: rest) (hn : As.length = n) (hr8 : (rest.map fun v => v.category).sum ≤ 8) (hm : μ a = some (.inr (ci, fs))) (hM : PM g y (ws_ y b L r) d1 C1 N1 (.ref a :: As) μ (rQ (some v) μ1)) (hd : d1 + 1 ≤ d) (hC : C1 + C2 ≤ C) (hN : N1 + N2 ≤ N) (kk : PJ g own cc nL i d C2 N2 (pc + 5) ls (v :: rest) μ1 Q) : PJ g own cc nL i d C N pc ls st μ Q :=
  pj_callF As cl md h1 h2 h3 h4 f1 f2 f3 f4 f5 hx hdg hst hn hr8 hm hM hd hC hN (fun v μ9 h => by
    obtain ⟨e1, rfl⟩ := h
    cases e1
    exact kk) (fun E9 q μ9 h => by cases h.1)
end IF
def nmOf : MethodName := ⟨"SettlerColony$Expr", "of", "(LSettlerColony$Ask;)I"⟩
def nmHo : MethodName := ⟨"SettlerColony$Cond", "holds", "(LSettlerColony$Ask;)Z"⟩
abbrev askO (wk so pe gr : Int32) : va_E := .inr (33, [.int wk, .int so, .int pe, .int gr])
def OfX (g : GP) (μ : Mem) (h : Nat) : Prop := ∀ {own : String} {cc : ByteArray} {nL : Nat} {i : MI} {d C N pc : Nat} {ls : List (Nat × Value)} {rest : List Value} {Q : OC → Mem → Prop} {q a index : Nat} {f : Fn4} {wk so pe gr : Int32}, (EcX g μ h).1 q f → μ a = some (askO wk so pe gr) → h + 6 ≤ d → Cond.methodLink own index nmOf ∈ lw_all → decode cc pc = .ok (.invokevirtual index, 3) → (rest.map fun v => v.category).sum ≤ 8 → PJ g own cc nL i d C N (pc + 3) ls (.int (f wk so pe gr) :: rest) μ Q → PJ g own cc nL i d C N pc ls (.ref a :: .ref q :: rest) μ Q
def HoX (g : GP) (μ : Mem) (h : Nat) : Prop := ∀ {own : String} {cc : ByteArray} {nL : Nat} {i : MI} {d C N pc : Nat} {ls : List (Nat × Value)} {rest : List Value} {Q : OC → Mem → Prop} {q a index count : Nat} {t : Int32 → Int32 → Int32 → Int32 → Bool} {wk so pe gr : Int32}, (EcX g μ h).2 q t → μ a = some (askO wk so pe gr) → h + 6 ≤ d → Cond.methodLink own index nmHo ∈ lw_all → decode cc pc = .ok (.invokeinterface index count, 5) → (rest.map fun v => v.category).sum ≤ 8 → PJ g own cc nL i d C N (pc + 5) ls (.int (bI (t wk so pe gr)) :: rest) μ Q → PJ g own cc nL i d C N pc ls (.ref a :: .ref q :: rest) μ Q
set_option maxHeartbeats 600000 in
theorem k_X22_of {g : GP} {μ : Mem} {d : Nat} {h q a : Nat} {wk so pe gr : Int32} (hd : 1 ≤ d) (ih : OfX g μ h ∧ HoX g μ h) (hk : μ a = some (askO wk so pe gr)) {n : Int32} (hm : μ q = some (.inr (24, [.int n]))) : PM g yX22_of (ws_ yX22_of cX22_of 2 (some .int)) d 0 0 [.ref q, .ref a] μ (rQ (some (.int n)) μ) := by
  refine PM.of (by decide +kernel) (Nat.le_of_ble_eq_true rfl) ?_
  refine PJ.ok (fun G => ?_)
  show PJ g _ _ _ _ d 0 0 0 [(0, .ref q), (1, .ref a)] [] _ _
  refine pl_aload_n (pc := 0) dX22_of_0 rfl rfl ?_
  refine pj_getf (pc := 1) ckX22 0 q2075 dX22_of_1 (by decide) hm rfl ?_
  refine pj_iret (pc := 4) dX22_of_4 rfl ?_
  exact ⟨rfl, rfl⟩
set_option maxHeartbeats 600000 in
theorem k_X23_of {g : GP} {μ : Mem} {d : Nat} {h q a : Nat} {wk so pe gr : Int32} (hd : 1 ≤ d) (ih : OfX g μ h ∧ HoX g μ h) (hk : μ a = some (askO wk so pe gr)) {c : Int32} (hm : μ q = some (.inr (25, [.int c]))) : PM g yX23_of (ws_ yX23_of cX23_of 2 (some .int)) d 0 0 [.ref q, .ref a] μ (rQ (some (.int (nmX c wk so pe gr))) μ) := by
  refine PM.of (by decide +kernel) (Nat.le_of_ble_eq_true rfl) ?_
  refine PJ.ok (fun G => ?_)
  show PJ g _ _ _ _ d 0 0 0 [(0, .ref q), (1, .ref a)] [] _ _
  refine pl_aload_n (pc := 0) dX23_of_0 rfl rfl ?_
  refine pj_getf (pc := 1) ckX23 0 q2112 dX23_of_1 (by decide) hm rfl ?_
  refine pl_lsw (pc := 4) 112 (tgt := 53) dX23_of_4 (by rfl) (by rfl) (by decide) (fun c4_112 => ?_) (fun c4_112 => ?_)
  · refine pl_aload_n (pc := 53) dX23_of_53 rfl rfl ?_
    refine pj_getfN (pc := 54) ckX6 2 q592 dX23_of_54 (by decide) hk rfl ?_
    refine pj_iret (pc := 57) dX23_of_57 rfl ?_
    subst c4_112
    exact ⟨rfl, rfl⟩
  refine pl_lsw (pc := 4) 119 (tgt := 40) dX23_of_4 (by rfl) (by rfl) (by decide) (fun c4_119 => ?_) (fun c4_119 => ?_)
  · refine pl_aload_n (pc := 40) dX23_of_40 rfl rfl ?_
    refine pj_getfN (pc := 41) ckX6 0 q588 dX23_of_41 (by decide) hk rfl ?_
    refine pj_iret (pc := 44) dX23_of_44 rfl ?_
    subst c4_119
    exact ⟨rfl, rfl⟩
  refine pl_lsw (pc := 4) 121 (tgt := 45) dX23_of_4 (by rfl) (by rfl) (by decide) (fun c4_121 => ?_) (fun c4_121 => ?_)
  · refine pl_aload_n (pc := 45) dX23_of_45 rfl rfl ?_
    refine pj_getfN (pc := 46) ckX6 0 q588 dX23_of_46 (by decide) hk rfl ?_
    refine pl_bipush (pc := 49) (v := 52) dX23_of_49 (by rfl) ?_
    refine pj_idiv (pc := 51) dX23_of_51 (by decide) ?_
    refine pj_iret (pc := 52) dX23_of_52 rfl ?_
    subst c4_121
    exact ⟨rfl, rfl⟩
  refine pj_lookup (pc := 4) (tgt := 58) dX23_of_4 (by rfl) ((lv_osw c4_112 rfl).trans ((lv_osw c4_119 rfl).trans ((lv_osw c4_121 rfl).trans (show Op.lookupswitch.offset [] (54) _ = 54 from rfl)))) (by decide) ?_
  refine pl_aload_n (pc := 58) dX23_of_58 rfl rfl ?_
  refine pj_getf (pc := 59) ckX23 0 q2112 dX23_of_59 (by decide) hm rfl ?_
  refine pl_bipush (pc := 62) (v := 105) dX23_of_62 (by rfl) ?_
  refine pj_icmp_ne (pc := 64) (tgt := 74) dX23_of_64 (by decide) (fun c64 => ?_) (fun c64 => ?_)
  · refine pl_aload_n (pc := 74) dX23_of_74 rfl rfl ?_
    refine pj_getfN (pc := 75) ckX6 1 q590 dX23_of_75 (by decide) hk rfl ?_
    refine pj_iret (pc := 78) dX23_of_78 rfl ?_
    exact ⟨vIe (by simp [nmX, c4_112, c4_119, c4_121, c64]) rfl, rfl⟩
  · refine pl_aload_n (pc := 67) dX23_of_67 rfl rfl ?_
    refine pj_getfN (pc := 68) ckX6 3 q594 dX23_of_68 (by decide) hk rfl ?_
    refine pj_goto (pc := 71) (tgt := 78) dX23_of_71 (by decide) ?_
    refine pj_iret (pc := 78) dX23_of_78 rfl ?_
    exact ⟨vIe (by simp [nmX, c4_112, c4_119, c4_121, eq_true c64]) rfl, rfl⟩
theorem opX_43 {x y : Int32} : opX (nI 43) x y = x + y := by
  unfold opX
  rw [if_pos rfl]
theorem opX_45 {x y : Int32} : opX (nI 45) x y = x - y := by
  unfold opX
  rw [if_neg (by decide), if_pos rfl]
theorem opX_42 {x y : Int32} : opX (nI 42) x y = x * y := by
  unfold opX
  rw [if_neg (by decide), if_neg (by decide), if_pos rfl]
theorem opX_47 {x y : Int32} : opX (nI 47) x y = (if y = 0 then nI 0 else x / y) := by
  unfold opX
  rw [if_neg (by decide), if_neg (by decide), if_neg (by decide), if_pos rfl]
theorem opX_44 {x y : Int32} : opX (nI 44) x y = (if y = 0 then nI 0 else x - x / y * y) := by
  unfold opX
  rw [if_neg (by decide), if_neg (by decide), if_neg (by decide), if_neg (by decide)]
theorem opX_46 {x y : Int32} : opX (nI 46) x y = (if y = 0 then nI 0 else x - x / y * y) := by
  unfold opX
  rw [if_neg (by decide), if_neg (by decide), if_neg (by decide), if_neg (by decide)]
set_option maxHeartbeats 600000 in
theorem k_X24_works {g : GP} {μ : Mem} {d : Nat} (hd : 1 ≤ d) {q a9 b9 : Nat} {s9 x y : Int32} (hm : μ q = some (.inr (26, [.ref a9, .ref b9, .int s9]))) : PM g yX24_works (ws_ yX24_works cX24_works 3 (some .int)) d 0 0 [.ref q, .int x, .int y] μ (rQ (some (.int (opX s9 x y))) μ) := by
  refine PM.of (by decide +kernel) (Nat.le_of_ble_eq_true rfl) ?_
  refine PJ.ok (fun G => ?_)
  show PJ g _ _ _ _ d 0 0 0 [(0, .ref q), (1, .int x), (2, .int y)] [] _ _
  refine pl_aload_n (pc := 0) dX24_works_0 rfl rfl ?_
  refine pj_getf (pc := 1) ckX24 2 q2140 dX24_works_1 (by decide) hm rfl ?_
  refine pl_tsw (pc := 4) 42 (tgt := 52) dX24_works_4 (by rfl) (by decide) (by decide) (by rfl) (by decide) (fun c4_42 => ?_) (fun c4_42 => ?_)
  · refine pl_iload_n (pc := 52) dX24_works_52 rfl rfl ?_
    refine pl_iload_n (pc := 53) dX24_works_53 rfl rfl ?_
    refine pj_imul (pc := 54) dX24_works_54 ?_
    refine pj_iret (pc := 55) dX24_works_55 rfl ?_
    subst c4_42
    exact ⟨vIe (by rw [opX_42]) rfl, rfl⟩
  refine pl_tsw (pc := 4) 43 (tgt := 44) dX24_works_4 (by rfl) (by decide) (by decide) (by rfl) (by decide) (fun c4_43 => ?_) (fun c4_43 => ?_)
  · refine pl_iload_n (pc := 44) dX24_works_44 rfl rfl ?_
    refine pl_iload_n (pc := 45) dX24_works_45 rfl rfl ?_
    refine pj_iadd (pc := 46) dX24_works_46 ?_
    refine pj_iret (pc := 47) dX24_works_47 rfl ?_
    subst c4_43
    exact ⟨vIe (by rw [opX_43]) rfl, rfl⟩
  refine pl_tsw (pc := 4) 44 (tgt := 68) dX24_works_4 (by rfl) (by decide) (by decide) (by rfl) (by decide) (fun c4_44 => ?_) (fun c4_44 => ?_)
  · refine pl_iload_n (pc := 68) dX24_works_68 rfl rfl ?_
    refine pj_if_ne (pc := 69) (tgt := 76) dX24_works_69 (by decide) (fun c69 => ?_) (fun c69 => ?_)
    · refine pl_iload_n (pc := 76) dX24_works_76 rfl rfl ?_
      refine pl_iload_n (pc := 77) dX24_works_77 rfl rfl ?_
      refine pj_irem (pc := 78) dX24_works_78 c69 ?_
      refine pj_iret (pc := 79) dX24_works_79 rfl ?_
      subst c4_44
      exact ⟨vIe (by rw [opX_44]; first | exact (if_pos c69).symm | exact (if_neg c69).symm) rfl, rfl⟩
    · refine pl_iconst (pc := 72) (v := 0) dX24_works_72 (by rfl) ?_
      refine pj_goto (pc := 73) (tgt := 79) dX24_works_73 (by decide) ?_
      refine pj_iret (pc := 79) dX24_works_79 rfl ?_
      subst c4_44
      exact ⟨vIe (by rw [opX_44]; first | exact (if_pos c69).symm | exact (if_neg c69).symm) rfl, rfl⟩
  refine pl_tsw (pc := 4) 45 (tgt := 48) dX24_works_4 (by rfl) (by decide) (by decide) (by rfl) (by decide) (fun c4_45 => ?_) (fun c4_45 => ?_)
  · refine pl_iload_n (pc := 48) dX24_works_48 rfl rfl ?_
    refine pl_iload_n (pc := 49) dX24_works_49 rfl rfl ?_
    refine pj_isub (pc := 50) dX24_works_50 ?_
    refine pj_iret (pc := 51) dX24_works_51 rfl ?_
    subst c4_45
    exact ⟨vIe (by rw [opX_45]) rfl, rfl⟩
  refine pl_tsw (pc := 4) 46 (tgt := 68) dX24_works_4 (by rfl) (by decide) (by decide) (by rfl) (by decide) (fun c4_46 => ?_) (fun c4_46 => ?_)
  · refine pl_iload_n (pc := 68) dX24_works_68 rfl rfl ?_
    refine pj_if_ne (pc := 69) (tgt := 76) dX24_works_69 (by decide) (fun c69 => ?_) (fun c69 => ?_)
    · refine pl_iload_n (pc := 76) dX24_works_76 rfl rfl ?_
      refine pl_iload_n (pc := 77) dX24_works_77 rfl rfl ?_
      refine pj_irem (pc := 78) dX24_works_78 c69 ?_
      refine pj_iret (pc := 79) dX24_works_79 rfl ?_
      subst c4_46
      exact ⟨vIe (by rw [opX_46]; first | exact (if_pos c69).symm | exact (if_neg c69).symm) rfl, rfl⟩
    · refine pl_iconst (pc := 72) (v := 0) dX24_works_72 (by rfl) ?_
      refine pj_goto (pc := 73) (tgt := 79) dX24_works_73 (by decide) ?_
      refine pj_iret (pc := 79) dX24_works_79 rfl ?_
      subst c4_46
      exact ⟨vIe (by rw [opX_46]; first | exact (if_pos c69).symm | exact (if_neg c69).symm) rfl, rfl⟩
  refine pl_tsw (pc := 4) 47 (tgt := 56) dX24_works_4 (by rfl) (by decide) (by decide) (by rfl) (by decide) (fun c4_47 => ?_) (fun c4_47 => ?_)
  · refine pl_iload_n (pc := 56) dX24_works_56 rfl rfl ?_
    refine pj_if_ne (pc := 57) (tgt := 64) dX24_works_57 (by decide) (fun c57 => ?_) (fun c57 => ?_)
    · refine pl_iload_n (pc := 64) dX24_works_64 rfl rfl ?_
      refine pl_iload_n (pc := 65) dX24_works_65 rfl rfl ?_
      refine pj_idiv (pc := 66) dX24_works_66 c57 ?_
      refine pj_iret (pc := 67) dX24_works_67 rfl ?_
      subst c4_47
      exact ⟨vIe (by rw [opX_47]; first | exact (if_pos c57).symm | exact (if_neg c57).symm) rfl, rfl⟩
    · refine pl_iconst (pc := 60) (v := 0) dX24_works_60 (by rfl) ?_
      refine pj_goto (pc := 61) (tgt := 67) dX24_works_61 (by decide) ?_
      refine pj_iret (pc := 67) dX24_works_67 rfl ?_
      subst c4_47
      exact ⟨vIe (by rw [opX_47]; first | exact (if_pos c57).symm | exact (if_neg c57).symm) rfl, rfl⟩
  refine pj_tableOut (pc := 4) (tgt := 68) dX24_works_4 (by have q0 := nI_nec c4_42; have q1 := nI_nec c4_43; have q2 := nI_nec c4_44; have q3 := nI_nec c4_45; have q4 := nI_nec c4_46; have q5 := nI_nec c4_47; omega) (by decide) ?_
  refine pl_iload_n (pc := 68) dX24_works_68 rfl rfl ?_
  refine pj_if_ne (pc := 69) (tgt := 76) dX24_works_69 (by decide) (fun c69 => ?_) (fun c69 => ?_)
  · refine pl_iload_n (pc := 76) dX24_works_76 rfl rfl ?_
    refine pl_iload_n (pc := 77) dX24_works_77 rfl rfl ?_
    refine pj_irem (pc := 78) dX24_works_78 c69 ?_
    refine pj_iret (pc := 79) dX24_works_79 rfl ?_
    exact ⟨vIe (by simp [opX, c4_42, c4_43, c4_44, c4_45, c4_46, c4_47, c69]) rfl, rfl⟩
  · refine pl_iconst (pc := 72) (v := 0) dX24_works_72 (by rfl) ?_
    refine pj_goto (pc := 73) (tgt := 79) dX24_works_73 (by decide) ?_
    refine pj_iret (pc := 79) dX24_works_79 rfl ?_
    exact ⟨vIe (by simp [opX, c4_42, c4_43, c4_44, c4_45, c4_46, c4_47, eq_true c69]) rfl, rfl⟩
set_option maxHeartbeats 600000 in
theorem k_X25_works {g : GP} {μ : Mem} {d : Nat} (hd : 2 ≤ d) {q a9 b9 : Nat} {l : Bool} {x y : Int32} (hm : μ q = some (.inr (27, [.ref a9, .ref b9, .int (nI 32), .int (bI l)]))) : PM g yX25_works (ws_ yX25_works cX25_works 3 (some .int)) d 0 0 [.ref q, .int x, .int y] μ (rQ (some (.int (if l = true then (if y < x then y else x) else (if x < y then y else x)))) μ) := by
  refine PM.of (by decide +kernel) (Nat.le_of_ble_eq_true rfl) ?_
  refine PJ.ok (fun G => ?_)
  show PJ g _ _ _ _ d 0 0 0 [(0, .ref q), (1, .int x), (2, .int y)] [] _ _
  refine pl_aload_n (pc := 0) dX25_works_0 rfl rfl ?_
  refine pj_getf (pc := 1) ckX25 3 q2133 dX25_works_1 (by decide) hm rfl ?_
  refine pl_if_eqB (pc := 4) (tgt := 15) dX25_works_4 (by decide) (fun c4 => ?_) (fun c4 => ?_)
  · refine pl_iload_n (pc := 15) dX25_works_15 rfl rfl ?_
    refine pl_iload_n (pc := 16) dX25_works_16 rfl rfl ?_
    refine pj_mmax (pc := 17) q1023 dX25_works_17 (by omega) (Nat.le_of_ble_eq_true rfl) ?_
    refine pj_iret (pc := 20) dX25_works_20 rfl ?_
    exact ⟨vIe (by rw [c4]; rfl) rfl, rfl⟩
  · refine pl_iload_n (pc := 7) dX25_works_7 rfl rfl ?_
    refine pl_iload_n (pc := 8) dX25_works_8 rfl rfl ?_
    refine pj_mmin (pc := 9) q1022 dX25_works_9 (by omega) (Nat.le_of_ble_eq_true rfl) ?_
    refine pj_goto (pc := 12) (tgt := 20) dX25_works_12 (by decide) ?_
    refine pj_iret (pc := 20) dX25_works_20 rfl ?_
    exact ⟨vIe (by rw [c4]; rfl) rfl, rfl⟩
set_option maxHeartbeats 600000 in
theorem k_X24_of {g : GP} {μ : Mem} {d : Nat} {h q a : Nat} {wk so pe gr : Int32} (hd : h + 6 ≤ d) (ih : OfX g μ h ∧ HoX g μ h) (hk : μ a = some (askO wk so pe gr)) {a9 b9 : Nat} {f1 f2 : Fn4} (h1 : (EcX g μ h).1 a9 f1) (h2 : (EcX g μ h).1 b9 f2) {s9 : Int32} (hm : μ q = some (.inr (26, [.ref a9, .ref b9, .int s9]))) : PM g yX24_of (ws_ yX24_of cX24_of 2 (some .int)) d 0 0 [.ref q, .ref a] μ (rQ (some (.int (opX s9 (f1 wk so pe gr) (f2 wk so pe gr)))) μ) := by
  refine PM.of (by decide +kernel) (Nat.le_of_ble_eq_true rfl) ?_
  refine PJ.ok (fun G => ?_)
  show PJ g _ _ _ _ d 0 0 0 [(0, .ref q), (1, .ref a)] [] _ _
  refine pl_aload_n (pc := 0) dX24_of_0 rfl rfl ?_
  refine pl_aload_n (pc := 1) dX24_of_1 rfl rfl ?_
  refine pj_getf (pc := 2) ckX24 0 q2134 dX24_of_2 (by decide) hm rfl ?_
  refine pl_aload_n (pc := 5) dX24_of_5 rfl rfl ?_
  refine ih.1 (pc := 6) h1 hk (by omega) q966 dX24_of_6 (Nat.le_of_ble_eq_true rfl) ?_
  refine pl_aload_n (pc := 9) dX24_of_9 rfl rfl ?_
  refine pj_getf (pc := 10) ckX24 1 q2137 dX24_of_10 (by decide) hm rfl ?_
  refine pl_aload_n (pc := 13) dX24_of_13 rfl rfl ?_
  refine ih.1 (pc := 14) h2 hk (by omega) q966 dX24_of_14 (Nat.le_of_ble_eq_true rfl) ?_
  refine pl_callVd (pc := 17) (As := [_, _]) (C1 := 0) (N1 := 0) (C2 := 0) (N2 := 0) ckX24 mdX24_works rfl q1015 q1016 q1017 q173 dX24_of_17 rfl rfl (Nat.le_of_ble_eq_true rfl) hm (k_X24_works (d := d - 1) (by omega) hm) (by omega) (by omega) (by omega) ?_
  refine pj_iret (pc := 20) dX24_of_20 rfl ?_
  exact ⟨rfl, rfl⟩
set_option maxHeartbeats 600000 in
theorem k_X24_of_b {g : GP} {μ : Mem} {d : Nat} {h q a : Nat} {wk so pe gr : Int32} (hd : h + 6 ≤ d) (ih : OfX g μ h ∧ HoX g μ h) (hk : μ a = some (askO wk so pe gr)) {a9 b9 : Nat} {f1 f2 : Fn4} (h1 : (EcX g μ h).1 a9 f1) (h2 : (EcX g μ h).1 b9 f2) {l : Bool} (hm : μ q = some (.inr (27, [.ref a9, .ref b9, .int (nI 32), .int (bI l)]))) : PM g yX24_of (ws_ yX24_of cX24_of 2 (some .int)) d 0 0 [.ref q, .ref a] μ (rQ (some (.int (if l = true then (if f2 wk so pe gr < f1 wk so pe gr then f2 wk so pe gr else f1 wk so pe gr) else (if f1 wk so pe gr < f2 wk so pe gr then f2 wk so pe gr else f1 wk so pe gr)))) μ) := by
  refine PM.of (by decide +kernel) (Nat.le_of_ble_eq_true rfl) ?_
  refine PJ.ok (fun G => ?_)
  show PJ g _ _ _ _ d 0 0 0 [(0, .ref q), (1, .ref a)] [] _ _
  refine pl_aload_n (pc := 0) dX24_of_0 rfl rfl ?_
  refine pl_aload_n (pc := 1) dX24_of_1 rfl rfl ?_
  refine pj_getf (pc := 2) ckX25 0 q2134 dX24_of_2 (by decide) hm rfl ?_
  refine pl_aload_n (pc := 5) dX24_of_5 rfl rfl ?_
  refine ih.1 (pc := 6) h1 hk (by omega) q966 dX24_of_6 (Nat.le_of_ble_eq_true rfl) ?_
  refine pl_aload_n (pc := 9) dX24_of_9 rfl rfl ?_
  refine pj_getf (pc := 10) ckX25 1 q2137 dX24_of_10 (by decide) hm rfl ?_
  refine pl_aload_n (pc := 13) dX24_of_13 rfl rfl ?_
  refine ih.1 (pc := 14) h2 hk (by omega) q966 dX24_of_14 (Nat.le_of_ble_eq_true rfl) ?_
  refine pl_callOd (pc := 17) (As := [_, _]) (x := ⟨"SettlerColony$Two", "works", "(II)I"⟩) (owner := "SettlerColony$Two") (C1 := 0) (N1 := 0) (C2 := 0) (N2 := 0) ckX25 mdX25_works (lk_all q1015) (lk_all q1018) (dcl_c q1016 q1025) (by decide) q1019 q1020 q174 dX24_of_17 rfl rfl (Nat.le_of_ble_eq_true rfl) hm (k_X25_works (d := d - 1) (by omega) hm) (by omega) (by omega) (by omega) ?_
  refine pj_iret (pc := 20) dX24_of_20 rfl ?_
  exact ⟨rfl, rfl⟩
set_option maxHeartbeats 600000 in
theorem k_X30_of {g : GP} {μ : Mem} {d : Nat} {h q a : Nat} {wk so pe gr : Int32} (hd : h + 6 ≤ d) (ih : OfX g μ h ∧ HoX g μ h) (hk : μ a = some (askO wk so pe gr)) {a9 b9 : Nat} {f1 f2 : Fn4} (h1 : (EcX g μ h).1 a9 f1) (h2 : (EcX g μ h).1 b9 f2) {c9 : Nat} {t : Int32 → Int32 → Int32 → Int32 → Bool} (h3 : (EcX g μ h).2 c9 t) (hm : μ q = some (.inr (32, [.ref a9, .ref b9, .int (nI 63), .ref c9]))) : PM g yX30_of (ws_ yX30_of cX30_of 2 (some .int)) d 0 0 [.ref q, .ref a] μ (rQ (some (.int (if t wk so pe gr = true then f1 wk so pe gr else f2 wk so pe gr))) μ) := by
  refine PM.of (by decide +kernel) (Nat.le_of_ble_eq_true rfl) ?_
  refine PJ.ok (fun G => ?_)
  show PJ g _ _ _ _ d 0 0 0 [(0, .ref q), (1, .ref a)] [] _ _
  refine pl_aload_n (pc := 0) dX30_of_0 rfl rfl ?_
  refine pj_getf (pc := 1) ckX30 3 q2226 dX30_of_1 (by decide) hm rfl ?_
  refine pl_aload_n (pc := 4) dX30_of_4 rfl rfl ?_
  refine ih.2 (pc := 5) h3 hk (by omega) q970 dX30_of_5 (Nat.le_of_ble_eq_true rfl) ?_
  refine pl_if_eqB (pc := 10) (tgt := 24) dX30_of_10 (by decide) (fun c10 => ?_) (fun c10 => ?_)
  · refine pl_aload_n (pc := 24) dX30_of_24 rfl rfl ?_
    refine pj_getfS (pc := 25) ckX30 1 q2138 q2139 dX30_of_25 (by decide) hm rfl ?_
    refine pl_aload_n (pc := 28) dX30_of_28 rfl rfl ?_
    refine ih.1 (pc := 29) h2 hk (by omega) q1014 dX30_of_29 (Nat.le_of_ble_eq_true rfl) ?_
    refine pj_iret (pc := 32) dX30_of_32 rfl ?_
    exact ⟨vIe (by rw [c10]; rfl) rfl, rfl⟩
  · refine pl_aload_n (pc := 13) dX30_of_13 rfl rfl ?_
    refine pj_getfS (pc := 14) ckX30 0 q2135 q2136 dX30_of_14 (by decide) hm rfl ?_
    refine pl_aload_n (pc := 17) dX30_of_17 rfl rfl ?_
    refine ih.1 (pc := 18) h1 hk (by omega) q1014 dX30_of_18 (Nat.le_of_ble_eq_true rfl) ?_
    refine pj_goto (pc := 21) (tgt := 32) dX30_of_21 (by decide) ?_
    refine pj_iret (pc := 32) dX30_of_32 rfl ?_
    exact ⟨vIe (by rw [c10]; rfl) rfl, rfl⟩
set_option maxHeartbeats 600000 in
theorem k_X28_holds {g : GP} {μ : Mem} {d : Nat} {h q a : Nat} {wk so pe gr : Int32} (hd : h + 6 ≤ d) (ih : OfX g μ h ∧ HoX g μ h) (hk : μ a = some (askO wk so pe gr)) {p : Nat} {t : Int32 → Int32 → Int32 → Int32 → Bool} (h3 : (EcX g μ h).2 p t) (hm : μ q = some (.inr (30, [.ref p]))) : PM g yX28_holds (ws_ yX28_holds cX28_holds 2 (some .boolean)) d 0 0 [.ref q, .ref a] μ (rQ (some (.int (bI (!(t wk so pe gr))))) μ) := by
  refine PM.of (by decide +kernel) (Nat.le_of_ble_eq_true rfl) ?_
  refine PJ.ok (fun G => ?_)
  show PJ g _ _ _ _ d 0 0 0 [(0, .ref q), (1, .ref a)] [] _ _
  refine pl_aload_n (pc := 0) dX28_holds_0 rfl rfl ?_
  refine pj_getf (pc := 1) ckX28 0 q2197 dX28_holds_1 (by decide) hm rfl ?_
  refine pl_aload_n (pc := 4) dX28_holds_4 rfl rfl ?_
  refine ih.2 (pc := 5) h3 hk (by omega) q1013 dX28_holds_5 (Nat.le_of_ble_eq_true rfl) ?_
  refine pl_if_neB (pc := 10) (tgt := 17) dX28_holds_10 (by decide) (fun c10 => ?_) (fun c10 => ?_)
  · refine pl_iconst (pc := 17) (v := 0) dX28_holds_17 (by rfl) ?_
    refine pj_zret (pc := 18) .boolean dX28_holds_18 rfl (by rfl) ?_
    refine ⟨?_, rfl⟩
    have e9 : (!(t wk so pe gr)) = false := by simp [cmX, c10] <;> exact Int32.not_le.mp (by assumption)
    rw [e9]
    rfl
  · refine pl_iconst (pc := 13) (v := 1) dX28_holds_13 (by rfl) ?_
    refine pj_goto (pc := 14) (tgt := 18) dX28_holds_14 (by decide) ?_
    refine pj_zret (pc := 18) .boolean dX28_holds_18 rfl (by rfl) ?_
    refine ⟨?_, rfl⟩
    have e9 : (!(t wk so pe gr)) = true := by simp [cmX, c10] <;> exact Int32.not_le.mp (by assumption)
    rw [e9]
    rfl
set_option maxHeartbeats 600000 in
theorem k_X29_holds {g : GP} {μ : Mem} {d : Nat} {h q a : Nat} {wk so pe gr : Int32} (hd : h + 6 ≤ d) (ih : OfX g μ h ∧ HoX g μ h) (hk : μ a = some (askO wk so pe gr)) {a9 b9 : Nat} {f1 f2 : Fn4} (h1 : (EcX g μ h).1 a9 f1) (h2 : (EcX g μ h).1 b9 f2) {s9 : Int32} (hm : μ q = some (.inr (31, [.ref a9, .ref b9, .int s9]))) : PM g yX29_holds (ws_ yX29_holds cX29_holds 4 (some .boolean)) d 0 0 [.ref q, .ref a] μ (rQ (some (.int (bI (cmX s9 (f1 wk so pe gr) (f2 wk so pe gr))))) μ) := by
  refine PM.of (by decide +kernel) (Nat.le_of_ble_eq_true rfl) ?_
  refine PJ.ok (fun G => ?_)
  show PJ g _ _ _ _ d 0 0 0 [(0, .ref q), (1, .ref a)] [] _ _
  refine pl_aload_n (pc := 0) dX29_holds_0 rfl rfl ?_
  refine pj_getf (pc := 1) ckX29 0 q2207 dX29_holds_1 (by decide) hm rfl ?_
  refine pl_aload_n (pc := 4) dX29_holds_4 rfl rfl ?_
  refine ih.1 (pc := 5) h1 hk (by omega) q1001 dX29_holds_5 (Nat.le_of_ble_eq_true rfl) ?_
  refine pj_istore_n (pc := 8) (lv' := [(2, _), (0, _), (1, _)]) dX29_holds_8 rfl (by decide) rfl ?_
  refine pl_aload_n (pc := 9) dX29_holds_9 rfl rfl ?_
  refine pj_getf (pc := 10) ckX29 1 q2208 dX29_holds_10 (by decide) hm rfl ?_
  refine pl_aload_n (pc := 13) dX29_holds_13 rfl rfl ?_
  refine ih.1 (pc := 14) h2 hk (by omega) q1001 dX29_holds_14 (Nat.le_of_ble_eq_true rfl) ?_
  refine pj_istore_n (pc := 17) (lv' := [(3, _), (2, _), (0, _), (1, _)]) dX29_holds_17 rfl (by decide) rfl ?_
  refine pl_aload_n (pc := 18) dX29_holds_18 rfl rfl ?_
  refine pj_getf (pc := 19) ckX29 2 q2209 dX29_holds_19 (by decide) hm rfl ?_
  refine pl_bipush (pc := 22) (v := 60) dX29_holds_22 (by rfl) ?_
  refine pj_icmp_ne (pc := 24) (tgt := 40) dX29_holds_24 (by decide) (fun c24 => ?_) (fun c24 => ?_)
  · refine pl_aload_n (pc := 40) dX29_holds_40 rfl rfl ?_
    refine pj_getf (pc := 41) ckX29 2 q2209 dX29_holds_41 (by decide) hm rfl ?_
    refine pl_bipush (pc := 44) (v := 62) dX29_holds_44 (by rfl) ?_
    refine pj_icmp_ne (pc := 46) (tgt := 62) dX29_holds_46 (by decide) (fun c46 => ?_) (fun c46 => ?_)
    · refine pl_iload_n (pc := 62) dX29_holds_62 rfl rfl ?_
      refine pl_iload_n (pc := 63) dX29_holds_63 rfl rfl ?_
      refine pj_icmp_ne (pc := 64) (tgt := 71) dX29_holds_64 (by decide) (fun c64 => ?_) (fun c64 => ?_)
      · refine pl_iconst (pc := 71) (v := 0) dX29_holds_71 (by rfl) ?_
        refine pj_zret (pc := 72) .boolean dX29_holds_72 rfl (by rfl) ?_
        refine ⟨?_, rfl⟩
        have e9 : cmX s9 (f1 wk so pe gr) (f2 wk so pe gr) = false := by simp [cmX, c24, c46, c64] <;> exact Int32.not_le.mp (by assumption)
        rw [e9]
        rfl
      · refine pl_iconst (pc := 67) (v := 1) dX29_holds_67 (by rfl) ?_
        refine pj_goto (pc := 68) (tgt := 72) dX29_holds_68 (by decide) ?_
        refine pj_zret (pc := 72) .boolean dX29_holds_72 rfl (by rfl) ?_
        refine ⟨?_, rfl⟩
        have e9 : cmX s9 (f1 wk so pe gr) (f2 wk so pe gr) = true := by simp [cmX, c24, c46, eq_true c64] <;> exact Int32.not_le.mp (by assumption)
        rw [e9]
        rfl
    · refine pl_iload_n (pc := 49) dX29_holds_49 rfl rfl ?_
      refine pl_iload_n (pc := 50) dX29_holds_50 rfl rfl ?_
      refine pj_icmp_le (pc := 51) (tgt := 58) dX29_holds_51 (by decide) (fun c51 => ?_) (fun c51 => ?_)
      · refine pl_iconst (pc := 58) (v := 0) dX29_holds_58 (by rfl) ?_
        refine pj_goto (pc := 59) (tgt := 72) dX29_holds_59 (by decide) ?_
        refine pj_zret (pc := 72) .boolean dX29_holds_72 rfl (by rfl) ?_
        refine ⟨?_, rfl⟩
        have e9 : cmX s9 (f1 wk so pe gr) (f2 wk so pe gr) = false := by simp [cmX, c24, eq_true c46, c51] <;> exact Int32.not_le.mp (by assumption)
        rw [e9]
        rfl
      · refine pl_iconst (pc := 54) (v := 1) dX29_holds_54 (by rfl) ?_
        refine pj_goto (pc := 55) (tgt := 72) dX29_holds_55 (by decide) ?_
        refine pj_zret (pc := 72) .boolean dX29_holds_72 rfl (by rfl) ?_
        refine ⟨?_, rfl⟩
        have e9 : cmX s9 (f1 wk so pe gr) (f2 wk so pe gr) = true := by simp [cmX, c24, eq_true c46, c51] <;> exact Int32.not_le.mp (by assumption)
        rw [e9]
        rfl
  · refine pl_iload_n (pc := 27) dX29_holds_27 rfl rfl ?_
    refine pl_iload_n (pc := 28) dX29_holds_28 rfl rfl ?_
    refine pj_icmp_ge (pc := 29) (tgt := 36) dX29_holds_29 (by decide) (fun c29 => ?_) (fun c29 => ?_)
    · refine pl_iconst (pc := 36) (v := 0) dX29_holds_36 (by rfl) ?_
      refine pj_goto (pc := 37) (tgt := 72) dX29_holds_37 (by decide) ?_
      refine pj_zret (pc := 72) .boolean dX29_holds_72 rfl (by rfl) ?_
      refine ⟨?_, rfl⟩
      have e9 : cmX s9 (f1 wk so pe gr) (f2 wk so pe gr) = false := by simp [cmX, eq_true c24, c29] <;> exact Int32.not_le.mp (by assumption)
      rw [e9]
      rfl
    · refine pl_iconst (pc := 32) (v := 1) dX29_holds_32 (by rfl) ?_
      refine pj_goto (pc := 33) (tgt := 72) dX29_holds_33 (by decide) ?_
      refine pj_zret (pc := 72) .boolean dX29_holds_72 rfl (by rfl) ?_
      refine ⟨?_, rfl⟩
      have e9 : cmX s9 (f1 wk so pe gr) (f2 wk so pe gr) = true := by simp [cmX, eq_true c24, c29] <;> exact Int32.not_le.mp (by assumption)
      rw [e9]
      rfl
theorem ph_castCond {g : GP} {own : String} {cc : ByteArray} {nL : Nat} {i : MI} {d C N pc : Nat} {ls : List (Nat × Value)} {rest : List Value} {μ : Mem} {Q : OC → Mem → Prop} {h q index : Nat} {t : Int32 → Int32 → Int32 → Int32 → Bool} (hT : (EcX g μ h).2 q t) (hlink : Cond.classLink own index "SettlerColony$Cond" ∈ lw_all) (hdg : decode cc pc = .ok (.checkcast index, 3)) (kk : PJ g own cc nL i d C N (pc + 3) ls (.ref q :: rest) μ Q) : PJ g own cc nL i d C N pc ls (.ref q :: rest) μ Q := by
  cases h with
  | zero => exact absurd hT (fun z => z)
  | succ h =>
    rcases hT with ⟨al, p, e, n, m, mc, fn, ts, hm, -⟩ | ⟨p, t1, hm, -⟩ | ⟨a, b, s, f1, f2, hm, -⟩
    · cases al
      · exact pj_castY ckX26 hlink q984 hdg hm kk
      · exact pj_castY ckX27 hlink q973 hdg hm kk
    · exact pj_castY ckX28 hlink q1006 hdg hm kk
    · exact pj_castY ckX29 hlink q995 hdg hm kk
set_option maxHeartbeats 600000 in
theorem k_X26_holds {g : GP} {μ : Mem} {d : Nat} {h q a : Nat} {wk so pe gr : Int32} (hd : h + 6 ≤ d) (ih : OfX g μ h ∧ HoX g μ h) (hk : μ a = some (askO wk so pe gr)) {p e n m : Nat} {mc : Int32} {fn : Nat → Option Nat} {ts : Nat → Int32 → Int32 → Int32 → Int32 → Bool} (hl : LstC g μ p e n m fn mc) (hn : n < 1000) (hts : ∀ j, j < n → ∃ r, fn j = some r ∧ (EcX g μ h).2 r (ts j)) (hm : μ q = some (.inr (28, [.ref p]))) : PM g yX26_holds (ws_ yX26_holds cX26_holds 3 (some .boolean)) d 0 0 [.ref q, .ref a] μ (rQ (some (.int (bI (anyN (fun j => ts j wk so pe gr) n)))) μ) := by
  refine PM.of (by decide +kernel) (Nat.le_of_ble_eq_true rfl) ?_
  refine PJ.ok (fun G => ?_)
  show PJ g _ _ _ _ d 0 0 0 [(0, .ref q), (1, .ref a)] [] _ _
  refine pl_iconst (pc := 0) (v := 0) dX26_holds_0 (by rfl) ?_
  refine pj_istore_n (pc := 1) (lv' := [(2, _), (0, _), (1, _)]) dX26_holds_1 rfl (by decide) rfl ?_
  refine PJ.sub [0, 2, 1] rfl ?_
  refine ind_dn (n := n) (P := fun i => anyN (fun j => ts j wk so pe gr) i = false → PJ g _ _ _ _ d 0 0 2 [(2, .int (nI i)), (1, .ref a), (0, .ref q)] [] μ _) (fun i hi ihl hv => ?_) 0 (Nat.zero_le _) rfl
  refine pl_iload_n (pc := 2) dX26_holds_2 rfl rfl ?_
  refine pl_aload_n (pc := 3) dX26_holds_3 rfl rfl ?_
  refine pj_getf (pc := 4) ckX26 0 q2166 dX26_holds_4 (by decide) hm rfl ?_
  refine pl_callVd (pc := 7) (As := []) (C1 := 0) (N1 := 0) (C2 := 0) (N2 := 0) ckJ2 mdJ2_size rfl q990 q948 q949 q129 dX26_holds_7 rfl rfl (Nat.le_of_ble_eq_true rfl) hl.1 (k_J2_size (d := d - 1) (by omega) hl) (by omega) (by omega) (by omega) ?_
  refine pl_icmp_ge (pc := 10) (tgt := 41) dX26_holds_10 (by decide) (by omega) (by omega) (fun c10 => ?_) (fun c10 => ?_)
  · refine pl_iconst (pc := 41) (v := 0) dX26_holds_41 (by rfl) ?_
    refine pj_zret (pc := 42) .boolean dX26_holds_42 rfl (by rfl) ?_
    have e8 : i = n := by omega
    subst e8
    refine ⟨?_, rfl⟩
    rw [hv]
    rfl
  · refine pl_aload_n (pc := 13) dX26_holds_13 rfl rfl ?_
    refine pj_getf (pc := 14) ckX26 0 q2166 dX26_holds_14 (by decide) hm rfl ?_
    refine pl_iload_n (pc := 17) dX26_holds_17 rfl rfl ?_
    obtain ⟨r9, e9, hT9⟩ := hts i (by omega)
    refine pl_callVd (pc := 18) (As := [_]) (C1 := 0) (N1 := 0) (C2 := 0) (N2 := 0) ckJ2 mdJ2_get rfl q991 q708 q709 q129 dX26_holds_18 rfl rfl (Nat.le_of_ble_eq_true rfl) hl.1 (k_J2_get (d := d - 1) (by omega) hl (j := i) (by omega) e9) (by omega) (by omega) (by omega) ?_
    refine ph_castCond (pc := 21) hT9 q992 dX26_holds_21 ?_
    refine pl_aload_n (pc := 24) dX26_holds_24 rfl rfl ?_
    refine ih.2 (pc := 25) hT9 hk (by omega) q994 dX26_holds_25 (Nat.le_of_ble_eq_true rfl) ?_
    refine pl_if_eqB (pc := 30) (tgt := 35) dX26_holds_30 (by decide) (fun c30 => ?_) (fun c30 => ?_)
    · refine pl_iinc1 (pc := 35) (lv' := [(2, _), (1, _), (0, _)]) dX26_holds_35 rfl rfl (by decide) rfl ?_
      refine pj_goto (pc := 38) (tgt := 2) dX26_holds_38 (by decide) ?_
      exact ihl (by omega) (anyN_up hv (by simp [c30]))
    · refine pl_iconst (pc := 33) (v := 1) dX26_holds_33 (by rfl) ?_
      refine pj_zret (pc := 34) .boolean dX26_holds_34 rfl (by rfl) ?_
      have e8 : anyN (fun j => ts j wk so pe gr) n = true := anyN_hit (i := i) (by omega) (by simp [c30])
      refine ⟨?_, rfl⟩
      rw [e8]
      rfl
set_option maxHeartbeats 600000 in
theorem k_X27_holds {g : GP} {μ : Mem} {d : Nat} {h q a : Nat} {wk so pe gr : Int32} (hd : h + 6 ≤ d) (ih : OfX g μ h ∧ HoX g μ h) (hk : μ a = some (askO wk so pe gr)) {p e n m : Nat} {mc : Int32} {fn : Nat → Option Nat} {ts : Nat → Int32 → Int32 → Int32 → Int32 → Bool} (hl : LstC g μ p e n m fn mc) (hn : n < 1000) (hts : ∀ j, j < n → ∃ r, fn j = some r ∧ (EcX g μ h).2 r (ts j)) (hm : μ q = some (.inr (29, [.ref p]))) : PM g yX27_holds (ws_ yX27_holds cX27_holds 3 (some .boolean)) d 0 0 [.ref q, .ref a] μ (rQ (some (.int (bI (!(anyN (fun j => !(ts j wk so pe gr)) n))))) μ) := by
  refine PM.of (by decide +kernel) (Nat.le_of_ble_eq_true rfl) ?_
  refine PJ.ok (fun G => ?_)
  show PJ g _ _ _ _ d 0 0 0 [(0, .ref q), (1, .ref a)] [] _ _
  refine pl_iconst (pc := 0) (v := 0) dX27_holds_0 (by rfl) ?_
  refine pj_istore_n (pc := 1) (lv' := [(2, _), (0, _), (1, _)]) dX27_holds_1 rfl (by decide) rfl ?_
  refine PJ.sub [0, 2, 1] rfl ?_
  refine ind_dn (n := n) (P := fun i => anyN (fun j => !(ts j wk so pe gr)) i = false → PJ g _ _ _ _ d 0 0 2 [(2, .int (nI i)), (1, .ref a), (0, .ref q)] [] μ _) (fun i hi ihl hv => ?_) 0 (Nat.zero_le _) rfl
  refine pl_iload_n (pc := 2) dX27_holds_2 rfl rfl ?_
  refine pl_aload_n (pc := 3) dX27_holds_3 rfl rfl ?_
  refine pj_getfS (pc := 4) ckX27 0 q2167 q2168 dX27_holds_4 (by decide) hm rfl ?_
  refine pl_callVd (pc := 7) (As := []) (C1 := 0) (N1 := 0) (C2 := 0) (N2 := 0) ckJ2 mdJ2_size rfl q979 q948 q949 q129 dX27_holds_7 rfl rfl (Nat.le_of_ble_eq_true rfl) hl.1 (k_J2_size (d := d - 1) (by omega) hl) (by omega) (by omega) (by omega) ?_
  refine pl_icmp_ge (pc := 10) (tgt := 41) dX27_holds_10 (by decide) (by omega) (by omega) (fun c10 => ?_) (fun c10 => ?_)
  · refine pl_iconst (pc := 41) (v := 1) dX27_holds_41 (by rfl) ?_
    refine pj_zret (pc := 42) .boolean dX27_holds_42 rfl (by rfl) ?_
    have e8 : i = n := by omega
    subst e8
    refine ⟨?_, rfl⟩
    rw [hv]
    rfl
  · refine pl_aload_n (pc := 13) dX27_holds_13 rfl rfl ?_
    refine pj_getfS (pc := 14) ckX27 0 q2167 q2168 dX27_holds_14 (by decide) hm rfl ?_
    refine pl_iload_n (pc := 17) dX27_holds_17 rfl rfl ?_
    obtain ⟨r9, e9, hT9⟩ := hts i (by omega)
    refine pl_callVd (pc := 18) (As := [_]) (C1 := 0) (N1 := 0) (C2 := 0) (N2 := 0) ckJ2 mdJ2_get rfl q980 q708 q709 q129 dX27_holds_18 rfl rfl (Nat.le_of_ble_eq_true rfl) hl.1 (k_J2_get (d := d - 1) (by omega) hl (j := i) (by omega) e9) (by omega) (by omega) (by omega) ?_
    refine ph_castCond (pc := 21) hT9 q981 dX27_holds_21 ?_
    refine pl_aload_n (pc := 24) dX27_holds_24 rfl rfl ?_
    refine ih.2 (pc := 25) hT9 hk (by omega) q983 dX27_holds_25 (Nat.le_of_ble_eq_true rfl) ?_
    refine pl_if_neB (pc := 30) (tgt := 35) dX27_holds_30 (by decide) (fun c30 => ?_) (fun c30 => ?_)
    · refine pl_iinc1 (pc := 35) (lv' := [(2, _), (1, _), (0, _)]) dX27_holds_35 rfl rfl (by decide) rfl ?_
      refine pj_goto (pc := 38) (tgt := 2) dX27_holds_38 (by decide) ?_
      exact ihl (by omega) (anyN_up hv (by simp [c30]))
    · refine pl_iconst (pc := 33) (v := 0) dX27_holds_33 (by rfl) ?_
      refine pj_zret (pc := 34) .boolean dX27_holds_34 rfl (by rfl) ?_
      have e8 : anyN (fun j => !(ts j wk so pe gr)) n = true := anyN_hit (i := i) (by omega) (by simp [c30])
      refine ⟨?_, rfl⟩
      rw [e8]
      rfl
set_option maxHeartbeats 600000 in
theorem k_X6_of {g : GP} {μ : Mem} {d : Nat} (hd : 1 ≤ d) {q : Nat} {f : Nat → Int32} {wk so pe gr : Int32} (h : μ q = some (akO f)) : PM g yX6_of (ws_ yX6_of cX6_of 5 (some (.object "SettlerColony$Ask"))) d 0 0 [.ref q, .int wk, .int so, .int pe, .int gr] μ (rQ (some (.ref q)) (mset μ q (askO wk so pe gr))) := by
  refine PM.of (by decide +kernel) (Nat.le_of_ble_eq_true rfl) ?_
  refine PJ.ok (fun G => ?_)
  show PJ g _ _ _ _ d 0 0 0 [(0, .ref q), (1, .int wk), (2, .int so), (3, .int pe), (4, .int gr)] [] _ _
  refine pl_aload_n (pc := 0) dX6_of_0 rfl rfl ?_
  refine pl_iload_n (pc := 1) dX6_of_1 rfl rfl ?_
  refine pj_putf (pc := 2) ckX6 0 q587 dX6_of_2 (by decide) rfl h rfl rfl (Nat.le_of_ble_eq_true rfl) ?_
  refine pl_aload_n (pc := 5) dX6_of_5 rfl rfl ?_
  refine pl_iload_n (pc := 6) dX6_of_6 rfl rfl ?_
  refine pj_putf (pc := 7) ckX6 1 q589 dX6_of_7 (by decide) rfl mset_s rfl rfl (Nat.le_of_ble_eq_true rfl) ?_
  refine PJ.conv rfl rfl mset_m ?_
  refine pl_aload_n (pc := 10) dX6_of_10 rfl rfl ?_
  refine pl_iload_n (pc := 11) dX6_of_11 rfl rfl ?_
  refine pj_putf (pc := 12) ckX6 2 q591 dX6_of_12 (by decide) rfl mset_s rfl rfl (Nat.le_of_ble_eq_true rfl) ?_
  refine PJ.conv rfl rfl mset_m ?_
  refine pl_aload_n (pc := 15) dX6_of_15 rfl rfl ?_
  refine pl_iload (pc := 16) dX6_of_16 rfl ?_
  refine pj_putf (pc := 18) ckX6 3 q593 dX6_of_18 (by decide) rfl mset_s rfl rfl (Nat.le_of_ble_eq_true rfl) ?_
  refine PJ.conv rfl rfl mset_m ?_
  refine pl_aload_n (pc := 21) dX6_of_21 rfl rfl ?_
  refine pj_aret (pc := 22) dX6_of_22 rfl (Or.inl ⟨_, rfl⟩) (Or.inr ⟨_, rfl⟩) ?_
  exact ⟨rfl, rfl⟩
theorem evX {g : GP} {μ : Mem} : ∀ h, OfX g μ h ∧ HoX g μ h
  | 0 => ⟨fun hE => absurd hE (fun z => z), fun hT => absurd hT (fun z => z)⟩
  | h + 1 => by
    have ih := evX (g := g) (μ := μ) h
    refine ⟨?_, ?_⟩
    · intro own cc nL i d C N pc ls rest Q q a index f wk so pe gr hE hk hd hl hdg hr kk
      rcases hE with ⟨n, hm, rfl⟩ | ⟨c, hm, hc, rfl⟩ | ⟨a1, b1, s, f1, f2, hm, hs, h1, h2, rfl⟩ | ⟨a1, b1, l, f1, f2, hm, h1, h2, rfl⟩ | ⟨a1, b1, c, f1, f2, t, hm, h1, h2, h3, rfl⟩
      · refine pl_callOd (As := [_]) (x := nmOf) (owner := "SettlerColony$Expr") (C1 := 0) (N1 := 0) (C2 := C) (N2 := N) ckX22 mdX22_of (lk_all hl) (lk_all q962) (dcl_t q961) (by decide) q1028 q1004 q171 hdg rfl rfl hr hm (k_X22_of (d := d - 1) (by omega) ih hk hm) (by omega) (by omega) (by omega) kk
      · refine pl_callOd (As := [_]) (x := nmOf) (owner := "SettlerColony$Expr") (C1 := 0) (N1 := 0) (C2 := C) (N2 := N) ckX23 mdX23_of (lk_all hl) (lk_all q962) (dcl_t q961) (by decide) q1027 q1002 q172 hdg rfl rfl hr hm (k_X23_of (d := d - 1) (by omega) ih hk hm) (by omega) (by omega) (by omega) kk
      · refine pl_callOd (As := [_]) (x := nmOf) (owner := "SettlerColony$Expr") (C1 := 0) (N1 := 0) (C2 := C) (N2 := N) ckX24 mdX24_of (lk_all hl) (lk_all q962) (dcl_t q961) (by decide) q1029 q964 q173 hdg rfl rfl hr hm (k_X24_of (d := d - 1) (by omega) ih hk h1 h2 hm) (by omega) (by omega) (by omega) kk
      · refine pl_callOd (As := [_]) (x := nmOf) (owner := "SettlerColony$Expr") (C1 := 0) (N1 := 0) (C2 := C) (N2 := N) ckX25 mdX24_of (lk_all hl) (lk_all q962) (dcl_t q961) (by decide) q963 q964 q173 hdg rfl rfl hr hm (k_X24_of_b (d := d - 1) (by omega) ih hk h1 h2 hm) (by omega) (by omega) (by omega) kk
      · refine pl_callOd (As := [_]) (x := nmOf) (owner := "SettlerColony$Expr") (C1 := 0) (N1 := 0) (C2 := C) (N2 := N) ckX30 mdX30_of (lk_all hl) (lk_all q962) (dcl_t q961) (by decide) q1026 q967 q179 hdg rfl rfl hr hm (k_X30_of (d := d - 1) (by omega) ih hk h1 h2 h3 hm) (by omega) (by omega) (by omega) kk
    · intro own cc nL i d C N pc ls rest Q q a index count t wk so pe gr hT hk hd hl hdg hr kk
      rcases hT with ⟨al, p, e, n, m, mc, fn, ts, hm, hL, hn, hts, rfl⟩ | ⟨p, t1, hm, h3, rfl⟩ | ⟨a1, b1, s, f1, f2, hm, hs, h1, h2, rfl⟩
      · cases al
        · refine pl_callFd (As := [_]) (x := nmHo) (C1 := 0) (N1 := 0) (C2 := C) (N2 := N) ckX26 mdX26_holds hl q985 q987 q175 q972 q971 q988 q986 q984 (by decide) hdg rfl rfl hr hm (k_X26_holds (d := d - 1) (by omega) ih hk hL hn hts hm) (by omega) (by omega) (by omega) kk
        · refine pl_callFd (As := [_]) (x := nmHo) (C1 := 0) (N1 := 0) (C2 := C) (N2 := N) ckX27 mdX27_holds hl q974 q976 q176 q972 q971 q977 q975 q973 (by decide) hdg rfl rfl hr hm (k_X27_holds (d := d - 1) (by omega) ih hk hL hn hts hm) (by omega) (by omega) (by omega) kk
      · refine pl_callFd (As := [_]) (x := nmHo) (C1 := 0) (N1 := 0) (C2 := C) (N2 := N) ckX28 mdX28_holds hl q1007 q1009 q177 q972 q971 q1010 q1008 q1006 (by decide) hdg rfl rfl hr hm (k_X28_holds (d := d - 1) (by omega) ih hk h3 hm) (by omega) (by omega) (by omega) kk
      · refine pl_callFd (As := [_]) (x := nmHo) (C1 := 0) (N1 := 0) (C2 := C) (N2 := N) ckX29 mdX29_holds hl q996 q998 q178 q972 q971 q999 q997 q995 (by decide) hdg rfl rfl hr hm (k_X29_holds (d := d - 1) (by omega) ih hk h1 h2 hm) (by omega) (by omega) (by omega) kk
