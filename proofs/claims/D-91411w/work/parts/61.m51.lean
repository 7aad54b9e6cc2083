set_option maxRecDepth 100000
set_option maxHeartbeats 400000 in
theorem b_X9_law {g : GP} {μ : Mem} {d : Nat} (hd : 2 ≤ d) {ad : Nat → Nat} {σ : MS} (hA : Inj ad 18) {n : Int32} (hn : n < 0 ∨ ¬ n ≤ σ.1 9) : PM g yX9_law (ws_ yX9_law cX9_law 3 (some .int)) d 0 0 [.ref (ad 0), .int n] (mm g ad μ σ) (rQ (some (.int (nI 0))) (mm g ad μ (th σ 1))) := by
  refine PM.of (by decide +kernel) (Nat.le_of_ble_eq_true rfl) ?_
  refine PJ.ok (fun G => ?_)
  show PJ g _ _ _ _ d 0 0 0 [(0, .ref (ad 0)), (1, .int n)] [] _ _
  refine pl_aload_n (pc := 0) dX9_law_0 rfl rfl ?_
  refine pl_iconst (pc := 1) (v := 0) dX9_law_1 (by rfl) ?_
  refine pm_putI (pc := 2) 0 hA q2516 dX9_law_2 (by decide) rfl (by rfl) (by rfl) rfl ?_
  refine pl_aload_n (pc := 5) dX9_law_5 rfl rfl ?_
  refine pl_iload_n (pc := 6) dX9_law_6 rfl rfl ?_
  refine pj_if_lt (pc := 7) (tgt := 18) dX9_law_7 (by decide) (fun c7 => ?_) (fun c7 => ?_)
  · refine pl_iconst (pc := 18) (v := 1) dX9_law_18 (by rfl) ?_
    refine pj_goto (pc := 19) (tgt := 23) dX9_law_19 (by decide) ?_
    refine pl_iconst (pc := 23) (v := 1) dX9_law_23 (by rfl) ?_
    refine pl_callVd (pc := 24) (As := [_, _]) (C2 := 0) (N2 := 0) ckX9 mdX9_bad rfl q2631 q2633 qs50 q154 dX9_law_24 rfl rfl (Nat.le_of_ble_eq_true rfl) (mm_o hA) (w_bad_1 (d := d - 1) (by omega) hA) (by omega) (by decide) (by decide) ?_
    refine pj_if_eq (pc := 27) (tgt := 32) dX9_law_27 (by decide) (fun h => absurd h (by decide)) (fun _ => ?_)
    refine pl_iconst (pc := 30) (v := 0) dX9_law_30 (by rfl) ?_
    refine pj_iret (pc := 31) dX9_law_31 rfl ?_
    exact ⟨rfl, rfl⟩
  · refine pl_iload_n (pc := 10) dX9_law_10 rfl rfl ?_
    refine pl_aload_n (pc := 11) dX9_law_11 rfl rfl ?_
    refine pj_getf (pc := 12) ckX9 9 q2525 dX9_law_12 (by decide) (mm_o hA) rfl ?_
    refine pj_icmp_le (pc := 15) (tgt := 22) dX9_law_15 (by decide) (fun c15 => ?_) (fun c15 => ?_)
    · exact absurd hn (fun z => z.elim (fun z => c7 z) (fun z => z c15))
    · refine pl_iconst (pc := 18) (v := 1) dX9_law_18 (by rfl) ?_
      refine pj_goto (pc := 19) (tgt := 23) dX9_law_19 (by decide) ?_
      refine pl_iconst (pc := 23) (v := 1) dX9_law_23 (by rfl) ?_
      refine pl_callVd (pc := 24) (As := [_, _]) (C2 := 0) (N2 := 0) ckX9 mdX9_bad rfl q2631 q2633 qs50 q154 dX9_law_24 rfl rfl (Nat.le_of_ble_eq_true rfl) (mm_o hA) (w_bad_1 (d := d - 1) (by omega) hA) (by omega) (by decide) (by decide) ?_
      refine pj_if_eq (pc := 27) (tgt := 32) dX9_law_27 (by decide) (fun h => absurd h (by decide)) (fun _ => ?_)
      refine pl_iconst (pc := 30) (v := 0) dX9_law_30 (by rfl) ?_
      refine pj_iret (pc := 31) dX9_law_31 rfl ?_
      exact ⟨rfl, rfl⟩
set_option maxHeartbeats 400000 in
theorem f_X9_law {g : GP} {μ : Mem} {d : Nat} (hd : 2 ≤ d) {ad : Nat → Nat} {σ : MS} (hA : Inj ad 18) {n t : Nat} (ht : σ.1 9 = nI t) (ht3 : t ≤ 300) (hnt : n ≤ t) (hl : row σ 2125 = nI 12) : PM g yX9_law (ws_ yX9_law cX9_law 3 (some .int)) d 0 0 [.ref (ad 0), .int (nI n)] (mm g ad μ σ) (rQ (some (.int (-1))) (mm g ad μ (sF (sF (s0 σ) 10 (nI n)) 9 (nI 0)))) := by
  refine PM.of (by decide +kernel) (Nat.le_of_ble_eq_true rfl) ?_
  refine PJ.ok (fun G => ?_)
  show PJ g _ _ _ _ d 0 0 0 [(0, .ref (ad 0)), (1, .int (nI n))] [] _ _
  refine pl_aload_n (pc := 0) dX9_law_0 rfl rfl ?_
  refine pl_iconst (pc := 1) (v := 0) dX9_law_1 (by rfl) ?_
  refine pm_putI (pc := 2) 0 hA q2516 dX9_law_2 (by decide) rfl (by rfl) (by rfl) rfl ?_
  refine pl_aload_n (pc := 5) dX9_law_5 rfl rfl ?_
  refine pl_iload_n (pc := 6) dX9_law_6 rfl rfl ?_
  refine pl_if_ltN (pc := 7) dX9_law_7 ⟨18, by decide⟩ (by omega) ?_
  refine pl_iload_n (pc := 10) dX9_law_10 rfl rfl ?_
  refine pl_aload_n (pc := 11) dX9_law_11 rfl rfl ?_
  refine pj_getf (pc := 12) ckX9 9 q2525 dX9_law_12 (by decide) (mm_o hA) rfl ?_
  refine PJ.top (y := nI _) (ht) ?_
  refine pl_icmp_le (pc := 15) (tgt := 22) dX9_law_15 (by decide) (by omega) (by omega) (fun c15 => ?_) (fun c15 => ?_)
  · refine pl_iconst (pc := 22) (v := 0) dX9_law_22 (by rfl) ?_
    refine pl_iconst (pc := 23) (v := 1) dX9_law_23 (by rfl) ?_
    refine pl_callVd (pc := 24) (As := [_, _]) (C2 := 0) (N2 := 0) ckX9 mdX9_bad rfl q2631 q2633 qs50 q154 dX9_law_24 rfl rfl (Nat.le_of_ble_eq_true rfl) (mm_o hA) (w_bad_0 (d := d - 1) (by omega) hA) (by omega) (by decide) (by decide) ?_
    refine pj_if_eq (pc := 27) (tgt := 32) dX9_law_27 (by decide) (fun _ => ?_) (fun h => absurd h (by decide))
    refine pl_aload_n (pc := 32) dX9_law_32 rfl rfl ?_
    refine pl_iload_n (pc := 33) dX9_law_33 rfl rfl ?_
    refine pm_putI (pc := 34) 10 hA q2526 dX9_law_34 (by decide) rfl (by rfl) (by rfl) rfl ?_
    refine pl_aload_n (pc := 37) dX9_law_37 rfl rfl ?_
    refine pl_iconst (pc := 38) (v := 0) dX9_law_38 (by rfl) ?_
    refine pm_putI (pc := 39) 9 hA q2525 dX9_law_39 (by decide) rfl (by rfl) (by rfl) rfl ?_
    refine pl_aload_n (pc := 42) dX9_law_42 rfl rfl ?_
    refine pj_getf (pc := 43) ckX9 1 q2517 dX9_law_43 (by decide) (mm_o hA) rfl ?_
    refine pl_sipush (pc := 46) (v := 2125) dX9_law_46 (by rfl) ?_
    refine pl_iald (pc := 49) (n := 2132) dX9_law_49 (mm_a hA 1 (by decide) (by decide)) (by decide) (by decide) ?_
    refine PJ.top (y := nI _) (hl) ?_
    refine pl_bipush (pc := 50) (v := 12) dX9_law_50 (by rfl) ?_
    refine pj_icmp_ne (pc := 52) (tgt := 57) dX9_law_52 (by decide) (fun h => absurd h (by decide)) (fun _ => ?_)
    refine pj_iconst (pc := 55) (v := (-1)) dX9_law_55 (by rfl) ?_
    refine pj_iret (pc := 56) dX9_law_56 rfl ?_
    exact ⟨rfl, rfl⟩
  · exact absurd c15 (by omega)
theorem mput_ext {ad ad' : Nat → Nat} {cel cel' : Nat → va_E} {μ : Mem} : ∀ {n : Nat}, (∀ k, k < n → ad k = ad' k ∧ cel k = cel' k) → mput ad cel n μ = mput ad' cel' n μ
  | 0, _ => rfl
  | n + 1, h => by
    unfold mput
    rw [(h n (Nat.lt_succ_self n)).1, (h n (Nat.lt_succ_self n)).2, mput_ext (fun k hk => h k (by omega))]
def kcel (g : GP) (fs : List Value) : Nat → va_E
  | 0 => .inr (36, fs)
  | k + 1 => .inl (gA g (mtyp (k + 1)), mlen (k + 1), .inl (fun _ => 0))
def qad (qs : List Nat) (j : Nat) : Nat := qs.getD j 0
def KM (g : GP) (μ : Mem) (qs : List Nat) (fs : List Value) : Mem := mput (qad qs) (kcel g fs) qs.length μ
def KOk (g : GP) (μ : Mem) (qs : List Nat) : Prop := Inj (qad qs) qs.length ∧ ∀ i, 0 < i → i < qs.length → μ (qad qs i) = none ∧ gF g (qad qs i)
theorem qad_l {qs : List Nat} {q j : Nat} (h : j < qs.length) : qad (qs ++ [q]) j = qad qs j := by
  unfold qad
  simp only [List.getD]
  rw [List.getElem?_append_left h]
theorem qad_r {qs : List Nat} {q : Nat} : qad (qs ++ [q]) qs.length = q := by
  unfold qad
  simp [List.getD]
theorem KM_push {g : GP} {μ : Mem} {qs : List Nat} {q : Nat} {fs : List Value} (h0 : 0 < qs.length) : mset (KM g μ qs fs) q (.inl (gA g (mtyp qs.length), mlen qs.length, .inl (fun _ => 0))) = KM g μ (qs ++ [q]) fs := by
  unfold KM
  rw [show (qs ++ [q]).length = qs.length + 1 by simp]
  show _ = mset (mput (qad (qs ++ [q])) (kcel g fs) qs.length μ) (qad (qs ++ [q]) qs.length) (kcel g fs qs.length)
  rw [qad_r, mput_ext (ad' := qad qs) (cel' := kcel g fs) (fun k hk => ⟨qad_l hk, rfl⟩)]
  congr 1
  cases h : qs.length with
  | zero => omega
  | succ k => rfl
theorem KOk.push {g : GP} {μ : Mem} {qs : List Nat} {q : Nat} {fs : List Value} (h : KOk g μ qs) (hq : KM g μ qs fs q = none) (gq : gF g q) : KOk g μ (qs ++ [q]) := by
  have hne : ∀ k, k < qs.length → q ≠ qad qs k := by
    intro k hk e
    rw [e] at hq
    unfold KM at hq
    rw [mput_get h.1 hk] at hq
    cases hq
  have hμ : μ q = none := by
    rw [← hq]
    exact (mput_off hne).symm
  have hlen : (qs ++ [q]).length = qs.length + 1 := by simp
  refine ⟨fun i j hi hj e => ?_, fun i hi h1 => ?_⟩
  · rw [hlen] at hi hj
    rcases Nat.lt_or_ge i qs.length with a | a
    · rcases Nat.lt_or_ge j qs.length with b | b
      · rw [qad_l a, qad_l b] at e
        exact h.1 i j a b e
      · have : j = qs.length := by omega
        subst this
        rw [qad_l a, qad_r] at e
        exact absurd e.symm (hne i a)
    · have hi2 : i = qs.length := by omega
      subst hi2
      rcases Nat.lt_or_ge j qs.length with b | b
      · rw [qad_l b, qad_r] at e
        exact absurd e (hne j b)
      · omega
  · rw [hlen] at h1
    rcases Nat.lt_or_ge i qs.length with a | a
    · rw [qad_l a]; exact h.2 i hi a
    · have hi2 : i = qs.length := by omega
      subst hi2
      rw [qad_r]
      exact ⟨hμ, gq⟩
section KR
variable {g : GP} {own : String} {cc : ByteArray} {nL : Nat} {i : MI} {d C N pc : Nat} {ls : List (Nat × Value)} {rest : List Value} {μ : Mem} {Q : OC → Mem → Prop}
theorem ki_new {qs : List Nat} (qs1 : Nat → List Nat) {fs : List Value} {atype : ArrayType} {ty : FieldType} {k : Nat} (t0 n C1 N1 : Nat) (hK : KOk g μ qs) (hqs : qs.length = k + 1) (hq1 : ∀ q, qs ++ [q] = qs1 q) (hdg : decode cc pc = .ok (.newarray atype, 2)) (harr : Cond.arrayClass (newarray.typeOf atype) ∈ lw_all) (hty : newarray.typeOf atype = ty) (ht : (tysG g)[t0]? = some (gA g t0, ty)) (htm : mtyp (k + 1) = t0) (hlm : mlen (k + 1) = n) (ha : ∀ cA : ClassId, vp_cell cA (n, .inl (fun _ => 0)) = arrV cA n (fun _ => defaultValue ty)) (hn : n < 100000) (hb9 : n * componentBytes ty ≤ 536870912) (hC : C1 + 1 ≤ C) (hN : N1 + n ≤ N) (kk : ∀ q : Nat, KOk g μ (qs1 q) → PJ g own cc nL i d C1 N1 (pc + 2) ls (.ref q :: rest) (KM g μ (qs1 q) fs) Q) : PJ g own cc nL i d C N pc ls (.int (nI n) :: rest) (KM g μ qs fs) Q := by
  refine pj_newa (a0 := (n, .inl (fun _ => 0))) hdg harr hty ht ha (Int32.not_lt.mpr (nI_pos' (by omega))) (nI_clamp (by omega)) hb9 hC hN (fun q hq gq => ?_)
  have e := KM_push (g := g) (μ := μ) (qs := qs) (q := q) (fs := fs) (by omega)
  rw [hqs, htm, hlm] at e
  rw [e, hq1]
  exact kk q (by rw [← hq1]; exact hK.push hq gq)
theorem KM_put {qs : List Nat} {fs fs1 : List Value} {a : Nat} (hK : KOk g μ qs) (h0 : 0 < qs.length) (ha : qad qs 0 = a) : KM g μ qs fs a = some (.inr (36, fs)) ∧ mset (KM g μ qs fs) a (.inr (36, fs1)) = KM g μ qs fs1 := by
  subst ha
  refine ⟨mput_get hK.1 h0, ?_⟩
  unfold KM
  rw [mput_set hK.1 h0]
  refine mput_cong (fun k hk => ?_)
  cases k with
  | zero => rfl
  | succ k => rfl
theorem ki_putF {index a : Nat} {v : Value} {qs : List Nat} {fs : List Value} (k : Nat) (fs1 : List Value) (hK : KOk g μ qs) (h0 : 0 < qs.length) (ha : qad qs 0 = a) (hlink : Cond.fieldLink own index (TX9 k).1 (TX9 k).2.1 (TX9 k).2.2.1 ∈ lw_all) (hdg : decode cc pc = .ok (.putfield index, 3)) (hk : k < 34) (hfin : (TX9 k).2.2.2 = true) (hin2 : i.2.1 = "<init>") (hdecl : (TX9 k).1 = own) (hn : narrow (tyX9 k) v = v) (hfit : fits (tyX9 k) v = true) (hl : k < fs.length) (hs : fs.set k v = fs1) (kk : PJ g own cc nL i d C N (pc + 3) ls rest (KM g μ qs fs1) Q) : PJ g own cc nL i d C N pc ls (v :: .ref a :: rest) (KM g μ qs fs) Q := by
  refine pj_putfF ckX9 k hlink hdg hk hfin hin2 hdecl (KM_put (fs1 := fs1) hK h0 ha).1 hn hfit hl ?_
  rw [hs, (KM_put (fs1 := fs1) hK h0 ha).2]
  exact kk
theorem ki_put {index a : Nat} {v : Value} {qs : List Nat} {fs : List Value} (k : Nat) (fs1 : List Value) (hK : KOk g μ qs) (h0 : 0 < qs.length) (ha : qad qs 0 = a) (hlink : Cond.fieldLink own index (TX9 k).1 (TX9 k).2.1 (TX9 k).2.2.1 ∈ lw_all) (hdg : decode cc pc = .ok (.putfield index, 3)) (hk : k < 34) (hfin : (TX9 k).2.2.2 = false) (hn : narrow (tyX9 k) v = v) (hfit : fits (tyX9 k) v = true) (hl : k < fs.length) (hs : fs.set k v = fs1) (kk : PJ g own cc nL i d C N (pc + 3) ls rest (KM g μ qs fs1) Q) : PJ g own cc nL i d C N pc ls (v :: .ref a :: rest) (KM g μ qs fs) Q := by
  refine pj_putf ckX9 k hlink hdg hk hfin (KM_put (fs1 := fs1) hK h0 ha).1 hn hfit hl ?_
  rw [hs, (KM_put (fs1 := fs1) hK h0 ha).2]
  exact kk
end KR
def zF : Nat → Int32
  | 7 => -1 | 13 => -1 | 24 => -1 | _ => 0
/-- the model's numbers while its constructor runs: a sections, t: the stores, b acres, c codes -/
def iniS (a b c t : Nat) : MS := (zF, fun k j => if k = 3 then (if j < a then nI 5 else 0) else if k = 1 then (if j < 8 * a ∧ (j % 8 = 1 ∨ j % 8 = 5 ∨ j % 8 = 6) then -1 else if t = 1 ∧ j = 2117 then nI 500 else if t = 1 ∧ j = 2118 then nI 200 else if 2080 ≤ j ∧ j < 2080 + b then -1 else 0) else if k = 10 then (if j < c then -1 else 0) else 0, fun _ => 0)
theorem MS_ext {σ σ1 : MS} (h1 : σ.1 = σ1.1) (h2 : ∀ k j, σ.2.1 k j = σ1.2.1 k j) (h3 : σ.2.2 = σ1.2.2) : σ = σ1 := by
  obtain ⟨a, b, c⟩ := σ
  obtain ⟨a1, b1, c1⟩ := σ1
  have : b = b1 := funext fun k => funext fun j => h2 k j
  simp only at h1 h3
  subst h1 this h3
  rfl
theorem wA_at {σ : MS} {a b k j : Nat} {v : Int32} : (wA σ a b v).2.1 k j = if k = a ∧ j = b then v else σ.2.1 k j := by
  show (if k = a then upd (σ.2.1 a) b v else σ.2.1 k) j = _
  by_cases h : k = a
  · subst h
    rw [if_pos rfl]
    unfold upd
    by_cases h2 : j = b
    · rw [if_pos h2, if_pos ⟨rfl, h2⟩]
    · rw [if_neg h2, if_neg (fun z => h2 z.2)]
  · rw [if_neg h, if_neg (fun z => h z.1)]
def iniR (a b t j : Nat) : Int32 := if j < 8 * a ∧ (j % 8 = 1 ∨ j % 8 = 5 ∨ j % 8 = 6) then -1 else if t = 1 ∧ j = 2117 then nI 500 else if t = 1 ∧ j = 2118 then nI 200 else if 2080 ≤ j ∧ j < 2080 + b then -1 else 0
theorem ini_1 {a b c j t : Nat} : (iniS a b c t).2.1 1 j = iniR a b t j := rfl
theorem ini_3 {a b c j t : Nat} : (iniS a b c t).2.1 3 j = if j < a then nI 5 else 0 := rfl
theorem ini_10 {a b c j t : Nat} : (iniS a b c t).2.1 10 j = if j < c then -1 else 0 := rfl
theorem ini_e {a b c k j t : Nat} (h1 : k ≠ 1) (h3 : k ≠ 3) (h10 : k ≠ 10) : (iniS a b c t).2.1 k j = 0 := by
  simp only [iniS]
  rw [if_neg h3, if_neg h1, if_neg h10]
theorem ini_sec (i : Nat) : wA (wA (wA (wA (iniS i 0 0 0) 3 i (nI 5)) 1 (8 * i + 1) (-1)) 1 (8 * i + 5) (-1)) 1 (8 * i + 6) (-1) = iniS (i + 1) 0 0 0 := by
  refine MS_ext rfl (fun k j => ?_) rfl
  rw [wA_at, wA_at, wA_at, wA_at]
  by_cases h3 : k = 3
  · subst h3
    rw [if_neg (by omega), if_neg (by omega), if_neg (by omega), ini_3, ini_3]
    by_cases h : j = i
    · rw [if_pos ⟨rfl, h⟩, if_pos (by omega)]
    · rw [if_neg (by omega)]
      by_cases h2 : j < i
      · rw [if_pos h2, if_pos (by omega)]
      · rw [if_neg h2, if_neg (by omega)]
  · by_cases h1 : k = 1
    · subst h1
      rw [ini_1, ini_1]
      unfold iniR
      (repeat' split) <;> first | rfl | omega
    · rw [if_neg (by omega), if_neg (by omega), if_neg (by omega), if_neg (by omega)]
      by_cases h10 : k = 10
      · subst h10; rw [ini_10, ini_10]
      · rw [ini_e h1 h3 h10, ini_e h1 h3 h10]
theorem ini_two : wA (wA (iniS 96 0 0 0) 1 2117 (nI 500)) 1 2118 (nI 200) = iniS 96 0 0 1 := by
  refine MS_ext rfl (fun k j => ?_) rfl
  rw [wA_at, wA_at]
  by_cases h1 : k = 1
  · subst h1
    rw [ini_1, ini_1]
    unfold iniR
    (repeat' split) <;> first | rfl | omega
  · rw [if_neg (by omega), if_neg (by omega)]
    by_cases h3 : k = 3
    · subst h3; rw [ini_3, ini_3]
    · by_cases h10 : k = 10
      · subst h10; rw [ini_10, ini_10]
      · rw [ini_e h1 h3 h10, ini_e h1 h3 h10]
theorem ini_acre (i : Nat) : wA (iniS 96 i 0 1) 1 (2080 + i) (-1) = iniS 96 (i + 1) 0 1 ∨ 12 ≤ i := by
  rcases Nat.lt_or_ge i 12 with hi | hi
  · refine Or.inl (MS_ext rfl (fun k j => ?_) rfl)
    rw [wA_at]
    by_cases h1 : k = 1
    · subst h1
      rw [ini_1, ini_1]
      unfold iniR
      (repeat' split) <;> first | rfl | omega
    · rw [if_neg (by omega)]
      by_cases h3 : k = 3
      · subst h3; rw [ini_3, ini_3]
      · by_cases h10 : k = 10
        · subst h10; rw [ini_10, ini_10]
        · rw [ini_e h1 h3 h10, ini_e h1 h3 h10]
  · exact Or.inr hi
theorem ini_code (i : Nat) : wA (iniS 96 12 i 1) 10 i (-1) = iniS 96 12 (i + 1) 1 := by
  refine MS_ext rfl (fun k j => ?_) rfl
  rw [wA_at]
  by_cases h10 : k = 10
  · subst h10
    rw [ini_10, ini_10]
    by_cases a1 : j = i
    · rw [if_pos ⟨rfl, a1⟩, if_pos (by omega)]
    · rw [if_neg (by omega)]
      by_cases a2 : j < i
      · rw [if_pos a2, if_pos (by omega)]
      · rw [if_neg a2, if_neg (by omega)]
  · rw [if_neg (by omega)]
    by_cases h1 : k = 1
    · subst h1; rw [ini_1, ini_1]
    · by_cases h3 : k = 3
      · subst h3; rw [ini_3, ini_3]
      · rw [ini_e h1 h3 h10, ini_e h1 h3 h10]
theorem KM_mm {g : GP} {μ : Mem} {qs : List Nat} {fs : List Value} (hl : qs.length = 18) (hfs : fs = mfs (qad qs) (iniS 0 0 0 0)) : KM g μ qs fs = mm g (qad qs) μ (iniS 0 0 0 0) := by
  unfold KM mm
  rw [hl]
  refine mput_cong (fun k hk => ?_)
  cases k with
  | zero => rw [hfs]; rfl
  | succ k =>
    have e : (iniS 0 0 0 0).2.1 (k + 1) = fun _ => 0 := by
      funext j
      simp only [iniS]
      repeat' split
      all_goals first | rfl | omega | (rename_i h; exact absurd h.1 (by decide))
    show (.inl (gA g (mtyp (k + 1)), mlen (k + 1), .inl (fun _ => 0)) : va_E) = .inl (gA g (mtyp (k + 1)), mlen (k + 1), .inl ((iniS 0 0 0 0).2.1 (k + 1)))
    rw [e]
