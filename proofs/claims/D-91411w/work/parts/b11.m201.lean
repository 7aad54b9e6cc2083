set_option maxRecDepth 100000
section LI
variable {g : GP} {own : String} {cc : ByteArray} {nL : Nat} {i : MI} {d C N pc : Nat} {ls : List (Nat × Value)} {rest : List Value} {μ : Mem} {Q : OC → Mem → Prop}
theorem pl_lswI {x : Int32} (K : Int32) (z : Int) {dflt : Int} {ps : Array (Int × Int)} {len : Nat} {off : Int} {tgt : Nat} (hdg : decode cc pc = .ok (.lookupswitch dflt ps, len)) (hz : K.toInt = z) (hp : (ps.toList.zip (ps.toList.drop 1)).all (fun (a, next) => a.1 < next.1) = true) (ho : Op.lookupswitch.offset ps.toList dflt z = off) (ht : (pc : Int) + off = (tgt : Int)) (kt : x = K → PJ g own cc nL i d C N tgt ls rest μ Q) (kf : ¬ x = K → PJ g own cc nL i d C N pc ls (.int x :: rest) μ Q) : PJ g own cc nL i d C N pc ls (.int x :: rest) μ Q := by
  by_cases hx : x = K
  · subst hx
    exact pj_lookup hdg hp (by rw [hz]; exact ho) ht (kt rfl)
  · exact kf hx
end LI
theorem word_is {f : Nat → Int32} {B : Nat → Nat} {Q : Nat} {bs : List Nat} (hf : ∀ i, i < wlen B Q → f i = nI (B (Q + i))) (hB : ∀ k, B k < 256) (hbs : ∀ x ∈ bs, isLt x = true) (hl : bs.length < 8) (h : isW B Q bs = true) : wlen B Q = bs.length ∧ ∀ i, i < bs.length → f i = nI (bs.getD i 0) := by
  have h1 := (eqW_isW hf hB hbs hl).trans h
  unfold eqW at h1
  rw [Bool.and_eq_true, decide_eq_true_eq, Bool.not_eq_true', anyN_ff] at h1
  refine ⟨h1.1, fun i hi => ?_⟩
  have h2 := h1.2 i (by omega)
  rw [Bool.not_eq_false', decide_eq_true_eq] at h2
  exact h2
theorem hs_cg {f f1 : Nat → Int32} : ∀ n, (∀ i, i < n → f i = f1 i) → hsF f n = hsF f1 n
  | 0, _ => rfl
  | n + 1, h => by
    show nI 31 * hsF f n + (f n &&& nI 255) = nI 31 * hsF f1 n + (f1 n &&& nI 255)
    rw [hs_cg n (fun i hi => h i (by omega)), h n (by omega)]
def litF (bs : List Nat) (i : Nat) : Int32 := nI (bs.getD i 0)
theorem hs_word {f : Nat → Int32} {B : Nat → Nat} {Q : Nat} {bs : List Nat} (hf : ∀ i, i < wlen B Q → f i = nI (B (Q + i))) (hB : ∀ k, B k < 256) (hbs : ∀ x ∈ bs, isLt x = true) (hl : bs.length < 8) (h : isW B Q bs = true) : hsF f (wlen B Q) = hsF (litF bs) bs.length := by
  obtain ⟨e1, e2⟩ := word_is hf hB hbs hl h
  rw [e1]
  exact hs_cg _ e2
theorem firstW_at {B : Nat → Nat} {w : Nat → List Nat} {q k : Nat} (h : isW B q (w k) = true) : ∀ m k0, k0 ≤ k → k < k0 + m → (∀ j, j < k0 + m → isW B q (w j) = true → j = k) → firstW B w q m k0 = some k
  | 0, k0, h1, h2, _ => by omega
  | m + 1, k0, h1, h2, h3 => by
    simp only [firstW]
    by_cases c : isW B q (w k0) = true
    · rw [if_pos c, h3 k0 (by omega) c]
    · rw [if_neg c]
      have : k0 ≠ k := fun z => c (z ▸ h)
      exact firstW_at h m (k0 + 1) (by omega) (by omega) (fun j hj => h3 j (by omega))
theorem firstW_no {B : Nat → Nat} {w : Nat → List Nat} {q : Nat} : ∀ m k0, (∀ j, j < k0 + m → ¬ isW B q (w j) = true) → firstW B w q m k0 = none
  | 0, k0, _ => rfl
  | m + 1, k0, h => by
    simp only [firstW]
    rw [if_neg (h k0 (by omega))]
    exact firstW_no m (k0 + 1) (fun j hj => h j (by omega))
/-- the hashes of a law's names -/
def nameK : Nat → Int32
  | 0 => nI 106934601 | 1 => nI 109400031 | 2 => nI 3641640 | 3 => nI 113291 | 4 => nI 3143098 | 5 => nI 112397001 | 6 => -1361224287 | _ => nI 109686858
theorem nameK_h : ∀ k, k < 8 → hsF (litF (nameW k)) (nameW k).length = nameK k := by decide +kernel
theorem nameK_i : ∀ j, j < 8 → ∀ k, k < 8 → nameK j = nameK k → j = k := by decide +kernel
theorem nameW_l : ∀ k, k < 8 → (∀ x ∈ nameW k, isLt x = true) ∧ (nameW k).length < 8 := by decide +kernel
/-- the words of an expression's unit -/
def unitW : Nat → List Nat
  | 5 => wLeast | 6 => wMost | 7 => wIf | k => toldW k
def unitK : Nat → Int32
  | 0 => nI 3645428 | 1 => nI 3704893 | 2 => nI 3536084 | 3 => -991808881 | 4 => nI 3535999 | 5 => nI 102846057 | 6 => nI 3357571 | _ => nI 3357
theorem unitK_h : ∀ k, k < 8 → hsF (litF (unitW k)) (unitW k).length = unitK k := by decide +kernel
theorem unitK_i : ∀ j, j < 8 → ∀ k, k < 8 → unitK j = unitK k → j = k := by decide +kernel
theorem unitW_l : ∀ k, k < 8 → (∀ x ∈ unitW k, isLt x = true) ∧ (unitW k).length < 8 := by decide +kernel
section WW
variable {f : Nat → Int32} {B : Nat → Nat} {Q : Nat}
theorem name_hash (hf : ∀ i, i < wlen B Q → f i = nI (B (Q + i))) (hB : ∀ k, B k < 256) {k : Nat} (hk : k < 8) (h : isW B Q (nameW k) = true) : hsF f (wlen B Q) = nameK k := (hs_word hf hB (nameW_l k hk).1 (nameW_l k hk).2 h).trans (nameK_h k hk)
theorem name_one (hf : ∀ i, i < wlen B Q → f i = nI (B (Q + i))) (hB : ∀ k, B k < 256) {j k : Nat} (hj : j < 8) (hk : k < 8) (h1 : isW B Q (nameW j) = true) (h2 : isW B Q (nameW k) = true) : j = k := nameK_i j hj k hk ((name_hash hf hB hj h1).symm.trans (name_hash hf hB hk h2))
theorem unit_hash (hf : ∀ i, i < wlen B Q → f i = nI (B (Q + i))) (hB : ∀ k, B k < 256) {k : Nat} (hk : k < 8) (h : isW B Q (unitW k) = true) : hsF f (wlen B Q) = unitK k := (hs_word hf hB (unitW_l k hk).1 (unitW_l k hk).2 h).trans (unitK_h k hk)
theorem unit_one (hf : ∀ i, i < wlen B Q → f i = nI (B (Q + i))) (hB : ∀ k, B k < 256) {j k : Nat} (hj : j < 8) (hk : k < 8) (h1 : isW B Q (unitW j) = true) (h2 : isW B Q (unitW k) = true) : j = k := unitK_i j hj k hk ((unit_hash hf hB hj h1).symm.trans (unit_hash hf hB hk h2))
theorem name_at (hf : ∀ i, i < wlen B Q → f i = nI (B (Q + i))) (hB : ∀ k, B k < 256) {k : Nat} (hk : k < 8) (h : isW B Q (nameW k) = true) : firstW B nameW Q 8 0 = some k := firstW_at h 8 0 (by omega) (by omega) (fun j hj hj2 => name_one hf hB (by omega) hk hj2 h)
/-- the hash is one name's, but it is not that name -/
theorem name_non (hf : ∀ i, i < wlen B Q → f i = nI (B (Q + i))) (hB : ∀ k, B k < 256) {k : Nat} (hk : k < 8) (hh : hsF f (wlen B Q) = nameK k) (h : ¬ isW B Q (nameW k) = true) : firstW B nameW Q 8 0 = none := firstW_no 8 0 (fun j hj hj2 => by
  have e := nameK_i j (by omega) k hk ((name_hash hf hB (by omega) hj2).symm.trans hh)
  exact h (e ▸ hj2))
theorem name_no (hf : ∀ i, i < wlen B Q → f i = nI (B (Q + i))) (hB : ∀ k, B k < 256) (h : ∀ k, k < 8 → ¬ hsF f (wlen B Q) = nameK k) : firstW B nameW Q 8 0 = none := firstW_no 8 0 (fun j hj hj2 => h j (by omega) (name_hash hf hB (by omega) hj2))
theorem unit_non (hf : ∀ i, i < wlen B Q → f i = nI (B (Q + i))) (hB : ∀ k, B k < 256) {k : Nat} (hk : k < 8) (hh : hsF f (wlen B Q) = unitK k) (h : ¬ isW B Q (unitW k) = true) : ∀ j, j < 8 → ¬ isW B Q (unitW j) = true := fun j hj hj2 => by
  have e := unitK_i j hj k hk ((unit_hash hf hB hj hj2).symm.trans hh)
  exact h (e ▸ hj2)
theorem unit_no (hf : ∀ i, i < wlen B Q → f i = nI (B (Q + i))) (hB : ∀ k, B k < 256) (h : ∀ k, k < 8 → ¬ hsF f (wlen B Q) = unitK k) : ∀ j, j < 8 → ¬ isW B Q (unitW j) = true := fun j hj hj2 => h j hj (unit_hash hf hB hj hj2)
end WW
def namV (B : Nat → Nat) (Q : Nat) : Int32 := match firstW B nameW Q 8 0 with
  | some k => nI k
  | none => -1
theorem namV_s {B : Nat → Nat} {Q k : Nat} (h : firstW B nameW Q 8 0 = some k) : namV B Q = nI k := by unfold namV; rw [h]
theorem namV_n {B : Nat → Nat} {Q : Nat} (h : firstW B nameW Q 8 0 = none) : namV B Q = -1 := by unfold namV; rw [h]
set_option maxHeartbeats 600000 in
theorem x_X18_nameOf {g : GP} {μ : Mem} {d : Nat} {q w Q : Nat} {f : Nat → Int32} {B : Nat → Nat} (hd : 6 ≤ d) (h : StM g q w (wlen B Q) f 0 0 μ) (hg : gF g q) (hf : ∀ i, i < wlen B Q → f i = nI (B (Q + i))) (hB : ∀ k, B k < 256) : PM g yX18_nameOf (ws_ yX18_nameOf cX18_nameOf 3 (some .int)) d 0 0 [.ref q] μ (WQ (some (.int (namV B Q))) (fun M => ∃ hh zz, StM g q w (wlen B Q) f hh zz M ∧ ∀ x, x ≠ q → M x = μ x)) := by
  refine PM.of (by decide +kernel) (Nat.le_of_ble_eq_true rfl) ?_
  refine PJ.ok (fun G => ?_)
  show PJ g _ _ _ _ d 0 0 0 [(0, .ref q)] [] _ _
  have hwl := (wlF_sp (B := B) 8 Q).1
  have hwl2 : wlen B Q < 1000 := Nat.lt_of_le_of_lt hwl (by decide)
  refine pl_aload_n (pc := 0) dX18_nameOf_0 rfl rfl ?_
  refine pj_astore_n (pc := 1) (lv' := [(1, _), (0, _)]) dX18_nameOf_1 rfl (by decide) rfl ?_
  refine pj_iconst (pc := 2) (v := (-1)) dX18_nameOf_2 (by rfl) ?_
  refine pj_istore_n (pc := 3) (lv' := [(2, _), (1, _), (0, _)]) dX18_nameOf_3 rfl (by decide) rfl ?_
  refine pl_aload_n (pc := 4) dX18_nameOf_4 rfl rfl ?_
  refine pl_callVWd (pc := 5) (As := []) (C1 := 0) (N1 := 0) (C2 := 0) (N2 := 0) ckJ9 mdJ9_hashCode rfl q1931 q1932 q1933 q136 dX18_nameOf_5 rfl rfl (Nat.le_of_ble_eq_true rfl) h.1 (k_J9_hash_m (d := d - 1) (by omega) h hwl2) (by omega) (by omega) (by omega) (fun My1 qy1 => ?_)
  obtain ⟨hh9, zz9, hst9, hup9⟩ := qy1
  refine pl_lswI (pc := 8) (nameK 6) (-1361224287) (tgt := 168) dX18_nameOf_8 (by decide) (by rfl) (by rfl) (by decide) (fun c8_6 => ?_) (fun c8_6 => ?_)
  · refine pl_aload_n (pc := 168) dX18_nameOf_168 rfl rfl ?_
    obtain ⟨a113, v113, vr113, sc113⟩ := lit_X18_113 G
    refine pj_ldcS (pc := 169) vr113 dX18_nameOf_169 ?_
    have hq171 := k_J9_equals_m (μ := My1) (d := d - 1) (bs := (nameW 6)) (by omega) hst9 hwl2 hg sc113 (by decide)
    rw [eqW_isW hf hB (by decide) (by decide)] at hq171
    refine pl_callVd (pc := 171) (As := [_]) (C1 := 0) (N1 := 0) (C2 := 0) (N2 := 0) ckJ9 mdJ9_equals rfl q1993 q1655 q3212 q136 dX18_nameOf_171 rfl rfl (Nat.le_of_ble_eq_true rfl) hst9.1 (hq171) (by omega) (by omega) (by omega) ?_
    refine pl_if_eqB (pc := 174) (tgt := 195) dX18_nameOf_174 (by decide) (fun c174 => ?_) (fun c174 => ?_)
    · refine pl_iload_n (pc := 195) dX18_nameOf_195 rfl rfl ?_
      refine pj_tableOut (pc := 196) (tgt := 262) dX18_nameOf_196 (by decide) (by decide) ?_
      refine pj_iconst (pc := 262) (v := (-1)) dX18_nameOf_262 (by rfl) ?_
      refine pj_iret (pc := 263) dX18_nameOf_263 rfl ?_
      exact ⟨by rw [namV_n (name_non hf hB (k := 6) (by decide) c8_6 (by rw [c174]; decide))], hh9, zz9, hst9, hup9⟩
    · refine pl_bipush (pc := 177) (v := 6) dX18_nameOf_177 (by rfl) ?_
      refine pj_istore_n (pc := 179) (lv' := [(2, _), (1, _), (0, _)]) dX18_nameOf_179 rfl (by decide) rfl ?_
      refine pj_goto (pc := 180) (tgt := 195) dX18_nameOf_180 (by decide) ?_
      refine pl_iload_n (pc := 195) dX18_nameOf_195 rfl rfl ?_
      refine pj_tableIn (pc := 196) (tgt := 256) dX18_nameOf_196 (by decide) (by decide) (by rfl) (by decide) ?_
      refine pl_bipush (pc := 256) (v := 6) dX18_nameOf_256 (by rfl) ?_
      refine pj_iret (pc := 258) dX18_nameOf_258 rfl ?_
      exact ⟨by rw [namV_s (name_at hf hB (k := 6) (by decide) c174)], hh9, zz9, hst9, hup9⟩
  refine pl_lswI (pc := 8) (nameK 3) (113291) (tgt := 126) dX18_nameOf_8 (by decide) (by rfl) (by rfl) (by decide) (fun c8_3 => ?_) (fun c8_3 => ?_)
  · refine pl_aload_n (pc := 126) dX18_nameOf_126 rfl rfl ?_
    obtain ⟨a107, v107, vr107, sc107⟩ := lit_X18_107 G
    refine pj_ldcS (pc := 127) vr107 dX18_nameOf_127 ?_
    have hq129 := k_J9_equals_m (μ := My1) (d := d - 1) (bs := (nameW 3)) (by omega) hst9 hwl2 hg sc107 (by decide)
    rw [eqW_isW hf hB (by decide) (by decide)] at hq129
    refine pl_callVd (pc := 129) (As := [_]) (C1 := 0) (N1 := 0) (C2 := 0) (N2 := 0) ckJ9 mdJ9_equals rfl q1993 q1655 q3212 q136 dX18_nameOf_129 rfl rfl (Nat.le_of_ble_eq_true rfl) hst9.1 (hq129) (by omega) (by omega) (by omega) ?_
    refine pl_if_eqB (pc := 132) (tgt := 195) dX18_nameOf_132 (by decide) (fun c132 => ?_) (fun c132 => ?_)
    · refine pl_iload_n (pc := 195) dX18_nameOf_195 rfl rfl ?_
      refine pj_tableOut (pc := 196) (tgt := 262) dX18_nameOf_196 (by decide) (by decide) ?_
      refine pj_iconst (pc := 262) (v := (-1)) dX18_nameOf_262 (by rfl) ?_
      refine pj_iret (pc := 263) dX18_nameOf_263 rfl ?_
      exact ⟨by rw [namV_n (name_non hf hB (k := 3) (by decide) c8_3 (by rw [c132]; decide))], hh9, zz9, hst9, hup9⟩
    · refine pl_iconst (pc := 135) (v := 3) dX18_nameOf_135 (by rfl) ?_
      refine pj_istore_n (pc := 136) (lv' := [(2, _), (1, _), (0, _)]) dX18_nameOf_136 rfl (by decide) rfl ?_
      refine pj_goto (pc := 137) (tgt := 195) dX18_nameOf_137 (by decide) ?_
      refine pl_iload_n (pc := 195) dX18_nameOf_195 rfl rfl ?_
      refine pj_tableIn (pc := 196) (tgt := 250) dX18_nameOf_196 (by decide) (by decide) (by rfl) (by decide) ?_
      refine pl_iconst (pc := 250) (v := 3) dX18_nameOf_250 (by rfl) ?_
      refine pj_iret (pc := 251) dX18_nameOf_251 rfl ?_
      exact ⟨by rw [namV_s (name_at hf hB (k := 3) (by decide) c132)], hh9, zz9, hst9, hup9⟩
  refine pl_lswI (pc := 8) (nameK 4) (3143098) (tgt := 140) dX18_nameOf_8 (by decide) (by rfl) (by rfl) (by decide) (fun c8_4 => ?_) (fun c8_4 => ?_)
  · refine pl_aload_n (pc := 140) dX18_nameOf_140 rfl rfl ?_
    obtain ⟨a109, v109, vr109, sc109⟩ := lit_X18_109 G
    refine pj_ldcS (pc := 141) vr109 dX18_nameOf_141 ?_
    have hq143 := k_J9_equals_m (μ := My1) (d := d - 1) (bs := (nameW 4)) (by omega) hst9 hwl2 hg sc109 (by decide)
    rw [eqW_isW hf hB (by decide) (by decide)] at hq143
    refine pl_callVd (pc := 143) (As := [_]) (C1 := 0) (N1 := 0) (C2 := 0) (N2 := 0) ckJ9 mdJ9_equals rfl q1993 q1655 q3212 q136 dX18_nameOf_143 rfl rfl (Nat.le_of_ble_eq_true rfl) hst9.1 (hq143) (by omega) (by omega) (by omega) ?_
    refine pl_if_eqB (pc := 146) (tgt := 195) dX18_nameOf_146 (by decide) (fun c146 => ?_) (fun c146 => ?_)
    · refine pl_iload_n (pc := 195) dX18_nameOf_195 rfl rfl ?_
      refine pj_tableOut (pc := 196) (tgt := 262) dX18_nameOf_196 (by decide) (by decide) ?_
      refine pj_iconst (pc := 262) (v := (-1)) dX18_nameOf_262 (by rfl) ?_
      refine pj_iret (pc := 263) dX18_nameOf_263 rfl ?_
      exact ⟨by rw [namV_n (name_non hf hB (k := 4) (by decide) c8_4 (by rw [c146]; decide))], hh9, zz9, hst9, hup9⟩
    · refine pl_iconst (pc := 149) (v := 4) dX18_nameOf_149 (by rfl) ?_
      refine pj_istore_n (pc := 150) (lv' := [(2, _), (1, _), (0, _)]) dX18_nameOf_150 rfl (by decide) rfl ?_
      refine pj_goto (pc := 151) (tgt := 195) dX18_nameOf_151 (by decide) ?_
      refine pl_iload_n (pc := 195) dX18_nameOf_195 rfl rfl ?_
      refine pj_tableIn (pc := 196) (tgt := 252) dX18_nameOf_196 (by decide) (by decide) (by rfl) (by decide) ?_
      refine pl_iconst (pc := 252) (v := 4) dX18_nameOf_252 (by rfl) ?_
      refine pj_iret (pc := 253) dX18_nameOf_253 rfl ?_
      exact ⟨by rw [namV_s (name_at hf hB (k := 4) (by decide) c146)], hh9, zz9, hst9, hup9⟩
  refine pl_lswI (pc := 8) (nameK 2) (3641640) (tgt := 112) dX18_nameOf_8 (by decide) (by rfl) (by rfl) (by decide) (fun c8_2 => ?_) (fun c8_2 => ?_)
  · refine pl_aload_n (pc := 112) dX18_nameOf_112 rfl rfl ?_
    obtain ⟨a105, v105, vr105, sc105⟩ := lit_X18_105 G
    refine pj_ldcS (pc := 113) vr105 dX18_nameOf_113 ?_
    have hq115 := k_J9_equals_m (μ := My1) (d := d - 1) (bs := (nameW 2)) (by omega) hst9 hwl2 hg sc105 (by decide)
    rw [eqW_isW hf hB (by decide) (by decide)] at hq115
    refine pl_callVd (pc := 115) (As := [_]) (C1 := 0) (N1 := 0) (C2 := 0) (N2 := 0) ckJ9 mdJ9_equals rfl q1993 q1655 q3212 q136 dX18_nameOf_115 rfl rfl (Nat.le_of_ble_eq_true rfl) hst9.1 (hq115) (by omega) (by omega) (by omega) ?_
    refine pl_if_eqB (pc := 118) (tgt := 195) dX18_nameOf_118 (by decide) (fun c118 => ?_) (fun c118 => ?_)
    · refine pl_iload_n (pc := 195) dX18_nameOf_195 rfl rfl ?_
      refine pj_tableOut (pc := 196) (tgt := 262) dX18_nameOf_196 (by decide) (by decide) ?_
      refine pj_iconst (pc := 262) (v := (-1)) dX18_nameOf_262 (by rfl) ?_
      refine pj_iret (pc := 263) dX18_nameOf_263 rfl ?_
      exact ⟨by rw [namV_n (name_non hf hB (k := 2) (by decide) c8_2 (by rw [c118]; decide))], hh9, zz9, hst9, hup9⟩
    · refine pl_iconst (pc := 121) (v := 2) dX18_nameOf_121 (by rfl) ?_
      refine pj_istore_n (pc := 122) (lv' := [(2, _), (1, _), (0, _)]) dX18_nameOf_122 rfl (by decide) rfl ?_
      refine pj_goto (pc := 123) (tgt := 195) dX18_nameOf_123 (by decide) ?_
      refine pl_iload_n (pc := 195) dX18_nameOf_195 rfl rfl ?_
      refine pj_tableIn (pc := 196) (tgt := 248) dX18_nameOf_196 (by decide) (by decide) (by rfl) (by decide) ?_
      refine pl_iconst (pc := 248) (v := 2) dX18_nameOf_248 (by rfl) ?_
      refine pj_iret (pc := 249) dX18_nameOf_249 rfl ?_
      exact ⟨by rw [namV_s (name_at hf hB (k := 2) (by decide) c118)], hh9, zz9, hst9, hup9⟩
  refine pl_lswI (pc := 8) (nameK 0) (106934601) (tgt := 84) dX18_nameOf_8 (by decide) (by rfl) (by rfl) (by decide) (fun c8_0 => ?_) (fun c8_0 => ?_)
  · refine pl_aload_n (pc := 84) dX18_nameOf_84 rfl rfl ?_
    obtain ⟨a101, v101, vr101, sc101⟩ := lit_X18_101 G
    refine pj_ldcS (pc := 85) vr101 dX18_nameOf_85 ?_
    have hq87 := k_J9_equals_m (μ := My1) (d := d - 1) (bs := (nameW 0)) (by omega) hst9 hwl2 hg sc101 (by decide)
    rw [eqW_isW hf hB (by decide) (by decide)] at hq87
    refine pl_callVd (pc := 87) (As := [_]) (C1 := 0) (N1 := 0) (C2 := 0) (N2 := 0) ckJ9 mdJ9_equals rfl q1993 q1655 q3212 q136 dX18_nameOf_87 rfl rfl (Nat.le_of_ble_eq_true rfl) hst9.1 (hq87) (by omega) (by omega) (by omega) ?_
    refine pl_if_eqB (pc := 90) (tgt := 195) dX18_nameOf_90 (by decide) (fun c90 => ?_) (fun c90 => ?_)
    · refine pl_iload_n (pc := 195) dX18_nameOf_195 rfl rfl ?_
      refine pj_tableOut (pc := 196) (tgt := 262) dX18_nameOf_196 (by decide) (by decide) ?_
      refine pj_iconst (pc := 262) (v := (-1)) dX18_nameOf_262 (by rfl) ?_
      refine pj_iret (pc := 263) dX18_nameOf_263 rfl ?_
      exact ⟨by rw [namV_n (name_non hf hB (k := 0) (by decide) c8_0 (by rw [c90]; decide))], hh9, zz9, hst9, hup9⟩
    · refine pl_iconst (pc := 93) (v := 0) dX18_nameOf_93 (by rfl) ?_
      refine pj_istore_n (pc := 94) (lv' := [(2, _), (1, _), (0, _)]) dX18_nameOf_94 rfl (by decide) rfl ?_
      refine pj_goto (pc := 95) (tgt := 195) dX18_nameOf_95 (by decide) ?_
      refine pl_iload_n (pc := 195) dX18_nameOf_195 rfl rfl ?_
      refine pj_tableIn (pc := 196) (tgt := 244) dX18_nameOf_196 (by decide) (by decide) (by rfl) (by decide) ?_
      refine pl_iconst (pc := 244) (v := 0) dX18_nameOf_244 (by rfl) ?_
      refine pj_iret (pc := 245) dX18_nameOf_245 rfl ?_
      exact ⟨by rw [namV_s (name_at hf hB (k := 0) (by decide) c90)], hh9, zz9, hst9, hup9⟩
  refine pl_lswI (pc := 8) (nameK 1) (109400031) (tgt := 98) dX18_nameOf_8 (by decide) (by rfl) (by rfl) (by decide) (fun c8_1 => ?_) (fun c8_1 => ?_)
  · refine pl_aload_n (pc := 98) dX18_nameOf_98 rfl rfl ?_
    obtain ⟨a103, v103, vr103, sc103⟩ := lit_X18_103 G
    refine pj_ldcS (pc := 99) vr103 dX18_nameOf_99 ?_
    have hq101 := k_J9_equals_m (μ := My1) (d := d - 1) (bs := (nameW 1)) (by omega) hst9 hwl2 hg sc103 (by decide)
    rw [eqW_isW hf hB (by decide) (by decide)] at hq101
    refine pl_callVd (pc := 101) (As := [_]) (C1 := 0) (N1 := 0) (C2 := 0) (N2 := 0) ckJ9 mdJ9_equals rfl q1993 q1655 q3212 q136 dX18_nameOf_101 rfl rfl (Nat.le_of_ble_eq_true rfl) hst9.1 (hq101) (by omega) (by omega) (by omega) ?_
    refine pl_if_eqB (pc := 104) (tgt := 195) dX18_nameOf_104 (by decide) (fun c104 => ?_) (fun c104 => ?_)
    · refine pl_iload_n (pc := 195) dX18_nameOf_195 rfl rfl ?_
      refine pj_tableOut (pc := 196) (tgt := 262) dX18_nameOf_196 (by decide) (by decide) ?_
      refine pj_iconst (pc := 262) (v := (-1)) dX18_nameOf_262 (by rfl) ?_
      refine pj_iret (pc := 263) dX18_nameOf_263 rfl ?_
      exact ⟨by rw [namV_n (name_non hf hB (k := 1) (by decide) c8_1 (by rw [c104]; decide))], hh9, zz9, hst9, hup9⟩
    · refine pl_iconst (pc := 107) (v := 1) dX18_nameOf_107 (by rfl) ?_
      refine pj_istore_n (pc := 108) (lv' := [(2, _), (1, _), (0, _)]) dX18_nameOf_108 rfl (by decide) rfl ?_
      refine pj_goto (pc := 109) (tgt := 195) dX18_nameOf_109 (by decide) ?_
      refine pl_iload_n (pc := 195) dX18_nameOf_195 rfl rfl ?_
      refine pj_tableIn (pc := 196) (tgt := 246) dX18_nameOf_196 (by decide) (by decide) (by rfl) (by decide) ?_
      refine pl_iconst (pc := 246) (v := 1) dX18_nameOf_246 (by rfl) ?_
      refine pj_iret (pc := 247) dX18_nameOf_247 rfl ?_
      exact ⟨by rw [namV_s (name_at hf hB (k := 1) (by decide) c104)], hh9, zz9, hst9, hup9⟩
  refine pl_lswI (pc := 8) (nameK 7) (109686858) (tgt := 183) dX18_nameOf_8 (by decide) (by rfl) (by rfl) (by decide) (fun c8_7 => ?_) (fun c8_7 => ?_)
  · refine pl_aload_n (pc := 183) dX18_nameOf_183 rfl rfl ?_
    obtain ⟨a115, v115, vr115, sc115⟩ := lit_X18_115 G
    refine pj_ldcS (pc := 184) vr115 dX18_nameOf_184 ?_
    have hq186 := k_J9_equals_m (μ := My1) (d := d - 1) (bs := (nameW 7)) (by omega) hst9 hwl2 hg sc115 (by decide)
    rw [eqW_isW hf hB (by decide) (by decide)] at hq186
    refine pl_callVd (pc := 186) (As := [_]) (C1 := 0) (N1 := 0) (C2 := 0) (N2 := 0) ckJ9 mdJ9_equals rfl q1993 q1655 q3212 q136 dX18_nameOf_186 rfl rfl (Nat.le_of_ble_eq_true rfl) hst9.1 (hq186) (by omega) (by omega) (by omega) ?_
    refine pl_if_eqB (pc := 189) (tgt := 195) dX18_nameOf_189 (by decide) (fun c189 => ?_) (fun c189 => ?_)
    · refine pl_iload_n (pc := 195) dX18_nameOf_195 rfl rfl ?_
      refine pj_tableOut (pc := 196) (tgt := 262) dX18_nameOf_196 (by decide) (by decide) ?_
      refine pj_iconst (pc := 262) (v := (-1)) dX18_nameOf_262 (by rfl) ?_
      refine pj_iret (pc := 263) dX18_nameOf_263 rfl ?_
      exact ⟨by rw [namV_n (name_non hf hB (k := 7) (by decide) c8_7 (by rw [c189]; decide))], hh9, zz9, hst9, hup9⟩
    · refine pl_bipush (pc := 192) (v := 7) dX18_nameOf_192 (by rfl) ?_
      refine pj_istore_n (pc := 194) (lv' := [(2, _), (1, _), (0, _)]) dX18_nameOf_194 rfl (by decide) rfl ?_
      refine pl_iload_n (pc := 195) dX18_nameOf_195 rfl rfl ?_
      refine pj_tableIn (pc := 196) (tgt := 259) dX18_nameOf_196 (by decide) (by decide) (by rfl) (by decide) ?_
      refine pl_bipush (pc := 259) (v := 7) dX18_nameOf_259 (by rfl) ?_
      refine pj_iret (pc := 261) dX18_nameOf_261 rfl ?_
      exact ⟨by rw [namV_s (name_at hf hB (k := 7) (by decide) c189)], hh9, zz9, hst9, hup9⟩
  refine pl_lswI (pc := 8) (nameK 5) (112397001) (tgt := 154) dX18_nameOf_8 (by decide) (by rfl) (by rfl) (by decide) (fun c8_5 => ?_) (fun c8_5 => ?_)
  · refine pl_aload_n (pc := 154) dX18_nameOf_154 rfl rfl ?_
    obtain ⟨a111, v111, vr111, sc111⟩ := lit_X18_111 G
    refine pj_ldcS (pc := 155) vr111 dX18_nameOf_155 ?_
    have hq157 := k_J9_equals_m (μ := My1) (d := d - 1) (bs := (nameW 5)) (by omega) hst9 hwl2 hg sc111 (by decide)
    rw [eqW_isW hf hB (by decide) (by decide)] at hq157
    refine pl_callVd (pc := 157) (As := [_]) (C1 := 0) (N1 := 0) (C2 := 0) (N2 := 0) ckJ9 mdJ9_equals rfl q1993 q1655 q3212 q136 dX18_nameOf_157 rfl rfl (Nat.le_of_ble_eq_true rfl) hst9.1 (hq157) (by omega) (by omega) (by omega) ?_
    refine pl_if_eqB (pc := 160) (tgt := 195) dX18_nameOf_160 (by decide) (fun c160 => ?_) (fun c160 => ?_)
    · refine pl_iload_n (pc := 195) dX18_nameOf_195 rfl rfl ?_
      refine pj_tableOut (pc := 196) (tgt := 262) dX18_nameOf_196 (by decide) (by decide) ?_
      refine pj_iconst (pc := 262) (v := (-1)) dX18_nameOf_262 (by rfl) ?_
      refine pj_iret (pc := 263) dX18_nameOf_263 rfl ?_
      exact ⟨by rw [namV_n (name_non hf hB (k := 5) (by decide) c8_5 (by rw [c160]; decide))], hh9, zz9, hst9, hup9⟩
    · refine pl_iconst (pc := 163) (v := 5) dX18_nameOf_163 (by rfl) ?_
      refine pj_istore_n (pc := 164) (lv' := [(2, _), (1, _), (0, _)]) dX18_nameOf_164 rfl (by decide) rfl ?_
      refine pj_goto (pc := 165) (tgt := 195) dX18_nameOf_165 (by decide) ?_
      refine pl_iload_n (pc := 195) dX18_nameOf_195 rfl rfl ?_
      refine pj_tableIn (pc := 196) (tgt := 254) dX18_nameOf_196 (by decide) (by decide) (by rfl) (by decide) ?_
      refine pl_iconst (pc := 254) (v := 5) dX18_nameOf_254 (by rfl) ?_
      refine pj_iret (pc := 255) dX18_nameOf_255 rfl ?_
      exact ⟨by rw [namV_s (name_at hf hB (k := 5) (by decide) c160)], hh9, zz9, hst9, hup9⟩
  refine pj_lookup (pc := 8) (tgt := 195) dX18_nameOf_8 (by rfl) ((lv_osw c8_6 (show (nameK 6).toInt = _ by decide)).trans ((lv_osw c8_3 (show (nameK 3).toInt = _ by decide)).trans ((lv_osw c8_4 (show (nameK 4).toInt = _ by decide)).trans ((lv_osw c8_2 (show (nameK 2).toInt = _ by decide)).trans ((lv_osw c8_0 (show (nameK 0).toInt = _ by decide)).trans ((lv_osw c8_1 (show (nameK 1).toInt = _ by decide)).trans ((lv_osw c8_7 (show (nameK 7).toInt = _ by decide)).trans ((lv_osw c8_5 (show (nameK 5).toInt = _ by decide)).trans (show Op.lookupswitch.offset [] (187) _ = 187 from rfl))))))))) (by decide) ?_
  refine pl_iload_n (pc := 195) dX18_nameOf_195 rfl rfl ?_
  refine pj_tableOut (pc := 196) (tgt := 262) dX18_nameOf_196 (by decide) (by decide) ?_
  refine pj_iconst (pc := 262) (v := (-1)) dX18_nameOf_262 (by rfl) ?_
  refine pj_iret (pc := 263) dX18_nameOf_263 rfl ?_
  have e9 := name_no hf hB (fun k hk => by
    rcases (by omega : k = 0 ∨ k = 1 ∨ k = 2 ∨ k = 3 ∨ k = 4 ∨ k = 5 ∨ k = 6 ∨ k = 7) with rfl | rfl | rfl | rfl | rfl | rfl | rfl | rfl
    · exact c8_0
    · exact c8_1
    · exact c8_2
    · exact c8_3
    · exact c8_4
    · exact c8_5
    · exact c8_6
    · exact c8_7)
  exact ⟨by rw [namV_n e9], hh9, zz9, hst9, hup9⟩
def undR (B : Nat → Nat) (n p : Nat) : (Nat × Nat) ⊕ (Nat × Bool) := if isW B (sk B n p) wFall = true then .inr (sk B n p + 4, true) else if isW B (sk B n p) wStand = true then .inr (sk B n p + 5, false) else .inl (1, sk B n p)
/-- all but the reader and one cell is there as it was -/
def FrX (μ0 : Mem) (rd a : Nat) (M : Mem) : Prop := ∀ x e, x ≠ rd → x ≠ a → μ0 x = some e → M x = some e
def txO (e9 : Nat) (v : Int32) : va_E := .inr (21, [.ref e9, .int v])
set_option maxHeartbeats 600000 in
theorem x_X18_undo {g : GP} {μ : Mem} {d : Nat} {rd t n p o : Nat} {r : Nat → Int32} {B : Nat → Nat} {a e9 : Nat} {v9 : Int32} (hd : 10 ≤ d) (h0 : μ rd = some (rdO t n p o)) (ht : μ t = some (intX g 2 300 r)) (htr : t ≠ rd) (tx : TxR r n B) (hp : p ≤ n) (ha : μ a = some (txO e9 v9)) (hra : a ≠ rd) (hta : t ≠ a) : PM g yX18_undo (ws_ yX18_undo cX18_undo 2 none) d 9 72 [.ref rd, .ref a] μ (fun o9 M => match undR B n p with
  | .inl (k, w) => ∃ q, o9 = .inr ("SettlerColony$Wrong", q) ∧ M q = some (wr0 (nI k) (nI w)) ∧ FrX μ rd a M
  | .inr (p1, b) => o9 = .inl none ∧ M rd = some (rdO t n p1 o) ∧ M a = some (txO e9 (bI b)) ∧ FrX μ rd a M) := by
  refine PM.of (by decide +kernel) (Nat.le_of_ble_eq_true rfl) ?_
  refine PJ.ok (fun G => ?_)
  show PJ g _ _ _ _ d 9 72 0 [(0, .ref rd), (1, .ref a)] [] _ _
  have hn3 := tx.1
  refine pl_aload_n (pc := 0) dX18_undo_0 rfl rfl ?_
  refine pl_aload_n (pc := 1) dX18_undo_1 rfl rfl ?_
  obtain ⟨a86, v86, vr86, sc86⟩ := lit_X18_86 G
  refine pj_ldcS (pc := 2) vr86 dX18_undo_2 ?_
  refine pl_callVWd (pc := 4) (As := [_]) (C1 := 4) (N1 := 32) (C2 := 5) (N2 := 40) ckX18 mdX18_takes rfl q2040 q2042 qs19 q167 dX18_undo_4 rfl rfl (Nat.le_of_ble_eq_true rfl) h0 (x_X18_takes (d := d - 1) (bs := wFall) (by omega) h0 ht htr tx hp sc86 (by decide) (by decide)) (by omega) (by omega) (by omega) (fun My1 qy1 => ?_)
  have hx1 := qy1
  have ha1 := hx1.2 a _ hra ha
  refine pj_putfN (pc := 7) ckX19 1 q1889 dX18_undo_7 (by decide) rfl ha1 (by cases isW B (sk B n p) wFall <;> rfl) (by cases isW B (sk B n p) wFall <;> rfl) (Nat.le_of_ble_eq_true rfl) ?_
  have hrd2 : (mset My1 a (txO e9 (bI (isW B (sk B n p) wFall)))) rd = some (rdO t n (if isW B (sk B n p) wFall = true then sk B n p + wFall.length else sk B n p) o) := (mset_n (Ne.symm hra)).trans hx1.1
  have ht2 : (mset My1 a (txO e9 (bI (isW B (sk B n p) wFall)))) t = some (intX g 2 300 r) := (mset_n hta).trans (hx1.2 t _ htr ht)
  have hf2 : FrX μ rd a (mset My1 a (txO e9 (bI (isW B (sk B n p) wFall)))) := fun x e hx hxa he => (mset_n hxa).trans (hx1.2 x e hx he)
  have hsk := (sk_in (B := B) hp).2
  refine pl_aload_n (pc := 10) dX18_undo_10 rfl rfl ?_
  refine pj_getfN (pc := 11) ckX19 1 q1889 dX18_undo_11 (by decide) mset_s rfl ?_
  refine pl_if_neB (pc := 14) (tgt := 31) dX18_undo_14 (by decide) (fun c14 => ?_) (fun c14 => ?_)
  · refine pj_vret (pc := 31) dX18_undo_31 rfl ?_
    have e9 : undR B n p = .inr (sk B n p + 4, true) := by unfold undR; rw [if_pos c14]
    rw [e9]
    have hx3 := hrd2
    rw [if_pos c14] at hx3
    refine ⟨rfl, hx3, ?_, hf2⟩
    exact mset_s.trans (by rw [c14]; first | done | rfl)
  · have hrd3 := hrd2
    rw [if_neg (show ¬ isW B (sk B n p) wFall = true by rw [c14]; decide)] at hrd3
    refine pl_aload_n (pc := 17) dX18_undo_17 rfl rfl ?_
    obtain ⟨a96, v96, vr96, sc96⟩ := lit_X18_96 G
    refine pj_ldcS (pc := 18) vr96 dX18_undo_18 ?_
    refine pl_callVWd (pc := 20) (As := [_]) (C1 := 4) (N1 := 32) (C2 := 1) (N2 := 8) ckX18 mdX18_takes rfl q2040 q2042 qs19 q167 dX18_undo_20 rfl rfl (Nat.le_of_ble_eq_true rfl) hrd3 (x_X18_takes (d := d - 1) (bs := wStand) (by omega) hrd3 ht2 htr tx hsk sc96 (by decide) (by decide)) (by omega) (by omega) (by omega) (fun My2 qy2 => ?_)
    have hx2 := qy2
    rw [sk_sk tx.2.2.2] at hx2
    refine pl_if_neB (pc := 23) (tgt := 31) dX18_undo_23 (by decide) (fun c23 => ?_) (fun c23 => ?_)
    · refine pj_vret (pc := 31) dX18_undo_31 rfl ?_
      rw [sk_sk tx.2.2.2] at c23
      have e9 : undR B n p = .inr (sk B n p + 5, false) := by unfold undR; rw [if_neg (by rw [c14]; decide), if_pos c23]
      rw [e9]
      have hx3 := hx2.1
      rw [if_pos c23] at hx3
      refine ⟨rfl, hx3, ?_, fun x e hx hxa he => hx2.2 x e hx (hf2 x e hx hxa he)⟩
      have e8 : isW B (sk B n p) wFall = false := by rw [c14]
      exact (hx2.2 a _ hra mset_s).trans (by rw [e8]; first | done | rfl)
    · refine pl_aload_n (pc := 26) dX18_undo_26 rfl rfl ?_
      rw [sk_sk tx.2.2.2] at c23
      have hrd4 := hx2.1
      rw [if_neg (show ¬ isW B (sk B n p) wStand = true by rw [c23]; decide)] at hrd4
      refine pl_callVQ (pc := 27) (As := []) (C1 := 1) (N1 := 8) (C2 := 0) (N2 := 0) ckX18 mdX18_wrong rfl q2002 q2004 qs17 q167 dX18_undo_27 rfl rfl (Nat.le_of_ble_eq_true rfl) hrd4 (k_X18_wrong (d := d - 1) (by omega) hrd4) (by omega) (by omega) (by omega) (fun q_9 M_9 hM_9 => ?_)
      obtain ⟨hn9, rfl⟩ := hM_9
      refine pj_athrow (pc := 30) ckX20 dX18_undo_30 mset_s ?_
      refine px_out0 rfl ?_
      have e9 : undR B n p = .inl (1, sk B n p) := by unfold undR; rw [if_neg (by rw [c14]; decide), if_neg (by rw [c23]; decide)]
      rw [e9]
      have hf3 : ∀ x e, x ≠ rd → x ≠ a → μ x = some e → My2 x = some e := fun x e hx hxa he => hx2.2 x e hx (hf2 x e hx hxa he)
      exact ⟨q_9, rfl, mset_s, fun x e hx hxa he => (mset_n (fun z => by have h2 := hf3 x e hx hxa he; rw [z, hn9] at h2; cases h2)).trans (hf3 x e hx hxa he)⟩
