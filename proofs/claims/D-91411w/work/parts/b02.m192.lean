set_option maxRecDepth 100000
set_option maxRecDepth 100000 in
theorem lit_X18_73 {g : GP} (G : OkG g) : ∃ a v : Nat, vk_R "SettlerColony$Reader" 73 "undo" a (gS g) ∧ StrC g a v [117, 110, 100, 111] := by
  refine lit_mk G [117, 110, 100, 111] (by decide) q2001 (nr_leaf G [0, 0, 2, 0, 0, 1, 1, 0, 0] (by decide +kernel)) (nr_leaf G [0, 0, 2, 0, 0, 1, 0, 1] (by decide +kernel)) (nr_leaf G [0, 0, 2, 0, 0, 1, 0, 0, 1] (by decide +kernel)) (nr_leaf G [0, 0, 2, 0, 0, 1, 0, 0, 0, 0] (by decide +kernel)) (fun j hj => ?_)
  match j, hj with
  | 0, _ => exact nr_leaf G [0, 0, 2, 0, 0, 0, 3] (by decide +kernel)
  | 1, _ => exact nr_leaf G [0, 0, 2, 0, 0, 0, 2, 1] (by decide +kernel)
  | 2, _ => exact nr_leaf G [0, 0, 2, 0, 0, 0, 2, 0, 0] (by decide +kernel)
  | 3, _ => exact nr_leaf G [0, 0, 2, 0, 0, 0, 1, 1] (by decide +kernel)
set_option maxRecDepth 100000 in
theorem lit_X18_86 {g : GP} (G : OkG g) : ∃ a v : Nat, vk_R "SettlerColony$Reader" 86 "fall" a (gS g) ∧ StrC g a v [102, 97, 108, 108] := by
  refine lit_mk G [102, 97, 108, 108] (by decide) q2039 (nr_leaf G [0, 0, 2, 0, 0, 0, 0, 2] (by decide +kernel)) (nr_leaf G [0, 0, 2, 0, 0, 0, 0, 1, 1] (by decide +kernel)) (nr_leaf G [0, 0, 2, 0, 0, 0, 0, 1, 0, 0] (by decide +kernel)) (nr_leaf G [0, 0, 2, 0, 0, 0, 0, 0, 2] (by decide +kernel)) (fun j hj => ?_)
  match j, hj with
  | 0, _ => exact nr_leaf G [0, 0, 2, 0, 0, 0, 0, 0, 1, 0] (by decide +kernel)
  | 1, _ => exact nr_leaf G [0, 0, 2, 0, 0, 0, 0, 0, 0, 1] (by decide +kernel)
  | 2, _ => exact nr_leaf G [0, 0, 2, 0, 0, 0, 0, 0, 0, 0, 0] (by decide +kernel)
  | 3, _ => exact nr_leaf G [0, 0, 1, 7] (by decide +kernel)
set_option maxRecDepth 100000 in
theorem lit_X18_96 {g : GP} (G : OkG g) : ∃ a v : Nat, vk_R "SettlerColony$Reader" 96 "stand" a (gS g) ∧ StrC g a v [115, 116, 97, 110, 100] := by
  refine lit_mk G [115, 116, 97, 110, 100] (by decide) q2044 (nr_leaf G [0, 0, 1, 5, 1] (by decide +kernel)) (nr_leaf G [0, 0, 1, 5, 0, 1] (by decide +kernel)) (nr_leaf G [0, 0, 1, 5, 0, 0, 0] (by decide +kernel)) (nr_leaf G [0, 0, 1, 4, 2] (by decide +kernel)) (fun j hj => ?_)
  match j, hj with
  | 0, _ => exact nr_leaf G [0, 0, 1, 4, 1, 1] (by decide +kernel)
  | 1, _ => exact nr_leaf G [0, 0, 1, 4, 1, 0, 0] (by decide +kernel)
  | 2, _ => exact nr_leaf G [0, 0, 1, 4, 0, 1] (by decide +kernel)
  | 3, _ => exact nr_leaf G [0, 0, 1, 4, 0, 0, 1] (by decide +kernel)
  | 4, _ => exact nr_leaf G [0, 0, 1, 4, 0, 0, 0, 0] (by decide +kernel)
set_option maxRecDepth 100000 in
theorem lit_X18_101 {g : GP} (G : OkG g) : ∃ a v : Nat, vk_R "SettlerColony$Reader" 101 "price" a (gS g) ∧ StrC g a v [112, 114, 105, 99, 101] := by
  refine lit_mk G [112, 114, 105, 99, 101] (by decide) q1992 (nr_leaf G [0, 0, 3, 0, 0, 0, 0, 0, 1] (by decide +kernel)) (nr_leaf G [0, 0, 3, 0, 0, 0, 0, 0, 0, 0] (by decide +kernel)) (nr_leaf G [0, 0, 2, 6] (by decide +kernel)) (nr_leaf G [0, 0, 2, 5, 1] (by decide +kernel)) (fun j hj => ?_)
  match j, hj with
  | 0, _ => exact nr_leaf G [0, 0, 2, 5, 0, 0] (by decide +kernel)
  | 1, _ => exact nr_leaf G [0, 0, 2, 4, 1] (by decide +kernel)
  | 2, _ => exact nr_leaf G [0, 0, 2, 4, 0, 1] (by decide +kernel)
  | 3, _ => exact nr_leaf G [0, 0, 2, 4, 0, 0, 0] (by decide +kernel)
  | 4, _ => exact nr_leaf G [0, 0, 2, 3, 2] (by decide +kernel)
set_option maxRecDepth 100000 in
theorem lit_X18_103 {g : GP} (G : OkG g) : ∃ a v : Nat, vk_R "SettlerColony$Reader" 103 "share" a (gS g) ∧ StrC g a v [115, 104, 97, 114, 101] := by
  refine lit_mk G [115, 104, 97, 114, 101] (by decide) q1994 (nr_leaf G [0, 0, 2, 3, 0, 1] (by decide +kernel)) (nr_leaf G [0, 0, 2, 3, 0, 0, 1] (by decide +kernel)) (nr_leaf G [0, 0, 2, 3, 0, 0, 0, 0] (by decide +kernel)) (nr_leaf G [0, 0, 2, 2, 3] (by decide +kernel)) (fun j hj => ?_)
  match j, hj with
  | 0, _ => exact nr_leaf G [0, 0, 2, 2, 2, 1] (by decide +kernel)
  | 1, _ => exact nr_leaf G [0, 0, 2, 2, 2, 0, 0] (by decide +kernel)
  | 2, _ => exact nr_leaf G [0, 0, 2, 2, 1, 1] (by decide +kernel)
  | 3, _ => exact nr_leaf G [0, 0, 2, 2, 1, 0, 1] (by decide +kernel)
  | 4, _ => exact nr_leaf G [0, 0, 2, 2, 1, 0, 0, 0] (by decide +kernel)
set_option maxRecDepth 100000 in
theorem lit_X18_105 {g : GP} (G : OkG g) : ∃ a v : Nat, vk_R "SettlerColony$Reader" 105 "wage" a (gS g) ∧ StrC g a v [119, 97, 103, 101] := by
  refine lit_mk G [119, 97, 103, 101] (by decide) q1995 (nr_leaf G [0, 0, 2, 2, 0, 1, 0, 0] (by decide +kernel)) (nr_leaf G [0, 0, 2, 2, 0, 0, 2] (by decide +kernel)) (nr_leaf G [0, 0, 2, 2, 0, 0, 1, 0] (by decide +kernel)) (nr_leaf G [0, 0, 2, 2, 0, 0, 0, 1] (by decide +kernel)) (fun j hj => ?_)
  match j, hj with
  | 0, _ => exact nr_leaf G [0, 0, 2, 2, 0, 0, 0, 0, 0] (by decide +kernel)
  | 1, _ => exact nr_leaf G [0, 0, 2, 1, 4] (by decide +kernel)
  | 2, _ => exact nr_leaf G [0, 0, 2, 1, 3, 1] (by decide +kernel)
  | 3, _ => exact nr_leaf G [0, 0, 2, 1, 3, 0, 0] (by decide +kernel)
set_option maxRecDepth 100000 in
theorem lit_X18_107 {g : GP} (G : OkG g) : ∃ a v : Nat, vk_R "SettlerColony$Reader" 107 "run" a (gS g) ∧ StrC g a v [114, 117, 110] := by
  refine lit_mk G [114, 117, 110] (by decide) q1996 (nr_leaf G [0, 0, 2, 1, 2, 0, 0, 0] (by decide +kernel)) (nr_leaf G [0, 0, 2, 1, 1, 2] (by decide +kernel)) (nr_leaf G [0, 0, 2, 1, 1, 1, 1] (by decide +kernel)) (nr_leaf G [0, 0, 2, 1, 1, 1, 0, 0] (by decide +kernel)) (fun j hj => ?_)
  match j, hj with
  | 0, _ => exact nr_leaf G [0, 0, 2, 1, 1, 0, 1] (by decide +kernel)
  | 1, _ => exact nr_leaf G [0, 0, 2, 1, 1, 0, 0, 1] (by decide +kernel)
  | 2, _ => exact nr_leaf G [0, 0, 2, 1, 1, 0, 0, 0, 0] (by decide +kernel)
set_option maxRecDepth 100000 in
theorem lit_X18_109 {g : GP} (G : OkG g) : ∃ a v : Nat, vk_R "SettlerColony$Reader" 109 "fine" a (gS g) ∧ StrC g a v [102, 105, 110, 101] := by
  refine lit_mk G [102, 105, 110, 101] (by decide) q1997 (nr_leaf G [0, 0, 2, 1, 0, 2, 0, 0] (by decide +kernel)) (nr_leaf G [0, 0, 2, 1, 0, 1, 1] (by decide +kernel)) (nr_leaf G [0, 0, 2, 1, 0, 1, 0, 1] (by decide +kernel)) (nr_leaf G [0, 0, 2, 1, 0, 1, 0, 0, 0] (by decide +kernel)) (fun j hj => ?_)
  match j, hj with
  | 0, _ => exact nr_leaf G [0, 0, 2, 1, 0, 0, 2] (by decide +kernel)
  | 1, _ => exact nr_leaf G [0, 0, 2, 1, 0, 0, 1, 1] (by decide +kernel)
  | 2, _ => exact nr_leaf G [0, 0, 2, 1, 0, 0, 1, 0, 0] (by decide +kernel)
  | 3, _ => exact nr_leaf G [0, 0, 2, 1, 0, 0, 0, 2] (by decide +kernel)
set_option maxRecDepth 100000 in
theorem lit_X18_111 {g : GP} (G : OkG g) : ∃ a v : Nat, vk_R "SettlerColony$Reader" 111 "votes" a (gS g) ∧ StrC g a v [118, 111, 116, 101, 115] := by
  refine lit_mk G [118, 111, 116, 101, 115] (by decide) q1998 (nr_leaf G [0, 0, 2, 1, 0, 0, 0, 0, 0, 0] (by decide +kernel)) (nr_leaf G [0, 0, 2, 0, 5] (by decide +kernel)) (nr_leaf G [0, 0, 2, 0, 4, 1] (by decide +kernel)) (nr_leaf G [0, 0, 2, 0, 4, 0, 0] (by decide +kernel)) (fun j hj => ?_)
  match j, hj with
  | 0, _ => exact nr_leaf G [0, 0, 2, 0, 3, 1] (by decide +kernel)
  | 1, _ => exact nr_leaf G [0, 0, 2, 0, 3, 0, 1] (by decide +kernel)
  | 2, _ => exact nr_leaf G [0, 0, 2, 0, 3, 0, 0, 0] (by decide +kernel)
  | 3, _ => exact nr_leaf G [0, 0, 2, 0, 2, 2] (by decide +kernel)
  | 4, _ => exact nr_leaf G [0, 0, 2, 0, 2, 1, 1] (by decide +kernel)
set_option maxRecDepth 100000 in
theorem lit_X18_113 {g : GP} (G : OkG g) : ∃ a v : Nat, vk_R "SettlerColony$Reader" 113 "choice" a (gS g) ∧ StrC g a v [99, 104, 111, 105, 99, 101] := by
  refine lit_mk G [99, 104, 111, 105, 99, 101] (by decide) q1999 (nr_leaf G [0, 0, 2, 0, 2, 0, 0, 1] (by decide +kernel)) (nr_leaf G [0, 0, 2, 0, 2, 0, 0, 0, 0] (by decide +kernel)) (nr_leaf G [0, 0, 2, 0, 1, 3] (by decide +kernel)) (nr_leaf G [0, 0, 2, 0, 1, 2, 1] (by decide +kernel)) (fun j hj => ?_)
  match j, hj with
  | 0, _ => exact nr_leaf G [0, 0, 2, 0, 1, 2, 0, 0] (by decide +kernel)
  | 1, _ => exact nr_leaf G [0, 0, 2, 0, 1, 1, 1] (by decide +kernel)
  | 2, _ => exact nr_leaf G [0, 0, 2, 0, 1, 1, 0, 1] (by decide +kernel)
  | 3, _ => exact nr_leaf G [0, 0, 2, 0, 1, 1, 0, 0, 0] (by decide +kernel)
  | 4, _ => exact nr_leaf G [0, 0, 2, 0, 1, 0, 2] (by decide +kernel)
  | 5, _ => exact nr_leaf G [0, 0, 2, 0, 1, 0, 1, 1] (by decide +kernel)
set_option maxRecDepth 100000 in
theorem lit_X18_115 {g : GP} (G : OkG g) : ∃ a v : Nat, vk_R "SettlerColony$Reader" 115 "squat" a (gS g) ∧ StrC g a v [115, 113, 117, 97, 116] := by
  refine lit_mk G [115, 113, 117, 97, 116] (by decide) q2000 (nr_leaf G [0, 0, 2, 0, 1, 0, 0, 1, 0] (by decide +kernel)) (nr_leaf G [0, 0, 2, 0, 1, 0, 0, 0, 1] (by decide +kernel)) (nr_leaf G [0, 0, 2, 0, 1, 0, 0, 0, 0, 0] (by decide +kernel)) (nr_leaf G [0, 0, 2, 0, 0, 4] (by decide +kernel)) (fun j hj => ?_)
  match j, hj with
  | 0, _ => exact nr_leaf G [0, 0, 2, 0, 0, 3, 1] (by decide +kernel)
  | 1, _ => exact nr_leaf G [0, 0, 2, 0, 0, 3, 0, 0] (by decide +kernel)
  | 2, _ => exact nr_leaf G [0, 0, 2, 0, 0, 2, 1] (by decide +kernel)
  | 3, _ => exact nr_leaf G [0, 0, 2, 0, 0, 2, 0, 1] (by decide +kernel)
  | 4, _ => exact nr_leaf G [0, 0, 2, 0, 0, 2, 0, 0, 0] (by decide +kernel)
set_option maxRecDepth 100000 in
theorem lit_X18_137 {g : GP} (G : OkG g) : ∃ a v : Nat, vk_R "SettlerColony$Reader" 137 "week" a (gS g) ∧ StrC g a v [119, 101, 101, 107] := by
  refine lit_mk G [119, 101, 101, 107] (by decide) q2087 (nr_leaf G [0, 0, 1, 3, 2, 0, 0] (by decide +kernel)) (nr_leaf G [0, 0, 1, 3, 1, 1] (by decide +kernel)) (nr_leaf G [0, 0, 1, 3, 1, 0, 1] (by decide +kernel)) (nr_leaf G [0, 0, 1, 3, 1, 0, 0, 0] (by decide +kernel)) (fun j hj => ?_)
  match j, hj with
  | 0, _ => exact nr_leaf G [0, 0, 1, 3, 0, 2] (by decide +kernel)
  | 1, _ => exact nr_leaf G [0, 0, 1, 3, 0, 1, 1] (by decide +kernel)
  | 2, _ => exact nr_leaf G [0, 0, 1, 3, 0, 1, 0, 0] (by decide +kernel)
  | 3, _ => exact nr_leaf G [0, 0, 1, 3, 0, 0, 2] (by decide +kernel)
set_option maxRecDepth 100000 in
theorem lit_X18_139 {g : GP} (G : OkG g) : ∃ a v : Nat, vk_R "SettlerColony$Reader" 139 "year" a (gS g) ∧ StrC g a v [121, 101, 97, 114] := by
  refine lit_mk G [121, 101, 97, 114] (by decide) q2088 (nr_leaf G [0, 0, 1, 3, 0, 0, 0, 0, 0] (by decide +kernel)) (nr_leaf G [0, 0, 1, 2, 4] (by decide +kernel)) (nr_leaf G [0, 0, 1, 2, 3, 1] (by decide +kernel)) (nr_leaf G [0, 0, 1, 2, 3, 0, 0] (by decide +kernel)) (fun j hj => ?_)
  match j, hj with
  | 0, _ => exact nr_leaf G [0, 0, 1, 2, 2, 1] (by decide +kernel)
  | 1, _ => exact nr_leaf G [0, 0, 1, 2, 2, 0, 1] (by decide +kernel)
  | 2, _ => exact nr_leaf G [0, 0, 1, 2, 2, 0, 0, 0] (by decide +kernel)
  | 3, _ => exact nr_leaf G [0, 0, 1, 2, 1, 2] (by decide +kernel)
set_option maxRecDepth 100000 in
theorem lit_X18_141 {g : GP} (G : OkG g) : ∃ a v : Nat, vk_R "SettlerColony$Reader" 141 "sold" a (gS g) ∧ StrC g a v [115, 111, 108, 100] := by
  refine lit_mk G [115, 111, 108, 100] (by decide) q2089 (nr_leaf G [0, 0, 1, 2, 1, 0, 1] (by decide +kernel)) (nr_leaf G [0, 0, 1, 2, 1, 0, 0, 1] (by decide +kernel)) (nr_leaf G [0, 0, 1, 2, 1, 0, 0, 0, 0] (by decide +kernel)) (nr_leaf G [0, 0, 1, 2, 0, 3] (by decide +kernel)) (fun j hj => ?_)
  match j, hj with
  | 0, _ => exact nr_leaf G [0, 0, 1, 2, 0, 2, 1] (by decide +kernel)
  | 1, _ => exact nr_leaf G [0, 0, 1, 2, 0, 2, 0, 0] (by decide +kernel)
  | 2, _ => exact nr_leaf G [0, 0, 1, 2, 0, 1, 1] (by decide +kernel)
  | 3, _ => exact nr_leaf G [0, 0, 1, 2, 0, 1, 0, 1] (by decide +kernel)
set_option maxRecDepth 100000 in
theorem lit_X18_143 {g : GP} (G : OkG g) : ∃ a v : Nat, vk_R "SettlerColony$Reader" 143 "people" a (gS g) ∧ StrC g a v [112, 101, 111, 112, 108, 101] := by
  refine lit_mk G [112, 101, 111, 112, 108, 101] (by decide) q2090 (nr_leaf G [0, 0, 1, 2, 0, 0, 1, 1] (by decide +kernel)) (nr_leaf G [0, 0, 1, 2, 0, 0, 1, 0, 0] (by decide +kernel)) (nr_leaf G [0, 0, 1, 2, 0, 0, 0, 2] (by decide +kernel)) (nr_leaf G [0, 0, 1, 2, 0, 0, 0, 1, 0] (by decide +kernel)) (fun j hj => ?_)
  match j, hj with
  | 0, _ => exact nr_leaf G [0, 0, 1, 2, 0, 0, 0, 0, 1] (by decide +kernel)
  | 1, _ => exact nr_leaf G [0, 0, 1, 2, 0, 0, 0, 0, 0, 0] (by decide +kernel)
  | 2, _ => exact nr_leaf G [0, 0, 1, 1, 5] (by decide +kernel)
  | 3, _ => exact nr_leaf G [0, 0, 1, 1, 4, 1] (by decide +kernel)
  | 4, _ => exact nr_leaf G [0, 0, 1, 1, 4, 0, 0] (by decide +kernel)
  | 5, _ => exact nr_leaf G [0, 0, 1, 1, 3, 1] (by decide +kernel)
set_option maxRecDepth 100000 in
theorem lit_X18_145 {g : GP} (G : OkG g) : ∃ a v : Nat, vk_R "SettlerColony$Reader" 145 "soil" a (gS g) ∧ StrC g a v [115, 111, 105, 108] := by
  refine lit_mk G [115, 111, 105, 108] (by decide) q2091 (nr_leaf G [0, 0, 1, 1, 2, 2] (by decide +kernel)) (nr_leaf G [0, 0, 1, 1, 2, 1, 1] (by decide +kernel)) (nr_leaf G [0, 0, 1, 1, 2, 1, 0, 0] (by decide +kernel)) (nr_leaf G [0, 0, 1, 1, 2, 0, 1] (by decide +kernel)) (fun j hj => ?_)
  match j, hj with
  | 0, _ => exact nr_leaf G [0, 0, 1, 1, 2, 0, 0, 1] (by decide +kernel)
  | 1, _ => exact nr_leaf G [0, 0, 1, 1, 2, 0, 0, 0, 0] (by decide +kernel)
  | 2, _ => exact nr_leaf G [0, 0, 1, 1, 1, 3] (by decide +kernel)
  | 3, _ => exact nr_leaf G [0, 0, 1, 1, 1, 2, 1] (by decide +kernel)
set_option maxRecDepth 100000 in
theorem lit_X18_147 {g : GP} (G : OkG g) : ∃ a v : Nat, vk_R "SettlerColony$Reader" 147 "least" a (gS g) ∧ StrC g a v [108, 101, 97, 115, 116] := by
  refine lit_mk G [108, 101, 97, 115, 116] (by decide) q2092 (nr_leaf G [0, 0, 1, 1, 1, 1, 0, 1] (by decide +kernel)) (nr_leaf G [0, 0, 1, 1, 1, 1, 0, 0, 0] (by decide +kernel)) (nr_leaf G [0, 0, 1, 1, 1, 0, 2] (by decide +kernel)) (nr_leaf G [0, 0, 1, 1, 1, 0, 1, 1] (by decide +kernel)) (fun j hj => ?_)
  match j, hj with
  | 0, _ => exact nr_leaf G [0, 0, 1, 1, 1, 0, 1, 0, 0] (by decide +kernel)
  | 1, _ => exact nr_leaf G [0, 0, 1, 1, 1, 0, 0, 2] (by decide +kernel)
  | 2, _ => exact nr_leaf G [0, 0, 1, 1, 1, 0, 0, 1, 0] (by decide +kernel)
  | 3, _ => exact nr_leaf G [0, 0, 1, 1, 1, 0, 0, 0, 1] (by decide +kernel)
  | 4, _ => exact nr_leaf G [0, 0, 1, 1, 1, 0, 0, 0, 0, 0] (by decide +kernel)
set_option maxRecDepth 100000 in
theorem lit_X18_149 {g : GP} (G : OkG g) : ∃ a v : Nat, vk_R "SettlerColony$Reader" 149 "most" a (gS g) ∧ StrC g a v [109, 111, 115, 116] := by
  refine lit_mk G [109, 111, 115, 116] (by decide) q2093 (nr_leaf G [0, 0, 1, 1, 0, 3, 0, 0] (by decide +kernel)) (nr_leaf G [0, 0, 1, 1, 0, 2, 1] (by decide +kernel)) (nr_leaf G [0, 0, 1, 1, 0, 2, 0, 1] (by decide +kernel)) (nr_leaf G [0, 0, 1, 1, 0, 2, 0, 0, 0] (by decide +kernel)) (fun j hj => ?_)
  match j, hj with
  | 0, _ => exact nr_leaf G [0, 0, 1, 1, 0, 1, 2] (by decide +kernel)
  | 1, _ => exact nr_leaf G [0, 0, 1, 1, 0, 1, 1, 1] (by decide +kernel)
  | 2, _ => exact nr_leaf G [0, 0, 1, 1, 0, 1, 1, 0, 0] (by decide +kernel)
  | 3, _ => exact nr_leaf G [0, 0, 1, 1, 0, 1, 0, 1] (by decide +kernel)
set_option maxRecDepth 100000 in
theorem lit_X18_151 {g : GP} (G : OkG g) : ∃ a v : Nat, vk_R "SettlerColony$Reader" 151 "if" a (gS g) ∧ StrC g a v [105, 102] := by
  refine lit_mk G [105, 102] (by decide) q2094 (nr_leaf G [0, 0, 1, 1, 0, 0, 3] (by decide +kernel)) (nr_leaf G [0, 0, 1, 1, 0, 0, 2, 1] (by decide +kernel)) (nr_leaf G [0, 0, 1, 1, 0, 0, 2, 0, 0] (by decide +kernel)) (nr_leaf G [0, 0, 1, 1, 0, 0, 1, 1] (by decide +kernel)) (fun j hj => ?_)
  match j, hj with
  | 0, _ => exact nr_leaf G [0, 0, 1, 1, 0, 0, 1, 0, 1] (by decide +kernel)
  | 1, _ => exact nr_leaf G [0, 0, 1, 1, 0, 0, 1, 0, 0, 0] (by decide +kernel)
set_option maxRecDepth 100000 in
theorem lit_X18_210 {g : GP} (G : OkG g) : ∃ a v : Nat, vk_R "SettlerColony$Reader" 210 "or" a (gS g) ∧ StrC g a v [111, 114] := by
  refine lit_mk G [111, 114] (by decide) q2219 (nr_leaf G [0, 0, 1, 0, 2, 2, 1] (by decide +kernel)) (nr_leaf G [0, 0, 1, 0, 2, 2, 0, 0] (by decide +kernel)) (nr_leaf G [0, 0, 1, 0, 2, 1, 1] (by decide +kernel)) (nr_leaf G [0, 0, 1, 0, 2, 1, 0, 1] (by decide +kernel)) (fun j hj => ?_)
  match j, hj with
  | 0, _ => exact nr_leaf G [0, 0, 1, 0, 2, 1, 0, 0, 0] (by decide +kernel)
  | 1, _ => exact nr_leaf G [0, 0, 1, 0, 2, 0, 2] (by decide +kernel)
set_option maxRecDepth 100000 in
theorem lit_X18_219 {g : GP} (G : OkG g) : ∃ a v : Nat, vk_R "SettlerColony$Reader" 219 "and" a (gS g) ∧ StrC g a v [97, 110, 100] := by
  refine lit_mk G [97, 110, 100] (by decide) q2218 (nr_leaf G [0, 0, 1, 0, 4, 0, 1] (by decide +kernel)) (nr_leaf G [0, 0, 1, 0, 4, 0, 0, 0] (by decide +kernel)) (nr_leaf G [0, 0, 1, 0, 3, 2] (by decide +kernel)) (nr_leaf G [0, 0, 1, 0, 3, 1, 1] (by decide +kernel)) (fun j hj => ?_)
  match j, hj with
  | 0, _ => exact nr_leaf G [0, 0, 1, 0, 3, 1, 0, 0] (by decide +kernel)
  | 1, _ => exact nr_leaf G [0, 0, 1, 0, 3, 0, 1] (by decide +kernel)
  | 2, _ => exact nr_leaf G [0, 0, 1, 0, 3, 0, 0, 1] (by decide +kernel)
set_option maxRecDepth 100000 in
theorem lit_X18_221 {g : GP} (G : OkG g) : ∃ a v : Nat, vk_R "SettlerColony$Reader" 221 "not" a (gS g) ∧ StrC g a v [110, 111, 116] := by
  refine lit_mk G [110, 111, 116] (by decide) q2190 (nr_leaf G [0, 0, 1, 1, 0, 0, 0, 1, 0, 0] (by decide +kernel)) (nr_leaf G [0, 0, 1, 1, 0, 0, 0, 0, 2] (by decide +kernel)) (nr_leaf G [0, 0, 1, 1, 0, 0, 0, 0, 1, 0] (by decide +kernel)) (nr_leaf G [0, 0, 1, 1, 0, 0, 0, 0, 0, 1] (by decide +kernel)) (fun j hj => ?_)
  match j, hj with
  | 0, _ => exact nr_leaf G [0, 0, 1, 1, 0, 0, 0, 0, 0, 0, 0] (by decide +kernel)
  | 1, _ => exact nr_leaf G [0, 0, 1, 0, 6] (by decide +kernel)
  | 2, _ => exact nr_leaf G [0, 0, 1, 0, 5, 1] (by decide +kernel)
