def mB (c : Nat) : Nat := match c with
  | 0 => 8 | 1 => 8 | 2 => 4 | 3 => 120 | 4 => 8 | 5 => 20 | 6 => 5 | _ => 239
/-- the counts of the world are in their ranges -/
def MI (W : Nat → Int32) : Prop := ∀ c : Nat, c < 8 → nn (W c) (mB c)
def j_abs (a : Int32) : Int32 :=
  (if 0 ≤ a then a else -a)
set_option maxHeartbeats 4000000 in
set_option maxRecDepth 100000 in
theorem c_j_abs {G : UG} {Ω : Hp → Prop}  (a : Int32)  : Con G yJ7_abs cJ7_abs 1 (some .int) 0 0 0 0 [.int a] Ω (fun vr_ h' => vr_ = some (.int (j_abs a)) ∧ Ω h') nX := by
  refine con_of2 (by decide +kernel) rfl ?_
  intro F R Q RF RL RC RS hQ O hnh hnm
  obtain ⟨res, hres⟩ : ∃ z, z = (j_abs a) := ⟨_, rfl⟩
  rw [← hres] at hQ
  unfold j_abs at hres
  refine x_eq (L' := [(0, .int a)]) ?_ rfl rfl rfl
  refine x_iload_n O 0 dJ7_abs_0 rfl rfl ?_
  have J2 : ∀ (y1 : Int32), y1 = (if 0 ≤ a then a else -a) → X G F R Q 1 10 [(0, .int a)] [.int y1] Ω 0 0 := by
    intro y1 e3
    subst e3
    exact x_iretQ O hQ rfl dJ7_abs_10 (fun h m => ⟨by rw [hres], m⟩)
  refine x_ifge O 9 dJ7_abs_1 (by decide) (fun c1 => ?_) (fun c1 => ?_)
  · refine x_iload_n O 0 dJ7_abs_9 rfl rfl ?_
    exact J2 a (by rw [if_pos c1])
  · refine x_iload_n O 0 dJ7_abs_4 rfl rfl ?_
    refine x_ineg O dJ7_abs_5 ?_
    refine x_goto O 10 dJ7_abs_6 (by decide) ?_
    exact J2 (-a) (by rw [if_neg c1])

def j_max (a : Int32) (b : Int32) : Int32 :=
  (if a < b then b else a)
set_option maxHeartbeats 4000000 in
set_option maxRecDepth 100000 in
theorem c_j_max {G : UG} {Ω : Hp → Prop}  (a : Int32) (b : Int32)  : Con G yJ7_max cJ7_max 2 (some .int) 0 0 0 0 [.int a, .int b] Ω (fun vr_ h' => vr_ = some (.int (j_max a b)) ∧ Ω h') nX := by
  refine con_of2 (by decide +kernel) rfl ?_
  intro F R Q RF RL RC RS hQ O hnh hnm
  obtain ⟨res, hres⟩ : ∃ z, z = (j_max a b) := ⟨_, rfl⟩
  rw [← hres] at hQ
  unfold j_max at hres
  refine x_eq (L' := [(0, .int a), (1, .int b)]) ?_ rfl rfl rfl
  refine x_iload_n O 0 dJ7_max_0 rfl rfl ?_
  refine x_iload_n O 1 dJ7_max_1 rfl rfl ?_
  have J2 : ∀ (y1 : Int32), y1 = (if a < b then b else a) → X G F R Q 2 10 [(0, .int a)] [.int y1] Ω 0 0 := by
    intro y1 e3
    subst e3
    exact x_iretQ O hQ rfl dJ7_max_10 (fun h m => ⟨by rw [hres], m⟩)
  refine x_icmplt O 9 dJ7_max_2 (by decide) (fun c2 => ?_) (fun c2 => ?_)
  · refine x_iload_n O 1 dJ7_max_9 rfl rfl ?_
    refine x_sub [0] rfl ?_
    exact J2 b (by rw [if_pos c2])
  · refine x_sub [0] (L' := [(0, .int a)]) rfl ?_
    refine x_iload_n O 0 dJ7_max_5 rfl rfl ?_
    refine x_goto O 10 dJ7_max_6 (by decide) ?_
    exact J2 a (by rw [if_neg c2])

def j_min (a : Int32) (b : Int32) : Int32 :=
  (if b < a then b else a)
set_option maxHeartbeats 4000000 in
set_option maxRecDepth 100000 in
theorem c_j_min {G : UG} {Ω : Hp → Prop}  (a : Int32) (b : Int32)  : Con G yJ7_min cJ7_min 2 (some .int) 0 0 0 0 [.int a, .int b] Ω (fun vr_ h' => vr_ = some (.int (j_min a b)) ∧ Ω h') nX := by
  refine con_of2 (by decide +kernel) rfl ?_
  intro F R Q RF RL RC RS hQ O hnh hnm
  obtain ⟨res, hres⟩ : ∃ z, z = (j_min a b) := ⟨_, rfl⟩
  rw [← hres] at hQ
  unfold j_min at hres
  refine x_eq (L' := [(0, .int a), (1, .int b)]) ?_ rfl rfl rfl
  refine x_iload_n O 0 dJ7_min_0 rfl rfl ?_
  refine x_iload_n O 1 dJ7_min_1 rfl rfl ?_
  have J2 : ∀ (y1 : Int32), y1 = (if b < a then b else a) → X G F R Q 2 10 [(0, .int a)] [.int y1] Ω 0 0 := by
    intro y1 e3
    subst e3
    exact x_iretQ O hQ rfl dJ7_min_10 (fun h m => ⟨by rw [hres], m⟩)
  refine x_icmpgt O 9 dJ7_min_2 (by decide) (fun c2 => ?_) (fun c2 => ?_)
  · refine x_iload_n O 1 dJ7_min_9 rfl rfl ?_
    refine x_sub [0] rfl ?_
    exact J2 b (by rw [if_pos c2])
  · refine x_sub [0] (L' := [(0, .int a)]) rfl ?_
    refine x_iload_n O 0 dJ7_min_5 rfl rfl ?_
    refine x_goto O 10 dJ7_min_6 (by decide) ?_
    exact J2 a (by rw [if_neg c2])

def j_bits (a : Int32) : Int32 :=
  (((((((a - (((a.toUInt32 >>> ((nI 1).toUInt32 &&& Int32.toUInt32 31)).toInt32) &&& ((1431655765)))) &&& ((858993459))) + ((((a - (((a.toUInt32 >>> ((nI 1).toUInt32 &&& Int32.toUInt32 31)).toInt32) &&& ((1431655765)))).toUInt32 >>> ((nI 2).toUInt32 &&& Int32.toUInt32 31)).toInt32) &&& ((858993459)))) + (((((a - (((a.toUInt32 >>> ((nI 1).toUInt32 &&& Int32.toUInt32 31)).toInt32) &&& ((1431655765)))) &&& ((858993459))) + ((((a - (((a.toUInt32 >>> ((nI 1).toUInt32 &&& Int32.toUInt32 31)).toInt32) &&& ((1431655765)))).toUInt32 >>> ((nI 2).toUInt32 &&& Int32.toUInt32 31)).toInt32) &&& ((858993459)))).toUInt32 >>> ((nI 4).toUInt32 &&& Int32.toUInt32 31)).toInt32)) &&& ((252645135))) + (((((((a - (((a.toUInt32 >>> ((nI 1).toUInt32 &&& Int32.toUInt32 31)).toInt32) &&& ((1431655765)))) &&& ((858993459))) + ((((a - (((a.toUInt32 >>> ((nI 1).toUInt32 &&& Int32.toUInt32 31)).toInt32) &&& ((1431655765)))).toUInt32 >>> ((nI 2).toUInt32 &&& Int32.toUInt32 31)).toInt32) &&& ((858993459)))) + (((((a - (((a.toUInt32 >>> ((nI 1).toUInt32 &&& Int32.toUInt32 31)).toInt32) &&& ((1431655765)))) &&& ((858993459))) + ((((a - (((a.toUInt32 >>> ((nI 1).toUInt32 &&& Int32.toUInt32 31)).toInt32) &&& ((1431655765)))).toUInt32 >>> ((nI 2).toUInt32 &&& Int32.toUInt32 31)).toInt32) &&& ((858993459)))).toUInt32 >>> ((nI 4).toUInt32 &&& Int32.toUInt32 31)).toInt32)) &&& ((252645135))).toUInt32 >>> ((nI 8).toUInt32 &&& Int32.toUInt32 31)).toInt32)) + ((((((((a - (((a.toUInt32 >>> ((nI 1).toUInt32 &&& Int32.toUInt32 31)).toInt32) &&& ((1431655765)))) &&& ((858993459))) + ((((a - (((a.toUInt32 >>> ((nI 1).toUInt32 &&& Int32.toUInt32 31)).toInt32) &&& ((1431655765)))).toUInt32 >>> ((nI 2).toUInt32 &&& Int32.toUInt32 31)).toInt32) &&& ((858993459)))) + (((((a - (((a.toUInt32 >>> ((nI 1).toUInt32 &&& Int32.toUInt32 31)).toInt32) &&& ((1431655765)))) &&& ((858993459))) + ((((a - (((a.toUInt32 >>> ((nI 1).toUInt32 &&& Int32.toUInt32 31)).toInt32) &&& ((1431655765)))).toUInt32 >>> ((nI 2).toUInt32 &&& Int32.toUInt32 31)).toInt32) &&& ((858993459)))).toUInt32 >>> ((nI 4).toUInt32 &&& Int32.toUInt32 31)).toInt32)) &&& ((252645135))) + (((((((a - (((a.toUInt32 >>> ((nI 1).toUInt32 &&& Int32.toUInt32 31)).toInt32) &&& ((1431655765)))) &&& ((858993459))) + ((((a - (((a.toUInt32 >>> ((nI 1).toUInt32 &&& Int32.toUInt32 31)).toInt32) &&& ((1431655765)))).toUInt32 >>> ((nI 2).toUInt32 &&& Int32.toUInt32 31)).toInt32) &&& ((858993459)))) + (((((a - (((a.toUInt32 >>> ((nI 1).toUInt32 &&& Int32.toUInt32 31)).toInt32) &&& ((1431655765)))) &&& ((858993459))) + ((((a - (((a.toUInt32 >>> ((nI 1).toUInt32 &&& Int32.toUInt32 31)).toInt32) &&& ((1431655765)))).toUInt32 >>> ((nI 2).toUInt32 &&& Int32.toUInt32 31)).toInt32) &&& ((858993459)))).toUInt32 >>> ((nI 4).toUInt32 &&& Int32.toUInt32 31)).toInt32)) &&& ((252645135))).toUInt32 >>> ((nI 8).toUInt32 &&& Int32.toUInt32 31)).toInt32)).toUInt32 >>> ((nI 16).toUInt32 &&& Int32.toUInt32 31)).toInt32)) &&& (nI 63)
set_option maxHeartbeats 4000000 in
set_option maxRecDepth 100000 in
theorem c_j_bits {G : UG} {Ω : Hp → Prop}  (a : Int32)  : Con G yJ13_bitCount cJ13_bitCount 1 (some .int) 0 0 0 0 [.int a] Ω (fun vr_ h' => vr_ = some (.int (j_bits a)) ∧ Ω h') nX := by
  refine con_of2 (plainFor_of_name (by decide)) rfl ?_
  intro F R Q RF RL RC RS hQ O hnh hnm
  obtain ⟨res, hres⟩ : ∃ z, z = (j_bits a) := ⟨_, rfl⟩
  rw [← hres] at hQ
  unfold j_bits at hres
  refine x_eq (L' := [(0, .int a)]) ?_ rfl rfl rfl
  refine x_iload_n O 0 dJ13_bitCount_0 rfl rfl ?_
  refine x_iload_n O 0 dJ13_bitCount_1 rfl rfl ?_
  refine x_iconst O (nI 1) dJ13_bitCount_2 (by decide) ?_
  refine x_iushr O dJ13_bitCount_3 ?_
  refine x_ldcw O q574 dJ13_bitCount_4 ?_
  refine x_iand O dJ13_bitCount_7 ?_
  refine x_isub O dJ13_bitCount_8 ?_
  refine x_istore_n O [(0, .int (a - (((a.toUInt32 >>> ((nI 1).toUInt32 &&& Int32.toUInt32 31)).toInt32) &&& ((1431655765)))))] dJ13_bitCount_9 rfl rfl rfl ?_
  refine x_iload_n O 0 dJ13_bitCount_10 rfl rfl ?_
  refine x_ldcw O q575 dJ13_bitCount_11 ?_
  refine x_iand O dJ13_bitCount_14 ?_
  refine x_iload_n O 0 dJ13_bitCount_15 rfl rfl ?_
  refine x_iconst O (nI 2) dJ13_bitCount_16 (by decide) ?_
  refine x_iushr O dJ13_bitCount_17 ?_
  refine x_ldcw O q575 dJ13_bitCount_18 ?_
  refine x_iand O dJ13_bitCount_21 ?_
  refine x_iadd O dJ13_bitCount_22 ?_
  refine x_istore_n O [(0, .int (((a - (((a.toUInt32 >>> ((nI 1).toUInt32 &&& Int32.toUInt32 31)).toInt32) &&& ((1431655765)))) &&& ((858993459))) + ((((a - (((a.toUInt32 >>> ((nI 1).toUInt32 &&& Int32.toUInt32 31)).toInt32) &&& ((1431655765)))).toUInt32 >>> ((nI 2).toUInt32 &&& Int32.toUInt32 31)).toInt32) &&& ((858993459)))))] dJ13_bitCount_23 rfl rfl rfl ?_
  refine x_iload_n O 0 dJ13_bitCount_24 rfl rfl ?_
  refine x_iload_n O 0 dJ13_bitCount_25 rfl rfl ?_
  refine x_iconst O (nI 4) dJ13_bitCount_26 (by decide) ?_
  refine x_iushr O dJ13_bitCount_27 ?_
  refine x_iadd O dJ13_bitCount_28 ?_
  refine x_ldcw O q576 dJ13_bitCount_29 ?_
  refine x_iand O dJ13_bitCount_32 ?_
  refine x_istore_n O [(0, .int (((((a - (((a.toUInt32 >>> ((nI 1).toUInt32 &&& Int32.toUInt32 31)).toInt32) &&& ((1431655765)))) &&& ((858993459))) + ((((a - (((a.toUInt32 >>> ((nI 1).toUInt32 &&& Int32.toUInt32 31)).toInt32) &&& ((1431655765)))).toUInt32 >>> ((nI 2).toUInt32 &&& Int32.toUInt32 31)).toInt32) &&& ((858993459)))) + (((((a - (((a.toUInt32 >>> ((nI 1).toUInt32 &&& Int32.toUInt32 31)).toInt32) &&& ((1431655765)))) &&& ((858993459))) + ((((a - (((a.toUInt32 >>> ((nI 1).toUInt32 &&& Int32.toUInt32 31)).toInt32) &&& ((1431655765)))).toUInt32 >>> ((nI 2).toUInt32 &&& Int32.toUInt32 31)).toInt32) &&& ((858993459)))).toUInt32 >>> ((nI 4).toUInt32 &&& Int32.toUInt32 31)).toInt32)) &&& ((252645135))))] dJ13_bitCount_33 rfl rfl rfl ?_
  refine x_iload_n O 0 dJ13_bitCount_34 rfl rfl ?_
  refine x_iload_n O 0 dJ13_bitCount_35 rfl rfl ?_
  refine x_bipush O (nI 8) dJ13_bitCount_36 (by decide) ?_
  refine x_iushr O dJ13_bitCount_38 ?_
  refine x_iadd O dJ13_bitCount_39 ?_
  refine x_istore_n O [(0, .int ((((((a - (((a.toUInt32 >>> ((nI 1).toUInt32 &&& Int32.toUInt32 31)).toInt32) &&& ((1431655765)))) &&& ((858993459))) + ((((a - (((a.toUInt32 >>> ((nI 1).toUInt32 &&& Int32.toUInt32 31)).toInt32) &&& ((1431655765)))).toUInt32 >>> ((nI 2).toUInt32 &&& Int32.toUInt32 31)).toInt32) &&& ((858993459)))) + (((((a - (((a.toUInt32 >>> ((nI 1).toUInt32 &&& Int32.toUInt32 31)).toInt32) &&& ((1431655765)))) &&& ((858993459))) + ((((a - (((a.toUInt32 >>> ((nI 1).toUInt32 &&& Int32.toUInt32 31)).toInt32) &&& ((1431655765)))).toUInt32 >>> ((nI 2).toUInt32 &&& Int32.toUInt32 31)).toInt32) &&& ((858993459)))).toUInt32 >>> ((nI 4).toUInt32 &&& Int32.toUInt32 31)).toInt32)) &&& ((252645135))) + (((((((a - (((a.toUInt32 >>> ((nI 1).toUInt32 &&& Int32.toUInt32 31)).toInt32) &&& ((1431655765)))) &&& ((858993459))) + ((((a - (((a.toUInt32 >>> ((nI 1).toUInt32 &&& Int32.toUInt32 31)).toInt32) &&& ((1431655765)))).toUInt32 >>> ((nI 2).toUInt32 &&& Int32.toUInt32 31)).toInt32) &&& ((858993459)))) + (((((a - (((a.toUInt32 >>> ((nI 1).toUInt32 &&& Int32.toUInt32 31)).toInt32) &&& ((1431655765)))) &&& ((858993459))) + ((((a - (((a.toUInt32 >>> ((nI 1).toUInt32 &&& Int32.toUInt32 31)).toInt32) &&& ((1431655765)))).toUInt32 >>> ((nI 2).toUInt32 &&& Int32.toUInt32 31)).toInt32) &&& ((858993459)))).toUInt32 >>> ((nI 4).toUInt32 &&& Int32.toUInt32 31)).toInt32)) &&& ((252645135))).toUInt32 >>> ((nI 8).toUInt32 &&& Int32.toUInt32 31)).toInt32)))] dJ13_bitCount_40 rfl rfl rfl ?_
  refine x_iload_n O 0 dJ13_bitCount_41 rfl rfl ?_
  refine x_iload_n O 0 dJ13_bitCount_42 rfl rfl ?_
  refine x_bipush O (nI 16) dJ13_bitCount_43 (by decide) ?_
  refine x_iushr O dJ13_bitCount_45 ?_
  refine x_iadd O dJ13_bitCount_46 ?_
  refine x_istore_n O [(0, .int (((((((a - (((a.toUInt32 >>> ((nI 1).toUInt32 &&& Int32.toUInt32 31)).toInt32) &&& ((1431655765)))) &&& ((858993459))) + ((((a - (((a.toUInt32 >>> ((nI 1).toUInt32 &&& Int32.toUInt32 31)).toInt32) &&& ((1431655765)))).toUInt32 >>> ((nI 2).toUInt32 &&& Int32.toUInt32 31)).toInt32) &&& ((858993459)))) + (((((a - (((a.toUInt32 >>> ((nI 1).toUInt32 &&& Int32.toUInt32 31)).toInt32) &&& ((1431655765)))) &&& ((858993459))) + ((((a - (((a.toUInt32 >>> ((nI 1).toUInt32 &&& Int32.toUInt32 31)).toInt32) &&& ((1431655765)))).toUInt32 >>> ((nI 2).toUInt32 &&& Int32.toUInt32 31)).toInt32) &&& ((858993459)))).toUInt32 >>> ((nI 4).toUInt32 &&& Int32.toUInt32 31)).toInt32)) &&& ((252645135))) + (((((((a - (((a.toUInt32 >>> ((nI 1).toUInt32 &&& Int32.toUInt32 31)).toInt32) &&& ((1431655765)))) &&& ((858993459))) + ((((a - (((a.toUInt32 >>> ((nI 1).toUInt32 &&& Int32.toUInt32 31)).toInt32) &&& ((1431655765)))).toUInt32 >>> ((nI 2).toUInt32 &&& Int32.toUInt32 31)).toInt32) &&& ((858993459)))) + (((((a - (((a.toUInt32 >>> ((nI 1).toUInt32 &&& Int32.toUInt32 31)).toInt32) &&& ((1431655765)))) &&& ((858993459))) + ((((a - (((a.toUInt32 >>> ((nI 1).toUInt32 &&& Int32.toUInt32 31)).toInt32) &&& ((1431655765)))).toUInt32 >>> ((nI 2).toUInt32 &&& Int32.toUInt32 31)).toInt32) &&& ((858993459)))).toUInt32 >>> ((nI 4).toUInt32 &&& Int32.toUInt32 31)).toInt32)) &&& ((252645135))).toUInt32 >>> ((nI 8).toUInt32 &&& Int32.toUInt32 31)).toInt32)) + ((((((((a - (((a.toUInt32 >>> ((nI 1).toUInt32 &&& Int32.toUInt32 31)).toInt32) &&& ((1431655765)))) &&& ((858993459))) + ((((a - (((a.toUInt32 >>> ((nI 1).toUInt32 &&& Int32.toUInt32 31)).toInt32) &&& ((1431655765)))).toUInt32 >>> ((nI 2).toUInt32 &&& Int32.toUInt32 31)).toInt32) &&& ((858993459)))) + (((((a - (((a.toUInt32 >>> ((nI 1).toUInt32 &&& Int32.toUInt32 31)).toInt32) &&& ((1431655765)))) &&& ((858993459))) + ((((a - (((a.toUInt32 >>> ((nI 1).toUInt32 &&& Int32.toUInt32 31)).toInt32) &&& ((1431655765)))).toUInt32 >>> ((nI 2).toUInt32 &&& Int32.toUInt32 31)).toInt32) &&& ((858993459)))).toUInt32 >>> ((nI 4).toUInt32 &&& Int32.toUInt32 31)).toInt32)) &&& ((252645135))) + (((((((a - (((a.toUInt32 >>> ((nI 1).toUInt32 &&& Int32.toUInt32 31)).toInt32) &&& ((1431655765)))) &&& ((858993459))) + ((((a - (((a.toUInt32 >>> ((nI 1).toUInt32 &&& Int32.toUInt32 31)).toInt32) &&& ((1431655765)))).toUInt32 >>> ((nI 2).toUInt32 &&& Int32.toUInt32 31)).toInt32) &&& ((858993459)))) + (((((a - (((a.toUInt32 >>> ((nI 1).toUInt32 &&& Int32.toUInt32 31)).toInt32) &&& ((1431655765)))) &&& ((858993459))) + ((((a - (((a.toUInt32 >>> ((nI 1).toUInt32 &&& Int32.toUInt32 31)).toInt32) &&& ((1431655765)))).toUInt32 >>> ((nI 2).toUInt32 &&& Int32.toUInt32 31)).toInt32) &&& ((858993459)))).toUInt32 >>> ((nI 4).toUInt32 &&& Int32.toUInt32 31)).toInt32)) &&& ((252645135))).toUInt32 >>> ((nI 8).toUInt32 &&& Int32.toUInt32 31)).toInt32)).toUInt32 >>> ((nI 16).toUInt32 &&& Int32.toUInt32 31)).toInt32)))] dJ13_bitCount_47 rfl rfl rfl ?_
  refine x_iload_n O 0 dJ13_bitCount_48 rfl rfl ?_
  refine x_bipush O (nI 63) dJ13_bitCount_49 (by decide) ?_
  refine x_iand O dJ13_bitCount_51 ?_
  exact x_iretQ O hQ rfl dJ13_bitCount_52 (fun h m => ⟨by rw [hres], m⟩)

def g_far (a : Int32) (b : Int32) : Int32 :=
  j_max (j_abs ((a - a / (nI 16) * (nI 16)) - (b - b / (nI 16) * (nI 16)))) (j_abs ((a / (nI 16)) - (b / (nI 16))))
set_option maxHeartbeats 4000000 in
set_option maxRecDepth 100000 in
theorem c_g_far {G : UG} {Ω : Hp → Prop}  (a : Int32) (b : Int32)  : Con G yX6_far cX6_far 2 (some .int) 1 21 0 0 [.int a, .int b] Ω (fun vr_ h' => vr_ = some (.int (g_far a b)) ∧ Ω h') nX := by
  refine con_of2 (plainFor_of_name (by decide)) rfl ?_
  intro F R Q RF RL RC RS hQ O hnh hnm
  obtain ⟨res, hres⟩ : ∃ z, z = (g_far a b) := ⟨_, rfl⟩
  rw [← hres] at hQ
  unfold g_far at hres
  refine x_eq (L' := [(0, .int a), (1, .int b)]) ?_ rfl rfl rfl
  refine x_iload_n O 0 dX6_far_0 rfl rfl ?_
  refine x_bipush O (nI 16) dX6_far_1 (by decide) ?_
  refine x_irem O dX6_far_3 (by decide) ?_
  refine x_iload_n O 1 dX6_far_4 rfl rfl ?_
  refine x_bipush O (nI 16) dX6_far_5 (by decide) ?_
  refine x_irem O dX6_far_7 (by decide) ?_
  refine x_isub O dX6_far_8 ?_
  refine x_cS O 1 (c_j_abs ((a - a / (nI 16) * (nI 16)) - (b - b / (nI 16) * (nI 16)))) (lw_S q1798 q520 q116 q521) hd_J7_abs rfl (by rw [RF]; rfl) (by rw [RL]; rfl) ⟨Nat.zero_le _, Nat.zero_le _⟩ rfl rfl dX6_far_9 ?_
  refine x_iload_n O 0 dX6_far_12 rfl rfl ?_
  refine x_bipush O (nI 16) dX6_far_13 (by decide) ?_
  refine x_idiv O dX6_far_15 (by decide) ?_
  refine x_iload_n O 1 dX6_far_16 rfl rfl ?_
  refine x_bipush O (nI 16) dX6_far_17 (by decide) ?_
  refine x_idiv O dX6_far_19 (by decide) ?_
  refine x_isub O dX6_far_20 ?_
  refine x_cS O 1 (c_j_abs ((a / (nI 16)) - (b / (nI 16)))) (lw_S q1798 q520 q116 q521) hd_J7_abs rfl (by rw [RF]; rfl) (by rw [RL]; rfl) ⟨Nat.zero_le _, Nat.zero_le _⟩ rfl rfl dX6_far_21 ?_
  refine x_cS O 2 (c_j_max (j_abs ((a - a / (nI 16) * (nI 16)) - (b - b / (nI 16) * (nI 16)))) (j_abs ((a / (nI 16)) - (b / (nI 16))))) (lw_S q1782 q558 q116 q559) hd_J7_max rfl (by rw [RF]; rfl) (by rw [RL]; rfl) ⟨Nat.zero_le _, Nat.zero_le _⟩ rfl rfl dX6_far_24 ?_
  exact x_iretQ O hQ rfl dX6_far_27 (fun h m => ⟨by rw [hres], m⟩)

def m_in (v : Int32) (lo : Int32) (hi : Int32) : Bool :=
  (if v < lo then false else (if hi < v then false else true))
set_option maxHeartbeats 4000000 in
set_option maxRecDepth 100000 in
theorem c_m_in {G : UG} {Ω : Hp → Prop}  (v : Int32) (lo : Int32) (hi : Int32)  : Con G yX6_in cX6_in 3 (some .boolean) 0 0 0 0 [.int v, .int lo, .int hi] Ω (fun vr_ h' => vr_ = some (.int (b2i (m_in v lo hi))) ∧ Ω h') nX := by
  refine con_of2 (plainFor_of_name (by decide)) rfl ?_
  intro F R Q RF RL RC RS hQ O hnh hnm
  obtain ⟨res, hres⟩ : ∃ z, z = (m_in v lo hi) := ⟨_, rfl⟩
  rw [← hres] at hQ
  unfold m_in at hres
  refine x_eq (L' := [(0, .int v), (1, .int lo), (2, .int hi)]) ?_ rfl rfl rfl
  refine x_iload_n O 0 dX6_in_0 rfl rfl ?_
  refine x_iload_n O 1 dX6_in_1 rfl rfl ?_
  have J2 : ∀ (y1 : Bool), y1 = (if v < lo then false else (if hi < v then false else true)) → X G F R Q 3 15 [(0, .int v)] [.int (b2i y1)] Ω 0 0 := by
    intro y1 e3
    subst e3
    exact x_zretQ O hQ rfl dX6_in_15 (fun h m => ⟨by rw [hres], m⟩)
  refine x_icmplt O 14 dX6_in_2 (by decide) (fun c2 => ?_) (fun c2 => ?_)
  · refine x_sub [0] (L' := [(0, .int v)]) rfl ?_
    refine x_iconst O (nI 0) dX6_in_14 (by decide) ?_
    refine x_top (v' := b2i false) (by decide) ?_
    exact J2 false (by rw [if_pos c2])
  · refine x_sub [0, 2] (L' := [(0, .int v), (2, .int hi)]) rfl ?_
    refine x_iload_n O 0 dX6_in_5 rfl rfl ?_
    refine x_iload_n O 1 dX6_in_6 rfl rfl ?_
    refine x_icmpgt O 14 dX6_in_7 (by decide) (fun c7 => ?_) (fun c7 => ?_)
    · refine x_sub [0] (L' := [(0, .int v)]) rfl ?_
      refine x_iconst O (nI 0) dX6_in_14 (by decide) ?_
      refine x_top (v' := b2i false) (by decide) ?_
      exact J2 false (by rw [if_neg c2, if_pos c7])
    · refine x_sub [0] (L' := [(0, .int v)]) rfl ?_
      refine x_iconst O (nI 1) dX6_in_10 (by decide) ?_
      refine x_goto O 15 dX6_in_11 (by decide) ?_
      refine x_top (v' := b2i true) (by decide) ?_
      exact J2 true (by rw [if_neg c2, if_neg c7])

def m_isIn (c : Int32) (a : Int32) (b : Int32) : Bool :=
  (if m_in (c - c / (nI 16) * (nI 16)) (j_min (a - a / (nI 16) * (nI 16)) (b - b / (nI 16) * (nI 16))) (j_max (a - a / (nI 16) * (nI 16)) (b - b / (nI 16) * (nI 16))) = true then (if m_in (c / (nI 16)) (j_min (a / (nI 16)) (b / (nI 16))) (j_max (a / (nI 16)) (b / (nI 16))) = true then true else false) else false)
set_option maxHeartbeats 4000000 in
set_option maxRecDepth 100000 in
theorem c_m_isIn {G : UG} {Ω : Hp → Prop}  (c : Int32) (a : Int32) (b : Int32)  : Con G yX6_isInArea cX6_isInArea 3 (some .boolean) 1 22 0 0 [.int c, .int a, .int b] Ω (fun vr_ h' => vr_ = some (.int (b2i (m_isIn c a b))) ∧ Ω h') nX := by
  refine con_of2 (plainFor_of_name (by decide)) rfl ?_
  intro F R Q RF RL RC RS hQ O hnh hnm
  obtain ⟨res, hres⟩ : ∃ z, z = (m_isIn c a b) := ⟨_, rfl⟩
  rw [← hres] at hQ
  unfold m_isIn at hres
  refine x_eq (L' := [(0, .int c), (1, .int a), (2, .int b)]) ?_ rfl rfl rfl
  refine x_iload_n O 0 dX6_isInArea_0 rfl rfl ?_
  refine x_bipush O (nI 16) dX6_isInArea_1 (by decide) ?_
  refine x_irem O dX6_isInArea_3 (by decide) ?_
  refine x_iload_n O 1 dX6_isInArea_4 rfl rfl ?_
  refine x_bipush O (nI 16) dX6_isInArea_5 (by decide) ?_
  refine x_irem O dX6_isInArea_7 (by decide) ?_
  refine x_iload_n O 2 dX6_isInArea_8 rfl rfl ?_
  refine x_bipush O (nI 16) dX6_isInArea_9 (by decide) ?_
  refine x_irem O dX6_isInArea_11 (by decide) ?_
  refine x_cS O 2 (c_j_min (a - a / (nI 16) * (nI 16)) (b - b / (nI 16) * (nI 16))) (lw_S q1781 q760 q116 q761) hd_J7_min rfl (by rw [RF]; rfl) (by rw [RL]; rfl) ⟨Nat.zero_le _, Nat.zero_le _⟩ rfl rfl dX6_isInArea_12 ?_
  refine x_iload_n O 1 dX6_isInArea_15 rfl rfl ?_
  refine x_bipush O (nI 16) dX6_isInArea_16 (by decide) ?_
  refine x_irem O dX6_isInArea_18 (by decide) ?_
  refine x_iload_n O 2 dX6_isInArea_19 rfl rfl ?_
  refine x_bipush O (nI 16) dX6_isInArea_20 (by decide) ?_
  refine x_irem O dX6_isInArea_22 (by decide) ?_
  refine x_cS O 2 (c_j_max (a - a / (nI 16) * (nI 16)) (b - b / (nI 16) * (nI 16))) (lw_S q1782 q558 q116 q559) hd_J7_max rfl (by rw [RF]; rfl) (by rw [RL]; rfl) ⟨Nat.zero_le _, Nat.zero_le _⟩ rfl rfl dX6_isInArea_23 ?_
  refine x_cS O 3 (c_m_in (c - c / (nI 16) * (nI 16)) (j_min (a - a / (nI 16) * (nI 16)) (b - b / (nI 16) * (nI 16))) (j_max (a - a / (nI 16) * (nI 16)) (b - b / (nI 16) * (nI 16)))) (lw_S q1771 q1772 q111 q1773) hd_X6_in rfl (by rw [RF]; rfl) (by rw [RL]; rfl) ⟨Nat.zero_le _, Nat.zero_le _⟩ rfl rfl dX6_isInArea_26 ?_
  have J2 : ∀ (y1 : Bool), y1 = (if m_in (c - c / (nI 16) * (nI 16)) (j_min (a - a / (nI 16) * (nI 16)) (b - b / (nI 16) * (nI 16))) (j_max (a - a / (nI 16) * (nI 16)) (b - b / (nI 16) * (nI 16))) = true then (if m_in (c / (nI 16)) (j_min (a / (nI 16)) (b / (nI 16))) (j_max (a / (nI 16)) (b / (nI 16))) = true then true else false) else false) → X G F R Q 3 69 [(0, .int c)] [.int (b2i y1)] Ω 0 0 := by
    intro y1 e3
    subst e3
    exact x_zretQ O hQ rfl dX6_isInArea_69 (fun h m => ⟨by rw [hres], m⟩)
  refine x_ifeqB O 68 dX6_isInArea_29 (by decide) (fun c29 => ?_) (fun c29 => ?_)
  · refine x_sub [0] (L' := [(0, .int c)]) rfl ?_
    refine x_iconst O (nI 0) dX6_isInArea_68 (by decide) ?_
    refine x_top (v' := b2i false) (by decide) ?_
    exact J2 false (by rw [if_neg c29])
  · refine x_iload_n O 0 dX6_isInArea_32 rfl rfl ?_
    refine x_bipush O (nI 16) dX6_isInArea_33 (by decide) ?_
    refine x_idiv O dX6_isInArea_35 (by decide) ?_
    refine x_iload_n O 1 dX6_isInArea_36 rfl rfl ?_
    refine x_bipush O (nI 16) dX6_isInArea_37 (by decide) ?_
    refine x_idiv O dX6_isInArea_39 (by decide) ?_
    refine x_iload_n O 2 dX6_isInArea_40 rfl rfl ?_
    refine x_bipush O (nI 16) dX6_isInArea_41 (by decide) ?_
    refine x_idiv O dX6_isInArea_43 (by decide) ?_
    refine x_cS O 2 (c_j_min (a / (nI 16)) (b / (nI 16))) (lw_S q1781 q760 q116 q761) hd_J7_min rfl (by rw [RF]; rfl) (by rw [RL]; rfl) ⟨Nat.zero_le _, Nat.zero_le _⟩ rfl rfl dX6_isInArea_44 ?_
    refine x_iload_n O 1 dX6_isInArea_47 rfl rfl ?_
    refine x_bipush O (nI 16) dX6_isInArea_48 (by decide) ?_
    refine x_idiv O dX6_isInArea_50 (by decide) ?_
    refine x_iload_n O 2 dX6_isInArea_51 rfl rfl ?_
    refine x_bipush O (nI 16) dX6_isInArea_52 (by decide) ?_
    refine x_idiv O dX6_isInArea_54 (by decide) ?_
    refine x_cS O 2 (c_j_max (a / (nI 16)) (b / (nI 16))) (lw_S q1782 q558 q116 q559) hd_J7_max rfl (by rw [RF]; rfl) (by rw [RL]; rfl) ⟨Nat.zero_le _, Nat.zero_le _⟩ rfl rfl dX6_isInArea_55 ?_
    refine x_cS O 3 (c_m_in (c / (nI 16)) (j_min (a / (nI 16)) (b / (nI 16))) (j_max (a / (nI 16)) (b / (nI 16)))) (lw_S q1771 q1772 q111 q1773) hd_X6_in rfl (by rw [RF]; rfl) (by rw [RL]; rfl) ⟨Nat.zero_le _, Nat.zero_le _⟩ rfl rfl dX6_isInArea_58 ?_
    refine x_ifeqB O 68 dX6_isInArea_61 (by decide) (fun c61 => ?_) (fun c61 => ?_)
    · refine x_sub [0] (L' := [(0, .int c)]) rfl ?_
      refine x_iconst O (nI 0) dX6_isInArea_68 (by decide) ?_
      refine x_top (v' := b2i false) (by decide) ?_
      exact J2 false (by rw [if_pos c29, if_neg c61])
    · refine x_sub [0] (L' := [(0, .int c)]) rfl ?_
      refine x_iconst O (nI 1) dX6_isInArea_64 (by decide) ?_
      refine x_goto O 69 dX6_isInArea_65 (by decide) ?_
      refine x_top (v' := b2i true) (by decide) ?_
      exact J2 true (by rw [if_pos c29, if_pos c61])

def m_noCell (c : Int32) : Bool :=
  (if m_in c (nI 0) (nI 255) = true then false else true)
set_option maxHeartbeats 4000000 in
set_option maxRecDepth 100000 in
theorem c_m_noCell {G : UG} {Ω : Hp → Prop}  (c : Int32)  : Con G yX6_noCell cX6_noCell 1 (some .boolean) 1 22 0 0 [.int c] Ω (fun vr_ h' => vr_ = some (.int (b2i (m_noCell c))) ∧ Ω h') nX := by
  refine con_of2 (plainFor_of_name (by decide)) rfl ?_
  intro F R Q RF RL RC RS hQ O hnh hnm
  obtain ⟨res, hres⟩ : ∃ z, z = (m_noCell c) := ⟨_, rfl⟩
  rw [← hres] at hQ
  unfold m_noCell at hres
  refine x_eq (L' := [(0, .int c)]) ?_ rfl rfl rfl
  refine x_iload_n O 0 dX6_noCell_0 rfl rfl ?_
  refine x_iconst O (nI 0) dX6_noCell_1 (by decide) ?_
  refine x_sipush O (nI 255) dX6_noCell_2 (by decide) ?_
  refine x_cS O 3 (c_m_in c (nI 0) (nI 255)) (lw_S q1771 q1772 q111 q1773) hd_X6_in rfl (by rw [RF]; rfl) (by rw [RL]; rfl) ⟨Nat.zero_le _, Nat.zero_le _⟩ rfl rfl dX6_noCell_5 ?_
  have J2 : ∀ (y1 : Bool), y1 = (if m_in c (nI 0) (nI 255) = true then false else true) → X G F R Q 1 16 [(0, .int c)] [.int (b2i y1)] Ω 0 0 := by
    intro y1 e3
    subst e3
    exact x_zretQ O hQ rfl dX6_noCell_16 (fun h m => ⟨by rw [hres], m⟩)
  refine x_ifneB O 15 dX6_noCell_8 (by decide) (fun c8 => ?_) (fun c8 => ?_)
  · refine x_iconst O (nI 0) dX6_noCell_15 (by decide) ?_
    refine x_top (v' := b2i false) (by decide) ?_
    exact J2 false (by rw [if_pos c8])
  · refine x_iconst O (nI 1) dX6_noCell_11 (by decide) ?_
    refine x_goto O 16 dX6_noCell_12 (by decide) ?_
    refine x_top (v' := b2i true) (by decide) ?_
    exact J2 true (by rw [if_neg c8])

def m_noYear (c : Int32) : Bool :=
  (if m_in c (nI 1800) (nI 1999) = true then false else true)
set_option maxHeartbeats 4000000 in
set_option maxRecDepth 100000 in
theorem c_m_noYear {G : UG} {Ω : Hp → Prop}  (c : Int32)  : Con G yX6_noYear cX6_noYear 1 (some .boolean) 1 22 0 0 [.int c] Ω (fun vr_ h' => vr_ = some (.int (b2i (m_noYear c))) ∧ Ω h') nX := by
  refine con_of2 (plainFor_of_name (by decide)) rfl ?_
  intro F R Q RF RL RC RS hQ O hnh hnm
  obtain ⟨res, hres⟩ : ∃ z, z = (m_noYear c) := ⟨_, rfl⟩
  rw [← hres] at hQ
  unfold m_noYear at hres
  refine x_eq (L' := [(0, .int c)]) ?_ rfl rfl rfl
  refine x_iload_n O 0 dX6_noYear_0 rfl rfl ?_
  refine x_sipush O (nI 1800) dX6_noYear_1 (by decide) ?_
  refine x_sipush O (nI 1999) dX6_noYear_4 (by decide) ?_
  refine x_cS O 3 (c_m_in c (nI 1800) (nI 1999)) (lw_S q1771 q1772 q111 q1773) hd_X6_in rfl (by rw [RF]; rfl) (by rw [RL]; rfl) ⟨Nat.zero_le _, Nat.zero_le _⟩ rfl rfl dX6_noYear_7 ?_
  have J2 : ∀ (y1 : Bool), y1 = (if m_in c (nI 1800) (nI 1999) = true then false else true) → X G F R Q 1 18 [(0, .int c)] [.int (b2i y1)] Ω 0 0 := by
    intro y1 e3
    subst e3
    exact x_zretQ O hQ rfl dX6_noYear_18 (fun h m => ⟨by rw [hres], m⟩)
  refine x_ifneB O 17 dX6_noYear_10 (by decide) (fun c10 => ?_) (fun c10 => ?_)
  · refine x_iconst O (nI 0) dX6_noYear_17 (by decide) ?_
    refine x_top (v' := b2i false) (by decide) ?_
    exact J2 false (by rw [if_pos c10])
  · refine x_iconst O (nI 1) dX6_noYear_13 (by decide) ?_
    refine x_goto O 18 dX6_noYear_14 (by decide) ?_
    refine x_top (v' := b2i true) (by decide) ?_
    exact J2 true (by rw [if_neg c10])

def m_noRow (c : Int32) : Bool :=
  (if m_in c (nI 0) (nI 15) = true then false else true)
set_option maxHeartbeats 4000000 in
set_option maxRecDepth 100000 in
theorem c_m_noRow {G : UG} {Ω : Hp → Prop}  (c : Int32)  : Con G yX6_noRow cX6_noRow 1 (some .boolean) 1 22 0 0 [.int c] Ω (fun vr_ h' => vr_ = some (.int (b2i (m_noRow c))) ∧ Ω h') nX := by
  refine con_of2 (plainFor_of_name (by decide)) rfl ?_
  intro F R Q RF RL RC RS hQ O hnh hnm
  obtain ⟨res, hres⟩ : ∃ z, z = (m_noRow c) := ⟨_, rfl⟩
  rw [← hres] at hQ
  unfold m_noRow at hres
  refine x_eq (L' := [(0, .int c)]) ?_ rfl rfl rfl
  refine x_iload_n O 0 dX6_noRow_0 rfl rfl ?_
  refine x_iconst O (nI 0) dX6_noRow_1 (by decide) ?_
  refine x_bipush O (nI 15) dX6_noRow_2 (by decide) ?_
  refine x_cS O 3 (c_m_in c (nI 0) (nI 15)) (lw_S q1771 q1772 q111 q1773) hd_X6_in rfl (by rw [RF]; rfl) (by rw [RL]; rfl) ⟨Nat.zero_le _, Nat.zero_le _⟩ rfl rfl dX6_noRow_4 ?_
  have J2 : ∀ (y1 : Bool), y1 = (if m_in c (nI 0) (nI 15) = true then false else true) → X G F R Q 1 15 [(0, .int c)] [.int (b2i y1)] Ω 0 0 := by
    intro y1 e3
    subst e3
    exact x_zretQ O hQ rfl dX6_noRow_15 (fun h m => ⟨by rw [hres], m⟩)
  refine x_ifneB O 14 dX6_noRow_7 (by decide) (fun c7 => ?_) (fun c7 => ?_)
  · refine x_iconst O (nI 0) dX6_noRow_14 (by decide) ?_
    refine x_top (v' := b2i false) (by decide) ?_
    exact J2 false (by rw [if_pos c7])
  · refine x_iconst O (nI 1) dX6_noRow_10 (by decide) ?_
    refine x_goto O 15 dX6_noRow_11 (by decide) ?_
    refine x_top (v' := b2i true) (by decide) ?_
    exact J2 true (by rw [if_neg c7])

def m_noSide (c : Int32) : Bool :=
  (if m_in c (nI 0) (nI 1) = true then false else true)
set_option maxHeartbeats 4000000 in
set_option maxRecDepth 100000 in
theorem c_m_noSide {G : UG} {Ω : Hp → Prop}  (c : Int32)  : Con G yX6_noSide cX6_noSide 1 (some .boolean) 1 22 0 0 [.int c] Ω (fun vr_ h' => vr_ = some (.int (b2i (m_noSide c))) ∧ Ω h') nX := by
  refine con_of2 (plainFor_of_name (by decide)) rfl ?_
  intro F R Q RF RL RC RS hQ O hnh hnm
  obtain ⟨res, hres⟩ : ∃ z, z = (m_noSide c) := ⟨_, rfl⟩
  rw [← hres] at hQ
  unfold m_noSide at hres
  refine x_eq (L' := [(0, .int c)]) ?_ rfl rfl rfl
  refine x_iload_n O 0 dX6_noSide_0 rfl rfl ?_
  refine x_iconst O (nI 0) dX6_noSide_1 (by decide) ?_
  refine x_iconst O (nI 1) dX6_noSide_2 (by decide) ?_
  refine x_cS O 3 (c_m_in c (nI 0) (nI 1)) (lw_S q1771 q1772 q111 q1773) hd_X6_in rfl (by rw [RF]; rfl) (by rw [RL]; rfl) ⟨Nat.zero_le _, Nat.zero_le _⟩ rfl rfl dX6_noSide_3 ?_
  have J2 : ∀ (y1 : Bool), y1 = (if m_in c (nI 0) (nI 1) = true then false else true) → X G F R Q 1 14 [(0, .int c)] [.int (b2i y1)] Ω 0 0 := by
    intro y1 e3
    subst e3
    exact x_zretQ O hQ rfl dX6_noSide_14 (fun h m => ⟨by rw [hres], m⟩)
  refine x_ifneB O 13 dX6_noSide_6 (by decide) (fun c6 => ?_) (fun c6 => ?_)
  · refine x_iconst O (nI 0) dX6_noSide_13 (by decide) ?_
    refine x_top (v' := b2i false) (by decide) ?_
    exact J2 false (by rw [if_pos c6])
  · refine x_iconst O (nI 1) dX6_noSide_9 (by decide) ?_
    refine x_goto O 14 dX6_noSide_10 (by decide) ?_
    refine x_top (v' := b2i true) (by decide) ?_
    exact J2 true (by rw [if_neg c6])

def m_textAt (t : Nat) : Nat :=
  1166 + 831 * t
set_option maxHeartbeats 4000000 in
set_option maxRecDepth 100000 in
theorem c_m_textAt {G : UG} {Ω : Hp → Prop}  (t : Nat)  : Con G yX6_textAt cX6_textAt 1 (some .int) 0 0 0 0 [.int (nI t)] Ω (fun vr_ h' => vr_ = some (.int (nI (m_textAt t))) ∧ Ω h') nX := by
  refine con_of2 (plainFor_of_name (by decide)) rfl ?_
  intro F R Q RF RL RC RS hQ O hnh hnm
  obtain ⟨res, hres⟩ : ∃ z, z = (m_textAt t) := ⟨_, rfl⟩
  rw [← hres] at hQ
  unfold m_textAt at hres
  refine x_eq (L' := [(0, .int (nI t))]) ?_ rfl rfl rfl
  refine x_sipush O (nI 1166) dX6_textAt_0 (by decide) ?_
  refine x_sipush O (nI 831) dX6_textAt_3 (by decide) ?_
  refine x_iload_n O 0 dX6_textAt_6 rfl rfl ?_
  refine x_imulN O dX6_textAt_7 ?_
  refine x_iaddN O dX6_textAt_8 ?_
  exact x_iretQ O hQ rfl dX6_textAt_9 (fun h m => ⟨by rw [hres], m⟩)

def m_lineAt (t : Nat) (n : Nat) : Nat :=
  m_textAt t + 1 + 3 * n
set_option maxHeartbeats 4000000 in
set_option maxRecDepth 100000 in
theorem c_m_lineAt {G : UG} {Ω : Hp → Prop}  (t : Nat) (n : Nat)  : Con G yX6_lineAt cX6_lineAt 2 (some .int) 1 20 0 0 [.int (nI t), .int (nI n)] Ω (fun vr_ h' => vr_ = some (.int (nI (m_lineAt t n))) ∧ Ω h') nX := by
  refine con_of2 (plainFor_of_name (by decide)) rfl ?_
  intro F R Q RF RL RC RS hQ O hnh hnm
  obtain ⟨res, hres⟩ : ∃ z, z = (m_lineAt t n) := ⟨_, rfl⟩
  rw [← hres] at hQ
  unfold m_lineAt at hres
  refine x_eq (L' := [(0, .int (nI t)), (1, .int (nI n))]) ?_ rfl rfl rfl
  refine x_iload_n O 0 dX6_lineAt_0 rfl rfl ?_
  refine x_cS O 1 (c_m_textAt t) (lw_S q1845 q1846 q111 q1847) hd_X6_textAt rfl (by rw [RF]; rfl) (by rw [RL]; rfl) ⟨Nat.zero_le _, Nat.zero_le _⟩ rfl rfl dX6_lineAt_1 ?_
  refine x_iconst O (nI 1) dX6_lineAt_4 (by decide) ?_
  refine x_iaddN O dX6_lineAt_5 ?_
  refine x_iconst O (nI 3) dX6_lineAt_6 (by decide) ?_
  refine x_iload_n O 1 dX6_lineAt_7 rfl rfl ?_
  refine x_imulN O dX6_lineAt_8 ?_
  refine x_iaddN O dX6_lineAt_9 ?_
  exact x_iretQ O hQ rfl dX6_lineAt_10 (fun h m => ⟨by rw [hres], m⟩)

def m_thrown (μ : Mu) : Int32 :=
  μ 0 0
set_option maxHeartbeats 4000000 in
set_option maxRecDepth 100000 in
theorem c_m_thrown {G : UG} {adr : Nat → Nat} {h0 : Hp} {μ : Mu}    : Con G yX6_thrown cX6_thrown 1 (some .int) 0 0 0 0 [.ref (adr 0)] (MS G adr h0 μ) (fun vr_ h' => vr_ = some (.int (m_thrown μ)) ∧ MS G adr h0 μ h') nX := by
  refine con_of2 (plainFor_of_name (by decide)) rfl ?_
  intro F R Q RF RL RC RS hQ O hnh hnm
  obtain ⟨res, hres⟩ : ∃ z, z = (m_thrown μ) := ⟨_, rfl⟩
  rw [← hres] at hQ
  unfold m_thrown at hres
  refine x_eq (L' := [(0, .ref (adr 0))]) ?_ rfl rfl rfl
  refine x_aload_n O 0 dX6_thrown_0 rfl rfl ?_
  refine x_mget O k_X6_3_6 (mg_0 _ _) dX6_thrown_1 ?_
  exact x_iretQ O hQ rfl dX6_thrown_4 (fun h m => ⟨by rw [hres], m⟩)

def m_throwsIf_t (W : Nat → Int32) (k : Nat) : Bool :=
  true
set_option maxHeartbeats 4000000 in
set_option maxRecDepth 100000 in
theorem c_m_throwsIf_t {G : UG} {adr : Nat → Nat} {h0 : Hp} {μ : Mu}  (k : Nat)  : Con G yX6_throwsIf cX6_throwsIf 3 (some .boolean) 0 0 0 0 [.ref (adr 0), .int (b2i true), .int (nI k)] (MS G adr h0 μ) (fun vr_ h' => vr_ = some (.int (b2i (m_throwsIf_t (μ 1) k))) ∧ MS G adr h0 (mset μ 0 0 (nI k)) h') nX := by
  refine con_of2 (plainFor_of_name (by decide)) rfl ?_
  intro F R Q RF RL RC RS hQ O hnh hnm
  obtain ⟨res, hres⟩ : ∃ z, z = (m_throwsIf_t (μ 1) k) := ⟨_, rfl⟩
  rw [← hres] at hQ
  unfold m_throwsIf_t at hres
  refine x_eq (L' := [(0, .ref (adr 0)), (1, .int (b2i true)), (2, .int (nI k))]) ?_ rfl rfl rfl
  refine x_iload_n O 1 dX6_throwsIf_0 rfl rfl ?_
  refine x_ifeqB O 9 dX6_throwsIf_1 (by decide) (fun c => absurd rfl c) (fun _ => ?_)
  refine x_aload_n O 0 dX6_throwsIf_4 rfl rfl ?_
  refine x_iload_n O 2 dX6_throwsIf_5 rfl rfl ?_
  refine x_mput O p_X6_3_6 (mp_0 _ _ _) rfl dX6_throwsIf_6 ?_
  refine x_iload_n O 1 dX6_throwsIf_9 rfl rfl ?_
  exact x_zretQ O hQ rfl dX6_throwsIf_10 (fun h m => ⟨by rw [hres], m⟩)

def m_throwsIf_f (W : Nat → Int32) (k : Nat) : Bool :=
  false
set_option maxHeartbeats 4000000 in
set_option maxRecDepth 100000 in
theorem c_m_throwsIf_f {G : UG} {adr : Nat → Nat} {h0 : Hp} {μ : Mu}  (k : Nat)  : Con G yX6_throwsIf cX6_throwsIf 3 (some .boolean) 0 0 0 0 [.ref (adr 0), .int (b2i false), .int (nI k)] (MS G adr h0 μ) (fun vr_ h' => vr_ = some (.int (b2i (m_throwsIf_f (μ 1) k))) ∧ MS G adr h0 μ h') nX := by
  refine con_of2 (plainFor_of_name (by decide)) rfl ?_
  intro F R Q RF RL RC RS hQ O hnh hnm
  obtain ⟨res, hres⟩ : ∃ z, z = (m_throwsIf_f (μ 1) k) := ⟨_, rfl⟩
  rw [← hres] at hQ
  unfold m_throwsIf_f at hres
  refine x_eq (L' := [(0, .ref (adr 0)), (1, .int (b2i false)), (2, .int (nI k))]) ?_ rfl rfl rfl
  refine x_iload_n O 1 dX6_throwsIf_0 rfl rfl ?_
  refine x_ifeqB O 9 dX6_throwsIf_1 (by decide) (fun _ => ?_) (fun c => absurd c (by decide))
  refine x_sub [0, 1] (L' := [(0, .ref (adr 0)), (1, .int (b2i false))]) rfl ?_
  refine x_iload_n O 1 dX6_throwsIf_9 rfl rfl ?_
  exact x_zretQ O hQ rfl dX6_throwsIf_10 (fun h m => ⟨by rw [hres], m⟩)

def m_none (W : Nat → Int32) (k : Int32) (w : Nat) : Bool :=
  (if m_in k (nI 0) ((W w) - (nI 1)) = true then false else true)
set_option maxHeartbeats 4000000 in
set_option maxRecDepth 100000 in
theorem c_m_none {G : UG} {adr : Nat → Nat} {h0 : Hp} {μ : Mu}  (k : Int32) (w : Nat) (hw : w < 8) : Con G yX6_none cX6_none 3 (some .boolean) 1 22 0 0 [.ref (adr 0), .int k, .int (nI w)] (MS G adr h0 μ) (fun vr_ h' => vr_ = some (.int (b2i (m_none (μ 1) k w))) ∧ MS G adr h0 μ h') nX := by
  refine con_of2 (plainFor_of_name (by decide)) rfl ?_
  intro F R Q RF RL RC RS hQ O hnh hnm
  obtain ⟨res, hres⟩ : ∃ z, z = (m_none (μ 1) k w) := ⟨_, rfl⟩
  rw [← hres] at hQ
  unfold m_none at hres
  refine x_eq (L' := [(0, .ref (adr 0)), (1, .int k), (2, .int (nI w))]) ?_ rfl rfl rfl
  refine x_iload_n O 1 dX6_none_0 rfl rfl ?_
  refine x_iconst O (nI 0) dX6_none_1 (by decide) ?_
  refine x_aload_n O 0 dX6_none_2 rfl rfl ?_
  refine x_mget O k_X6_13_6 (mg_1 _ _) dX6_none_3 ?_
  refine x_iload_n O 2 dX6_none_6 rfl rfl ?_
  refine x_ialdN O MS.c1 (by omega) rfl dX6_none_7 ?_
  refine x_iconst O (nI 1) dX6_none_8 (by decide) ?_
  refine x_isub O dX6_none_9 ?_
  refine x_cS O 3 (c_m_in k (nI 0) ((μ 1 w) - (nI 1))) (lw_S q1771 q1772 q111 q1773) hd_X6_in rfl (by rw [RF]; rfl) (by rw [RL]; rfl) ⟨Nat.zero_le _, Nat.zero_le _⟩ rfl rfl dX6_none_10 ?_
  have J2 : ∀ (y1 : Bool), y1 = (if m_in k (nI 0) ((μ 1 w) - (nI 1)) = true then false else true) → X G F R Q 3 21 [(0, .ref (adr 0))] [.int (b2i y1)] (MS G adr h0 μ) 0 0 := by
    intro y1 e3
    subst e3
    exact x_zretQ O hQ rfl dX6_none_21 (fun h m => ⟨by rw [hres], m⟩)
  refine x_ifneB O 20 dX6_none_13 (by decide) (fun c13 => ?_) (fun c13 => ?_)
  · refine x_sub [0] (L' := [(0, .ref (adr 0))]) rfl ?_
    refine x_iconst O (nI 0) dX6_none_20 (by decide) ?_
    refine x_top (v' := b2i false) (by decide) ?_
    exact J2 false (by rw [if_pos c13])
  · refine x_sub [0] (L' := [(0, .ref (adr 0))]) rfl ?_
    refine x_iconst O (nI 1) dX6_none_16 (by decide) ?_
    refine x_goto O 21 dX6_none_17 (by decide) ?_
    refine x_top (v' := b2i true) (by decide) ?_
    exact J2 true (by rw [if_neg c13])

def m_of (W : Nat → Int32) (p : Nat) (w : Nat) : Int32 :=
  W (301 + 6 * p + w)
set_option maxHeartbeats 4000000 in
set_option maxRecDepth 100000 in
theorem c_m_of {G : UG} {adr : Nat → Nat} {h0 : Hp} {μ : Mu}  (p : Nat) (w : Nat) (hp : p < 8) (hw : w < 6) : Con G yX6_of cX6_of 3 (some .int) 0 0 0 0 [.ref (adr 0), .int (nI p), .int (nI w)] (MS G adr h0 μ) (fun vr_ h' => vr_ = some (.int (m_of (μ 1) p w)) ∧ MS G adr h0 μ h') nX := by
  refine con_of2 (plainFor_of_name (by decide)) rfl ?_
  intro F R Q RF RL RC RS hQ O hnh hnm
  obtain ⟨res, hres⟩ : ∃ z, z = (m_of (μ 1) p w) := ⟨_, rfl⟩
  rw [← hres] at hQ
  unfold m_of at hres
  refine x_eq (L' := [(0, .ref (adr 0)), (1, .int (nI p)), (2, .int (nI w))]) ?_ rfl rfl rfl
  refine x_aload_n O 0 dX6_of_0 rfl rfl ?_
  refine x_mget O k_X6_13_6 (mg_1 _ _) dX6_of_1 ?_
  refine x_sipush O (nI 301) dX6_of_4 (by decide) ?_
  refine x_bipush O (nI 6) dX6_of_7 (by decide) ?_
  refine x_iload_n O 1 dX6_of_9 rfl rfl ?_
  refine x_imulN O dX6_of_10 ?_
  refine x_iaddN O dX6_of_11 ?_
  refine x_iload_n O 2 dX6_of_12 rfl rfl ?_
  refine x_iaddN O dX6_of_13 ?_
  refine x_ialdN O MS.c1 (by omega) rfl dX6_of_14 ?_
  exact x_iretQ O hQ rfl dX6_of_15 (fun h m => ⟨by rw [hres], m⟩)

def m_ofFind (W : Nat → Int32) (f : Nat) (w : Nat) : Int32 :=
  W (349 + 6 * f + w)
set_option maxHeartbeats 4000000 in
set_option maxRecDepth 100000 in
theorem c_m_ofFind {G : UG} {adr : Nat → Nat} {h0 : Hp} {μ : Mu}  (f : Nat) (w : Nat) (hf : f < 120) (hw : w < 6) : Con G yX6_ofFind cX6_ofFind 3 (some .int) 0 0 0 0 [.ref (adr 0), .int (nI f), .int (nI w)] (MS G adr h0 μ) (fun vr_ h' => vr_ = some (.int (m_ofFind (μ 1) f w)) ∧ MS G adr h0 μ h') nX := by
  refine con_of2 (plainFor_of_name (by decide)) rfl ?_
  intro F R Q RF RL RC RS hQ O hnh hnm
  obtain ⟨res, hres⟩ : ∃ z, z = (m_ofFind (μ 1) f w) := ⟨_, rfl⟩
  rw [← hres] at hQ
  unfold m_ofFind at hres
  refine x_eq (L' := [(0, .ref (adr 0)), (1, .int (nI f)), (2, .int (nI w))]) ?_ rfl rfl rfl
  refine x_aload_n O 0 dX6_ofFind_0 rfl rfl ?_
  refine x_mget O k_X6_13_6 (mg_1 _ _) dX6_ofFind_1 ?_
  refine x_sipush O (nI 349) dX6_ofFind_4 (by decide) ?_
  refine x_bipush O (nI 6) dX6_ofFind_7 (by decide) ?_
  refine x_iload_n O 1 dX6_ofFind_9 rfl rfl ?_
  refine x_imulN O dX6_ofFind_10 ?_
  refine x_iaddN O dX6_ofFind_11 ?_
  refine x_iload_n O 2 dX6_ofFind_12 rfl rfl ?_
  refine x_iaddN O dX6_ofFind_13 ?_
  refine x_ialdN O MS.c1 (by omega) rfl dX6_ofFind_14 ?_
  exact x_iretQ O hQ rfl dX6_ofFind_15 (fun h m => ⟨by rw [hres], m⟩)

def m_ofTeller (W : Nat → Int32) (t : Nat) (w : Nat) : Int32 :=
  W (1069 + 4 * t + w)
set_option maxHeartbeats 4000000 in
set_option maxRecDepth 100000 in
theorem c_m_ofTeller {G : UG} {adr : Nat → Nat} {h0 : Hp} {μ : Mu}  (t : Nat) (w : Nat) (ht : t < 8) (hw : w < 4) : Con G yX6_ofTeller cX6_ofTeller 3 (some .int) 0 0 0 0 [.ref (adr 0), .int (nI t), .int (nI w)] (MS G adr h0 μ) (fun vr_ h' => vr_ = some (.int (m_ofTeller (μ 1) t w)) ∧ MS G adr h0 μ h') nX := by
  refine con_of2 (plainFor_of_name (by decide)) rfl ?_
  intro F R Q RF RL RC RS hQ O hnh hnm
  obtain ⟨res, hres⟩ : ∃ z, z = (m_ofTeller (μ 1) t w) := ⟨_, rfl⟩
  rw [← hres] at hQ
  unfold m_ofTeller at hres
  refine x_eq (L' := [(0, .ref (adr 0)), (1, .int (nI t)), (2, .int (nI w))]) ?_ rfl rfl rfl
  refine x_aload_n O 0 dX6_ofTeller_0 rfl rfl ?_
  refine x_mget O k_X6_13_6 (mg_1 _ _) dX6_ofTeller_1 ?_
  refine x_sipush O (nI 1069) dX6_ofTeller_4 (by decide) ?_
  refine x_iconst O (nI 4) dX6_ofTeller_7 (by decide) ?_
  refine x_iload_n O 1 dX6_ofTeller_8 rfl rfl ?_
  refine x_imulN O dX6_ofTeller_9 ?_
  refine x_iaddN O dX6_ofTeller_10 ?_
  refine x_iload_n O 2 dX6_ofTeller_11 rfl rfl ?_
  refine x_iaddN O dX6_ofTeller_12 ?_
  refine x_ialdN O MS.c1 (by omega) rfl dX6_ofTeller_13 ?_
  exact x_iretQ O hQ rfl dX6_ofTeller_14 (fun h m => ⟨by rw [hres], m⟩)

def m_ofTelling (W : Nat → Int32) (t : Nat) (w : Nat) : Int32 :=
  W (1101 + 3 * t + w)
set_option maxHeartbeats 4000000 in
set_option maxRecDepth 100000 in
theorem c_m_ofTelling {G : UG} {adr : Nat → Nat} {h0 : Hp} {μ : Mu}  (t : Nat) (w : Nat) (ht : t < 20) (hw : w < 3) : Con G yX6_ofTelling cX6_ofTelling 3 (some .int) 0 0 0 0 [.ref (adr 0), .int (nI t), .int (nI w)] (MS G adr h0 μ) (fun vr_ h' => vr_ = some (.int (m_ofTelling (μ 1) t w)) ∧ MS G adr h0 μ h') nX := by
  refine con_of2 (plainFor_of_name (by decide)) rfl ?_
  intro F R Q RF RL RC RS hQ O hnh hnm
  obtain ⟨res, hres⟩ : ∃ z, z = (m_ofTelling (μ 1) t w) := ⟨_, rfl⟩
  rw [← hres] at hQ
  unfold m_ofTelling at hres
  refine x_eq (L' := [(0, .ref (adr 0)), (1, .int (nI t)), (2, .int (nI w))]) ?_ rfl rfl rfl
  refine x_aload_n O 0 dX6_ofTelling_0 rfl rfl ?_
  refine x_mget O k_X6_13_6 (mg_1 _ _) dX6_ofTelling_1 ?_
  refine x_sipush O (nI 1101) dX6_ofTelling_4 (by decide) ?_
  refine x_iconst O (nI 3) dX6_ofTelling_7 (by decide) ?_
  refine x_iload_n O 1 dX6_ofTelling_8 rfl rfl ?_
  refine x_imulN O dX6_ofTelling_9 ?_
  refine x_iaddN O dX6_ofTelling_10 ?_
  refine x_iload_n O 2 dX6_ofTelling_11 rfl rfl ?_
  refine x_iaddN O dX6_ofTelling_12 ?_
  refine x_ialdN O MS.c1 (by omega) rfl dX6_ofTelling_13 ?_
  exact x_iretQ O hQ rfl dX6_ofTelling_14 (fun h m => ⟨by rw [hres], m⟩)

def m_isFoe (W : Nat → Int32) (p : Nat) (q : Nat) : Bool :=
  (if (m_of W q 3) = (nI 1) then (if (m_of W q 4) = (m_of W p 4) then false else true) else false)
set_option maxHeartbeats 4000000 in
set_option maxRecDepth 100000 in
theorem c_m_isFoe {G : UG} {adr : Nat → Nat} {h0 : Hp} {μ : Mu}  (p : Nat) (q : Nat) (hp : p < 8) (hq : q < 8) : Con G yX6_isFoe cX6_isFoe 3 (some .boolean) 1 22 0 0 [.ref (adr 0), .int (nI p), .int (nI q)] (MS G adr h0 μ) (fun vr_ h' => vr_ = some (.int (b2i (m_isFoe (μ 1) p q))) ∧ MS G adr h0 μ h') nX := by
  refine con_of2 (plainFor_of_name (by decide)) rfl ?_
  intro F R Q RF RL RC RS hQ O hnh hnm
  obtain ⟨res, hres⟩ : ∃ z, z = (m_isFoe (μ 1) p q) := ⟨_, rfl⟩
  rw [← hres] at hQ
  unfold m_isFoe at hres
  refine x_eq (L' := [(0, .ref (adr 0)), (1, .int (nI p)), (2, .int (nI q))]) ?_ rfl rfl rfl
  refine x_aload_n O 0 dX6_isFoe_0 rfl rfl ?_
  refine x_iload_n O 2 dX6_isFoe_1 rfl rfl ?_
  refine x_iconst O (nI 3) dX6_isFoe_2 (by decide) ?_
  refine x_cV O 2 (c_m_of (μ := μ) q 3 (by omega) (by omega)) MS.obj uc6 (lw_V q1968 q1970 qs60 q111 q1971) rfl hd_X6_of rfl (by rw [RF]; rfl) (by rw [RL]; rfl) ⟨Nat.zero_le _, Nat.zero_le _⟩ rfl rfl dX6_isFoe_3 ?_
  refine x_iconst O (nI 1) dX6_isFoe_6 (by decide) ?_
  have J2 : ∀ (y1 : Bool), y1 = (if (m_of (μ 1) q 3) = (nI 1) then (if (m_of (μ 1) q 4) = (m_of (μ 1) p 4) then false else true) else false) → X G F R Q 3 30 [(0, .ref (adr 0))] [.int (b2i y1)] (MS G adr h0 μ) 0 0 := by
    intro y1 e3
    subst e3
    exact x_zretQ O hQ rfl dX6_isFoe_30 (fun h m => ⟨by rw [hres], m⟩)
  refine x_icmpne O 29 dX6_isFoe_7 (by decide) (fun c7 => ?_) (fun c7 => ?_)
  · refine x_sub [0] (L' := [(0, .ref (adr 0))]) rfl ?_
    refine x_iconst O (nI 0) dX6_isFoe_29 (by decide) ?_
    refine x_top (v' := b2i false) (by decide) ?_
    exact J2 false (by rw [if_neg c7])
  · refine x_aload_n O 0 dX6_isFoe_10 rfl rfl ?_
    refine x_iload_n O 2 dX6_isFoe_11 rfl rfl ?_
    refine x_iconst O (nI 4) dX6_isFoe_12 (by decide) ?_
    refine x_cV O 2 (c_m_of (μ := μ) q 4 (by omega) (by omega)) MS.obj uc6 (lw_V q1968 q1970 qs60 q111 q1971) rfl hd_X6_of rfl (by rw [RF]; rfl) (by rw [RL]; rfl) ⟨Nat.zero_le _, Nat.zero_le _⟩ rfl rfl dX6_isFoe_13 ?_
    refine x_aload_n O 0 dX6_isFoe_16 rfl rfl ?_
    refine x_iload_n O 1 dX6_isFoe_17 rfl rfl ?_
    refine x_iconst O (nI 4) dX6_isFoe_18 (by decide) ?_
    refine x_cV O 2 (c_m_of (μ := μ) p 4 (by omega) (by omega)) MS.obj uc6 (lw_V q1968 q1970 qs60 q111 q1971) rfl hd_X6_of rfl (by rw [RF]; rfl) (by rw [RL]; rfl) ⟨Nat.zero_le _, Nat.zero_le _⟩ rfl rfl dX6_isFoe_19 ?_
    refine x_icmpeq O 29 dX6_isFoe_22 (by decide) (fun c22 => ?_) (fun c22 => ?_)
    · refine x_sub [0] (L' := [(0, .ref (adr 0))]) rfl ?_
      refine x_iconst O (nI 0) dX6_isFoe_29 (by decide) ?_
      refine x_top (v' := b2i false) (by decide) ?_
      exact J2 false (by rw [if_pos c7, if_pos c22])
    · refine x_sub [0] (L' := [(0, .ref (adr 0))]) rfl ?_
      refine x_iconst O (nI 1) dX6_isFoe_25 (by decide) ?_
      refine x_goto O 30 dX6_isFoe_26 (by decide) ?_
      refine x_top (v' := b2i true) (by decide) ?_
      exact J2 true (by rw [if_pos c7, if_neg c22])

def m_isFriend (W : Nat → Int32) (p : Nat) (q : Nat) : Bool :=
  (if q = p then false else (if (m_of W q 3) = (nI 1) then (if (m_of W q 4) = (m_of W p 4) then true else false) else false))
set_option maxHeartbeats 4000000 in
set_option maxRecDepth 100000 in
theorem c_m_isFriend {G : UG} {adr : Nat → Nat} {h0 : Hp} {μ : Mu}  (p : Nat) (q : Nat) (hp : p < 8) (hq : q < 8) : Con G yX6_isFriend cX6_isFriend 3 (some .boolean) 1 22 0 0 [.ref (adr 0), .int (nI p), .int (nI q)] (MS G adr h0 μ) (fun vr_ h' => vr_ = some (.int (b2i (m_isFriend (μ 1) p q))) ∧ MS G adr h0 μ h') nX := by
  refine con_of2 (plainFor_of_name (by decide)) rfl ?_
  intro F R Q RF RL RC RS hQ O hnh hnm
  obtain ⟨res, hres⟩ : ∃ z, z = (m_isFriend (μ 1) p q) := ⟨_, rfl⟩
  rw [← hres] at hQ
  unfold m_isFriend at hres
  refine x_eq (L' := [(0, .ref (adr 0)), (1, .int (nI p)), (2, .int (nI q))]) ?_ rfl rfl rfl
  refine x_iload_n O 2 dX6_isFriend_0 rfl rfl ?_
  refine x_iload_n O 1 dX6_isFriend_1 rfl rfl ?_
  have J2 : ∀ (y1 : Bool), y1 = (if q = p then false else (if (m_of (μ 1) q 3) = (nI 1) then (if (m_of (μ 1) q 4) = (m_of (μ 1) p 4) then true else false) else false)) → X G F R Q 3 35 [(0, .ref (adr 0))] [.int (b2i y1)] (MS G adr h0 μ) 0 0 := by
    intro y1 e3
    subst e3
    exact x_zretQ O hQ rfl dX6_isFriend_35 (fun h m => ⟨by rw [hres], m⟩)
  refine x_icmpeqN O 34 (by omega) (by omega) dX6_isFriend_2 (by decide) (fun c2 => ?_) (fun c2 => ?_)
  · refine x_sub [0] (L' := [(0, .ref (adr 0))]) rfl ?_
    refine x_iconst O (nI 0) dX6_isFriend_34 (by decide) ?_
    refine x_top (v' := b2i false) (by decide) ?_
    exact J2 false (by rw [if_pos c2])
  · refine x_aload_n O 0 dX6_isFriend_5 rfl rfl ?_
    refine x_iload_n O 2 dX6_isFriend_6 rfl rfl ?_
    refine x_iconst O (nI 3) dX6_isFriend_7 (by decide) ?_
    refine x_cV O 2 (c_m_of (μ := μ) q 3 (by omega) (by omega)) MS.obj uc6 (lw_V q1968 q1970 qs60 q111 q1971) rfl hd_X6_of rfl (by rw [RF]; rfl) (by rw [RL]; rfl) ⟨Nat.zero_le _, Nat.zero_le _⟩ rfl rfl dX6_isFriend_8 ?_
    refine x_iconst O (nI 1) dX6_isFriend_11 (by decide) ?_
    refine x_icmpne O 34 dX6_isFriend_12 (by decide) (fun c12 => ?_) (fun c12 => ?_)
    · refine x_sub [0] (L' := [(0, .ref (adr 0))]) rfl ?_
      refine x_iconst O (nI 0) dX6_isFriend_34 (by decide) ?_
      refine x_top (v' := b2i false) (by decide) ?_
      exact J2 false (by rw [if_neg c2, if_neg c12])
    · refine x_aload_n O 0 dX6_isFriend_15 rfl rfl ?_
      refine x_iload_n O 2 dX6_isFriend_16 rfl rfl ?_
      refine x_iconst O (nI 4) dX6_isFriend_17 (by decide) ?_
      refine x_cV O 2 (c_m_of (μ := μ) q 4 (by omega) (by omega)) MS.obj uc6 (lw_V q1968 q1970 qs60 q111 q1971) rfl hd_X6_of rfl (by rw [RF]; rfl) (by rw [RL]; rfl) ⟨Nat.zero_le _, Nat.zero_le _⟩ rfl rfl dX6_isFriend_18 ?_
      refine x_aload_n O 0 dX6_isFriend_21 rfl rfl ?_
      refine x_iload_n O 1 dX6_isFriend_22 rfl rfl ?_
      refine x_iconst O (nI 4) dX6_isFriend_23 (by decide) ?_
      refine x_cV O 2 (c_m_of (μ := μ) p 4 (by omega) (by omega)) MS.obj uc6 (lw_V q1968 q1970 qs60 q111 q1971) rfl hd_X6_of rfl (by rw [RF]; rfl) (by rw [RL]; rfl) ⟨Nat.zero_le _, Nat.zero_le _⟩ rfl rfl dX6_isFriend_24 ?_
      refine x_icmpne O 34 dX6_isFriend_27 (by decide) (fun c27 => ?_) (fun c27 => ?_)
      · refine x_sub [0] (L' := [(0, .ref (adr 0))]) rfl ?_
        refine x_iconst O (nI 0) dX6_isFriend_34 (by decide) ?_
        refine x_top (v' := b2i false) (by decide) ?_
        exact J2 false (by rw [if_neg c2, if_pos c12, if_neg c27])
      · refine x_sub [0] (L' := [(0, .ref (adr 0))]) rfl ?_
        refine x_iconst O (nI 1) dX6_isFriend_30 (by decide) ?_
        refine x_goto O 35 dX6_isFriend_31 (by decide) ?_
        refine x_top (v' := b2i true) (by decide) ?_
        exact J2 true (by rw [if_neg c2, if_pos c12, if_pos c27])

def m_finds (W : Nat → Int32) : Int32 :=
  W 3
set_option maxHeartbeats 4000000 in
set_option maxRecDepth 100000 in
theorem c_m_finds {G : UG} {adr : Nat → Nat} {h0 : Hp} {μ : Mu}    : Con G yX6_finds cX6_finds 1 (some .int) 0 0 0 0 [.ref (adr 0)] (MS G adr h0 μ) (fun vr_ h' => vr_ = some (.int (m_finds (μ 1))) ∧ MS G adr h0 μ h') nX := by
  refine con_of2 (plainFor_of_name (by decide)) rfl ?_
  intro F R Q RF RL RC RS hQ O hnh hnm
  obtain ⟨res, hres⟩ : ∃ z, z = (m_finds (μ 1)) := ⟨_, rfl⟩
  rw [← hres] at hQ
  unfold m_finds at hres
  refine x_eq (L' := [(0, .ref (adr 0))]) ?_ rfl rfl rfl
  refine x_aload_n O 0 dX6_finds_0 rfl rfl ?_
  refine x_mget O k_X6_13_6 (mg_1 _ _) dX6_finds_1 ?_
  refine x_iconst O (nI 3) dX6_finds_4 (by decide) ?_
  refine x_ialdN O MS.c1 (by omega) rfl dX6_finds_5 ?_
  exact x_iretQ O hQ rfl dX6_finds_6 (fun h m => ⟨by rw [hres], m⟩)

theorem m_finds_u (W : Nat → Int32) : m_finds W = W 3 := rfl

def m_isKind (W : Nat → Int32) (f : Nat) (k : Nat) : Bool :=
  (if (m_ofFind W f 0) = (nI k) then true else false)
set_option maxHeartbeats 4000000 in
set_option maxRecDepth 100000 in
theorem c_m_isKind {G : UG} {adr : Nat → Nat} {h0 : Hp} {μ : Mu}  (f : Nat) (k : Nat) (hf : f < 120) : Con G yX6_isKind cX6_isKind 3 (some .boolean) 1 22 0 0 [.ref (adr 0), .int (nI f), .int (nI k)] (MS G adr h0 μ) (fun vr_ h' => vr_ = some (.int (b2i (m_isKind (μ 1) f k))) ∧ MS G adr h0 μ h') nX := by
  refine con_of2 (plainFor_of_name (by decide)) rfl ?_
  intro F R Q RF RL RC RS hQ O hnh hnm
  obtain ⟨res, hres⟩ : ∃ z, z = (m_isKind (μ 1) f k) := ⟨_, rfl⟩
  rw [← hres] at hQ
  unfold m_isKind at hres
  refine x_eq (L' := [(0, .ref (adr 0)), (1, .int (nI f)), (2, .int (nI k))]) ?_ rfl rfl rfl
  refine x_aload_n O 0 dX6_isKind_0 rfl rfl ?_
  refine x_iload_n O 1 dX6_isKind_1 rfl rfl ?_
  refine x_iconst O (nI 0) dX6_isKind_2 (by decide) ?_
  refine x_cV O 2 (c_m_ofFind (μ := μ) f 0 (by omega) (by omega)) MS.obj uc6 (lw_V q2054 q2056 qs75 q111 q2057) rfl hd_X6_ofFind rfl (by rw [RF]; rfl) (by rw [RL]; rfl) ⟨Nat.zero_le _, Nat.zero_le _⟩ rfl rfl dX6_isKind_3 ?_
  refine x_iload_n O 2 dX6_isKind_6 rfl rfl ?_
  have J2 : ∀ (y1 : Bool), y1 = (if (m_ofFind (μ 1) f 0) = (nI k) then true else false) → X G F R Q 3 15 [(0, .ref (adr 0))] [.int (b2i y1)] (MS G adr h0 μ) 0 0 := by
    intro y1 e3
    subst e3
    exact x_zretQ O hQ rfl dX6_isKind_15 (fun h m => ⟨by rw [hres], m⟩)
  refine x_icmpne O 14 dX6_isKind_7 (by decide) (fun c7 => ?_) (fun c7 => ?_)
  · refine x_sub [0] (L' := [(0, .ref (adr 0))]) rfl ?_
    refine x_iconst O (nI 0) dX6_isKind_14 (by decide) ?_
    refine x_top (v' := b2i false) (by decide) ?_
    exact J2 false (by rw [if_neg c7])
  · refine x_sub [0] (L' := [(0, .ref (adr 0))]) rfl ?_
    refine x_iconst O (nI 1) dX6_isKind_10 (by decide) ?_
    refine x_goto O 15 dX6_isKind_11 (by decide) ?_
    refine x_top (v' := b2i true) (by decide) ?_
    exact J2 true (by rw [if_pos c7])

def m_near_b6 (W : Nat → Int32) (p : Nat) (foes : Bool) (by_ : Int32) (i5_6 : Nat) (v4_6 : Nat) : Nat :=
  v4_6 + ((if foes = true then (if m_isFoe W p i5_6 = true then (if by_ < (g_far (m_of W p 1) (m_of W i5_6 1)) then 0 else 1) else 0) else (if m_isFriend W p i5_6 = true then (if by_ < (g_far (m_of W p 1) (m_of W i5_6 1)) then 0 else 1) else 0)))
def m_near (W : Nat → Int32) (p : Nat) (foes : Bool) (by_ : Int32) : Nat :=
  (fr (fun i s => m_near_b6 W p foes by_ i s) (tn (W 1)) 0 0)
set_option maxHeartbeats 4000000 in
set_option maxRecDepth 100000 in
theorem c_m_near {G : UG} {adr : Nat → Nat} {h0 : Hp} {μ : Mu} (hI : MI (μ 1)) (p : Nat) (foes : Bool) (by_ : Int32) (hp : p < 8) : Con G yX6_near cX6_near 6 (some .int) 2 44 0 0 [.ref (adr 0), .int (nI p), .int (b2i foes), .int by_] (MS G adr h0 μ) (fun vr_ h' => vr_ = some (.int (nI (m_near (μ 1) p foes by_))) ∧ MS G adr h0 μ h') nX := by
  refine con_of2 (plainFor_of_name (by decide)) rfl ?_
  intro F R Q RF RL RC RS hQ O hnh hnm
  obtain ⟨res, hres⟩ : ∃ z, z = (m_near (μ 1) p foes by_) := ⟨_, rfl⟩
  rw [← hres] at hQ
  unfold m_near at hres
  have hb1 : tn (μ 1 1) ≤ 8 := (hI 1 (by decide)).2
  refine x_eq (L' := [(0, .ref (adr 0)), (1, .int (nI p)), (2, .int (b2i foes)), (3, .int by_)]) ?_ rfl rfl rfl
  refine x_iconst O (nI 0) dX6_near_0 (by decide) ?_
  refine x_istore O [(4, .int (nI 0)), (0, .ref (adr 0)), (1, .int (nI p)), (2, .int (b2i foes)), (3, .int by_)] dX6_near_1 rfl rfl ?_
  refine x_iconst O (nI 0) dX6_near_3 (by decide) ?_
  refine x_istore O [(5, .int (nI 0)), (4, .int (nI 0)), (0, .ref (adr 0)), (1, .int (nI p)), (2, .int (b2i foes)), (3, .int by_)] dX6_near_4 rfl rfl ?_
  have LOOP6 : ∀ (cc_ : Nat) (i5_6 : Nat) (v4_6 : Nat), cc_ = tn (μ 1 1) - i5_6 → i5_6 < 2147483648 → (∀ (y0 : Nat), y0 = fr (fun i s => m_near_b6 (μ 1) p foes by_ i s) cc_ i5_6 v4_6 → X G F R Q 6 80 [(4, .int (nI y0)), (0, .ref (adr 0))] [] (MS G adr h0 μ) 0 0) → X G F R Q 6 6 [(5, .int (nI i5_6)), (4, .int (nI v4_6)), (0, .ref (adr 0)), (1, .int (nI p)), (2, .int (b2i foes)), (3, .int by_)] [] (MS G adr h0 μ) 0 0 := by
    intro cc_
    induction cc_ using Nat.strongRecOn with
    | ind cc_ IH_ =>
      intro i5_6 v4_6 hc_ hb_  K_
      refine x_iload O 0 dX6_near_6 rfl ?_
      refine x_aload_n O 2 dX6_near_8 rfl rfl ?_
      refine x_mget O k_X6_13_6 (mg_1 _ _) dX6_near_9 ?_
      refine x_iconst O (nI 1) dX6_near_12 (by decide) ?_
      refine x_ialdN O MS.c1 (by omega) rfl dX6_near_13 ?_
      refine x_top (v' := nI (tn (μ 1 1))) ((hI 1 (by decide)).1) ?_
      refine x_icmpgeN O 80 (by omega) (by omega) dX6_near_14 (by decide) (fun c14 => ?_) (fun c14 => ?_)
      · refine x_sub [1, 2] (L' := [(4, .int (nI v4_6)), (0, .ref (adr 0))]) rfl ?_
        obtain rfl : cc_ = 0 := by omega
        exact K_ _ rfl
      · refine x_iload O 1 dX6_near_17 rfl ?_
        refine x_iload_n O 4 dX6_near_19 rfl rfl ?_
        have J2 : ∀ (y1 : Nat), y1 = (if foes = true then (if m_isFoe (μ 1) p i5_6 = true then (if by_ < (g_far (m_of (μ 1) p 1) (m_of (μ 1) i5_6 1)) then 0 else 1) else 0) else (if m_isFriend (μ 1) p i5_6 = true then (if by_ < (g_far (m_of (μ 1) p 1) (m_of (μ 1) i5_6 1)) then 0 else 1) else 0)) → X G F R Q 6 71 [(5, .int (nI i5_6)), (0, .ref (adr 0)), (1, .int (nI p)), (2, .int (b2i foes)), (3, .int by_)] [.int (nI y1), .int (nI v4_6)] (MS G adr h0 μ) 0 0 := by
          intro y1 e3
          subst e3
          refine x_iaddN O dX6_near_71 ?_
          refine x_istore O [(4, .int (nI (v4_6 + ((if foes = true then (if m_isFoe (μ 1) p i5_6 = true then (if by_ < (g_far (m_of (μ 1) p 1) (m_of (μ 1) i5_6 1)) then 0 else 1) else 0) else (if m_isFriend (μ 1) p i5_6 = true then (if by_ < (g_far (m_of (μ 1) p 1) (m_of (μ 1) i5_6 1)) then 0 else 1) else 0)))))), (5, .int (nI i5_6)), (0, .ref (adr 0)), (1, .int (nI p)), (2, .int (b2i foes)), (3, .int by_)] dX6_near_72 rfl rfl ?_
          refine x_iincN O 1 [(5, .int (nI (i5_6 + 1))), (4, .int (nI (v4_6 + ((if foes = true then (if m_isFoe (μ 1) p i5_6 = true then (if by_ < (g_far (m_of (μ 1) p 1) (m_of (μ 1) i5_6 1)) then 0 else 1) else 0) else (if m_isFriend (μ 1) p i5_6 = true then (if by_ < (g_far (m_of (μ 1) p 1) (m_of (μ 1) i5_6 1)) then 0 else 1) else 0)))))), (0, .ref (adr 0)), (1, .int (nI p)), (2, .int (b2i foes)), (3, .int by_)] dX6_near_74 rfl rfl rfl ?_
          refine x_goto O 6 dX6_near_77 (by decide) ?_
          obtain ⟨c2_, rfl⟩ : ∃ z, cc_ = z + 1 := ⟨cc_ - 1, by omega⟩
          have hs_ : (fun i s => m_near_b6 (μ 1) p foes by_ i s) i5_6 v4_6 = v4_6 + ((if foes = true then (if m_isFoe (μ 1) p i5_6 = true then (if by_ < (g_far (m_of (μ 1) p 1) (m_of (μ 1) i5_6 1)) then 0 else 1) else 0) else (if m_isFriend (μ 1) p i5_6 = true then (if by_ < (g_far (m_of (μ 1) p 1) (m_of (μ 1) i5_6 1)) then 0 else 1) else 0))) := by show m_near_b6 (μ 1) p foes by_ i5_6 v4_6 = _; unfold m_near_b6; rfl
          exact IH_ c2_ (by omega) _ _ (by omega) (by omega) (fun y0 hy_ => K_ y0 (hy_.trans (fr_step hs_).symm))
        refine x_ifeqB O 36 dX6_near_20 (by decide) (fun c20 => ?_) (fun c20 => ?_)
        · refine x_sub [0, 2, 3, 4, 5] (L' := [(5, .int (nI i5_6)), (0, .ref (adr 0)), (1, .int (nI p)), (2, .int (b2i foes)), (3, .int by_)]) rfl ?_
          refine x_aload_n O 1 dX6_near_36 rfl rfl ?_
          refine x_iload_n O 2 dX6_near_37 rfl rfl ?_
          refine x_iload O 0 dX6_near_38 rfl ?_
          refine x_cV O 2 (c_m_isFriend (μ := μ) p i5_6 (by omega) (by omega)) MS.obj uc6 (lw_V q1988 q1990 qs64 q111 q1991) rfl hd_X6_isFriend rfl (by rw [RF]; rfl) (by rw [RL]; rfl) ⟨Nat.zero_le _, Nat.zero_le _⟩ rfl rfl dX6_near_40 ?_
          refine x_ifeqB O 70 dX6_near_43 (by decide) (fun c43 => ?_) (fun c43 => ?_)
          · refine x_iconst O (nI 0) dX6_near_70 (by decide) ?_
            exact J2 0 (by rw [if_neg c20, if_neg c43])
          · refine x_aload_n O 1 dX6_near_46 rfl rfl ?_
            refine x_iload_n O 2 dX6_near_47 rfl rfl ?_
            refine x_iconst O (nI 1) dX6_near_48 (by decide) ?_
            refine x_cV O 2 (c_m_of (μ := μ) p 1 (by omega) (by omega)) MS.obj uc6 (lw_V q1968 q1970 qs60 q111 q1971) rfl hd_X6_of rfl (by rw [RF]; rfl) (by rw [RL]; rfl) ⟨Nat.zero_le _, Nat.zero_le _⟩ rfl rfl dX6_near_49 ?_
            refine x_aload_n O 1 dX6_near_52 rfl rfl ?_
            refine x_iload O 0 dX6_near_53 rfl ?_
            refine x_iconst O (nI 1) dX6_near_55 (by decide) ?_
            refine x_cV O 2 (c_m_of (μ := μ) i5_6 1 (by omega) (by omega)) MS.obj uc6 (lw_V q1968 q1970 qs60 q111 q1971) rfl hd_X6_of rfl (by rw [RF]; rfl) (by rw [RL]; rfl) ⟨Nat.zero_le _, Nat.zero_le _⟩ rfl rfl dX6_near_56 ?_
            refine x_cS O 2 (c_g_far (m_of (μ 1) p 1) (m_of (μ 1) i5_6 1)) (lw_S q1795 q1796 q111 q1797) hd_X6_far rfl (by rw [RF]; rfl) (by rw [RL]; rfl) ⟨Nat.zero_le _, Nat.zero_le _⟩ rfl rfl dX6_near_59 ?_
            refine x_iload_n O 4 dX6_near_62 rfl rfl ?_
            refine x_icmpgt O 70 dX6_near_63 (by decide) (fun c63 => ?_) (fun c63 => ?_)
            · refine x_iconst O (nI 0) dX6_near_70 (by decide) ?_
              exact J2 0 (by rw [if_neg c20, if_pos c43, if_pos c63])
            · refine x_iconst O (nI 1) dX6_near_66 (by decide) ?_
              refine x_goto O 71 dX6_near_67 (by decide) ?_
              exact J2 1 (by rw [if_neg c20, if_pos c43, if_neg c63])
        · refine x_sub [0, 2, 3, 4, 5] (L' := [(5, .int (nI i5_6)), (0, .ref (adr 0)), (1, .int (nI p)), (2, .int (b2i foes)), (3, .int by_)]) rfl ?_
          refine x_aload_n O 1 dX6_near_23 rfl rfl ?_
          refine x_iload_n O 2 dX6_near_24 rfl rfl ?_
          refine x_iload O 0 dX6_near_25 rfl ?_
          refine x_cV O 2 (c_m_isFoe (μ := μ) p i5_6 (by omega) (by omega)) MS.obj uc6 (lw_V q1984 q1986 qs63 q111 q1987) rfl hd_X6_isFoe rfl (by rw [RF]; rfl) (by rw [RL]; rfl) ⟨Nat.zero_le _, Nat.zero_le _⟩ rfl rfl dX6_near_27 ?_
          refine x_ifeqB O 70 dX6_near_30 (by decide) (fun c30 => ?_) (fun c30 => ?_)
          · refine x_iconst O (nI 0) dX6_near_70 (by decide) ?_
            exact J2 0 (by rw [if_pos c20, if_neg c30])
          · refine x_goto O 46 dX6_near_33 (by decide) ?_
            refine x_aload_n O 1 dX6_near_46 rfl rfl ?_
            refine x_iload_n O 2 dX6_near_47 rfl rfl ?_
            refine x_iconst O (nI 1) dX6_near_48 (by decide) ?_
            refine x_cV O 2 (c_m_of (μ := μ) p 1 (by omega) (by omega)) MS.obj uc6 (lw_V q1968 q1970 qs60 q111 q1971) rfl hd_X6_of rfl (by rw [RF]; rfl) (by rw [RL]; rfl) ⟨Nat.zero_le _, Nat.zero_le _⟩ rfl rfl dX6_near_49 ?_
            refine x_aload_n O 1 dX6_near_52 rfl rfl ?_
            refine x_iload O 0 dX6_near_53 rfl ?_
            refine x_iconst O (nI 1) dX6_near_55 (by decide) ?_
            refine x_cV O 2 (c_m_of (μ := μ) i5_6 1 (by omega) (by omega)) MS.obj uc6 (lw_V q1968 q1970 qs60 q111 q1971) rfl hd_X6_of rfl (by rw [RF]; rfl) (by rw [RL]; rfl) ⟨Nat.zero_le _, Nat.zero_le _⟩ rfl rfl dX6_near_56 ?_
            refine x_cS O 2 (c_g_far (m_of (μ 1) p 1) (m_of (μ 1) i5_6 1)) (lw_S q1795 q1796 q111 q1797) hd_X6_far rfl (by rw [RF]; rfl) (by rw [RL]; rfl) ⟨Nat.zero_le _, Nat.zero_le _⟩ rfl rfl dX6_near_59 ?_
            refine x_iload_n O 4 dX6_near_62 rfl rfl ?_
            refine x_icmpgt O 70 dX6_near_63 (by decide) (fun c63 => ?_) (fun c63 => ?_)
            · refine x_iconst O (nI 0) dX6_near_70 (by decide) ?_
              exact J2 0 (by rw [if_pos c20, if_pos c30, if_pos c63])
            · refine x_iconst O (nI 1) dX6_near_66 (by decide) ?_
              refine x_goto O 71 dX6_near_67 (by decide) ?_
              exact J2 1 (by rw [if_pos c20, if_pos c30, if_neg c63])
  refine LOOP6 (tn (μ 1 1)) 0 0 rfl (by omega) (fun y0 hy_6 => ?_)
  subst hy_6
  refine x_iload O 0 dX6_near_80 rfl ?_
  exact x_iretQ O hQ rfl dX6_near_82 (fun h m => ⟨by rw [hres], m⟩)

def m_isCovered_b4 (W : Nat → Int32) (row : Int32) (i3_4 : Nat) (v2_4 : Bool) : Bool :=
  (if v2_4 = true then true else (if (((W 12) >>> ((nI i3_4) &&& 31)) &&& (nI 1)) = (nI 1) then (if (W 11) < (j_abs ((nI i3_4) - row)) then false else true) else false))
def m_isCovered (W : Nat → Int32) (row : Int32) : Bool :=
  (fr (fun i s => m_isCovered_b4 W row i s) 16 0 false)
set_option maxHeartbeats 4000000 in
set_option maxRecDepth 100000 in
theorem c_m_isCovered {G : UG} {adr : Nat → Nat} {h0 : Hp} {μ : Mu}  (row : Int32)  : Con G yX6_isCovered cX6_isCovered 4 (some .boolean) 1 20 0 0 [.ref (adr 0), .int row] (MS G adr h0 μ) (fun vr_ h' => vr_ = some (.int (b2i (m_isCovered (μ 1) row))) ∧ MS G adr h0 μ h') nX := by
  refine con_of2 (plainFor_of_name (by decide)) rfl ?_
  intro F R Q RF RL RC RS hQ O hnh hnm
  obtain ⟨res, hres⟩ : ∃ z, z = (m_isCovered (μ 1) row) := ⟨_, rfl⟩
  rw [← hres] at hQ
  unfold m_isCovered at hres
  refine x_eq (L' := [(0, .ref (adr 0)), (1, .int row)]) ?_ rfl rfl rfl
  refine x_iconst O (nI 0) dX6_isCovered_0 (by decide) ?_
  refine x_top (v' := b2i false) (by decide) ?_
  refine x_istore_n O [(2, .int (b2i false)), (0, .ref (adr 0)), (1, .int row)] dX6_isCovered_1 rfl rfl rfl ?_
  refine x_iconst O (nI 0) dX6_isCovered_2 (by decide) ?_
  refine x_istore_n O [(3, .int (nI 0)), (2, .int (b2i false)), (0, .ref (adr 0)), (1, .int row)] dX6_isCovered_3 rfl rfl rfl ?_
  have LOOP4 : ∀ (cc_ : Nat) (i3_4 : Nat) (v2_4 : Bool), cc_ = 16 - i3_4 → i3_4 < 2147483648 → (∀ (y0 : Bool), y0 = fr (fun i s => m_isCovered_b4 (μ 1) row i s) cc_ i3_4 v2_4 → X G F R Q 4 57 [(2, .int (b2i y0)), (0, .ref (adr 0))] [] (MS G adr h0 μ) 0 0) → X G F R Q 4 4 [(3, .int (nI i3_4)), (2, .int (b2i v2_4)), (0, .ref (adr 0)), (1, .int row)] [] (MS G adr h0 μ) 0 0 := by
    intro cc_
    induction cc_ using Nat.strongRecOn with
    | ind cc_ IH_ =>
      intro i3_4 v2_4 hc_ hb_  K_
      refine x_iload_n O 0 dX6_isCovered_4 rfl rfl ?_
      refine x_bipush O (nI 16) dX6_isCovered_5 (by decide) ?_
      refine x_icmpgeN O 57 (by omega) (by omega) dX6_isCovered_7 (by decide) (fun c7 => ?_) (fun c7 => ?_)
      · refine x_sub [1, 2] (L' := [(2, .int (b2i v2_4)), (0, .ref (adr 0))]) rfl ?_
        obtain rfl : cc_ = 0 := by omega
        exact K_ _ rfl
      · refine x_iload_n O 1 dX6_isCovered_10 rfl rfl ?_
        have J2 : ∀ (y1 : Bool), y1 = (if v2_4 = true then true else (if (((μ 1 12) >>> ((nI i3_4) &&& 31)) &&& (nI 1)) = (nI 1) then (if (μ 1 11) < (j_abs ((nI i3_4) - row)) then false else true) else false)) → X G F R Q 4 50 [(3, .int (nI i3_4)), (0, .ref (adr 0)), (1, .int row)] [.int (b2i y1)] (MS G adr h0 μ) 0 0 := by
          intro y1 e3
          subst e3
          refine x_istore_n O [(2, .int (b2i ((if v2_4 = true then true else (if (((μ 1 12) >>> ((nI i3_4) &&& 31)) &&& (nI 1)) = (nI 1) then (if (μ 1 11) < (j_abs ((nI i3_4) - row)) then false else true) else false))))), (3, .int (nI i3_4)), (0, .ref (adr 0)), (1, .int row)] dX6_isCovered_50 rfl rfl rfl ?_
          refine x_iincN O 1 [(3, .int (nI (i3_4 + 1))), (2, .int (b2i ((if v2_4 = true then true else (if (((μ 1 12) >>> ((nI i3_4) &&& 31)) &&& (nI 1)) = (nI 1) then (if (μ 1 11) < (j_abs ((nI i3_4) - row)) then false else true) else false))))), (0, .ref (adr 0)), (1, .int row)] dX6_isCovered_51 rfl rfl rfl ?_
          refine x_goto O 4 dX6_isCovered_54 (by decide) ?_
          obtain ⟨c2_, rfl⟩ : ∃ z, cc_ = z + 1 := ⟨cc_ - 1, by omega⟩
          have hs_ : (fun i s => m_isCovered_b4 (μ 1) row i s) i3_4 v2_4 = (if v2_4 = true then true else (if (((μ 1 12) >>> ((nI i3_4) &&& 31)) &&& (nI 1)) = (nI 1) then (if (μ 1 11) < (j_abs ((nI i3_4) - row)) then false else true) else false)) := by show m_isCovered_b4 (μ 1) row i3_4 v2_4 = _; unfold m_isCovered_b4; rfl
          exact IH_ c2_ (by omega) _ _ (by omega) (by omega) (fun y0 hy_ => K_ y0 (hy_.trans (fr_step hs_).symm))
        refine x_ifneB O 45 dX6_isCovered_11 (by decide) (fun c11 => ?_) (fun c11 => ?_)
        · refine x_sub [0, 2, 3] (L' := [(3, .int (nI i3_4)), (0, .ref (adr 0)), (1, .int row)]) rfl ?_
          refine x_iconst O (nI 1) dX6_isCovered_45 (by decide) ?_
          refine x_goto O 50 dX6_isCovered_46 (by decide) ?_
          refine x_top (v' := b2i true) (by decide) ?_
          exact J2 true (by rw [if_pos c11])
        · refine x_sub [0, 2, 3] (L' := [(3, .int (nI i3_4)), (0, .ref (adr 0)), (1, .int row)]) rfl ?_
          refine x_aload_n O 1 dX6_isCovered_14 rfl rfl ?_
          refine x_mget O k_X6_13_6 (mg_1 _ _) dX6_isCovered_15 ?_
          refine x_bipush O (nI 12) dX6_isCovered_18 (by decide) ?_
          refine x_ialdN O MS.c1 (by omega) rfl dX6_isCovered_20 ?_
          refine x_iload_n O 0 dX6_isCovered_21 rfl rfl ?_
          refine x_ishr O dX6_isCovered_22 ?_
          refine x_iconst O (nI 1) dX6_isCovered_23 (by decide) ?_
          refine x_iand O dX6_isCovered_24 ?_
          refine x_iconst O (nI 1) dX6_isCovered_25 (by decide) ?_
          refine x_icmpne O 49 dX6_isCovered_26 (by decide) (fun c26 => ?_) (fun c26 => ?_)
          · refine x_iconst O (nI 0) dX6_isCovered_49 (by decide) ?_
            refine x_top (v' := b2i false) (by decide) ?_
            exact J2 false (by rw [if_neg c11, if_neg c26])
          · refine x_iload_n O 0 dX6_isCovered_29 rfl rfl ?_
            refine x_iload_n O 2 dX6_isCovered_30 rfl rfl ?_
            refine x_isub O dX6_isCovered_31 ?_
            refine x_cS O 1 (c_j_abs ((nI i3_4) - row)) (lw_S q1798 q520 q116 q521) hd_J7_abs rfl (by rw [RF]; rfl) (by rw [RL]; rfl) ⟨Nat.zero_le _, Nat.zero_le _⟩ rfl rfl dX6_isCovered_32 ?_
            refine x_aload_n O 1 dX6_isCovered_35 rfl rfl ?_
            refine x_mget O k_X6_13_6 (mg_1 _ _) dX6_isCovered_36 ?_
            refine x_bipush O (nI 11) dX6_isCovered_39 (by decide) ?_
            refine x_ialdN O MS.c1 (by omega) rfl dX6_isCovered_41 ?_
            refine x_icmpgt O 49 dX6_isCovered_42 (by decide) (fun c42 => ?_) (fun c42 => ?_)
            · refine x_iconst O (nI 0) dX6_isCovered_49 (by decide) ?_
              refine x_top (v' := b2i false) (by decide) ?_
              exact J2 false (by rw [if_neg c11, if_pos c26, if_pos c42])
            · refine x_iconst O (nI 1) dX6_isCovered_45 (by decide) ?_
              refine x_goto O 50 dX6_isCovered_46 (by decide) ?_
              refine x_top (v' := b2i true) (by decide) ?_
              exact J2 true (by rw [if_neg c11, if_pos c26, if_neg c42])
  refine LOOP4 16 0 false rfl (by omega) (fun y0 hy_4 => ?_)
  subst hy_4
  refine x_iload_n O 0 dX6_isCovered_57 rfl rfl ?_
  exact x_zretQ O hQ rfl dX6_isCovered_58 (fun h m => ⟨by rw [hres], m⟩)

def m_isSeen (W : Nat → Int32) (f : Nat) : Bool :=
  (if (W 10) < (m_ofFind W f 2) then false else (if m_isCovered W ((m_ofFind W f 1) / (nI 16)) = true then true else false))
set_option maxHeartbeats 4000000 in
set_option maxRecDepth 100000 in
theorem c_m_isSeen {G : UG} {adr : Nat → Nat} {h0 : Hp} {μ : Mu}  (f : Nat) (hf : f < 120) : Con G yX6_isSeen cX6_isSeen 2 (some .boolean) 2 43 0 0 [.ref (adr 0), .int (nI f)] (MS G adr h0 μ) (fun vr_ h' => vr_ = some (.int (b2i (m_isSeen (μ 1) f))) ∧ MS G adr h0 μ h') nX := by
  refine con_of2 (plainFor_of_name (by decide)) rfl ?_
  intro F R Q RF RL RC RS hQ O hnh hnm
  obtain ⟨res, hres⟩ : ∃ z, z = (m_isSeen (μ 1) f) := ⟨_, rfl⟩
  rw [← hres] at hQ
  unfold m_isSeen at hres
  refine x_eq (L' := [(0, .ref (adr 0)), (1, .int (nI f))]) ?_ rfl rfl rfl
  refine x_aload_n O 0 dX6_isSeen_0 rfl rfl ?_
  refine x_iload_n O 1 dX6_isSeen_1 rfl rfl ?_
  refine x_iconst O (nI 2) dX6_isSeen_2 (by decide) ?_
  refine x_cV O 2 (c_m_ofFind (μ := μ) f 2 (by omega) (by omega)) MS.obj uc6 (lw_V q2054 q2056 qs75 q111 q2057) rfl hd_X6_ofFind rfl (by rw [RF]; rfl) (by rw [RL]; rfl) ⟨Nat.zero_le _, Nat.zero_le _⟩ rfl rfl dX6_isSeen_3 ?_
  refine x_aload_n O 0 dX6_isSeen_6 rfl rfl ?_
  refine x_mget O k_X6_13_6 (mg_1 _ _) dX6_isSeen_7 ?_
  refine x_bipush O (nI 10) dX6_isSeen_10 (by decide) ?_
  refine x_ialdN O MS.c1 (by omega) rfl dX6_isSeen_12 ?_
  have J2 : ∀ (y1 : Bool), y1 = (if (μ 1 10) < (m_ofFind (μ 1) f 2) then false else (if m_isCovered (μ 1) ((m_ofFind (μ 1) f 1) / (nI 16)) = true then true else false)) → X G F R Q 2 37 [(0, .ref (adr 0))] [.int (b2i y1)] (MS G adr h0 μ) 0 0 := by
    intro y1 e3
    subst e3
    exact x_zretQ O hQ rfl dX6_isSeen_37 (fun h m => ⟨by rw [hres], m⟩)
  refine x_icmpgt O 36 dX6_isSeen_13 (by decide) (fun c13 => ?_) (fun c13 => ?_)
  · refine x_sub [0] (L' := [(0, .ref (adr 0))]) rfl ?_
    refine x_iconst O (nI 0) dX6_isSeen_36 (by decide) ?_
    refine x_top (v' := b2i false) (by decide) ?_
    exact J2 false (by rw [if_pos c13])
  · refine x_aload_n O 0 dX6_isSeen_16 rfl rfl ?_
    refine x_aload_n O 0 dX6_isSeen_17 rfl rfl ?_
    refine x_iload_n O 1 dX6_isSeen_18 rfl rfl ?_
    refine x_iconst O (nI 1) dX6_isSeen_19 (by decide) ?_
    refine x_cV O 2 (c_m_ofFind (μ := μ) f 1 (by omega) (by omega)) MS.obj uc6 (lw_V q2054 q2056 qs75 q111 q2057) rfl hd_X6_ofFind rfl (by rw [RF]; rfl) (by rw [RL]; rfl) ⟨Nat.zero_le _, Nat.zero_le _⟩ rfl rfl dX6_isSeen_20 ?_
    refine x_bipush O (nI 16) dX6_isSeen_23 (by decide) ?_
    refine x_idiv O dX6_isSeen_25 (by decide) ?_
    refine x_cV O 1 (c_m_isCovered (μ := μ) ((m_ofFind (μ 1) f 1) / (nI 16))) MS.obj uc6 (lw_V q2062 q2064 qs77 q111 q2065) rfl hd_X6_isCovered rfl (by rw [RF]; rfl) (by rw [RL]; rfl) ⟨Nat.zero_le _, Nat.zero_le _⟩ rfl rfl dX6_isSeen_26 ?_
    refine x_ifeqB O 36 dX6_isSeen_29 (by decide) (fun c29 => ?_) (fun c29 => ?_)
    · refine x_sub [0] (L' := [(0, .ref (adr 0))]) rfl ?_
      refine x_iconst O (nI 0) dX6_isSeen_36 (by decide) ?_
      refine x_top (v' := b2i false) (by decide) ?_
      exact J2 false (by rw [if_neg c13, if_neg c29])
    · refine x_sub [0] (L' := [(0, .ref (adr 0))]) rfl ?_
      refine x_iconst O (nI 1) dX6_isSeen_32 (by decide) ?_
      refine x_goto O 37 dX6_isSeen_33 (by decide) ?_
      refine x_top (v' := b2i true) (by decide) ?_
      exact J2 true (by rw [if_neg c13, if_pos c29])

def m_mayBe_b4 (W : Nat → Int32) (f : Nat) (i3_4 : Nat) (v2_4 : Int32) : (Int32) ⊕ (Int32) :=
  (if m_isKind W f 0 = true then .inl (v2_4 ||| ((((m_ofFind W f 3) >>> ((W (269 + 4 * i3_4 + 1)) &&& 31)) &&& (nI 1)) <<< ((nI i3_4) &&& 31))) else .inr v2_4)
def m_mayBe (W : Nat → Int32) (f : Nat) : Int32 :=
  (frb (fun i s => m_mayBe_b4 W f i s) (tn (W 0)) 0 (nI 0))
set_option maxHeartbeats 4000000 in
set_option maxRecDepth 100000 in
theorem c_m_mayBe {G : UG} {adr : Nat → Nat} {h0 : Hp} {μ : Mu} (hI : MI (μ 1)) (f : Nat) (hf : f < 120) : Con G yX6_mayBe cX6_mayBe 4 (some .int) 2 44 0 0 [.ref (adr 0), .int (nI f)] (MS G adr h0 μ) (fun vr_ h' => vr_ = some (.int (m_mayBe (μ 1) f)) ∧ MS G adr h0 μ h') nX := by
  refine con_of2 (plainFor_of_name (by decide)) rfl ?_
  intro F R Q RF RL RC RS hQ O hnh hnm
  obtain ⟨res, hres⟩ : ∃ z, z = (m_mayBe (μ 1) f) := ⟨_, rfl⟩
  rw [← hres] at hQ
  unfold m_mayBe at hres
  have hb0 : tn (μ 1 0) ≤ 8 := (hI 0 (by decide)).2
  refine x_eq (L' := [(0, .ref (adr 0)), (1, .int (nI f))]) ?_ rfl rfl rfl
  refine x_iconst O (nI 0) dX6_mayBe_0 (by decide) ?_
  refine x_istore_n O [(2, .int (nI 0)), (0, .ref (adr 0)), (1, .int (nI f))] dX6_mayBe_1 rfl rfl rfl ?_
  refine x_iconst O (nI 0) dX6_mayBe_2 (by decide) ?_
  refine x_istore_n O [(3, .int (nI 0)), (2, .int (nI 0)), (0, .ref (adr 0)), (1, .int (nI f))] dX6_mayBe_3 rfl rfl rfl ?_
  have LOOP4 : ∀ (cc_ : Nat) (i3_4 : Nat) (v2_4 : Int32), cc_ = tn (μ 1 0) - i3_4 → i3_4 < 2147483648 → (∀ (y0 : Int32), y0 = frb (fun i s => m_mayBe_b4 (μ 1) f i s) cc_ i3_4 v2_4 → X G F R Q 4 57 [(2, .int y0), (0, .ref (adr 0))] [] (MS G adr h0 μ) 0 0) → X G F R Q 4 4 [(3, .int (nI i3_4)), (2, .int v2_4), (0, .ref (adr 0)), (1, .int (nI f))] [] (MS G adr h0 μ) 0 0 := by
    intro cc_
    induction cc_ using Nat.strongRecOn with
    | ind cc_ IH_ =>
      intro i3_4 v2_4 hc_ hb_  K_
      refine x_iload_n O 0 dX6_mayBe_4 rfl rfl ?_
      refine x_aload_n O 2 dX6_mayBe_5 rfl rfl ?_
      refine x_mget O k_X6_13_6 (mg_1 _ _) dX6_mayBe_6 ?_
      refine x_iconst O (nI 0) dX6_mayBe_9 (by decide) ?_
      refine x_ialdN O MS.c1 (by omega) rfl dX6_mayBe_10 ?_
      refine x_top (v' := nI (tn (μ 1 0))) ((hI 0 (by decide)).1) ?_
      refine x_icmpgeN O 57 (by omega) (by omega) dX6_mayBe_11 (by decide) (fun c11 => ?_) (fun c11 => ?_)
      · refine x_sub [1, 2] (L' := [(2, .int v2_4), (0, .ref (adr 0))]) rfl ?_
        obtain rfl : cc_ = 0 := by omega
        exact K_ _ rfl
      · refine x_aload_n O 2 dX6_mayBe_14 rfl rfl ?_
        refine x_iload_n O 3 dX6_mayBe_15 rfl rfl ?_
        refine x_iconst O (nI 0) dX6_mayBe_16 (by decide) ?_
        refine x_cV O 2 (c_m_isKind (μ := μ) f 0 (by omega)) MS.obj uc6 (lw_V q2070 q2072 qs79 q111 q2073) rfl hd_X6_isKind rfl (by rw [RF]; rfl) (by rw [RL]; rfl) ⟨Nat.zero_le _, Nat.zero_le _⟩ rfl rfl dX6_mayBe_17 ?_
        refine x_ifeqB O 57 dX6_mayBe_20 (by decide) (fun c20 => ?_) (fun c20 => ?_)
        · refine x_sub [1, 2] (L' := [(2, .int v2_4), (0, .ref (adr 0))]) rfl ?_
          obtain ⟨c2_, rfl⟩ : ∃ z, cc_ = z + 1 := ⟨cc_ - 1, by omega⟩
          have hs_ : (fun i s => m_mayBe_b4 (μ 1) f i s) i3_4 v2_4 = .inr v2_4 := by show m_mayBe_b4 (μ 1) f i3_4 v2_4 = _; unfold m_mayBe_b4; rw [if_neg c20]
          exact K_ _ (frb_stop hs_).symm
        · refine x_iload_n O 1 dX6_mayBe_23 rfl rfl ?_
          refine x_aload_n O 2 dX6_mayBe_24 rfl rfl ?_
          refine x_iload_n O 3 dX6_mayBe_25 rfl rfl ?_
          refine x_iconst O (nI 3) dX6_mayBe_26 (by decide) ?_
          refine x_cV O 2 (c_m_ofFind (μ := μ) f 3 (by omega) (by omega)) MS.obj uc6 (lw_V q2054 q2056 qs75 q111 q2057) rfl hd_X6_ofFind rfl (by rw [RF]; rfl) (by rw [RL]; rfl) ⟨Nat.zero_le _, Nat.zero_le _⟩ rfl rfl dX6_mayBe_27 ?_
          refine x_aload_n O 2 dX6_mayBe_30 rfl rfl ?_
          refine x_mget O k_X6_13_6 (mg_1 _ _) dX6_mayBe_31 ?_
          refine x_sipush O (nI 269) dX6_mayBe_34 (by decide) ?_
          refine x_iconst O (nI 4) dX6_mayBe_37 (by decide) ?_
          refine x_iload_n O 0 dX6_mayBe_38 rfl rfl ?_
          refine x_imulN O dX6_mayBe_39 ?_
          refine x_iaddN O dX6_mayBe_40 ?_
          refine x_iconst O (nI 1) dX6_mayBe_41 (by decide) ?_
          refine x_iaddN O dX6_mayBe_42 ?_
          refine x_ialdN O MS.c1 (by omega) rfl dX6_mayBe_43 ?_
          refine x_ishr O dX6_mayBe_44 ?_
          refine x_iconst O (nI 1) dX6_mayBe_45 (by decide) ?_
          refine x_iand O dX6_mayBe_46 ?_
          refine x_iload_n O 0 dX6_mayBe_47 rfl rfl ?_
          refine x_ishl O dX6_mayBe_48 ?_
          refine x_ior O dX6_mayBe_49 ?_
          refine x_istore_n O [(2, .int (v2_4 ||| ((((m_ofFind (μ 1) f 3) >>> ((μ 1 (269 + 4 * i3_4 + 1)) &&& 31)) &&& (nI 1)) <<< ((nI i3_4) &&& 31)))), (3, .int (nI i3_4)), (0, .ref (adr 0)), (1, .int (nI f))] dX6_mayBe_50 rfl rfl rfl ?_
          refine x_iincN O 1 [(3, .int (nI (i3_4 + 1))), (2, .int (v2_4 ||| ((((m_ofFind (μ 1) f 3) >>> ((μ 1 (269 + 4 * i3_4 + 1)) &&& 31)) &&& (nI 1)) <<< ((nI i3_4) &&& 31)))), (0, .ref (adr 0)), (1, .int (nI f))] dX6_mayBe_51 rfl rfl rfl ?_
          refine x_goto O 4 dX6_mayBe_54 (by decide) ?_
          obtain ⟨c2_, rfl⟩ : ∃ z, cc_ = z + 1 := ⟨cc_ - 1, by omega⟩
          have hs_ : (fun i s => m_mayBe_b4 (μ 1) f i s) i3_4 v2_4 = .inl (v2_4 ||| ((((m_ofFind (μ 1) f 3) >>> ((μ 1 (269 + 4 * i3_4 + 1)) &&& 31)) &&& (nI 1)) <<< ((nI i3_4) &&& 31))) := by show m_mayBe_b4 (μ 1) f i3_4 v2_4 = _; unfold m_mayBe_b4; rw [if_pos c20]
          exact IH_ c2_ (by omega) _ _ (by omega) (by omega) (fun y0 hy_ => K_ y0 (hy_.trans (frb_step hs_).symm))
  refine LOOP4 (tn (μ 1 0)) 0 (nI 0) rfl (by omega) (fun y0 hy_4 => ?_)
  subst hy_4
  refine x_iload_n O 0 dX6_mayBe_57 rfl rfl ?_
  exact x_iretQ O hQ rfl dX6_mayBe_58 (fun h m => ⟨by rw [hres], m⟩)

def m_seenMany_b4 (W : Nat → Int32) (i2_4 : Nat) (v1_4 : Nat) : Nat :=
  v1_4 + ((if m_isSeen W i2_4 = true then 1 else 0))
def m_seenMany (W : Nat → Int32) : Nat :=
  (fr (fun i s => m_seenMany_b4 W i s) (tn (W 3)) 0 0)
set_option maxHeartbeats 4000000 in
set_option maxRecDepth 100000 in
theorem c_m_seenMany {G : UG} {adr : Nat → Nat} {h0 : Hp} {μ : Mu} (hI : MI (μ 1))   : Con G yX6_seenMany cX6_seenMany 3 (some .int) 3 64 0 0 [.ref (adr 0)] (MS G adr h0 μ) (fun vr_ h' => vr_ = some (.int (nI (m_seenMany (μ 1)))) ∧ MS G adr h0 μ h') nX := by
  refine con_of2 (plainFor_of_name (by decide)) rfl ?_
  intro F R Q RF RL RC RS hQ O hnh hnm
  obtain ⟨res, hres⟩ : ∃ z, z = (m_seenMany (μ 1)) := ⟨_, rfl⟩
  rw [← hres] at hQ
  unfold m_seenMany at hres
  have hb3 : tn (μ 1 3) ≤ 120 := (hI 3 (by decide)).2
  refine x_eq (L' := [(0, .ref (adr 0))]) ?_ rfl rfl rfl
  refine x_iconst O (nI 0) dX6_seenMany_0 (by decide) ?_
  refine x_istore_n O [(1, .int (nI 0)), (0, .ref (adr 0))] dX6_seenMany_1 rfl rfl rfl ?_
  refine x_iconst O (nI 0) dX6_seenMany_2 (by decide) ?_
  refine x_istore_n O [(2, .int (nI 0)), (1, .int (nI 0)), (0, .ref (adr 0))] dX6_seenMany_3 rfl rfl rfl ?_
  have LOOP4 : ∀ (cc_ : Nat) (i2_4 : Nat) (v1_4 : Nat), cc_ = tn (μ 1 3) - i2_4 → i2_4 < 2147483648 → (∀ (y0 : Nat), y0 = fr (fun i s => m_seenMany_b4 (μ 1) i s) cc_ i2_4 v1_4 → X G F R Q 3 34 [(1, .int (nI y0)), (0, .ref (adr 0))] [] (MS G adr h0 μ) 0 0) → X G F R Q 3 4 [(2, .int (nI i2_4)), (1, .int (nI v1_4)), (0, .ref (adr 0))] [] (MS G adr h0 μ) 0 0 := by
    intro cc_
    induction cc_ using Nat.strongRecOn with
    | ind cc_ IH_ =>
      intro i2_4 v1_4 hc_ hb_  K_
      refine x_iload_n O 0 dX6_seenMany_4 rfl rfl ?_
      refine x_aload_n O 2 dX6_seenMany_5 rfl rfl ?_
      refine x_cV O 0 (c_m_finds (μ := μ)) MS.obj uc6 (lw_V q2042 q2044 qs74 q111 q2045) rfl hd_X6_finds rfl (by rw [RF]; rfl) (by rw [RL]; rfl) ⟨Nat.zero_le _, Nat.zero_le _⟩ rfl rfl dX6_seenMany_6 ?_
      refine x_top (v' := μ 1 3) (m_finds_u _) ?_
      refine x_top (v' := nI (tn (μ 1 3))) ((hI 3 (by decide)).1) ?_
      refine x_icmpgeN O 34 (by omega) (by omega) dX6_seenMany_9 (by decide) (fun c9 => ?_) (fun c9 => ?_)
      · refine x_sub [1, 2] (L' := [(1, .int (nI v1_4)), (0, .ref (adr 0))]) rfl ?_
        obtain rfl : cc_ = 0 := by omega
        exact K_ _ rfl
      · refine x_iload_n O 1 dX6_seenMany_12 rfl rfl ?_
        refine x_aload_n O 2 dX6_seenMany_13 rfl rfl ?_
        refine x_iload_n O 0 dX6_seenMany_14 rfl rfl ?_
        refine x_cV O 1 (c_m_isSeen (μ := μ) i2_4 (by omega)) MS.obj uc6 (lw_V q2058 q2060 qs76 q111 q2061) rfl hd_X6_isSeen rfl (by rw [RF]; rfl) (by rw [RL]; rfl) ⟨Nat.zero_le _, Nat.zero_le _⟩ rfl rfl dX6_seenMany_15 ?_
        have J2 : ∀ (y1 : Nat), y1 = (if m_isSeen (μ 1) i2_4 = true then 1 else 0) → X G F R Q 3 26 [(2, .int (nI i2_4)), (0, .ref (adr 0))] [.int (nI y1), .int (nI v1_4)] (MS G adr h0 μ) 0 0 := by
          intro y1 e3
          subst e3
          refine x_iaddN O dX6_seenMany_26 ?_
          refine x_istore_n O [(1, .int (nI (v1_4 + ((if m_isSeen (μ 1) i2_4 = true then 1 else 0))))), (2, .int (nI i2_4)), (0, .ref (adr 0))] dX6_seenMany_27 rfl rfl rfl ?_
          refine x_iincN O 1 [(2, .int (nI (i2_4 + 1))), (1, .int (nI (v1_4 + ((if m_isSeen (μ 1) i2_4 = true then 1 else 0))))), (0, .ref (adr 0))] dX6_seenMany_28 rfl rfl rfl ?_
          refine x_goto O 4 dX6_seenMany_31 (by decide) ?_
          obtain ⟨c2_, rfl⟩ : ∃ z, cc_ = z + 1 := ⟨cc_ - 1, by omega⟩
          have hs_ : (fun i s => m_seenMany_b4 (μ 1) i s) i2_4 v1_4 = v1_4 + ((if m_isSeen (μ 1) i2_4 = true then 1 else 0)) := by show m_seenMany_b4 (μ 1) i2_4 v1_4 = _; unfold m_seenMany_b4; rfl
          exact IH_ c2_ (by omega) _ _ (by omega) (by omega) (fun y0 hy_ => K_ y0 (hy_.trans (fr_step hs_).symm))
        refine x_ifeqB O 25 dX6_seenMany_18 (by decide) (fun c18 => ?_) (fun c18 => ?_)
        · refine x_sub [0, 2] (L' := [(2, .int (nI i2_4)), (0, .ref (adr 0))]) rfl ?_
          refine x_iconst O (nI 0) dX6_seenMany_25 (by decide) ?_
          exact J2 0 (by rw [if_neg c18])
        · refine x_sub [0, 2] (L' := [(2, .int (nI i2_4)), (0, .ref (adr 0))]) rfl ?_
          refine x_iconst O (nI 1) dX6_seenMany_21 (by decide) ?_
          refine x_goto O 26 dX6_seenMany_22 (by decide) ?_
          exact J2 1 (by rw [if_pos c18])
  refine LOOP4 (tn (μ 1 3)) 0 0 rfl (by omega) (fun y0 hy_4 => ?_)
  subst hy_4
  refine x_iload_n O 0 dX6_seenMany_34 rfl rfl ?_
  exact x_iretQ O hQ rfl dX6_seenMany_35 (fun h m => ⟨by rw [hres], m⟩)

def m_isSeenCase (W : Nat → Int32) (f : Nat) : Bool :=
  (if m_isKind W f 0 = true then (if m_isSeen W f = true then true else false) else false)
set_option maxHeartbeats 4000000 in
set_option maxRecDepth 100000 in
theorem c_m_isSeenCase {G : UG} {adr : Nat → Nat} {h0 : Hp} {μ : Mu}  (f : Nat) (hf : f < 120) : Con G yX6_isSeenCase cX6_isSeenCase 2 (some .boolean) 3 64 0 0 [.ref (adr 0), .int (nI f)] (MS G adr h0 μ) (fun vr_ h' => vr_ = some (.int (b2i (m_isSeenCase (μ 1) f))) ∧ MS G adr h0 μ h') nX := by
  refine con_of2 (plainFor_of_name (by decide)) rfl ?_
  intro F R Q RF RL RC RS hQ O hnh hnm
  obtain ⟨res, hres⟩ : ∃ z, z = (m_isSeenCase (μ 1) f) := ⟨_, rfl⟩
  rw [← hres] at hQ
  unfold m_isSeenCase at hres
  refine x_eq (L' := [(0, .ref (adr 0)), (1, .int (nI f))]) ?_ rfl rfl rfl
  refine x_aload_n O 0 dX6_isSeenCase_0 rfl rfl ?_
  refine x_iload_n O 1 dX6_isSeenCase_1 rfl rfl ?_
  refine x_iconst O (nI 0) dX6_isSeenCase_2 (by decide) ?_
  refine x_cV O 2 (c_m_isKind (μ := μ) f 0 (by omega)) MS.obj uc6 (lw_V q2070 q2072 qs79 q111 q2073) rfl hd_X6_isKind rfl (by rw [RF]; rfl) (by rw [RL]; rfl) ⟨Nat.zero_le _, Nat.zero_le _⟩ rfl rfl dX6_isSeenCase_3 ?_
  have J2 : ∀ (y1 : Bool), y1 = (if m_isKind (μ 1) f 0 = true then (if m_isSeen (μ 1) f = true then true else false) else false) → X G F R Q 2 22 [(0, .ref (adr 0))] [.int (b2i y1)] (MS G adr h0 μ) 0 0 := by
    intro y1 e3
    subst e3
    exact x_zretQ O hQ rfl dX6_isSeenCase_22 (fun h m => ⟨by rw [hres], m⟩)
  refine x_ifeqB O 21 dX6_isSeenCase_6 (by decide) (fun c6 => ?_) (fun c6 => ?_)
  · refine x_sub [0] (L' := [(0, .ref (adr 0))]) rfl ?_
    refine x_iconst O (nI 0) dX6_isSeenCase_21 (by decide) ?_
    refine x_top (v' := b2i false) (by decide) ?_
    exact J2 false (by rw [if_neg c6])
  · refine x_aload_n O 0 dX6_isSeenCase_9 rfl rfl ?_
    refine x_iload_n O 1 dX6_isSeenCase_10 rfl rfl ?_
    refine x_cV O 1 (c_m_isSeen (μ := μ) f (by omega)) MS.obj uc6 (lw_V q2058 q2060 qs76 q111 q2061) rfl hd_X6_isSeen rfl (by rw [RF]; rfl) (by rw [RL]; rfl) ⟨Nat.zero_le _, Nat.zero_le _⟩ rfl rfl dX6_isSeenCase_11 ?_
    refine x_ifeqB O 21 dX6_isSeenCase_14 (by decide) (fun c14 => ?_) (fun c14 => ?_)
    · refine x_sub [0] (L' := [(0, .ref (adr 0))]) rfl ?_
      refine x_iconst O (nI 0) dX6_isSeenCase_21 (by decide) ?_
      refine x_top (v' := b2i false) (by decide) ?_
      exact J2 false (by rw [if_pos c6, if_neg c14])
    · refine x_sub [0] (L' := [(0, .ref (adr 0))]) rfl ?_
      refine x_iconst O (nI 1) dX6_isSeenCase_17 (by decide) ?_
      refine x_goto O 22 dX6_isSeenCase_18 (by decide) ?_
      refine x_top (v' := b2i true) (by decide) ?_
      exact J2 true (by rw [if_pos c6, if_pos c14])

def m_casesAt_b4 (W : Nat → Int32) (cell : Int32) (i3_4 : Nat) (v2_4 : Nat) : Nat :=
  v2_4 + ((if (m_ofFind W i3_4 1) = cell then (if m_isSeenCase W i3_4 = true then 1 else 0) else 0))
def m_casesAt (W : Nat → Int32) (cell : Int32) : Nat :=
  (fr (fun i s => m_casesAt_b4 W cell i s) (tn (W 3)) 0 0)
set_option maxHeartbeats 4000000 in
set_option maxRecDepth 100000 in
theorem c_m_casesAt {G : UG} {adr : Nat → Nat} {h0 : Hp} {μ : Mu} (hI : MI (μ 1)) (cell : Int32)  : Con G yX6_casesAt cX6_casesAt 4 (some .int) 4 85 0 0 [.ref (adr 0), .int cell] (MS G adr h0 μ) (fun vr_ h' => vr_ = some (.int (nI (m_casesAt (μ 1) cell))) ∧ MS G adr h0 μ h') nX := by
  refine con_of2 (plainFor_of_name (by decide)) rfl ?_
  intro F R Q RF RL RC RS hQ O hnh hnm
  obtain ⟨res, hres⟩ : ∃ z, z = (m_casesAt (μ 1) cell) := ⟨_, rfl⟩
  rw [← hres] at hQ
  unfold m_casesAt at hres
  have hb3 : tn (μ 1 3) ≤ 120 := (hI 3 (by decide)).2
  refine x_eq (L' := [(0, .ref (adr 0)), (1, .int cell)]) ?_ rfl rfl rfl
  refine x_iconst O (nI 0) dX6_casesAt_0 (by decide) ?_
  refine x_istore_n O [(2, .int (nI 0)), (0, .ref (adr 0)), (1, .int cell)] dX6_casesAt_1 rfl rfl rfl ?_
  refine x_iconst O (nI 0) dX6_casesAt_2 (by decide) ?_
  refine x_istore_n O [(3, .int (nI 0)), (2, .int (nI 0)), (0, .ref (adr 0)), (1, .int cell)] dX6_casesAt_3 rfl rfl rfl ?_
  have LOOP4 : ∀ (cc_ : Nat) (i3_4 : Nat) (v2_4 : Nat), cc_ = tn (μ 1 3) - i3_4 → i3_4 < 2147483648 → (∀ (y0 : Nat), y0 = fr (fun i s => m_casesAt_b4 (μ 1) cell i s) cc_ i3_4 v2_4 → X G F R Q 4 44 [(2, .int (nI y0)), (0, .ref (adr 0))] [] (MS G adr h0 μ) 0 0) → X G F R Q 4 4 [(3, .int (nI i3_4)), (2, .int (nI v2_4)), (0, .ref (adr 0)), (1, .int cell)] [] (MS G adr h0 μ) 0 0 := by
    intro cc_
    induction cc_ using Nat.strongRecOn with
    | ind cc_ IH_ =>
      intro i3_4 v2_4 hc_ hb_  K_
      refine x_iload_n O 0 dX6_casesAt_4 rfl rfl ?_
      refine x_aload_n O 2 dX6_casesAt_5 rfl rfl ?_
      refine x_cV O 0 (c_m_finds (μ := μ)) MS.obj uc6 (lw_V q2042 q2044 qs74 q111 q2045) rfl hd_X6_finds rfl (by rw [RF]; rfl) (by rw [RL]; rfl) ⟨Nat.zero_le _, Nat.zero_le _⟩ rfl rfl dX6_casesAt_6 ?_
      refine x_top (v' := μ 1 3) (m_finds_u _) ?_
      refine x_top (v' := nI (tn (μ 1 3))) ((hI 3 (by decide)).1) ?_
      refine x_icmpgeN O 44 (by omega) (by omega) dX6_casesAt_9 (by decide) (fun c9 => ?_) (fun c9 => ?_)
      · refine x_sub [1, 2] (L' := [(2, .int (nI v2_4)), (0, .ref (adr 0))]) rfl ?_
        obtain rfl : cc_ = 0 := by omega
        exact K_ _ rfl
      · refine x_iload_n O 1 dX6_casesAt_12 rfl rfl ?_
        refine x_aload_n O 2 dX6_casesAt_13 rfl rfl ?_
        refine x_iload_n O 0 dX6_casesAt_14 rfl rfl ?_
        refine x_iconst O (nI 1) dX6_casesAt_15 (by decide) ?_
        refine x_cV O 2 (c_m_ofFind (μ := μ) i3_4 1 (by omega) (by omega)) MS.obj uc6 (lw_V q2054 q2056 qs75 q111 q2057) rfl hd_X6_ofFind rfl (by rw [RF]; rfl) (by rw [RL]; rfl) ⟨Nat.zero_le _, Nat.zero_le _⟩ rfl rfl dX6_casesAt_16 ?_
        refine x_iload_n O 3 dX6_casesAt_19 rfl rfl ?_
        have J2 : ∀ (y1 : Nat), y1 = (if (m_ofFind (μ 1) i3_4 1) = cell then (if m_isSeenCase (μ 1) i3_4 = true then 1 else 0) else 0) → X G F R Q 4 36 [(3, .int (nI i3_4)), (0, .ref (adr 0)), (1, .int cell)] [.int (nI y1), .int (nI v2_4)] (MS G adr h0 μ) 0 0 := by
          intro y1 e3
          subst e3
          refine x_iaddN O dX6_casesAt_36 ?_
          refine x_istore_n O [(2, .int (nI (v2_4 + ((if (m_ofFind (μ 1) i3_4 1) = cell then (if m_isSeenCase (μ 1) i3_4 = true then 1 else 0) else 0))))), (3, .int (nI i3_4)), (0, .ref (adr 0)), (1, .int cell)] dX6_casesAt_37 rfl rfl rfl ?_
          refine x_iincN O 1 [(3, .int (nI (i3_4 + 1))), (2, .int (nI (v2_4 + ((if (m_ofFind (μ 1) i3_4 1) = cell then (if m_isSeenCase (μ 1) i3_4 = true then 1 else 0) else 0))))), (0, .ref (adr 0)), (1, .int cell)] dX6_casesAt_38 rfl rfl rfl ?_
          refine x_goto O 4 dX6_casesAt_41 (by decide) ?_
          obtain ⟨c2_, rfl⟩ : ∃ z, cc_ = z + 1 := ⟨cc_ - 1, by omega⟩
          have hs_ : (fun i s => m_casesAt_b4 (μ 1) cell i s) i3_4 v2_4 = v2_4 + ((if (m_ofFind (μ 1) i3_4 1) = cell then (if m_isSeenCase (μ 1) i3_4 = true then 1 else 0) else 0)) := by show m_casesAt_b4 (μ 1) cell i3_4 v2_4 = _; unfold m_casesAt_b4; rfl
          exact IH_ c2_ (by omega) _ _ (by omega) (by omega) (fun y0 hy_ => K_ y0 (hy_.trans (fr_step hs_).symm))
        refine x_icmpne O 35 dX6_casesAt_20 (by decide) (fun c20 => ?_) (fun c20 => ?_)
        · refine x_sub [0, 2, 3] (L' := [(3, .int (nI i3_4)), (0, .ref (adr 0)), (1, .int cell)]) rfl ?_
          refine x_iconst O (nI 0) dX6_casesAt_35 (by decide) ?_
          exact J2 0 (by rw [if_neg c20])
        · refine x_sub [0, 2, 3] (L' := [(3, .int (nI i3_4)), (0, .ref (adr 0)), (1, .int cell)]) rfl ?_
          refine x_aload_n O 1 dX6_casesAt_23 rfl rfl ?_
          refine x_iload_n O 0 dX6_casesAt_24 rfl rfl ?_
          refine x_cV O 1 (c_m_isSeenCase (μ := μ) i3_4 (by omega)) MS.obj uc6 (lw_V q2106 q2108 qs82 q111 q2109) rfl hd_X6_isSeenCase rfl (by rw [RF]; rfl) (by rw [RL]; rfl) ⟨Nat.zero_le _, Nat.zero_le _⟩ rfl rfl dX6_casesAt_25 ?_
          refine x_ifeqB O 35 dX6_casesAt_28 (by decide) (fun c28 => ?_) (fun c28 => ?_)
          · refine x_iconst O (nI 0) dX6_casesAt_35 (by decide) ?_
            exact J2 0 (by rw [if_pos c20, if_neg c28])
          · refine x_iconst O (nI 1) dX6_casesAt_31 (by decide) ?_
            refine x_goto O 36 dX6_casesAt_32 (by decide) ?_
            exact J2 1 (by rw [if_pos c20, if_pos c28])
  refine LOOP4 (tn (μ 1 3)) 0 0 rfl (by omega) (fun y0 hy_4 => ?_)
  subst hy_4
  refine x_iload_n O 0 dX6_casesAt_44 rfl rfl ?_
  exact x_iretQ O hQ rfl dX6_casesAt_45 (fun h m => ⟨by rw [hres], m⟩)

def m_heapsOf_b5 (W : Nat → Int32) (cases : Int32) (first : Bool) (i4_5 : Nat) (v3_5 : Nat) : (Nat) ⊕ (Int32) :=
  (if cases ≤ (nI (m_casesAt W (nI i4_5))) then (if first = true then .inr (nI i4_5) else .inl (v3_5 + 1)) else .inl v3_5)
def m_heapsOf (W : Nat → Int32) (cases : Int32) (first : Bool) : Int32 :=
  (match (fre (fun i s => m_heapsOf_b5 W cases first i s) 256 0 0) with | .inl y_5 => (if first = true then (-1) else nI y_5) | .inr v => v)
set_option maxHeartbeats 4000000 in
set_option maxRecDepth 100000 in
theorem c_m_heapsOf {G : UG} {adr : Nat → Nat} {h0 : Hp} {μ : Mu} (hI : MI (μ 1)) (cases : Int32) (first : Bool)  : Con G yX6_heapsOf cX6_heapsOf 5 (some .int) 5 108 0 0 [.ref (adr 0), .int cases, .int (b2i first)] (MS G adr h0 μ) (fun vr_ h' => vr_ = some (.int (m_heapsOf (μ 1) cases first)) ∧ MS G adr h0 μ h') nX := by
  refine con_of2 (plainFor_of_name (by decide)) rfl ?_
  intro F R Q RF RL RC RS hQ O hnh hnm
  obtain ⟨res, hres⟩ : ∃ z, z = (m_heapsOf (μ 1) cases first) := ⟨_, rfl⟩
  rw [← hres] at hQ
  unfold m_heapsOf at hres
  refine x_eq (L' := [(0, .ref (adr 0)), (1, .int cases), (2, .int (b2i first))]) ?_ rfl rfl rfl
  refine x_iconst O (nI 0) dX6_heapsOf_0 (by decide) ?_
  refine x_istore_n O [(3, .int (nI 0)), (0, .ref (adr 0)), (1, .int cases), (2, .int (b2i first))] dX6_heapsOf_1 rfl rfl rfl ?_
  refine x_iconst O (nI 0) dX6_heapsOf_2 (by decide) ?_
  refine x_istore O [(4, .int (nI 0)), (3, .int (nI 0)), (0, .ref (adr 0)), (1, .int cases), (2, .int (b2i first))] dX6_heapsOf_3 rfl rfl ?_
  have LOOP5 : ∀ (cc_ : Nat) (i4_5 : Nat) (v3_5 : Nat), cc_ = 256 - i4_5 → i4_5 < 2147483648 → (∀ (y0 : Nat), fre (fun i s => m_heapsOf_b5 (μ 1) cases first i s) cc_ i4_5 v3_5 = .inl y0 → X G F R Q 5 42 [(3, .int (nI y0)), (0, .ref (adr 0)), (2, .int (b2i first))] [] (MS G adr h0 μ) 0 0) → (∀ v_ : Int32, fre (fun i s => m_heapsOf_b5 (μ 1) cases first i s) cc_ i4_5 v3_5 = .inr v_ → res = v_) → X G F R Q 5 5 [(4, .int (nI i4_5)), (3, .int (nI v3_5)), (0, .ref (adr 0)), (1, .int cases), (2, .int (b2i first))] [] (MS G adr h0 μ) 0 0 := by
    intro cc_
    induction cc_ using Nat.strongRecOn with
    | ind cc_ IH_ =>
      intro i4_5 v3_5 hc_ hb_  K_ K2_
      refine x_iload O 0 dX6_heapsOf_5 rfl ?_
      refine x_sipush O (nI 256) dX6_heapsOf_7 (by decide) ?_
      refine x_icmpgeN O 42 (by omega) (by omega) dX6_heapsOf_10 (by decide) (fun c10 => ?_) (fun c10 => ?_)
      · refine x_sub [1, 2, 4] (L' := [(3, .int (nI v3_5)), (0, .ref (adr 0)), (2, .int (b2i first))]) rfl ?_
        obtain rfl : cc_ = 0 := by omega
        exact K_ _ rfl
      · refine x_aload_n O 2 dX6_heapsOf_13 rfl rfl ?_
        refine x_iload O 0 dX6_heapsOf_14 rfl ?_
        refine x_cV O 1 (c_m_casesAt (μ := μ) hI (nI i4_5)) MS.obj uc6 (lw_V q2175 q2177 qs93 q111 q2178) rfl hd_X6_casesAt rfl (by rw [RF]; rfl) (by rw [RL]; rfl) ⟨Nat.zero_le _, Nat.zero_le _⟩ rfl rfl dX6_heapsOf_16 ?_
        refine x_iload_n O 3 dX6_heapsOf_19 rfl rfl ?_
        refine x_icmpge O 26 dX6_heapsOf_20 (by decide) (fun c20 => ?_) (fun c20 => ?_)
        · refine x_iload_n O 4 dX6_heapsOf_26 rfl rfl ?_
          refine x_ifeqB O 33 dX6_heapsOf_27 (by decide) (fun c27 => ?_) (fun c27 => ?_)
          · refine x_iincN O 1 [(3, .int (nI (v3_5 + 1))), (4, .int (nI i4_5)), (0, .ref (adr 0)), (1, .int cases), (2, .int (b2i first))] dX6_heapsOf_33 rfl rfl rfl ?_
            refine x_iincN O 1 [(4, .int (nI (i4_5 + 1))), (3, .int (nI (v3_5 + 1))), (0, .ref (adr 0)), (1, .int cases), (2, .int (b2i first))] dX6_heapsOf_36 rfl rfl rfl ?_
            refine x_goto O 5 dX6_heapsOf_39 (by decide) ?_
            obtain ⟨c2_, rfl⟩ : ∃ z, cc_ = z + 1 := ⟨cc_ - 1, by omega⟩
            have hs_ : (fun i s => m_heapsOf_b5 (μ 1) cases first i s) i4_5 v3_5 = .inl (v3_5 + 1) := by show m_heapsOf_b5 (μ 1) cases first i4_5 v3_5 = _; unfold m_heapsOf_b5; rw [if_pos c20, if_neg c27]
            exact IH_ c2_ (by omega) _ _ (by omega) (by omega) (fun y0 hy_ => K_ y0 ((frx_step hs_).trans hy_)) (fun v_ hv_ => K2_ v_ ((frx_step hs_).trans hv_))
          · refine x_sub [0, 2] (L' := [(4, .int (nI i4_5)), (0, .ref (adr 0))]) rfl ?_
            refine x_iload O 0 dX6_heapsOf_30 rfl ?_
            obtain ⟨c2_, rfl⟩ : ∃ z, cc_ = z + 1 := ⟨cc_ - 1, by omega⟩
            have hs_ : (fun i s => m_heapsOf_b5 (μ 1) cases first i s) i4_5 v3_5 = .inr (nI i4_5) := by show m_heapsOf_b5 (μ 1) cases first i4_5 v3_5 = _; unfold m_heapsOf_b5; rw [if_pos c20, if_pos c27]
            have hres_ := K2_ _ (frx_stop hs_)
            exact x_iretQ O hQ rfl dX6_heapsOf_32 (fun h m => ⟨by rw [hres_], m⟩)
        · refine x_goto O 36 dX6_heapsOf_23 (by decide) ?_
          refine x_iincN O 0 [(4, .int (nI (i4_5 + 1))), (3, .int (nI v3_5)), (0, .ref (adr 0)), (1, .int cases), (2, .int (b2i first))] dX6_heapsOf_36 rfl rfl rfl ?_
          refine x_goto O 5 dX6_heapsOf_39 (by decide) ?_
          obtain ⟨c2_, rfl⟩ : ∃ z, cc_ = z + 1 := ⟨cc_ - 1, by omega⟩
          have hs_ : (fun i s => m_heapsOf_b5 (μ 1) cases first i s) i4_5 v3_5 = .inl v3_5 := by show m_heapsOf_b5 (μ 1) cases first i4_5 v3_5 = _; unfold m_heapsOf_b5; rw [if_neg c20]
          exact IH_ c2_ (by omega) _ _ (by omega) (by omega) (fun y0 hy_ => K_ y0 ((frx_step hs_).trans hy_)) (fun v_ hv_ => K2_ v_ ((frx_step hs_).trans hv_))
  refine LOOP5 256 0 0 rfl (by omega) (fun y0 hy_5 => ?_) (fun v_ hv_ => by rw [hres, hv_])
  obtain ⟨y_5, hyy_5⟩ : ∃ z : Nat, z = y0 := ⟨_, rfl⟩
  rw [hy_5] at hres
  rw [← hyy_5] at hres
  subst hyy_5
  refine x_iload_n O 2 dX6_heapsOf_42 rfl rfl ?_
  have J3 : ∀ (y1 : Int32), y1 = (if first = true then (-1) else nI y_5) → X G F R Q 5 51 [(0, .ref (adr 0))] [.int y1] (MS G adr h0 μ) 0 0 := by
    intro y1 e4
    subst e4
    exact x_iretQ O hQ rfl dX6_heapsOf_51 (fun h m => ⟨by rw [hres], m⟩)
  refine x_ifeqB O 50 dX6_heapsOf_43 (by decide) (fun c43 => ?_) (fun c43 => ?_)
  · refine x_sub [0, 1] (L' := [(3, .int (nI y_5)), (0, .ref (adr 0))]) rfl ?_
    refine x_iload_n O 0 dX6_heapsOf_50 rfl rfl ?_
    refine x_sub [1] rfl ?_
    exact J3 (nI y_5) (by rw [if_neg c43])
  · refine x_sub [1] (L' := [(0, .ref (adr 0))]) rfl ?_
    refine x_iconst O ((-1)) dX6_heapsOf_46 (by decide) ?_
    refine x_goto O 51 dX6_heapsOf_47 (by decide) ?_
    exact J3 ((-1)) (by rw [if_pos c43])

def m_isModern_b19 (W : Nat → Int32) (f : Nat) (i4_19 : Nat) (v3_19 : Bool) : Bool :=
  (if v3_19 = true then (if (((m_mayBe W f) >>> ((nI i4_19) &&& 31)) &&& (nI 1)) = 0 then true else (if (W (269 + 4 * i4_19 + 2)) ≤ (W 8) then false else true)) else false)
def m_isModern (W : Nat → Int32) (f : Nat) : Bool :=
  (fr (fun i s => m_isModern_b19 W f i s) (tn (W 0)) 0 (if (m_mayBe W f) = 0 then false else true))
set_option maxHeartbeats 4000000 in
set_option maxRecDepth 100000 in
theorem c_m_isModern {G : UG} {adr : Nat → Nat} {h0 : Hp} {μ : Mu} (hI : MI (μ 1)) (f : Nat) (hf : f < 120) : Con G yX6_isModern cX6_isModern 5 (some .boolean) 3 67 0 0 [.ref (adr 0), .int (nI f)] (MS G adr h0 μ) (fun vr_ h' => vr_ = some (.int (b2i (m_isModern (μ 1) f))) ∧ MS G adr h0 μ h') nX := by
  refine con_of2 (plainFor_of_name (by decide)) rfl ?_
  intro F R Q RF RL RC RS hQ O hnh hnm
  obtain ⟨res, hres⟩ : ∃ z, z = (m_isModern (μ 1) f) := ⟨_, rfl⟩
  rw [← hres] at hQ
  unfold m_isModern at hres
  have hb0 : tn (μ 1 0) ≤ 8 := (hI 0 (by decide)).2
  refine x_eq (L' := [(0, .ref (adr 0)), (1, .int (nI f))]) ?_ rfl rfl rfl
  refine x_aload_n O 0 dX6_isModern_0 rfl rfl ?_
  refine x_iload_n O 1 dX6_isModern_1 rfl rfl ?_
  refine x_cV O 1 (c_m_mayBe (μ := μ) hI f (by omega)) MS.obj uc6 (lw_V q2066 q2068 qs78 q111 q2069) rfl hd_X6_mayBe rfl (by rw [RF]; rfl) (by rw [RL]; rfl) ⟨Nat.zero_le _, Nat.zero_le _⟩ rfl rfl dX6_isModern_2 ?_
  refine x_istore_n O [(2, .int (m_mayBe (μ 1) f)), (0, .ref (adr 0)), (1, .int (nI f))] dX6_isModern_5 rfl rfl rfl ?_
  refine x_sub [0, 1] (L' := [(2, .int (m_mayBe (μ 1) f)), (0, .ref (adr 0))]) rfl ?_
  refine x_iload_n O 0 dX6_isModern_6 rfl rfl ?_
  have J3 : ∀ (y1 : Bool), y1 = (if (m_mayBe (μ 1) f) = 0 then false else true) → X G F R Q 5 15 [(2, .int (m_mayBe (μ 1) f)), (0, .ref (adr 0))] [.int (b2i y1)] (MS G adr h0 μ) 0 0 := by
    intro y1 e4
    subst e4
    refine x_istore_n O [(3, .int (b2i ((if (m_mayBe (μ 1) f) = 0 then false else true)))), (2, .int (m_mayBe (μ 1) f)), (0, .ref (adr 0))] dX6_isModern_15 rfl rfl rfl ?_
    refine x_iconst O (nI 0) dX6_isModern_16 (by decide) ?_
    refine x_istore O [(4, .int (nI 0)), (3, .int (b2i ((if (m_mayBe (μ 1) f) = 0 then false else true)))), (2, .int (m_mayBe (μ 1) f)), (0, .ref (adr 0))] dX6_isModern_17 rfl rfl ?_
    have LOOP19 : ∀ (cc_ : Nat) (i4_19 : Nat) (v3_19 : Bool), cc_ = tn (μ 1 0) - i4_19 → i4_19 < 2147483648 → (∀ (y0 : Bool), y0 = fr (fun i s => m_isModern_b19 (μ 1) f i s) cc_ i4_19 v3_19 → X G F R Q 5 80 [(3, .int (b2i y0)), (0, .ref (adr 0))] [] (MS G adr h0 μ) 0 0) → X G F R Q 5 19 [(4, .int (nI i4_19)), (3, .int (b2i v3_19)), (2, .int (m_mayBe (μ 1) f)), (0, .ref (adr 0))] [] (MS G adr h0 μ) 0 0 := by
      intro cc_
      induction cc_ using Nat.strongRecOn with
      | ind cc_ IH_ =>
        intro i4_19 v3_19 hc_ hb_  K_
        refine x_iload O 0 dX6_isModern_19 rfl ?_
        refine x_aload_n O 3 dX6_isModern_21 rfl rfl ?_
        refine x_mget O k_X6_13_6 (mg_1 _ _) dX6_isModern_22 ?_
        refine x_iconst O (nI 0) dX6_isModern_25 (by decide) ?_
        refine x_ialdN O MS.c1 (by omega) rfl dX6_isModern_26 ?_
        refine x_top (v' := nI (tn (μ 1 0))) ((hI 0 (by decide)).1) ?_
        refine x_icmpgeN O 80 (by omega) (by omega) dX6_isModern_27 (by decide) (fun c27 => ?_) (fun c27 => ?_)
        · refine x_sub [1, 3] (L' := [(3, .int (b2i v3_19)), (0, .ref (adr 0))]) rfl ?_
          obtain rfl : cc_ = 0 := by omega
          exact K_ _ rfl
        · refine x_iload_n O 1 dX6_isModern_30 rfl rfl ?_
          have J5 : ∀ (y2 : Bool), y2 = (if v3_19 = true then (if (((m_mayBe (μ 1) f) >>> ((nI i4_19) &&& 31)) &&& (nI 1)) = 0 then true else (if (μ 1 (269 + 4 * i4_19 + 2)) ≤ (μ 1 8) then false else true)) else false) → X G F R Q 5 73 [(4, .int (nI i4_19)), (2, .int (m_mayBe (μ 1) f)), (0, .ref (adr 0))] [.int (b2i y2)] (MS G adr h0 μ) 0 0 := by
            intro y2 e6
            subst e6
            refine x_istore_n O [(3, .int (b2i ((if v3_19 = true then (if (((m_mayBe (μ 1) f) >>> ((nI i4_19) &&& 31)) &&& (nI 1)) = 0 then true else (if (μ 1 (269 + 4 * i4_19 + 2)) ≤ (μ 1 8) then false else true)) else false)))), (4, .int (nI i4_19)), (2, .int (m_mayBe (μ 1) f)), (0, .ref (adr 0))] dX6_isModern_73 rfl rfl rfl ?_
            refine x_iincN O 1 [(4, .int (nI (i4_19 + 1))), (3, .int (b2i ((if v3_19 = true then (if (((m_mayBe (μ 1) f) >>> ((nI i4_19) &&& 31)) &&& (nI 1)) = 0 then true else (if (μ 1 (269 + 4 * i4_19 + 2)) ≤ (μ 1 8) then false else true)) else false)))), (2, .int (m_mayBe (μ 1) f)), (0, .ref (adr 0))] dX6_isModern_74 rfl rfl rfl ?_
            refine x_goto O 19 dX6_isModern_77 (by decide) ?_
            obtain ⟨c2_, rfl⟩ : ∃ z, cc_ = z + 1 := ⟨cc_ - 1, by omega⟩
            have hs_ : (fun i s => m_isModern_b19 (μ 1) f i s) i4_19 v3_19 = (if v3_19 = true then (if (((m_mayBe (μ 1) f) >>> ((nI i4_19) &&& 31)) &&& (nI 1)) = 0 then true else (if (μ 1 (269 + 4 * i4_19 + 2)) ≤ (μ 1 8) then false else true)) else false) := by show m_isModern_b19 (μ 1) f i4_19 v3_19 = _; unfold m_isModern_b19; rfl
            exact IH_ c2_ (by omega) _ _ (by omega) (by omega) (fun y0 hy_ => K_ y0 (hy_.trans (fr_step hs_).symm))
          refine x_ifeqB O 72 dX6_isModern_31 (by decide) (fun c31 => ?_) (fun c31 => ?_)
          · refine x_sub [0, 2, 3] (L' := [(4, .int (nI i4_19)), (2, .int (m_mayBe (μ 1) f)), (0, .ref (adr 0))]) rfl ?_
            refine x_iconst O (nI 0) dX6_isModern_72 (by decide) ?_
            refine x_top (v' := b2i false) (by decide) ?_
            exact J5 false (by rw [if_neg c31])
          · refine x_sub [0, 2, 3] (L' := [(4, .int (nI i4_19)), (2, .int (m_mayBe (μ 1) f)), (0, .ref (adr 0))]) rfl ?_
            refine x_iload_n O 1 dX6_isModern_34 rfl rfl ?_
            refine x_iload O 0 dX6_isModern_35 rfl ?_
            refine x_ishr O dX6_isModern_37 ?_
            refine x_iconst O (nI 1) dX6_isModern_38 (by decide) ?_
            refine x_iand O dX6_isModern_39 ?_
            refine x_ifeq O 68 dX6_isModern_40 (by decide) (fun c40 => ?_) (fun c40 => ?_)
            · refine x_iconst O (nI 1) dX6_isModern_68 (by decide) ?_
              refine x_goto O 73 dX6_isModern_69 (by decide) ?_
              refine x_top (v' := b2i true) (by decide) ?_
              exact J5 true (by rw [if_pos c31, if_pos c40])
            · refine x_aload_n O 2 dX6_isModern_43 rfl rfl ?_
              refine x_mget O k_X6_13_6 (mg_1 _ _) dX6_isModern_44 ?_
              refine x_sipush O (nI 269) dX6_isModern_47 (by decide) ?_
              refine x_iconst O (nI 4) dX6_isModern_50 (by decide) ?_
              refine x_iload O 0 dX6_isModern_51 rfl ?_
              refine x_imulN O dX6_isModern_53 ?_
              refine x_iaddN O dX6_isModern_54 ?_
              refine x_iconst O (nI 2) dX6_isModern_55 (by decide) ?_
              refine x_iaddN O dX6_isModern_56 ?_
              refine x_ialdN O MS.c1 (by omega) rfl dX6_isModern_57 ?_
              refine x_aload_n O 2 dX6_isModern_58 rfl rfl ?_
              refine x_mget O k_X6_13_6 (mg_1 _ _) dX6_isModern_59 ?_
              refine x_bipush O (nI 8) dX6_isModern_62 (by decide) ?_
              refine x_ialdN O MS.c1 (by omega) rfl dX6_isModern_64 ?_
              refine x_icmple O 72 dX6_isModern_65 (by decide) (fun c65 => ?_) (fun c65 => ?_)
              · refine x_iconst O (nI 0) dX6_isModern_72 (by decide) ?_
                refine x_top (v' := b2i false) (by decide) ?_
                exact J5 false (by rw [if_pos c31, if_neg c40, if_pos c65])
              · refine x_iconst O (nI 1) dX6_isModern_68 (by decide) ?_
                refine x_goto O 73 dX6_isModern_69 (by decide) ?_
                refine x_top (v' := b2i true) (by decide) ?_
                exact J5 true (by rw [if_pos c31, if_neg c40, if_neg c65])
    refine LOOP19 (tn (μ 1 0)) 0 ((if (m_mayBe (μ 1) f) = 0 then false else true)) rfl (by omega) (fun y0 hy_19 => ?_)
    subst hy_19
    refine x_iload_n O 0 dX6_isModern_80 rfl rfl ?_
    exact x_zretQ O hQ rfl dX6_isModern_81 (fun h m => ⟨by rw [hres], m⟩)
  refine x_ifeq O 14 dX6_isModern_7 (by decide) (fun c7 => ?_) (fun c7 => ?_)
  · refine x_iconst O (nI 0) dX6_isModern_14 (by decide) ?_
    refine x_top (v' := b2i false) (by decide) ?_
    exact J3 false (by rw [if_pos c7])
  · refine x_iconst O (nI 1) dX6_isModern_10 (by decide) ?_
    refine x_goto O 15 dX6_isModern_11 (by decide) ?_
    refine x_top (v' := b2i true) (by decide) ?_
    exact J3 true (by rw [if_neg c7])
