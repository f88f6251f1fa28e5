/-! the component: statics without a throw -/
def z_isIn (v : Int32) (lo : Int32) (hi : Int32) : Bool :=
  (if v < lo then false else (if hi < v then false else true))
set_option maxHeartbeats 4000000 in
set_option maxRecDepth 100000 in
theorem c_z_isIn {G : UG} {Ω : Hp → Prop}  (v : Int32) (lo : Int32) (hi : Int32)  : Con G yX1_isIn cX1_isIn 3 (some .boolean) 0 0 0 0 [.int v, .int lo, .int hi] Ω (fun vr_ h' => vr_ = some (.int (b2i (z_isIn v lo hi))) ∧ Ω h') nX := by
  refine con_of2 (plainFor_of_name (by decide)) rfl ?_
  intro F R Q RF RL RC RS hQ O hnh hnm
  obtain ⟨res, hres⟩ : ∃ z, z = (z_isIn v lo hi) := ⟨_, rfl⟩
  rw [← hres] at hQ
  unfold z_isIn at hres
  refine x_eq (L' := [(0, .int v), (1, .int lo), (2, .int hi)]) ?_ rfl rfl rfl
  refine x_iload_n O 0 dX1_isIn_0 rfl rfl ?_
  refine x_iload_n O 1 dX1_isIn_1 rfl rfl ?_
  have J2 : ∀ (y1 : Bool), y1 = (if v < lo then false else (if hi < v then false else true)) → X G F R Q 3 15 [(0, .int v)] [.int (b2i y1)] Ω 0 0 := by
    intro y1 e3
    subst e3
    exact x_zretQ O hQ rfl dX1_isIn_15 (fun h m => ⟨by rw [hres], m⟩)
  refine x_icmplt O 14 dX1_isIn_2 (by decide) (fun c2 => ?_) (fun c2 => ?_)
  · refine x_sub [0] (L' := [(0, .int v)]) rfl ?_
    refine x_iconst O (nI 0) dX1_isIn_14 (by decide) ?_
    refine x_top (v' := b2i false) (by decide) ?_
    exact J2 false (by rw [if_pos c2])
  · refine x_sub [0, 2] (L' := [(0, .int v), (2, .int hi)]) rfl ?_
    refine x_iload_n O 0 dX1_isIn_5 rfl rfl ?_
    refine x_iload_n O 1 dX1_isIn_6 rfl rfl ?_
    refine x_icmpgt O 14 dX1_isIn_7 (by decide) (fun c7 => ?_) (fun c7 => ?_)
    · refine x_sub [0] (L' := [(0, .int v)]) rfl ?_
      refine x_iconst O (nI 0) dX1_isIn_14 (by decide) ?_
      refine x_top (v' := b2i false) (by decide) ?_
      exact J2 false (by rw [if_neg c2, if_pos c7])
    · refine x_sub [0] (L' := [(0, .int v)]) rfl ?_
      refine x_iconst O (nI 1) dX1_isIn_10 (by decide) ?_
      refine x_goto O 15 dX1_isIn_11 (by decide) ?_
      refine x_top (v' := b2i true) (by decide) ?_
      exact J2 true (by rw [if_neg c2, if_neg c7])

def z_far (a : Int32) (b : Int32) : Int32 :=
  j_max (j_abs ((a - a / (nI 16) * (nI 16)) - (b - b / (nI 16) * (nI 16)))) (j_abs ((a / (nI 16)) - (b / (nI 16))))
set_option maxHeartbeats 4000000 in
set_option maxRecDepth 100000 in
theorem c_z_far {G : UG} {Ω : Hp → Prop}  (a : Int32) (b : Int32)  : Con G yX1_far cX1_far 2 (some .int) 1 21 0 0 [.int a, .int b] Ω (fun vr_ h' => vr_ = some (.int (z_far a b)) ∧ Ω h') nX := by
  refine con_of2 (plainFor_of_name (by decide)) rfl ?_
  intro F R Q RF RL RC RS hQ O hnh hnm
  obtain ⟨res, hres⟩ : ∃ z, z = (z_far a b) := ⟨_, rfl⟩
  rw [← hres] at hQ
  unfold z_far at hres
  refine x_eq (L' := [(0, .int a), (1, .int b)]) ?_ rfl rfl rfl
  refine x_iload_n O 0 dX1_far_0 rfl rfl ?_
  refine x_bipush O (nI 16) dX1_far_1 (by decide) ?_
  refine x_irem O dX1_far_3 (by decide) ?_
  refine x_iload_n O 1 dX1_far_4 rfl rfl ?_
  refine x_bipush O (nI 16) dX1_far_5 (by decide) ?_
  refine x_irem O dX1_far_7 (by decide) ?_
  refine x_isub O dX1_far_8 ?_
  refine x_cS O 1 (c_j_abs ((a - a / (nI 16) * (nI 16)) - (b - b / (nI 16) * (nI 16)))) (lw_S q556 q520 q116 q521) hd_J7_abs rfl (by rw [RF]; rfl) (by rw [RL]; rfl) ⟨Nat.zero_le _, Nat.zero_le _⟩ rfl rfl dX1_far_9 ?_
  refine x_iload_n O 0 dX1_far_12 rfl rfl ?_
  refine x_bipush O (nI 16) dX1_far_13 (by decide) ?_
  refine x_idiv O dX1_far_15 (by decide) ?_
  refine x_iload_n O 1 dX1_far_16 rfl rfl ?_
  refine x_bipush O (nI 16) dX1_far_17 (by decide) ?_
  refine x_idiv O dX1_far_19 (by decide) ?_
  refine x_isub O dX1_far_20 ?_
  refine x_cS O 1 (c_j_abs ((a / (nI 16)) - (b / (nI 16)))) (lw_S q556 q520 q116 q521) hd_J7_abs rfl (by rw [RF]; rfl) (by rw [RL]; rfl) ⟨Nat.zero_le _, Nat.zero_le _⟩ rfl rfl dX1_far_21 ?_
  refine x_cS O 2 (c_j_max (j_abs ((a - a / (nI 16) * (nI 16)) - (b - b / (nI 16) * (nI 16)))) (j_abs ((a / (nI 16)) - (b / (nI 16))))) (lw_S q557 q558 q116 q559) hd_J7_max rfl (by rw [RF]; rfl) (by rw [RL]; rfl) ⟨Nat.zero_le _, Nat.zero_le _⟩ rfl rfl dX1_far_24 ?_
  exact x_iretQ O hQ rfl dX1_far_27 (fun h m => ⟨by rw [hres], m⟩)

def z_isYear (v : Int32) : Bool :=
  z_isIn v (nI 1800) (nI 1999)
set_option maxHeartbeats 4000000 in
set_option maxRecDepth 100000 in
theorem c_z_isYear {G : UG} {Ω : Hp → Prop}  (v : Int32)  : Con G yX1_isYear cX1_isYear 1 (some .boolean) 1 22 0 0 [.int v] Ω (fun vr_ h' => vr_ = some (.int (b2i (z_isYear v))) ∧ Ω h') nX := by
  refine con_of2 (plainFor_of_name (by decide)) rfl ?_
  intro F R Q RF RL RC RS hQ O hnh hnm
  obtain ⟨res, hres⟩ : ∃ z, z = (z_isYear v) := ⟨_, rfl⟩
  rw [← hres] at hQ
  unfold z_isYear at hres
  refine x_eq (L' := [(0, .int v)]) ?_ rfl rfl rfl
  refine x_iload_n O 0 dX1_isYear_0 rfl rfl ?_
  refine x_sipush O (nI 1800) dX1_isYear_1 (by decide) ?_
  refine x_sipush O (nI 1999) dX1_isYear_4 (by decide) ?_
  refine x_cS O 3 (c_z_isIn v (nI 1800) (nI 1999)) (lw_S q476 q477 q103 q478) hd_X1_isIn rfl (by rw [RF]; rfl) (by rw [RL]; rfl) ⟨Nat.zero_le _, Nat.zero_le _⟩ rfl rfl dX1_isYear_7 ?_
  exact x_zretQ O hQ rfl dX1_isYear_10 (fun h m => ⟨by rw [hres], m⟩)

def z_isInArea (c : Int32) (a : Int32) (b : Int32) : Bool :=
  (if (c - c / (nI 16) * (nI 16)) < (j_min (a - a / (nI 16) * (nI 16)) (b - b / (nI 16) * (nI 16))) then false else (if (j_max (a - a / (nI 16) * (nI 16)) (b - b / (nI 16) * (nI 16))) < (c - c / (nI 16) * (nI 16)) then false else (if (c / (nI 16)) < (j_min (a / (nI 16)) (b / (nI 16))) then false else (if (j_max (a / (nI 16)) (b / (nI 16))) < (c / (nI 16)) then false else true))))
set_option maxHeartbeats 4000000 in
set_option maxRecDepth 100000 in
theorem c_z_isInArea {G : UG} {Ω : Hp → Prop}  (c : Int32) (a : Int32) (b : Int32)  : Con G yX4_isIn cX4_isIn 5 (some .boolean) 1 21 0 0 [.int c, .int a, .int b] Ω (fun vr_ h' => vr_ = some (.int (b2i (z_isInArea c a b))) ∧ Ω h') nX := by
  refine con_of2 (plainFor_of_name (by decide)) rfl ?_
  intro F R Q RF RL RC RS hQ O hnh hnm
  obtain ⟨res, hres⟩ : ∃ z, z = (z_isInArea c a b) := ⟨_, rfl⟩
  rw [← hres] at hQ
  unfold z_isInArea at hres
  refine x_eq (L' := [(0, .int c), (1, .int a), (2, .int b)]) ?_ rfl rfl rfl
  refine x_iload_n O 0 dX4_isIn_0 rfl rfl ?_
  refine x_bipush O (nI 16) dX4_isIn_1 (by decide) ?_
  refine x_irem O dX4_isIn_3 (by decide) ?_
  refine x_istore_n O [(3, .int (c - c / (nI 16) * (nI 16))), (0, .int c), (1, .int a), (2, .int b)] dX4_isIn_4 rfl rfl rfl ?_
  refine x_iload_n O 1 dX4_isIn_5 rfl rfl ?_
  refine x_bipush O (nI 16) dX4_isIn_6 (by decide) ?_
  refine x_idiv O dX4_isIn_8 (by decide) ?_
  refine x_istore O [(4, .int (c / (nI 16))), (3, .int (c - c / (nI 16) * (nI 16))), (0, .int c), (1, .int a), (2, .int b)] dX4_isIn_9 rfl rfl ?_
  refine x_iload_n O 1 dX4_isIn_11 rfl rfl ?_
  refine x_iload_n O 3 dX4_isIn_12 rfl rfl ?_
  refine x_bipush O (nI 16) dX4_isIn_13 (by decide) ?_
  refine x_irem O dX4_isIn_15 (by decide) ?_
  refine x_iload_n O 4 dX4_isIn_16 rfl rfl ?_
  refine x_bipush O (nI 16) dX4_isIn_17 (by decide) ?_
  refine x_irem O dX4_isIn_19 (by decide) ?_
  refine x_cS O 2 (c_j_min (a - a / (nI 16) * (nI 16)) (b - b / (nI 16) * (nI 16))) (lw_S q759 q760 q116 q761) hd_J7_min rfl (by rw [RF]; rfl) (by rw [RL]; rfl) ⟨Nat.zero_le _, Nat.zero_le _⟩ rfl rfl dX4_isIn_20 ?_
  have J2 : ∀ (y1 : Bool), y1 = (if (c - c / (nI 16) * (nI 16)) < (j_min (a - a / (nI 16) * (nI 16)) (b - b / (nI 16) * (nI 16))) then false else (if (j_max (a - a / (nI 16) * (nI 16)) (b - b / (nI 16) * (nI 16))) < (c - c / (nI 16) * (nI 16)) then false else (if (c / (nI 16)) < (j_min (a / (nI 16)) (b / (nI 16))) then false else (if (j_max (a / (nI 16)) (b / (nI 16))) < (c / (nI 16)) then false else true)))) → X G F R Q 5 78 [(0, .int c)] [.int (b2i y1)] Ω 0 0 := by
    intro y1 e3
    subst e3
    exact x_zretQ O hQ rfl dX4_isIn_78 (fun h m => ⟨by rw [hres], m⟩)
  refine x_icmplt O 77 dX4_isIn_23 (by decide) (fun c23 => ?_) (fun c23 => ?_)
  · refine x_sub [2] (L' := [(0, .int c)]) rfl ?_
    refine x_iconst O (nI 0) dX4_isIn_77 (by decide) ?_
    refine x_top (v' := b2i false) (by decide) ?_
    exact J2 false (by rw [if_pos c23])
  · refine x_iload_n O 1 dX4_isIn_26 rfl rfl ?_
    refine x_iload_n O 3 dX4_isIn_27 rfl rfl ?_
    refine x_bipush O (nI 16) dX4_isIn_28 (by decide) ?_
    refine x_irem O dX4_isIn_30 (by decide) ?_
    refine x_iload_n O 4 dX4_isIn_31 rfl rfl ?_
    refine x_bipush O (nI 16) dX4_isIn_32 (by decide) ?_
    refine x_irem O dX4_isIn_34 (by decide) ?_
    refine x_cS O 2 (c_j_max (a - a / (nI 16) * (nI 16)) (b - b / (nI 16) * (nI 16))) (lw_S q762 q558 q116 q559) hd_J7_max rfl (by rw [RF]; rfl) (by rw [RL]; rfl) ⟨Nat.zero_le _, Nat.zero_le _⟩ rfl rfl dX4_isIn_35 ?_
    refine x_icmpgt O 77 dX4_isIn_38 (by decide) (fun c38 => ?_) (fun c38 => ?_)
    · refine x_sub [2] (L' := [(0, .int c)]) rfl ?_
      refine x_iconst O (nI 0) dX4_isIn_77 (by decide) ?_
      refine x_top (v' := b2i false) (by decide) ?_
      exact J2 false (by rw [if_neg c23, if_pos c38])
    · refine x_sub [0, 2, 3, 4] (L' := [(4, .int (c / (nI 16))), (0, .int c), (1, .int a), (2, .int b)]) rfl ?_
      refine x_iload O 0 dX4_isIn_41 rfl ?_
      refine x_iload_n O 2 dX4_isIn_43 rfl rfl ?_
      refine x_bipush O (nI 16) dX4_isIn_44 (by decide) ?_
      refine x_idiv O dX4_isIn_46 (by decide) ?_
      refine x_iload_n O 3 dX4_isIn_47 rfl rfl ?_
      refine x_bipush O (nI 16) dX4_isIn_48 (by decide) ?_
      refine x_idiv O dX4_isIn_50 (by decide) ?_
      refine x_cS O 2 (c_j_min (a / (nI 16)) (b / (nI 16))) (lw_S q759 q760 q116 q761) hd_J7_min rfl (by rw [RF]; rfl) (by rw [RL]; rfl) ⟨Nat.zero_le _, Nat.zero_le _⟩ rfl rfl dX4_isIn_51 ?_
      refine x_icmplt O 77 dX4_isIn_54 (by decide) (fun c54 => ?_) (fun c54 => ?_)
      · refine x_sub [1] (L' := [(0, .int c)]) rfl ?_
        refine x_iconst O (nI 0) dX4_isIn_77 (by decide) ?_
        refine x_top (v' := b2i false) (by decide) ?_
        exact J2 false (by rw [if_neg c23, if_neg c38, if_pos c54])
      · refine x_iload O 0 dX4_isIn_57 rfl ?_
        refine x_iload_n O 2 dX4_isIn_59 rfl rfl ?_
        refine x_bipush O (nI 16) dX4_isIn_60 (by decide) ?_
        refine x_idiv O dX4_isIn_62 (by decide) ?_
        refine x_iload_n O 3 dX4_isIn_63 rfl rfl ?_
        refine x_bipush O (nI 16) dX4_isIn_64 (by decide) ?_
        refine x_idiv O dX4_isIn_66 (by decide) ?_
        refine x_cS O 2 (c_j_max (a / (nI 16)) (b / (nI 16))) (lw_S q762 q558 q116 q559) hd_J7_max rfl (by rw [RF]; rfl) (by rw [RL]; rfl) ⟨Nat.zero_le _, Nat.zero_le _⟩ rfl rfl dX4_isIn_67 ?_
        refine x_icmpgt O 77 dX4_isIn_70 (by decide) (fun c70 => ?_) (fun c70 => ?_)
        · refine x_sub [1] (L' := [(0, .int c)]) rfl ?_
          refine x_iconst O (nI 0) dX4_isIn_77 (by decide) ?_
          refine x_top (v' := b2i false) (by decide) ?_
          exact J2 false (by rw [if_neg c23, if_neg c38, if_neg c54, if_pos c70])
        · refine x_sub [1] (L' := [(0, .int c)]) rfl ?_
          refine x_iconst O (nI 1) dX4_isIn_73 (by decide) ?_
          refine x_goto O 78 dX4_isIn_74 (by decide) ?_
          refine x_top (v' := b2i true) (by decide) ?_
          exact J2 true (by rw [if_neg c23, if_neg c38, if_neg c54, if_neg c70])

theorem z_isIn_m (v lo hi : Int32) : z_isIn v lo hi = m_in v lo hi := rfl
theorem z_far_m (a b : Int32) : z_far a b = g_far a b := rfl
theorem z_isInArea_m (c a b : Int32) : z_isInArea c a b = m_isIn c a b := by
  unfold z_isInArea m_isIn m_in
  repeat' split
  all_goals first | rfl | simp_all
