theorem porA {b c : Bool} (h : ¬ (if b = true then true else if c = true then true else false) = true) : ¬ b = true := fun q => h (by rw [if_pos q])
theorem porB {b c : Bool} (h : ¬ (if b = true then true else if c = true then true else false) = true) : ¬ c = true := fun q => h (by cases b with
  | true => rfl
  | false => rw [if_neg (by decide), if_pos q])
def m_heaps (W : Nat → Int32) (cases : Int32) (first : Bool) : Int32 :=
  (if (if m_in cases (nI 1) (nI 99) = true then false else true) = true then nI 0 else m_heapsOf W cases first)
def m_heaps_s (μ : Mu) (cases : Int32) (first : Bool) : Mu :=
  (if (if m_in cases (nI 1) (nI 99) = true then false else true) = true then (mset (mset μ 0 0 (nI 0)) 0 0 (nI 1)) else (mset μ 0 0 (nI 0)))
set_option maxHeartbeats 4000000 in
set_option maxRecDepth 100000 in
theorem c_m_heaps {G : UG} {adr : Nat → Nat} {h0 : Hp} {μ : Mu} (hI : MI (μ 1)) (cases : Int32) (first : Bool)  : Con G yX6_heaps cX6_heaps 3 (some .int) 6 132 0 0 [.ref (adr 0), .int cases, .int (b2i first)] (MS G adr h0 μ) (fun vr_ h' => vr_ = some (.int (m_heaps (μ 1) cases first)) ∧ MS G adr h0 (m_heaps_s μ cases first) h') nX := by
  refine con_of2 (plainFor_of_name (by decide)) rfl ?_
  intro F R Q RF RL RC RS hQ O hnh hnm
  obtain ⟨res, hres⟩ : ∃ z, z = (m_heaps (μ 1) cases first) := ⟨_, rfl⟩
  rw [← hres] at hQ
  unfold m_heaps at hres
  obtain ⟨resm, hresm⟩ : ∃ z, z = m_heaps_s μ cases first := ⟨_, rfl⟩
  rw [← hresm] at hQ
  unfold m_heaps_s at hresm
  refine x_eq (L' := [(0, .ref (adr 0)), (1, .int cases), (2, .int (b2i first))]) ?_ rfl rfl rfl
  refine x_aload_n O 0 dX6_heaps_0 rfl rfl ?_
  refine x_iconst O (nI 0) dX6_heaps_1 (by decide) ?_
  refine x_mput O p_X6_3_6 (mp_0 _ _ _) rfl dX6_heaps_2 ?_
  refine x_aload_n O 0 dX6_heaps_5 rfl rfl ?_
  refine x_iload_n O 1 dX6_heaps_6 rfl rfl ?_
  refine x_iconst O (nI 1) dX6_heaps_7 (by decide) ?_
  refine x_bipush O (nI 99) dX6_heaps_8 (by decide) ?_
  refine x_cS O 3 (c_m_in cases (nI 1) (nI 99)) (lw_S q1771 q1772 q111 q1773) hd_X6_in rfl (by rw [RF]; rfl) (by rw [RL]; rfl) ⟨Nat.zero_le _, Nat.zero_le _⟩ rfl rfl dX6_heaps_10 ?_
  have J2 : ∀ (y1 : Bool), y1 = (if m_in cases (nI 1) (nI 99) = true then false else true) → X G F R Q 3 21 [(0, .ref (adr 0)), (1, .int cases), (2, .int (b2i first))] [.int (b2i y1), .ref (adr 0)] (MS G adr h0 ((mset μ 0 0 (nI 0)))) 0 0 := by
    intro y1 e3
    subst e3
    refine x_iconst O (nI 1) dX6_heaps_21 (by decide) ?_
    refine x_bc ((if m_in cases (nI 1) (nI 99) = true then false else true)) (fun c22 => ?_) (fun c22 => ?_)
    · have hr4 := hres.trans (if_pos c22)
      have hr5 := hresm.trans (if_pos c22)
      refine x_eq (st' := [.int (nI 1), .int (b2i true), .ref (adr 0)]) ?_ rfl rfl (by rw [c22] <;> rfl)
      refine x_cV O 2 (c_m_throwsIf_t (μ := (mset μ 0 0 (nI 0))) 1) MS.obj uc6 (lw_V q1774 q1776 qs34 q111 q1777) rfl hd_X6_throwsIf rfl (by rw [RF]; rfl) (by rw [RL]; rfl) ⟨Nat.zero_le _, Nat.zero_le _⟩ rfl rfl dX6_heaps_22 ?_
      refine x_top (v' := b2i true) rfl ?_
      refine x_ifeqB O 32 dX6_heaps_25 (by decide) (fun c => absurd rfl c) (fun _ => ?_)
      refine x_sub [0] (L' := [(0, .ref (adr 0))]) rfl ?_
      refine x_iconst O (nI 0) dX6_heaps_28 (by decide) ?_
      refine x_goto O 38 dX6_heaps_29 (by decide) ?_
      exact x_iretQ O hQ rfl dX6_heaps_38 (fun h m => ⟨by rw [hr4], by rw [hr5]; exact m⟩)
    · have hr6 := hres.trans (if_neg c22)
      have hr7 := hresm.trans (if_neg c22)
      refine x_eq (st' := [.int (nI 1), .int (b2i false), .ref (adr 0)]) ?_ rfl rfl (by rw [bfalse c22] <;> rfl)
      refine x_cV O 2 (c_m_throwsIf_f (μ := (mset μ 0 0 (nI 0))) 1) MS.obj uc6 (lw_V q1774 q1776 qs34 q111 q1777) rfl hd_X6_throwsIf rfl (by rw [RF]; rfl) (by rw [RL]; rfl) ⟨Nat.zero_le _, Nat.zero_le _⟩ rfl rfl dX6_heaps_22 ?_
      refine x_top (v' := b2i false) rfl ?_
      refine x_ifeqB O 32 dX6_heaps_25 (by decide) (fun _ => ?_) (fun c => absurd c (by decide))
      refine x_aload_n O 0 dX6_heaps_32 rfl rfl ?_
      refine x_iload_n O 1 dX6_heaps_33 rfl rfl ?_
      refine x_iload_n O 2 dX6_heaps_34 rfl rfl ?_
      refine x_cV O 2 (c_m_heapsOf (μ := (mset μ 0 0 (nI 0))) hI cases first) MS.obj uc6 (lw_V q2171 q2173 qs92 q111 q2174) rfl hd_X6_heapsOf rfl (by rw [RF]; rfl) (by rw [RL]; rfl) ⟨Nat.zero_le _, Nat.zero_le _⟩ rfl rfl dX6_heaps_35 ?_
      refine x_top (v' := m_heapsOf (μ 1) cases first) rfl ?_
      exact x_iretQ O hQ rfl dX6_heaps_38 (fun h m => ⟨by rw [hr6], by rw [hr7]; exact m⟩)
  refine x_ifneB O 20 dX6_heaps_13 (by decide) (fun c13 => ?_) (fun c13 => ?_)
  · refine x_iconst O (nI 0) dX6_heaps_20 (by decide) ?_
    refine x_top (v' := b2i false) (by decide) ?_
    exact J2 false (by rw [if_pos c13])
  · refine x_iconst O (nI 1) dX6_heaps_16 (by decide) ?_
    refine x_goto O 21 dX6_heaps_17 (by decide) ?_
    refine x_top (v' := b2i true) (by decide) ?_
    exact J2 true (by rw [if_neg c13])

def m_gunsIn_b6 (W : Nat → Int32) (a : Int32) (b : Int32) (may : Bool) (i5_6 : Nat) (v4_6 : Int32) : Int32 :=
  (if m_isSeenCase W i5_6 = true then (if m_isIn (m_ofFind W i5_6 1) a b = true then v4_6 ||| ((if may = true then m_mayBe W i5_6 else (if 0 ≤ (m_sureOf W i5_6) then (nI 1) <<< ((m_sureOf W i5_6) &&& 31) else nI 0))) else v4_6) else v4_6)
def m_gunsIn (W : Nat → Int32) (a : Int32) (b : Int32) (may : Bool) : Int32 :=
  (fr (fun i s => m_gunsIn_b6 W a b may i s) (tn (W 3)) 0 (nI 0))
set_option maxHeartbeats 4000000 in
set_option maxRecDepth 100000 in
theorem c_m_gunsIn {G : UG} {adr : Nat → Nat} {h0 : Hp} {μ : Mu} (hI : MI (μ 1)) (a : Int32) (b : Int32) (may : Bool)  : Con G yX6_gunsIn cX6_gunsIn 6 (some .int) 5 107 0 0 [.ref (adr 0), .int a, .int b, .int (b2i may)] (MS G adr h0 μ) (fun vr_ h' => vr_ = some (.int (m_gunsIn (μ 1) a b may)) ∧ MS G adr h0 μ h') nX := by
  refine con_of2 (plainFor_of_name (by decide)) rfl ?_
  intro F R Q RF RL RC RS hQ O hnh hnm
  obtain ⟨res, hres⟩ : ∃ z, z = (m_gunsIn (μ 1) a b may) := ⟨_, rfl⟩
  rw [← hres] at hQ
  unfold m_gunsIn at hres
  have hb3 : tn (μ 1 3) ≤ 120 := (hI 3 (by decide)).2
  refine x_eq (L' := [(0, .ref (adr 0)), (1, .int a), (2, .int b), (3, .int (b2i may))]) ?_ rfl rfl rfl
  refine x_iconst O (nI 0) dX6_gunsIn_0 (by decide) ?_
  refine x_istore O [(4, .int (nI 0)), (0, .ref (adr 0)), (1, .int a), (2, .int b), (3, .int (b2i may))] dX6_gunsIn_1 rfl rfl ?_
  refine x_iconst O (nI 0) dX6_gunsIn_3 (by decide) ?_
  refine x_istore O [(5, .int (nI 0)), (4, .int (nI 0)), (0, .ref (adr 0)), (1, .int a), (2, .int b), (3, .int (b2i may))] dX6_gunsIn_4 rfl rfl ?_
  have LOOP6 : ∀ (cc_ : Nat) (i5_6 : Nat) (v4_6 : Int32), cc_ = tn (μ 1 3) - i5_6 → i5_6 < 2147483648 → (∀ (y0 : Int32), y0 = fr (fun i s => m_gunsIn_b6 (μ 1) a b may i s) cc_ i5_6 v4_6 → X G F R Q 6 87 [(4, .int y0), (0, .ref (adr 0))] [] (MS G adr h0 μ) 0 0) → X G F R Q 6 6 [(5, .int (nI i5_6)), (4, .int v4_6), (0, .ref (adr 0)), (1, .int a), (2, .int b), (3, .int (b2i may))] [] (MS G adr h0 μ) 0 0 := by
    intro cc_
    induction cc_ using Nat.strongRecOn with
    | ind cc_ IH_ =>
      intro i5_6 v4_6 hc_ hb_  K_
      refine x_iload O 0 dX6_gunsIn_6 rfl ?_
      refine x_aload_n O 2 dX6_gunsIn_8 rfl rfl ?_
      refine x_cV O 0 (c_m_finds (μ := μ)) MS.obj uc6 (lw_V q2042 q2044 qs74 q111 q2045) rfl hd_X6_finds rfl (by rw [RF]; rfl) (by rw [RL]; rfl) ⟨Nat.zero_le _, Nat.zero_le _⟩ rfl rfl dX6_gunsIn_9 ?_
      refine x_top (v' := μ 1 3) (m_finds_u _) ?_
      refine x_top (v' := nI (tn (μ 1 3))) ((hI 3 (by decide)).1) ?_
      refine x_icmpgeN O 87 (by omega) (by omega) dX6_gunsIn_12 (by decide) (fun c12 => ?_) (fun c12 => ?_)
      · refine x_sub [1, 2] (L' := [(4, .int v4_6), (0, .ref (adr 0))]) rfl ?_
        obtain rfl : cc_ = 0 := by omega
        exact K_ _ rfl
      · refine x_aload_n O 2 dX6_gunsIn_15 rfl rfl ?_
        refine x_iload O 0 dX6_gunsIn_16 rfl ?_
        refine x_cV O 1 (c_m_isSeenCase (μ := μ) i5_6 (by omega)) MS.obj uc6 (lw_V q2106 q2108 qs82 q111 q2109) rfl hd_X6_isSeenCase rfl (by rw [RF]; rfl) (by rw [RL]; rfl) ⟨Nat.zero_le _, Nat.zero_le _⟩ rfl rfl dX6_gunsIn_18 ?_
        have J3 : ∀ (y2 : Int32), y2 = (if m_isSeenCase (μ 1) i5_6 = true then (if m_isIn (m_ofFind (μ 1) i5_6 1) a b = true then v4_6 ||| ((if may = true then m_mayBe (μ 1) i5_6 else (if 0 ≤ (m_sureOf (μ 1) i5_6) then (nI 1) <<< ((m_sureOf (μ 1) i5_6) &&& 31) else nI 0))) else v4_6) else v4_6) → X G F R Q 6 81 [(5, .int (nI i5_6)), (4, .int y2), (0, .ref (adr 0)), (1, .int a), (2, .int b), (3, .int (b2i may))] [] (MS G adr h0 μ) 0 0 := by
          intro y2 e4
          subst e4
          refine x_iincN O 0 [(5, .int (nI (i5_6 + 1))), (4, .int ((if m_isSeenCase (μ 1) i5_6 = true then (if m_isIn (m_ofFind (μ 1) i5_6 1) a b = true then v4_6 ||| ((if may = true then m_mayBe (μ 1) i5_6 else (if 0 ≤ (m_sureOf (μ 1) i5_6) then (nI 1) <<< ((m_sureOf (μ 1) i5_6) &&& 31) else nI 0))) else v4_6) else v4_6))), (0, .ref (adr 0)), (1, .int a), (2, .int b), (3, .int (b2i may))] dX6_gunsIn_81 rfl rfl rfl ?_
          refine x_goto O 6 dX6_gunsIn_84 (by decide) ?_
          obtain ⟨c2_, rfl⟩ : ∃ z, cc_ = z + 1 := ⟨cc_ - 1, by omega⟩
          have hs_ : (fun i s => m_gunsIn_b6 (μ 1) a b may i s) i5_6 v4_6 = (if m_isSeenCase (μ 1) i5_6 = true then (if m_isIn (m_ofFind (μ 1) i5_6 1) a b = true then v4_6 ||| ((if may = true then m_mayBe (μ 1) i5_6 else (if 0 ≤ (m_sureOf (μ 1) i5_6) then (nI 1) <<< ((m_sureOf (μ 1) i5_6) &&& 31) else nI 0))) else v4_6) else v4_6) := by show m_gunsIn_b6 (μ 1) a b may i5_6 v4_6 = _; unfold m_gunsIn_b6; rfl
          exact IH_ c2_ (by omega) _ _ (by omega) (by omega) (fun y0 hy_ => K_ y0 (hy_.trans (fr_step hs_).symm))
        refine x_ifeqB O 81 dX6_gunsIn_21 (by decide) (fun c21 => ?_) (fun c21 => ?_)
        · exact J3 v4_6 (by rw [if_neg c21])
        · refine x_aload_n O 2 dX6_gunsIn_24 rfl rfl ?_
          refine x_iload O 0 dX6_gunsIn_25 rfl ?_
          refine x_iconst O (nI 1) dX6_gunsIn_27 (by decide) ?_
          refine x_cV O 2 (c_m_ofFind (μ := μ) i5_6 1 (by omega) (by omega)) MS.obj uc6 (lw_V q2054 q2056 qs75 q111 q2057) rfl hd_X6_ofFind rfl (by rw [RF]; rfl) (by rw [RL]; rfl) ⟨Nat.zero_le _, Nat.zero_le _⟩ rfl rfl dX6_gunsIn_28 ?_
          refine x_iload_n O 3 dX6_gunsIn_31 rfl rfl ?_
          refine x_iload_n O 4 dX6_gunsIn_32 rfl rfl ?_
          refine x_cS O 3 (c_m_isIn (m_ofFind (μ 1) i5_6 1) a b) (lw_S q1778 q1779 q111 q1780) hd_X6_isInArea rfl (by rw [RF]; rfl) (by rw [RL]; rfl) ⟨Nat.zero_le _, Nat.zero_le _⟩ rfl rfl dX6_gunsIn_33 ?_
          refine x_ifneB O 42 dX6_gunsIn_36 (by decide) (fun c36 => ?_) (fun c36 => ?_)
          · refine x_iload O 1 dX6_gunsIn_42 rfl ?_
            refine x_iload_n O 5 dX6_gunsIn_44 rfl rfl ?_
            have J5 : ∀ (y1 : Int32), y1 = (if may = true then m_mayBe (μ 1) i5_6 else (if 0 ≤ (m_sureOf (μ 1) i5_6) then (nI 1) <<< ((m_sureOf (μ 1) i5_6) &&& 31) else nI 0)) → X G F R Q 6 78 [(5, .int (nI i5_6)), (0, .ref (adr 0)), (1, .int a), (2, .int b), (3, .int (b2i may))] [.int y1, .int v4_6] (MS G adr h0 μ) 0 0 := by
              intro y1 e6
              subst e6
              refine x_ior O dX6_gunsIn_78 ?_
              refine x_istore O [(4, .int (v4_6 ||| ((if may = true then m_mayBe (μ 1) i5_6 else (if 0 ≤ (m_sureOf (μ 1) i5_6) then (nI 1) <<< ((m_sureOf (μ 1) i5_6) &&& 31) else nI 0))))), (5, .int (nI i5_6)), (0, .ref (adr 0)), (1, .int a), (2, .int b), (3, .int (b2i may))] dX6_gunsIn_79 rfl rfl ?_
              refine x_sub [1, 0, 2, 3, 4, 5] rfl ?_
              exact J3 (v4_6 ||| ((if may = true then m_mayBe (μ 1) i5_6 else (if 0 ≤ (m_sureOf (μ 1) i5_6) then (nI 1) <<< ((m_sureOf (μ 1) i5_6) &&& 31) else nI 0)))) (by rw [if_pos c21, if_pos c36])
            refine x_ifeqB O 57 dX6_gunsIn_45 (by decide) (fun c45 => ?_) (fun c45 => ?_)
            · refine x_sub [0, 2, 3, 4, 5] (L' := [(5, .int (nI i5_6)), (0, .ref (adr 0)), (1, .int a), (2, .int b), (3, .int (b2i may))]) rfl ?_
              refine x_aload_n O 1 dX6_gunsIn_57 rfl rfl ?_
              refine x_iload O 0 dX6_gunsIn_58 rfl ?_
              refine x_cV O 1 (c_m_sureOf (μ := μ) hI i5_6 (by omega)) MS.obj uc6 (lw_V q2130 q2132 qs85 q111 q2133) rfl hd_X6_sureOf rfl (by rw [RF]; rfl) (by rw [RL]; rfl) ⟨Nat.zero_le _, Nat.zero_le _⟩ rfl rfl dX6_gunsIn_60 ?_
              refine x_ifge O 70 dX6_gunsIn_63 (by decide) (fun c63 => ?_) (fun c63 => ?_)
              · refine x_iconst O (nI 1) dX6_gunsIn_70 (by decide) ?_
                refine x_aload_n O 1 dX6_gunsIn_71 rfl rfl ?_
                refine x_iload O 0 dX6_gunsIn_72 rfl ?_
                refine x_cV O 1 (c_m_sureOf (μ := μ) hI i5_6 (by omega)) MS.obj uc6 (lw_V q2130 q2132 qs85 q111 q2133) rfl hd_X6_sureOf rfl (by rw [RF]; rfl) (by rw [RL]; rfl) ⟨Nat.zero_le _, Nat.zero_le _⟩ rfl rfl dX6_gunsIn_74 ?_
                refine x_ishl O dX6_gunsIn_77 ?_
                exact J5 ((nI 1) <<< ((m_sureOf (μ 1) i5_6) &&& 31)) (by rw [if_neg c45, if_pos c63])
              · refine x_iconst O (nI 0) dX6_gunsIn_66 (by decide) ?_
                refine x_goto O 78 dX6_gunsIn_67 (by decide) ?_
                exact J5 (nI 0) (by rw [if_neg c45, if_neg c63])
            · refine x_sub [0, 2, 3, 4, 5] (L' := [(5, .int (nI i5_6)), (0, .ref (adr 0)), (1, .int a), (2, .int b), (3, .int (b2i may))]) rfl ?_
              refine x_aload_n O 1 dX6_gunsIn_48 rfl rfl ?_
              refine x_iload O 0 dX6_gunsIn_49 rfl ?_
              refine x_cV O 1 (c_m_mayBe (μ := μ) hI i5_6 (by omega)) MS.obj uc6 (lw_V q2066 q2068 qs78 q111 q2069) rfl hd_X6_mayBe rfl (by rw [RF]; rfl) (by rw [RL]; rfl) ⟨Nat.zero_le _, Nat.zero_le _⟩ rfl rfl dX6_gunsIn_51 ?_
              refine x_goto O 78 dX6_gunsIn_54 (by decide) ?_
              exact J5 (m_mayBe (μ 1) i5_6) (by rw [if_pos c45])
          · refine x_goto O 81 dX6_gunsIn_39 (by decide) ?_
            exact J3 v4_6 (by rw [if_pos c21, if_neg c36])
  refine LOOP6 (tn (μ 1 3)) 0 (nI 0) rfl (by omega) (fun y0 hy_6 => ?_)
  subst hy_6
  refine x_iload O 0 dX6_gunsIn_87 rfl ?_
  exact x_iretQ O hQ rfl dX6_gunsIn_89 (fun h m => ⟨by rw [hres], m⟩)

def m_joined (W : Nat → Int32) (a : Int32) (b : Int32) (c : Int32) (d : Int32) (may : Bool) : Int32 :=
  (if (if m_noCell a = true then true else (if m_noCell b = true then true else (if m_noCell c = true then true else (if m_noCell d = true then true else false)))) = true then nI 0 else (m_gunsIn W a b may) &&& (m_gunsIn W c d may))
def m_joined_s (μ : Mu) (a : Int32) (b : Int32) (c : Int32) (d : Int32) (may : Bool) : Mu :=
  (if (if m_noCell a = true then true else (if m_noCell b = true then true else (if m_noCell c = true then true else (if m_noCell d = true then true else false)))) = true then (mset (mset μ 0 0 (nI 0)) 0 0 (nI 1)) else (mset μ 0 0 (nI 0)))
set_option maxHeartbeats 4000000 in
set_option maxRecDepth 100000 in
theorem c_m_joined {G : UG} {adr : Nat → Nat} {h0 : Hp} {μ : Mu} (hI : MI (μ 1)) (a : Int32) (b : Int32) (c : Int32) (d : Int32) (may : Bool)  : Con G yX6_joined cX6_joined 6 (some .int) 6 132 0 0 [.ref (adr 0), .int a, .int b, .int c, .int d, .int (b2i may)] (MS G adr h0 μ) (fun vr_ h' => vr_ = some (.int (m_joined (μ 1) a b c d may)) ∧ MS G adr h0 (m_joined_s μ a b c d may) h') nX := by
  refine con_of2 (plainFor_of_name (by decide)) rfl ?_
  intro F R Q RF RL RC RS hQ O hnh hnm
  obtain ⟨res, hres⟩ : ∃ z, z = (m_joined (μ 1) a b c d may) := ⟨_, rfl⟩
  rw [← hres] at hQ
  unfold m_joined at hres
  obtain ⟨resm, hresm⟩ : ∃ z, z = m_joined_s μ a b c d may := ⟨_, rfl⟩
  rw [← hresm] at hQ
  unfold m_joined_s at hresm
  refine x_eq (L' := [(0, .ref (adr 0)), (1, .int a), (2, .int b), (3, .int c), (4, .int d), (5, .int (b2i may))]) ?_ rfl rfl rfl
  refine x_aload_n O 0 dX6_joined_0 rfl rfl ?_
  refine x_iconst O (nI 0) dX6_joined_1 (by decide) ?_
  refine x_mput O p_X6_3_6 (mp_0 _ _ _) rfl dX6_joined_2 ?_
  refine x_aload_n O 0 dX6_joined_5 rfl rfl ?_
  refine x_iload_n O 1 dX6_joined_6 rfl rfl ?_
  refine x_cS O 1 (c_m_noCell a) (lw_S q1768 q1769 q111 q1770) hd_X6_noCell rfl (by rw [RF]; rfl) (by rw [RL]; rfl) ⟨Nat.zero_le _, Nat.zero_le _⟩ rfl rfl dX6_joined_7 ?_
  have J2 : ∀ (y1 : Bool), y1 = (if m_noCell a = true then true else (if m_noCell b = true then true else (if m_noCell c = true then true else (if m_noCell d = true then true else false)))) → X G F R Q 6 40 [(0, .ref (adr 0)), (1, .int a), (2, .int b), (3, .int c), (4, .int d), (5, .int (b2i may))] [.int (b2i y1), .ref (adr 0)] (MS G adr h0 ((mset μ 0 0 (nI 0)))) 0 0 := by
    intro y1 e3
    subst e3
    refine x_iconst O (nI 1) dX6_joined_40 (by decide) ?_
    refine x_bc ((if m_noCell a = true then true else (if m_noCell b = true then true else (if m_noCell c = true then true else (if m_noCell d = true then true else false))))) (fun c41 => ?_) (fun c41 => ?_)
    · have hr4 := hres.trans (if_pos c41)
      have hr5 := hresm.trans (if_pos c41)
      refine x_eq (st' := [.int (nI 1), .int (b2i true), .ref (adr 0)]) ?_ rfl rfl (by rw [c41] <;> rfl)
      refine x_cV O 2 (c_m_throwsIf_t (μ := (mset μ 0 0 (nI 0))) 1) MS.obj uc6 (lw_V q1774 q1776 qs34 q111 q1777) rfl hd_X6_throwsIf rfl (by rw [RF]; rfl) (by rw [RL]; rfl) ⟨Nat.zero_le _, Nat.zero_le _⟩ rfl rfl dX6_joined_41 ?_
      refine x_top (v' := b2i true) rfl ?_
      refine x_ifeqB O 51 dX6_joined_44 (by decide) (fun c => absurd rfl c) (fun _ => ?_)
      refine x_sub [0] (L' := [(0, .ref (adr 0))]) rfl ?_
      refine x_iconst O (nI 0) dX6_joined_47 (by decide) ?_
      refine x_goto O 69 dX6_joined_48 (by decide) ?_
      exact x_iretQ O hQ rfl dX6_joined_69 (fun h m => ⟨by rw [hr4], by rw [hr5]; exact m⟩)
    · have hr6 := hres.trans (if_neg c41)
      have hr7 := hresm.trans (if_neg c41)
      refine x_eq (st' := [.int (nI 1), .int (b2i false), .ref (adr 0)]) ?_ rfl rfl (by rw [bfalse c41] <;> rfl)
      refine x_cV O 2 (c_m_throwsIf_f (μ := (mset μ 0 0 (nI 0))) 1) MS.obj uc6 (lw_V q1774 q1776 qs34 q111 q1777) rfl hd_X6_throwsIf rfl (by rw [RF]; rfl) (by rw [RL]; rfl) ⟨Nat.zero_le _, Nat.zero_le _⟩ rfl rfl dX6_joined_41 ?_
      refine x_top (v' := b2i false) rfl ?_
      refine x_ifeqB O 51 dX6_joined_44 (by decide) (fun _ => ?_) (fun c => absurd c (by decide))
      refine x_aload_n O 0 dX6_joined_51 rfl rfl ?_
      refine x_iload_n O 1 dX6_joined_52 rfl rfl ?_
      refine x_iload_n O 2 dX6_joined_53 rfl rfl ?_
      refine x_iload O 5 dX6_joined_54 rfl ?_
      refine x_cV O 3 (c_m_gunsIn (μ := (mset μ 0 0 (nI 0))) hI a b may) MS.obj uc6 (lw_V q2239 q2241 qs100 q111 q2242) rfl hd_X6_gunsIn rfl (by rw [RF]; rfl) (by rw [RL]; rfl) ⟨Nat.zero_le _, Nat.zero_le _⟩ rfl rfl dX6_joined_56 ?_
      refine x_top (v' := m_gunsIn (μ 1) a b may) rfl ?_
      refine x_aload_n O 0 dX6_joined_59 rfl rfl ?_
      refine x_iload_n O 3 dX6_joined_60 rfl rfl ?_
      refine x_iload O 4 dX6_joined_61 rfl ?_
      refine x_iload O 5 dX6_joined_63 rfl ?_
      refine x_cV O 3 (c_m_gunsIn (μ := (mset μ 0 0 (nI 0))) hI c d may) MS.obj uc6 (lw_V q2239 q2241 qs100 q111 q2242) rfl hd_X6_gunsIn rfl (by rw [RF]; rfl) (by rw [RL]; rfl) ⟨Nat.zero_le _, Nat.zero_le _⟩ rfl rfl dX6_joined_65 ?_
      refine x_top (v' := m_gunsIn (μ 1) c d may) rfl ?_
      refine x_iand O dX6_joined_68 ?_
      exact x_iretQ O hQ rfl dX6_joined_69 (fun h m => ⟨by rw [hr6], by rw [hr7]; exact m⟩)
  refine x_ifneB O 35 dX6_joined_10 (by decide) (fun c10 => ?_) (fun c10 => ?_)
  · refine x_iconst O (nI 1) dX6_joined_35 (by decide) ?_
    refine x_goto O 40 dX6_joined_36 (by decide) ?_
    refine x_top (v' := b2i true) (by decide) ?_
    exact J2 true (by rw [if_pos c10])
  · refine x_iload_n O 2 dX6_joined_13 rfl rfl ?_
    refine x_cS O 1 (c_m_noCell b) (lw_S q1768 q1769 q111 q1770) hd_X6_noCell rfl (by rw [RF]; rfl) (by rw [RL]; rfl) ⟨Nat.zero_le _, Nat.zero_le _⟩ rfl rfl dX6_joined_14 ?_
    refine x_ifneB O 35 dX6_joined_17 (by decide) (fun c17 => ?_) (fun c17 => ?_)
    · refine x_iconst O (nI 1) dX6_joined_35 (by decide) ?_
      refine x_goto O 40 dX6_joined_36 (by decide) ?_
      refine x_top (v' := b2i true) (by decide) ?_
      exact J2 true (by rw [if_neg c10, if_pos c17])
    · refine x_iload_n O 3 dX6_joined_20 rfl rfl ?_
      refine x_cS O 1 (c_m_noCell c) (lw_S q1768 q1769 q111 q1770) hd_X6_noCell rfl (by rw [RF]; rfl) (by rw [RL]; rfl) ⟨Nat.zero_le _, Nat.zero_le _⟩ rfl rfl dX6_joined_21 ?_
      refine x_ifneB O 35 dX6_joined_24 (by decide) (fun c24 => ?_) (fun c24 => ?_)
      · refine x_iconst O (nI 1) dX6_joined_35 (by decide) ?_
        refine x_goto O 40 dX6_joined_36 (by decide) ?_
        refine x_top (v' := b2i true) (by decide) ?_
        exact J2 true (by rw [if_neg c10, if_neg c17, if_pos c24])
      · refine x_iload O 4 dX6_joined_27 rfl ?_
        refine x_cS O 1 (c_m_noCell d) (lw_S q1768 q1769 q111 q1770) hd_X6_noCell rfl (by rw [RF]; rfl) (by rw [RL]; rfl) ⟨Nat.zero_le _, Nat.zero_le _⟩ rfl rfl dX6_joined_29 ?_
        refine x_ifeqB O 39 dX6_joined_32 (by decide) (fun c32 => ?_) (fun c32 => ?_)
        · refine x_iconst O (nI 0) dX6_joined_39 (by decide) ?_
          refine x_top (v' := b2i false) (by decide) ?_
          exact J2 false (by rw [if_neg c10, if_neg c17, if_neg c24, if_neg c32])
        · refine x_iconst O (nI 1) dX6_joined_35 (by decide) ?_
          refine x_goto O 40 dX6_joined_36 (by decide) ?_
          refine x_top (v' := b2i true) (by decide) ?_
          exact J2 true (by rw [if_neg c10, if_neg c17, if_neg c24, if_pos c32])

def m_same (W : Nat → Int32) (a : Int32) (b : Int32) (what : Int32) : Int32 :=
  (if (if m_none W a 3 = true then true else (if m_none W b 3 = true then true else false)) = true then nI 0 else (if (if m_isSeenCase W (tn a) = true then (if m_isSeenCase W (tn b) = true then false else true) else true) = true then nI 0 else (if (if m_in what (nI 0) (nI 1) = true then false else true) = true then nI 0 else (if what = 0 then j_bits ((m_mayBe W (tn a)) &&& (m_mayBe W (tn b))) else (j_bits (m_mayBe W (tn a))) * (j_bits (m_mayBe W (tn b)))))))
def m_same_s (μ : Mu) (a : Int32) (b : Int32) (what : Int32) : Mu :=
  (if (if m_none (μ 1) a 3 = true then true else (if m_none (μ 1) b 3 = true then true else false)) = true then (mset (mset μ 0 0 (nI 0)) 0 0 (nI 1)) else (if (if m_isSeenCase (μ 1) (tn a) = true then (if m_isSeenCase (μ 1) (tn b) = true then false else true) else true) = true then (mset (mset μ 0 0 (nI 0)) 0 0 (nI 2)) else (if (if m_in what (nI 0) (nI 1) = true then false else true) = true then (mset (mset μ 0 0 (nI 0)) 0 0 (nI 3)) else (mset μ 0 0 (nI 0)))))
set_option maxHeartbeats 4000000 in
set_option maxRecDepth 100000 in
theorem c_m_same {G : UG} {adr : Nat → Nat} {h0 : Hp} {μ : Mu} (hI : MI (μ 1)) (a : Int32) (b : Int32) (what : Int32)  : Con G yX6_same cX6_same 4 (some .int) 4 85 0 0 [.ref (adr 0), .int a, .int b, .int what] (MS G adr h0 μ) (fun vr_ h' => vr_ = some (.int (m_same (μ 1) a b what)) ∧ MS G adr h0 (m_same_s μ a b what) h') nX := by
  refine con_of2 (plainFor_of_name (by decide)) rfl ?_
  intro F R Q RF RL RC RS hQ O hnh hnm
  obtain ⟨res, hres⟩ : ∃ z, z = (m_same (μ 1) a b what) := ⟨_, rfl⟩
  rw [← hres] at hQ
  unfold m_same at hres
  obtain ⟨resm, hresm⟩ : ∃ z, z = m_same_s μ a b what := ⟨_, rfl⟩
  rw [← hresm] at hQ
  unfold m_same_s at hresm
  have hb3 : tn (μ 1 3) ≤ 120 := (hI 3 (by decide)).2
  refine x_eq (L' := [(0, .ref (adr 0)), (1, .int a), (2, .int b), (3, .int what)]) ?_ rfl rfl rfl
  refine x_aload_n O 0 dX6_same_0 rfl rfl ?_
  refine x_iconst O (nI 0) dX6_same_1 (by decide) ?_
  refine x_mput O p_X6_3_6 (mp_0 _ _ _) rfl dX6_same_2 ?_
  refine x_aload_n O 0 dX6_same_5 rfl rfl ?_
  refine x_aload_n O 0 dX6_same_6 rfl rfl ?_
  refine x_iload_n O 1 dX6_same_7 rfl rfl ?_
  refine x_iconst O (nI 3) dX6_same_8 (by decide) ?_
  refine x_cV O 2 (c_m_none (μ := (mset μ 0 0 (nI 0))) a 3 (by omega)) MS.obj uc6 (lw_V q1964 q1966 qs59 q111 q1967) rfl hd_X6_none rfl (by rw [RF]; rfl) (by rw [RL]; rfl) ⟨Nat.zero_le _, Nat.zero_le _⟩ rfl rfl dX6_same_9 ?_
  refine x_top (v' := b2i (m_none (μ 1) a 3)) rfl ?_
  have J5 : ∀ (y1 : Bool), y1 = (if m_none (μ 1) a 3 = true then true else (if m_none (μ 1) b 3 = true then true else false)) → X G F R Q 4 29 [(0, .ref (adr 0)), (1, .int a), (2, .int b), (3, .int what)] [.int (b2i y1), .ref (adr 0)] (MS G adr h0 ((mset μ 0 0 (nI 0)))) 0 0 := by
    intro y1 e6
    subst e6
    refine x_iconst O (nI 1) dX6_same_29 (by decide) ?_
    refine x_bc ((if m_none (μ 1) a 3 = true then true else (if m_none (μ 1) b 3 = true then true else false))) (fun c30 => ?_) (fun c30 => ?_)
    · have hr7 := hres.trans (if_pos c30)
      have hr8 := hresm.trans (if_pos c30)
      refine x_eq (st' := [.int (nI 1), .int (b2i true), .ref (adr 0)]) ?_ rfl rfl (by rw [c30] <;> rfl)
      refine x_cV O 2 (c_m_throwsIf_t (μ := (mset μ 0 0 (nI 0))) 1) MS.obj uc6 (lw_V q1774 q1776 qs34 q111 q1777) rfl hd_X6_throwsIf rfl (by rw [RF]; rfl) (by rw [RL]; rfl) ⟨Nat.zero_le _, Nat.zero_le _⟩ rfl rfl dX6_same_30 ?_
      refine x_top (v' := b2i true) rfl ?_
      refine x_ifneB O 87 dX6_same_33 (by decide) (fun _ => ?_) (fun c => absurd rfl c)
      refine x_sub [0] (L' := [(0, .ref (adr 0))]) rfl ?_
      refine x_iconst O (nI 0) dX6_same_87 (by decide) ?_
      exact x_iretQ O hQ rfl dX6_same_88 (fun h m => ⟨by rw [hr7], by rw [hr8]; exact m⟩)
    · have hr9 := hres.trans (if_neg c30)
      have hr10 := hresm.trans (if_neg c30)
      refine x_eq (st' := [.int (nI 1), .int (b2i false), .ref (adr 0)]) ?_ rfl rfl (by rw [bfalse c30] <;> rfl)
      refine x_cV O 2 (c_m_throwsIf_f (μ := (mset μ 0 0 (nI 0))) 1) MS.obj uc6 (lw_V q1774 q1776 qs34 q111 q1777) rfl hd_X6_throwsIf rfl (by rw [RF]; rfl) (by rw [RL]; rfl) ⟨Nat.zero_le _, Nat.zero_le _⟩ rfl rfl dX6_same_30 ?_
      refine x_top (v' := b2i false) rfl ?_
      refine x_ifneB O 87 dX6_same_33 (by decide) (fun c => absurd c (by decide)) (fun _ => ?_)
      refine x_aload_n O 0 dX6_same_36 rfl rfl ?_
      refine x_aload_n O 0 dX6_same_37 rfl rfl ?_
      refine x_iload_n O 1 dX6_same_38 rfl rfl ?_
      refine x_top (v' := nI (tn a)) ((none_nn (w := 3) (by decide) hI (porA c30)).1) ?_
      refine x_cV O 1 (c_m_isSeenCase (μ := (mset μ 0 0 (nI 0))) (tn a) (by have := (none_nn (w := 3) (by decide) hI (porA c30)).2; omega)) MS.obj uc6 (lw_V q2106 q2108 qs82 q111 q2109) rfl hd_X6_isSeenCase rfl (by rw [RF]; rfl) (by rw [RL]; rfl) ⟨Nat.zero_le _, Nat.zero_le _⟩ rfl rfl dX6_same_39 ?_
      refine x_top (v' := b2i (m_isSeenCase (μ 1) (tn a))) rfl ?_
      have J11 : ∀ (y2 : Bool), y2 = (if m_isSeenCase (μ 1) (tn a) = true then (if m_isSeenCase (μ 1) (tn b) = true then false else true) else true) → X G F R Q 4 58 [(0, .ref (adr 0)), (1, .int a), (2, .int b), (3, .int what)] [.int (b2i y2), .ref (adr 0)] (MS G adr h0 ((mset μ 0 0 (nI 0)))) 0 0 := by
        intro y2 e12
        subst e12
        refine x_iconst O (nI 2) dX6_same_58 (by decide) ?_
        refine x_bc ((if m_isSeenCase (μ 1) (tn a) = true then (if m_isSeenCase (μ 1) (tn b) = true then false else true) else true)) (fun c59 => ?_) (fun c59 => ?_)
        · have hr13 := hr9.trans (if_pos c59)
          have hr14 := hr10.trans (if_pos c59)
          refine x_eq (st' := [.int (nI 2), .int (b2i true), .ref (adr 0)]) ?_ rfl rfl (by rw [c59] <;> rfl)
          refine x_cV O 2 (c_m_throwsIf_t (μ := (mset μ 0 0 (nI 0))) 2) MS.obj uc6 (lw_V q1774 q1776 qs34 q111 q1777) rfl hd_X6_throwsIf rfl (by rw [RF]; rfl) (by rw [RL]; rfl) ⟨Nat.zero_le _, Nat.zero_le _⟩ rfl rfl dX6_same_59 ?_
          refine x_top (v' := b2i true) rfl ?_
          refine x_ifneB O 87 dX6_same_62 (by decide) (fun _ => ?_) (fun c => absurd rfl c)
          refine x_sub [0] (L' := [(0, .ref (adr 0))]) rfl ?_
          refine x_iconst O (nI 0) dX6_same_87 (by decide) ?_
          exact x_iretQ O hQ rfl dX6_same_88 (fun h m => ⟨by rw [hr13], by rw [hr14]; exact m⟩)
        · have hr15 := hr9.trans (if_neg c59)
          have hr16 := hr10.trans (if_neg c59)
          refine x_eq (st' := [.int (nI 2), .int (b2i false), .ref (adr 0)]) ?_ rfl rfl (by rw [bfalse c59] <;> rfl)
          refine x_cV O 2 (c_m_throwsIf_f (μ := (mset μ 0 0 (nI 0))) 2) MS.obj uc6 (lw_V q1774 q1776 qs34 q111 q1777) rfl hd_X6_throwsIf rfl (by rw [RF]; rfl) (by rw [RL]; rfl) ⟨Nat.zero_le _, Nat.zero_le _⟩ rfl rfl dX6_same_59 ?_
          refine x_top (v' := b2i false) rfl ?_
          refine x_ifneB O 87 dX6_same_62 (by decide) (fun c => absurd c (by decide)) (fun _ => ?_)
          refine x_aload_n O 0 dX6_same_65 rfl rfl ?_
          refine x_iload_n O 3 dX6_same_66 rfl rfl ?_
          refine x_iconst O (nI 0) dX6_same_67 (by decide) ?_
          refine x_iconst O (nI 1) dX6_same_68 (by decide) ?_
          refine x_cS O 3 (c_m_in what (nI 0) (nI 1)) (lw_S q1771 q1772 q111 q1773) hd_X6_in rfl (by rw [RF]; rfl) (by rw [RL]; rfl) ⟨Nat.zero_le _, Nat.zero_le _⟩ rfl rfl dX6_same_69 ?_
          have J17 : ∀ (y3 : Bool), y3 = (if m_in what (nI 0) (nI 1) = true then false else true) → X G F R Q 4 80 [(0, .ref (adr 0)), (1, .int a), (2, .int b), (3, .int what)] [.int (b2i y3), .ref (adr 0)] (MS G adr h0 ((mset μ 0 0 (nI 0)))) 0 0 := by
            intro y3 e18
            subst e18
            refine x_iconst O (nI 3) dX6_same_80 (by decide) ?_
            refine x_bc ((if m_in what (nI 0) (nI 1) = true then false else true)) (fun c81 => ?_) (fun c81 => ?_)
            · have hr19 := hr15.trans (if_pos c81)
              have hr20 := hr16.trans (if_pos c81)
              refine x_eq (st' := [.int (nI 3), .int (b2i true), .ref (adr 0)]) ?_ rfl rfl (by rw [c81] <;> rfl)
              refine x_cV O 2 (c_m_throwsIf_t (μ := (mset μ 0 0 (nI 0))) 3) MS.obj uc6 (lw_V q1774 q1776 qs34 q111 q1777) rfl hd_X6_throwsIf rfl (by rw [RF]; rfl) (by rw [RL]; rfl) ⟨Nat.zero_le _, Nat.zero_le _⟩ rfl rfl dX6_same_81 ?_
              refine x_top (v' := b2i true) rfl ?_
              refine x_ifeqB O 89 dX6_same_84 (by decide) (fun c => absurd rfl c) (fun _ => ?_)
              refine x_sub [0] (L' := [(0, .ref (adr 0))]) rfl ?_
              refine x_iconst O (nI 0) dX6_same_87 (by decide) ?_
              exact x_iretQ O hQ rfl dX6_same_88 (fun h m => ⟨by rw [hr19], by rw [hr20]; exact m⟩)
            · have hr21 := hr15.trans (if_neg c81)
              have hr22 := hr16.trans (if_neg c81)
              refine x_eq (st' := [.int (nI 3), .int (b2i false), .ref (adr 0)]) ?_ rfl rfl (by rw [bfalse c81] <;> rfl)
              refine x_cV O 2 (c_m_throwsIf_f (μ := (mset μ 0 0 (nI 0))) 3) MS.obj uc6 (lw_V q1774 q1776 qs34 q111 q1777) rfl hd_X6_throwsIf rfl (by rw [RF]; rfl) (by rw [RL]; rfl) ⟨Nat.zero_le _, Nat.zero_le _⟩ rfl rfl dX6_same_81 ?_
              refine x_top (v' := b2i false) rfl ?_
              refine x_ifeqB O 89 dX6_same_84 (by decide) (fun _ => ?_) (fun c => absurd c (by decide))
              refine x_iload_n O 3 dX6_same_89 rfl rfl ?_
              have J23 : ∀ (y4 : Int32), y4 = (if what = 0 then j_bits ((m_mayBe (μ 1) (tn a)) &&& (m_mayBe (μ 1) (tn b))) else (j_bits (m_mayBe (μ 1) (tn a))) * (j_bits (m_mayBe (μ 1) (tn b)))) → X G F R Q 4 127 [(0, .ref (adr 0))] [.int y4] (MS G adr h0 ((mset μ 0 0 (nI 0)))) 0 0 := by
                intro y4 e24
                subst e24
                exact x_iretQ O hQ rfl dX6_same_127 (fun h m => ⟨by rw [hr21], by rw [hr22]; exact m⟩)
              refine x_ifne O 110 dX6_same_90 (by decide) (fun c90 => ?_) (fun c90 => ?_)
              · refine x_sub [0, 1, 2] (L' := [(0, .ref (adr 0)), (1, .int a), (2, .int b)]) rfl ?_
                refine x_aload_n O 0 dX6_same_110 rfl rfl ?_
                refine x_iload_n O 1 dX6_same_111 rfl rfl ?_
                refine x_top (v' := nI (tn a)) ((none_nn (w := 3) (by decide) hI (porA c30)).1) ?_
                refine x_cV O 1 (c_m_mayBe (μ := (mset μ 0 0 (nI 0))) hI (tn a) (by have := (none_nn (w := 3) (by decide) hI (porA c30)).2; omega)) MS.obj uc6 (lw_V q2066 q2068 qs78 q111 q2069) rfl hd_X6_mayBe rfl (by rw [RF]; rfl) (by rw [RL]; rfl) ⟨Nat.zero_le _, Nat.zero_le _⟩ rfl rfl dX6_same_112 ?_
                refine x_top (v' := m_mayBe (μ 1) (tn a)) rfl ?_
                refine x_cS O 1 (c_j_bits (m_mayBe (μ 1) (tn a))) (lw_S q2105 q572 q142 q573) hd_J13_bitCount rfl (by rw [RF]; rfl) (by rw [RL]; rfl) ⟨Nat.zero_le _, Nat.zero_le _⟩ rfl rfl dX6_same_115 ?_
                refine x_aload_n O 0 dX6_same_118 rfl rfl ?_
                refine x_iload_n O 2 dX6_same_119 rfl rfl ?_
                refine x_top (v' := nI (tn b)) ((none_nn (w := 3) (by decide) hI (porB c30)).1) ?_
                refine x_cV O 1 (c_m_mayBe (μ := (mset μ 0 0 (nI 0))) hI (tn b) (by have := (none_nn (w := 3) (by decide) hI (porB c30)).2; omega)) MS.obj uc6 (lw_V q2066 q2068 qs78 q111 q2069) rfl hd_X6_mayBe rfl (by rw [RF]; rfl) (by rw [RL]; rfl) ⟨Nat.zero_le _, Nat.zero_le _⟩ rfl rfl dX6_same_120 ?_
                refine x_top (v' := m_mayBe (μ 1) (tn b)) rfl ?_
                refine x_cS O 1 (c_j_bits (m_mayBe (μ 1) (tn b))) (lw_S q2105 q572 q142 q573) hd_J13_bitCount rfl (by rw [RF]; rfl) (by rw [RL]; rfl) ⟨Nat.zero_le _, Nat.zero_le _⟩ rfl rfl dX6_same_123 ?_
                refine x_imul O dX6_same_126 ?_
                refine x_sub [0] rfl ?_
                exact J23 ((j_bits (m_mayBe (μ 1) (tn a))) * (j_bits (m_mayBe (μ 1) (tn b)))) (by rw [if_neg c90])
              · refine x_sub [0, 1, 2] (L' := [(0, .ref (adr 0)), (1, .int a), (2, .int b)]) rfl ?_
                refine x_aload_n O 0 dX6_same_93 rfl rfl ?_
                refine x_iload_n O 1 dX6_same_94 rfl rfl ?_
                refine x_top (v' := nI (tn a)) ((none_nn (w := 3) (by decide) hI (porA c30)).1) ?_
                refine x_cV O 1 (c_m_mayBe (μ := (mset μ 0 0 (nI 0))) hI (tn a) (by have := (none_nn (w := 3) (by decide) hI (porA c30)).2; omega)) MS.obj uc6 (lw_V q2066 q2068 qs78 q111 q2069) rfl hd_X6_mayBe rfl (by rw [RF]; rfl) (by rw [RL]; rfl) ⟨Nat.zero_le _, Nat.zero_le _⟩ rfl rfl dX6_same_95 ?_
                refine x_top (v' := m_mayBe (μ 1) (tn a)) rfl ?_
                refine x_aload_n O 0 dX6_same_98 rfl rfl ?_
                refine x_iload_n O 2 dX6_same_99 rfl rfl ?_
                refine x_top (v' := nI (tn b)) ((none_nn (w := 3) (by decide) hI (porB c30)).1) ?_
                refine x_cV O 1 (c_m_mayBe (μ := (mset μ 0 0 (nI 0))) hI (tn b) (by have := (none_nn (w := 3) (by decide) hI (porB c30)).2; omega)) MS.obj uc6 (lw_V q2066 q2068 qs78 q111 q2069) rfl hd_X6_mayBe rfl (by rw [RF]; rfl) (by rw [RL]; rfl) ⟨Nat.zero_le _, Nat.zero_le _⟩ rfl rfl dX6_same_100 ?_
                refine x_top (v' := m_mayBe (μ 1) (tn b)) rfl ?_
                refine x_iand O dX6_same_103 ?_
                refine x_cS O 1 (c_j_bits ((m_mayBe (μ 1) (tn a)) &&& (m_mayBe (μ 1) (tn b)))) (lw_S q2105 q572 q142 q573) hd_J13_bitCount rfl (by rw [RF]; rfl) (by rw [RL]; rfl) ⟨Nat.zero_le _, Nat.zero_le _⟩ rfl rfl dX6_same_104 ?_
                refine x_goto O 127 dX6_same_107 (by decide) ?_
                refine x_sub [0] (L' := [(0, .ref (adr 0))]) rfl ?_
                exact J23 (j_bits ((m_mayBe (μ 1) (tn a)) &&& (m_mayBe (μ 1) (tn b)))) (by rw [if_pos c90])
          refine x_ifneB O 79 dX6_same_72 (by decide) (fun c72 => ?_) (fun c72 => ?_)
          · refine x_iconst O (nI 0) dX6_same_79 (by decide) ?_
            refine x_top (v' := b2i false) (by decide) ?_
            exact J17 false (by rw [if_pos c72])
          · refine x_iconst O (nI 1) dX6_same_75 (by decide) ?_
            refine x_goto O 80 dX6_same_76 (by decide) ?_
            refine x_top (v' := b2i true) (by decide) ?_
            exact J17 true (by rw [if_neg c72])
      refine x_ifeqB O 53 dX6_same_42 (by decide) (fun c42 => ?_) (fun c42 => ?_)
      · refine x_iconst O (nI 1) dX6_same_53 (by decide) ?_
        refine x_goto O 58 dX6_same_54 (by decide) ?_
        refine x_top (v' := b2i true) (by decide) ?_
        exact J11 true (by rw [if_neg c42])
      · refine x_aload_n O 0 dX6_same_45 rfl rfl ?_
        refine x_iload_n O 2 dX6_same_46 rfl rfl ?_
        refine x_top (v' := nI (tn b)) ((none_nn (w := 3) (by decide) hI (porB c30)).1) ?_
        refine x_cV O 1 (c_m_isSeenCase (μ := (mset μ 0 0 (nI 0))) (tn b) (by have := (none_nn (w := 3) (by decide) hI (porB c30)).2; omega)) MS.obj uc6 (lw_V q2106 q2108 qs82 q111 q2109) rfl hd_X6_isSeenCase rfl (by rw [RF]; rfl) (by rw [RL]; rfl) ⟨Nat.zero_le _, Nat.zero_le _⟩ rfl rfl dX6_same_47 ?_
        refine x_top (v' := b2i (m_isSeenCase (μ 1) (tn b))) rfl ?_
        refine x_ifneB O 57 dX6_same_50 (by decide) (fun c50 => ?_) (fun c50 => ?_)
        · refine x_iconst O (nI 0) dX6_same_57 (by decide) ?_
          refine x_top (v' := b2i false) (by decide) ?_
          exact J11 false (by rw [if_pos c42, if_pos c50])
        · refine x_iconst O (nI 1) dX6_same_53 (by decide) ?_
          refine x_goto O 58 dX6_same_54 (by decide) ?_
          refine x_top (v' := b2i true) (by decide) ?_
          exact J11 true (by rw [if_pos c42, if_neg c50])
  refine x_ifneB O 24 dX6_same_12 (by decide) (fun c12 => ?_) (fun c12 => ?_)
  · refine x_iconst O (nI 1) dX6_same_24 (by decide) ?_
    refine x_goto O 29 dX6_same_25 (by decide) ?_
    refine x_top (v' := b2i true) (by decide) ?_
    exact J5 true (by rw [if_pos c12])
  · refine x_aload_n O 0 dX6_same_15 rfl rfl ?_
    refine x_iload_n O 2 dX6_same_16 rfl rfl ?_
    refine x_iconst O (nI 3) dX6_same_17 (by decide) ?_
    refine x_cV O 2 (c_m_none (μ := (mset μ 0 0 (nI 0))) b 3 (by omega)) MS.obj uc6 (lw_V q1964 q1966 qs59 q111 q1967) rfl hd_X6_none rfl (by rw [RF]; rfl) (by rw [RL]; rfl) ⟨Nat.zero_le _, Nat.zero_le _⟩ rfl rfl dX6_same_18 ?_
    refine x_top (v' := b2i (m_none (μ 1) b 3)) rfl ?_
    refine x_ifeqB O 28 dX6_same_21 (by decide) (fun c21 => ?_) (fun c21 => ?_)
    · refine x_iconst O (nI 0) dX6_same_28 (by decide) ?_
      refine x_top (v' := b2i false) (by decide) ?_
      exact J5 false (by rw [if_neg c12, if_neg c21])
    · refine x_iconst O (nI 1) dX6_same_24 (by decide) ?_
      refine x_goto O 29 dX6_same_25 (by decide) ?_
      refine x_top (v' := b2i true) (by decide) ?_
      exact J5 true (by rw [if_neg c12, if_pos c21])

def m_teller (W : Nat → Int32) (cell : Int32) (a : Int32) (b : Int32) (who : Int32) : Int32 :=
  (if m_noCell cell = true then nI 0 else (if (if m_in a (nI 0) b = true then (if (nI 239) < b then true else (if m_in who (nI 0) (nI 9) = true then false else true)) else true) = true then nI 0 else (if (if tn (W 4) = 8 then true else false) = true then nI 0 else (nI (tn (W 4) + 1)) - (nI 1))))
def m_teller_s (μ : Mu) (cell : Int32) (a : Int32) (b : Int32) (who : Int32) : Mu :=
  (if m_noCell cell = true then (mset (mset μ 0 0 (nI 0)) 0 0 (nI 1)) else (if (if m_in a (nI 0) b = true then (if (nI 239) < b then true else (if m_in who (nI 0) (nI 9) = true then false else true)) else true) = true then (mset (mset μ 0 0 (nI 0)) 0 0 (nI 2)) else (if (if tn (μ 1 4) = 8 then true else false) = true then (mset (mset μ 0 0 (nI 0)) 0 0 (nI 3)) else (mset (mset (mset (mset (mset (mset μ 0 0 (nI 0)) 1 (1069 + 4 * tn (μ 1 4)) cell) 1 (1069 + 4 * tn (μ 1 4) + 1) a) 1 (1069 + 4 * tn (μ 1 4) + 2) b) 1 (1069 + 4 * tn (μ 1 4) + 3) who) 1 4 (nI (tn (μ 1 4) + 1))))))
set_option maxHeartbeats 4000000 in
set_option maxRecDepth 100000 in
theorem c_m_teller {G : UG} {adr : Nat → Nat} {h0 : Hp} {μ : Mu} (hI : MI (μ 1)) (cell : Int32) (a : Int32) (b : Int32) (who : Int32)  : Con G yX6_teller cX6_teller 6 (some .int) 2 42 0 0 [.ref (adr 0), .int cell, .int a, .int b, .int who] (MS G adr h0 μ) (fun vr_ h' => vr_ = some (.int (m_teller (μ 1) cell a b who)) ∧ MS G adr h0 (m_teller_s μ cell a b who) h') nX := by
  refine con_of2 (plainFor_of_name (by decide)) rfl ?_
  intro F R Q RF RL RC RS hQ O hnh hnm
  obtain ⟨res, hres⟩ : ∃ z, z = (m_teller (μ 1) cell a b who) := ⟨_, rfl⟩
  rw [← hres] at hQ
  unfold m_teller at hres
  obtain ⟨resm, hresm⟩ : ∃ z, z = m_teller_s μ cell a b who := ⟨_, rfl⟩
  rw [← hresm] at hQ
  unfold m_teller_s at hresm
  have hb4 : tn (μ 1 4) ≤ 8 := (hI 4 (by decide)).2
  refine x_eq (L' := [(0, .ref (adr 0)), (1, .int cell), (2, .int a), (3, .int b), (4, .int who)]) ?_ rfl rfl rfl
  refine x_aload_n O 0 dX6_teller_0 rfl rfl ?_
  refine x_iconst O (nI 0) dX6_teller_1 (by decide) ?_
  refine x_mput O p_X6_3_6 (mp_0 _ _ _) rfl dX6_teller_2 ?_
  refine x_aload_n O 0 dX6_teller_5 rfl rfl ?_
  refine x_iload_n O 1 dX6_teller_6 rfl rfl ?_
  refine x_cS O 1 (c_m_noCell cell) (lw_S q1768 q1769 q111 q1770) hd_X6_noCell rfl (by rw [RF]; rfl) (by rw [RL]; rfl) ⟨Nat.zero_le _, Nat.zero_le _⟩ rfl rfl dX6_teller_7 ?_
  refine x_iconst O (nI 1) dX6_teller_10 (by decide) ?_
  refine x_bc (m_noCell cell) (fun c11 => ?_) (fun c11 => ?_)
  · have hr3 := hres.trans (if_pos c11)
    have hr4 := hresm.trans (if_pos c11)
    refine x_eq (st' := [.int (nI 1), .int (b2i true), .ref (adr 0)]) ?_ rfl rfl (by rw [c11] <;> rfl)
    refine x_cV O 2 (c_m_throwsIf_t (μ := (mset μ 0 0 (nI 0))) 1) MS.obj uc6 (lw_V q1774 q1776 qs34 q111 q1777) rfl hd_X6_throwsIf rfl (by rw [RF]; rfl) (by rw [RL]; rfl) ⟨Nat.zero_le _, Nat.zero_le _⟩ rfl rfl dX6_teller_11 ?_
    refine x_top (v' := b2i true) rfl ?_
    refine x_ifneB O 81 dX6_teller_14 (by decide) (fun _ => ?_) (fun c => absurd rfl c)
    refine x_sub [0] (L' := [(0, .ref (adr 0))]) rfl ?_
    refine x_iconst O (nI 0) dX6_teller_81 (by decide) ?_
    exact x_iretQ O hQ rfl dX6_teller_82 (fun h m => ⟨by rw [hr3], by rw [hr4]; exact m⟩)
  · have hr5 := hres.trans (if_neg c11)
    have hr6 := hresm.trans (if_neg c11)
    refine x_eq (st' := [.int (nI 1), .int (b2i false), .ref (adr 0)]) ?_ rfl rfl (by rw [bfalse c11] <;> rfl)
    refine x_cV O 2 (c_m_throwsIf_f (μ := (mset μ 0 0 (nI 0))) 1) MS.obj uc6 (lw_V q1774 q1776 qs34 q111 q1777) rfl hd_X6_throwsIf rfl (by rw [RF]; rfl) (by rw [RL]; rfl) ⟨Nat.zero_le _, Nat.zero_le _⟩ rfl rfl dX6_teller_11 ?_
    refine x_top (v' := b2i false) rfl ?_
    refine x_ifneB O 81 dX6_teller_14 (by decide) (fun c => absurd c (by decide)) (fun _ => ?_)
    refine x_aload_n O 0 dX6_teller_17 rfl rfl ?_
    refine x_iload_n O 2 dX6_teller_18 rfl rfl ?_
    refine x_iconst O (nI 0) dX6_teller_19 (by decide) ?_
    refine x_iload_n O 3 dX6_teller_20 rfl rfl ?_
    refine x_cS O 3 (c_m_in a (nI 0) b) (lw_S q1771 q1772 q111 q1773) hd_X6_in rfl (by rw [RF]; rfl) (by rw [RL]; rfl) ⟨Nat.zero_le _, Nat.zero_le _⟩ rfl rfl dX6_teller_21 ?_
    have J7 : ∀ (y1 : Bool), y1 = (if m_in a (nI 0) b = true then (if (nI 239) < b then true else (if m_in who (nI 0) (nI 9) = true then false else true)) else true) → X G F R Q 6 50 [(0, .ref (adr 0)), (1, .int cell), (2, .int a), (3, .int b), (4, .int who)] [.int (b2i y1), .ref (adr 0)] (MS G adr h0 ((mset μ 0 0 (nI 0)))) 0 0 := by
      intro y1 e8
      subst e8
      refine x_iconst O (nI 2) dX6_teller_50 (by decide) ?_
      refine x_bc ((if m_in a (nI 0) b = true then (if (nI 239) < b then true else (if m_in who (nI 0) (nI 9) = true then false else true)) else true)) (fun c51 => ?_) (fun c51 => ?_)
      · have hr9 := hr5.trans (if_pos c51)
        have hr10 := hr6.trans (if_pos c51)
        refine x_eq (st' := [.int (nI 2), .int (b2i true), .ref (adr 0)]) ?_ rfl rfl (by rw [c51] <;> rfl)
        refine x_cV O 2 (c_m_throwsIf_t (μ := (mset μ 0 0 (nI 0))) 2) MS.obj uc6 (lw_V q1774 q1776 qs34 q111 q1777) rfl hd_X6_throwsIf rfl (by rw [RF]; rfl) (by rw [RL]; rfl) ⟨Nat.zero_le _, Nat.zero_le _⟩ rfl rfl dX6_teller_51 ?_
        refine x_top (v' := b2i true) rfl ?_
        refine x_ifneB O 81 dX6_teller_54 (by decide) (fun _ => ?_) (fun c => absurd rfl c)
        refine x_sub [0] (L' := [(0, .ref (adr 0))]) rfl ?_
        refine x_iconst O (nI 0) dX6_teller_81 (by decide) ?_
        exact x_iretQ O hQ rfl dX6_teller_82 (fun h m => ⟨by rw [hr9], by rw [hr10]; exact m⟩)
      · have hr11 := hr5.trans (if_neg c51)
        have hr12 := hr6.trans (if_neg c51)
        refine x_eq (st' := [.int (nI 2), .int (b2i false), .ref (adr 0)]) ?_ rfl rfl (by rw [bfalse c51] <;> rfl)
        refine x_cV O 2 (c_m_throwsIf_f (μ := (mset μ 0 0 (nI 0))) 2) MS.obj uc6 (lw_V q1774 q1776 qs34 q111 q1777) rfl hd_X6_throwsIf rfl (by rw [RF]; rfl) (by rw [RL]; rfl) ⟨Nat.zero_le _, Nat.zero_le _⟩ rfl rfl dX6_teller_51 ?_
        refine x_top (v' := b2i false) rfl ?_
        refine x_ifneB O 81 dX6_teller_54 (by decide) (fun c => absurd c (by decide)) (fun _ => ?_)
        refine x_aload_n O 0 dX6_teller_57 rfl rfl ?_
        refine x_aload_n O 0 dX6_teller_58 rfl rfl ?_
        refine x_mget O k_X6_13_6 (mg_1 _ _) dX6_teller_59 ?_
        refine x_iconst O (nI 4) dX6_teller_62 (by decide) ?_
        refine x_ialdN O MS.c1 (by omega) rfl dX6_teller_63 ?_
        refine x_top (v' := μ 1 4) (rd_oth (by decide)) ?_
        refine x_top (v' := nI (tn (μ 1 4))) ((hI 4 (by decide)).1) ?_
        refine x_bipush O (nI 8) dX6_teller_64 (by decide) ?_
        have J13 : ∀ (y2 : Bool), y2 = (if tn (μ 1 4) = 8 then true else false) → X G F R Q 6 74 [(0, .ref (adr 0)), (1, .int cell), (2, .int a), (3, .int b), (4, .int who)] [.int (b2i y2), .ref (adr 0)] (MS G adr h0 ((mset μ 0 0 (nI 0)))) 0 0 := by
          intro y2 e14
          subst e14
          refine x_iconst O (nI 3) dX6_teller_74 (by decide) ?_
          refine x_bc ((if tn (μ 1 4) = 8 then true else false)) (fun c75 => ?_) (fun c75 => ?_)
          · have hr15 := hr11.trans (if_pos c75)
            have hr16 := hr12.trans (if_pos c75)
            refine x_eq (st' := [.int (nI 3), .int (b2i true), .ref (adr 0)]) ?_ rfl rfl (by rw [c75] <;> rfl)
            refine x_cV O 2 (c_m_throwsIf_t (μ := (mset μ 0 0 (nI 0))) 3) MS.obj uc6 (lw_V q1774 q1776 qs34 q111 q1777) rfl hd_X6_throwsIf rfl (by rw [RF]; rfl) (by rw [RL]; rfl) ⟨Nat.zero_le _, Nat.zero_le _⟩ rfl rfl dX6_teller_75 ?_
            refine x_top (v' := b2i true) rfl ?_
            refine x_ifeqB O 83 dX6_teller_78 (by decide) (fun c => absurd rfl c) (fun _ => ?_)
            refine x_sub [0] (L' := [(0, .ref (adr 0))]) rfl ?_
            refine x_iconst O (nI 0) dX6_teller_81 (by decide) ?_
            exact x_iretQ O hQ rfl dX6_teller_82 (fun h m => ⟨by rw [hr15], by rw [hr16]; exact m⟩)
          · have hr17 := hr11.trans (if_neg c75)
            have hr18 := hr12.trans (if_neg c75)
            refine x_eq (st' := [.int (nI 3), .int (b2i false), .ref (adr 0)]) ?_ rfl rfl (by rw [bfalse c75] <;> rfl)
            refine x_cV O 2 (c_m_throwsIf_f (μ := (mset μ 0 0 (nI 0))) 3) MS.obj uc6 (lw_V q1774 q1776 qs34 q111 q1777) rfl hd_X6_throwsIf rfl (by rw [RF]; rfl) (by rw [RL]; rfl) ⟨Nat.zero_le _, Nat.zero_le _⟩ rfl rfl dX6_teller_75 ?_
            refine x_top (v' := b2i false) rfl ?_
            refine x_ifeqB O 83 dX6_teller_78 (by decide) (fun _ => ?_) (fun c => absurd c (by decide))
            refine x_sipush O (nI 1069) dX6_teller_83 (by decide) ?_
            refine x_iconst O (nI 4) dX6_teller_86 (by decide) ?_
            refine x_aload_n O 0 dX6_teller_87 rfl rfl ?_
            refine x_mget O k_X6_13_6 (mg_1 _ _) dX6_teller_88 ?_
            refine x_iconst O (nI 4) dX6_teller_91 (by decide) ?_
            refine x_ialdN O MS.c1 (by omega) rfl dX6_teller_92 ?_
            refine x_top (v' := μ 1 4) (rd_oth (by decide)) ?_
            refine x_top (v' := nI (tn (μ 1 4))) ((hI 4 (by decide)).1) ?_
            refine x_imulN O dX6_teller_93 ?_
            refine x_iaddN O dX6_teller_94 ?_
            refine x_istore O [(5, .int (nI (1069 + 4 * tn (μ 1 4)))), (0, .ref (adr 0)), (1, .int cell), (2, .int a), (3, .int b), (4, .int who)] dX6_teller_95 rfl rfl ?_
            refine x_aload_n O 1 dX6_teller_97 rfl rfl ?_
            refine x_mget O k_X6_13_6 (mg_1 _ _) dX6_teller_98 ?_
            refine x_iload O 0 dX6_teller_101 rfl ?_
            refine x_iload_n O 2 dX6_teller_103 rfl rfl ?_
            refine x_mast O 0 MS.c1 rfl rfl rfl (by omega) rfl dX6_teller_104 ?_
            refine x_aload_n O 1 dX6_teller_105 rfl rfl ?_
            refine x_mget O k_X6_13_6 (mg_1 _ _) dX6_teller_106 ?_
            refine x_iload O 0 dX6_teller_109 rfl ?_
            refine x_iconst O (nI 1) dX6_teller_111 (by decide) ?_
            refine x_iaddN O dX6_teller_112 ?_
            refine x_iload_n O 3 dX6_teller_113 rfl rfl ?_
            refine x_mast O 0 MS.c1 rfl rfl rfl (by omega) rfl dX6_teller_114 ?_
            refine x_aload_n O 1 dX6_teller_115 rfl rfl ?_
            refine x_mget O k_X6_13_6 (mg_1 _ _) dX6_teller_116 ?_
            refine x_iload O 0 dX6_teller_119 rfl ?_
            refine x_iconst O (nI 2) dX6_teller_121 (by decide) ?_
            refine x_iaddN O dX6_teller_122 ?_
            refine x_iload_n O 4 dX6_teller_123 rfl rfl ?_
            refine x_mast O 0 MS.c1 rfl rfl rfl (by omega) rfl dX6_teller_124 ?_
            refine x_aload_n O 1 dX6_teller_125 rfl rfl ?_
            refine x_mget O k_X6_13_6 (mg_1 _ _) dX6_teller_126 ?_
            refine x_iload O 0 dX6_teller_129 rfl ?_
            refine x_iconst O (nI 3) dX6_teller_131 (by decide) ?_
            refine x_iaddN O dX6_teller_132 ?_
            refine x_iload O 5 dX6_teller_133 rfl ?_
            refine x_mast O 0 MS.c1 rfl rfl rfl (by omega) rfl dX6_teller_135 ?_
            refine x_aload_n O 1 dX6_teller_136 rfl rfl ?_
            refine x_mget O k_X6_13_6 (mg_1 _ _) dX6_teller_137 ?_
            refine x_iconst O (nI 4) dX6_teller_140 (by decide) ?_
            refine x_dup2 O dX6_teller_141 rfl rfl ?_
            refine x_ialdN O MS.c1 (by omega) rfl dX6_teller_142 ?_
            refine x_top (v' := μ 1 4) ((rd_skip (by omega)).trans ((rd_skip (by omega)).trans ((rd_skip (by omega)).trans ((rd_skip (by omega)).trans (rd_oth (by decide)))))) ?_
            refine x_top (v' := nI (tn (μ 1 4))) ((hI 4 (by decide)).1) ?_
            refine x_iconst O (nI 1) dX6_teller_143 (by decide) ?_
            refine x_iaddN O dX6_teller_144 ?_
            refine x_mast O 0 MS.c1 rfl rfl rfl (by omega) rfl dX6_teller_145 ?_
            refine x_aload_n O 1 dX6_teller_146 rfl rfl ?_
            refine x_mget O k_X6_13_6 (mg_1 _ _) dX6_teller_147 ?_
            refine x_iconst O (nI 4) dX6_teller_150 (by decide) ?_
            refine x_ialdN O MS.c1 (by omega) rfl dX6_teller_151 ?_
            refine x_top (v' := nI (tn (μ 1 4) + 1)) rd_hit ?_
            refine x_iconst O (nI 1) dX6_teller_152 (by decide) ?_
            refine x_isub O dX6_teller_153 ?_
            exact x_iretQ O hQ rfl dX6_teller_154 (fun h m => ⟨by rw [hr17], by rw [hr18]; exact m⟩)
        refine x_icmpneN O 73 (by omega) (by omega) dX6_teller_66 (by decide) (fun c66 => ?_) (fun c66 => ?_)
        · refine x_iconst O (nI 0) dX6_teller_73 (by decide) ?_
          refine x_top (v' := b2i false) (by decide) ?_
          exact J13 false (by rw [if_neg c66])
        · refine x_iconst O (nI 1) dX6_teller_69 (by decide) ?_
          refine x_goto O 74 dX6_teller_70 (by decide) ?_
          refine x_top (v' := b2i true) (by decide) ?_
          exact J13 true (by rw [if_pos c66])
    refine x_ifeqB O 45 dX6_teller_24 (by decide) (fun c24 => ?_) (fun c24 => ?_)
    · refine x_iconst O (nI 1) dX6_teller_45 (by decide) ?_
      refine x_goto O 50 dX6_teller_46 (by decide) ?_
      refine x_top (v' := b2i true) (by decide) ?_
      exact J7 true (by rw [if_neg c24])
    · refine x_iload_n O 3 dX6_teller_27 rfl rfl ?_
      refine x_sipush O (nI 239) dX6_teller_28 (by decide) ?_
      refine x_icmpgt O 45 dX6_teller_31 (by decide) (fun c31 => ?_) (fun c31 => ?_)
      · refine x_iconst O (nI 1) dX6_teller_45 (by decide) ?_
        refine x_goto O 50 dX6_teller_46 (by decide) ?_
        refine x_top (v' := b2i true) (by decide) ?_
        exact J7 true (by rw [if_pos c24, if_pos c31])
      · refine x_iload O 4 dX6_teller_34 rfl ?_
        refine x_iconst O (nI 0) dX6_teller_36 (by decide) ?_
        refine x_bipush O (nI 9) dX6_teller_37 (by decide) ?_
        refine x_cS O 3 (c_m_in who (nI 0) (nI 9)) (lw_S q1771 q1772 q111 q1773) hd_X6_in rfl (by rw [RF]; rfl) (by rw [RL]; rfl) ⟨Nat.zero_le _, Nat.zero_le _⟩ rfl rfl dX6_teller_39 ?_
        refine x_ifneB O 49 dX6_teller_42 (by decide) (fun c42 => ?_) (fun c42 => ?_)
        · refine x_iconst O (nI 0) dX6_teller_49 (by decide) ?_
          refine x_top (v' := b2i false) (by decide) ?_
          exact J7 false (by rw [if_pos c24, if_neg c31, if_pos c42])
        · refine x_iconst O (nI 1) dX6_teller_45 (by decide) ?_
          refine x_goto O 50 dX6_teller_46 (by decide) ?_
          refine x_top (v' := b2i true) (by decide) ?_
          exact J7 true (by rw [if_pos c24, if_neg c31, if_neg c42])

def m_tells (W : Nat → Int32) (t : Int32) (cell : Int32) (minute : Int32) : Int32 :=
  (if (if m_none W t 4 = true then true else (if m_noCell cell = true then true else false)) = true then nI 0 else (if (if m_in minute (nI 0) (nI 239) = true then false else true) = true then nI 0 else (if (if tn (W 5) = 20 then true else false) = true then nI 0 else (nI (tn (W 5) + 1)) - (nI 1))))
def m_tells_s (μ : Mu) (t : Int32) (cell : Int32) (minute : Int32) : Mu :=
  (if (if m_none (μ 1) t 4 = true then true else (if m_noCell cell = true then true else false)) = true then (mset (mset μ 0 0 (nI 0)) 0 0 (nI 1)) else (if (if m_in minute (nI 0) (nI 239) = true then false else true) = true then (mset (mset μ 0 0 (nI 0)) 0 0 (nI 2)) else (if (if tn (μ 1 5) = 20 then true else false) = true then (mset (mset μ 0 0 (nI 0)) 0 0 (nI 3)) else (mset (mset (mset (mset (mset μ 0 0 (nI 0)) 1 (1101 + 3 * tn (μ 1 5)) t) 1 (1101 + 3 * tn (μ 1 5) + 1) cell) 1 (1101 + 3 * tn (μ 1 5) + 2) minute) 1 5 (nI (tn (μ 1 5) + 1))))))
set_option maxHeartbeats 4000000 in
set_option maxRecDepth 100000 in
theorem c_m_tells {G : UG} {adr : Nat → Nat} {h0 : Hp} {μ : Mu} (hI : MI (μ 1)) (t : Int32) (cell : Int32) (minute : Int32)  : Con G yX6_tells cX6_tells 5 (some .int) 2 44 0 0 [.ref (adr 0), .int t, .int cell, .int minute] (MS G adr h0 μ) (fun vr_ h' => vr_ = some (.int (m_tells (μ 1) t cell minute)) ∧ MS G adr h0 (m_tells_s μ t cell minute) h') nX := by
  refine con_of2 (plainFor_of_name (by decide)) rfl ?_
  intro F R Q RF RL RC RS hQ O hnh hnm
  obtain ⟨res, hres⟩ : ∃ z, z = (m_tells (μ 1) t cell minute) := ⟨_, rfl⟩
  rw [← hres] at hQ
  unfold m_tells at hres
  obtain ⟨resm, hresm⟩ : ∃ z, z = m_tells_s μ t cell minute := ⟨_, rfl⟩
  rw [← hresm] at hQ
  unfold m_tells_s at hresm
  have hb4 : tn (μ 1 4) ≤ 8 := (hI 4 (by decide)).2
  have hb5 : tn (μ 1 5) ≤ 20 := (hI 5 (by decide)).2
  refine x_eq (L' := [(0, .ref (adr 0)), (1, .int t), (2, .int cell), (3, .int minute)]) ?_ rfl rfl rfl
  refine x_aload_n O 0 dX6_tells_0 rfl rfl ?_
  refine x_iconst O (nI 0) dX6_tells_1 (by decide) ?_
  refine x_mput O p_X6_3_6 (mp_0 _ _ _) rfl dX6_tells_2 ?_
  refine x_aload_n O 0 dX6_tells_5 rfl rfl ?_
  refine x_aload_n O 0 dX6_tells_6 rfl rfl ?_
  refine x_iload_n O 1 dX6_tells_7 rfl rfl ?_
  refine x_iconst O (nI 4) dX6_tells_8 (by decide) ?_
  refine x_cV O 2 (c_m_none (μ := (mset μ 0 0 (nI 0))) t 4 (by omega)) MS.obj uc6 (lw_V q1964 q1966 qs59 q111 q1967) rfl hd_X6_none rfl (by rw [RF]; rfl) (by rw [RL]; rfl) ⟨Nat.zero_le _, Nat.zero_le _⟩ rfl rfl dX6_tells_9 ?_
  refine x_top (v' := b2i (m_none (μ 1) t 4)) rfl ?_
  have J4 : ∀ (y1 : Bool), y1 = (if m_none (μ 1) t 4 = true then true else (if m_noCell cell = true then true else false)) → X G F R Q 5 27 [(0, .ref (adr 0)), (1, .int t), (2, .int cell), (3, .int minute)] [.int (b2i y1), .ref (adr 0)] (MS G adr h0 ((mset μ 0 0 (nI 0)))) 0 0 := by
    intro y1 e5
    subst e5
    refine x_iconst O (nI 1) dX6_tells_27 (by decide) ?_
    refine x_bc ((if m_none (μ 1) t 4 = true then true else (if m_noCell cell = true then true else false))) (fun c28 => ?_) (fun c28 => ?_)
    · have hr6 := hres.trans (if_pos c28)
      have hr7 := hresm.trans (if_pos c28)
      refine x_eq (st' := [.int (nI 1), .int (b2i true), .ref (adr 0)]) ?_ rfl rfl (by rw [c28] <;> rfl)
      refine x_cV O 2 (c_m_throwsIf_t (μ := (mset μ 0 0 (nI 0))) 1) MS.obj uc6 (lw_V q1774 q1776 qs34 q111 q1777) rfl hd_X6_throwsIf rfl (by rw [RF]; rfl) (by rw [RL]; rfl) ⟨Nat.zero_le _, Nat.zero_le _⟩ rfl rfl dX6_tells_28 ?_
      refine x_top (v' := b2i true) rfl ?_
      refine x_ifneB O 82 dX6_tells_31 (by decide) (fun _ => ?_) (fun c => absurd rfl c)
      refine x_sub [0] (L' := [(0, .ref (adr 0))]) rfl ?_
      refine x_iconst O (nI 0) dX6_tells_82 (by decide) ?_
      exact x_iretQ O hQ rfl dX6_tells_83 (fun h m => ⟨by rw [hr6], by rw [hr7]; exact m⟩)
    · have hr8 := hres.trans (if_neg c28)
      have hr9 := hresm.trans (if_neg c28)
      refine x_eq (st' := [.int (nI 1), .int (b2i false), .ref (adr 0)]) ?_ rfl rfl (by rw [bfalse c28] <;> rfl)
      refine x_cV O 2 (c_m_throwsIf_f (μ := (mset μ 0 0 (nI 0))) 1) MS.obj uc6 (lw_V q1774 q1776 qs34 q111 q1777) rfl hd_X6_throwsIf rfl (by rw [RF]; rfl) (by rw [RL]; rfl) ⟨Nat.zero_le _, Nat.zero_le _⟩ rfl rfl dX6_tells_28 ?_
      refine x_top (v' := b2i false) rfl ?_
      refine x_ifneB O 82 dX6_tells_31 (by decide) (fun c => absurd c (by decide)) (fun _ => ?_)
      refine x_aload_n O 0 dX6_tells_34 rfl rfl ?_
      refine x_iload_n O 3 dX6_tells_35 rfl rfl ?_
      refine x_iconst O (nI 0) dX6_tells_36 (by decide) ?_
      refine x_sipush O (nI 239) dX6_tells_37 (by decide) ?_
      refine x_cS O 3 (c_m_in minute (nI 0) (nI 239)) (lw_S q1771 q1772 q111 q1773) hd_X6_in rfl (by rw [RF]; rfl) (by rw [RL]; rfl) ⟨Nat.zero_le _, Nat.zero_le _⟩ rfl rfl dX6_tells_40 ?_
      have J10 : ∀ (y2 : Bool), y2 = (if m_in minute (nI 0) (nI 239) = true then false else true) → X G F R Q 5 51 [(0, .ref (adr 0)), (1, .int t), (2, .int cell), (3, .int minute)] [.int (b2i y2), .ref (adr 0)] (MS G adr h0 ((mset μ 0 0 (nI 0)))) 0 0 := by
        intro y2 e11
        subst e11
        refine x_iconst O (nI 2) dX6_tells_51 (by decide) ?_
        refine x_bc ((if m_in minute (nI 0) (nI 239) = true then false else true)) (fun c52 => ?_) (fun c52 => ?_)
        · have hr12 := hr8.trans (if_pos c52)
          have hr13 := hr9.trans (if_pos c52)
          refine x_eq (st' := [.int (nI 2), .int (b2i true), .ref (adr 0)]) ?_ rfl rfl (by rw [c52] <;> rfl)
          refine x_cV O 2 (c_m_throwsIf_t (μ := (mset μ 0 0 (nI 0))) 2) MS.obj uc6 (lw_V q1774 q1776 qs34 q111 q1777) rfl hd_X6_throwsIf rfl (by rw [RF]; rfl) (by rw [RL]; rfl) ⟨Nat.zero_le _, Nat.zero_le _⟩ rfl rfl dX6_tells_52 ?_
          refine x_top (v' := b2i true) rfl ?_
          refine x_ifneB O 82 dX6_tells_55 (by decide) (fun _ => ?_) (fun c => absurd rfl c)
          refine x_sub [0] (L' := [(0, .ref (adr 0))]) rfl ?_
          refine x_iconst O (nI 0) dX6_tells_82 (by decide) ?_
          exact x_iretQ O hQ rfl dX6_tells_83 (fun h m => ⟨by rw [hr12], by rw [hr13]; exact m⟩)
        · have hr14 := hr8.trans (if_neg c52)
          have hr15 := hr9.trans (if_neg c52)
          refine x_eq (st' := [.int (nI 2), .int (b2i false), .ref (adr 0)]) ?_ rfl rfl (by rw [bfalse c52] <;> rfl)
          refine x_cV O 2 (c_m_throwsIf_f (μ := (mset μ 0 0 (nI 0))) 2) MS.obj uc6 (lw_V q1774 q1776 qs34 q111 q1777) rfl hd_X6_throwsIf rfl (by rw [RF]; rfl) (by rw [RL]; rfl) ⟨Nat.zero_le _, Nat.zero_le _⟩ rfl rfl dX6_tells_52 ?_
          refine x_top (v' := b2i false) rfl ?_
          refine x_ifneB O 82 dX6_tells_55 (by decide) (fun c => absurd c (by decide)) (fun _ => ?_)
          refine x_aload_n O 0 dX6_tells_58 rfl rfl ?_
          refine x_aload_n O 0 dX6_tells_59 rfl rfl ?_
          refine x_mget O k_X6_13_6 (mg_1 _ _) dX6_tells_60 ?_
          refine x_iconst O (nI 5) dX6_tells_63 (by decide) ?_
          refine x_ialdN O MS.c1 (by omega) rfl dX6_tells_64 ?_
          refine x_top (v' := μ 1 5) (rd_oth (by decide)) ?_
          refine x_top (v' := nI (tn (μ 1 5))) ((hI 5 (by decide)).1) ?_
          refine x_bipush O (nI 20) dX6_tells_65 (by decide) ?_
          have J16 : ∀ (y3 : Bool), y3 = (if tn (μ 1 5) = 20 then true else false) → X G F R Q 5 75 [(0, .ref (adr 0)), (1, .int t), (2, .int cell), (3, .int minute)] [.int (b2i y3), .ref (adr 0)] (MS G adr h0 ((mset μ 0 0 (nI 0)))) 0 0 := by
            intro y3 e17
            subst e17
            refine x_iconst O (nI 3) dX6_tells_75 (by decide) ?_
            refine x_bc ((if tn (μ 1 5) = 20 then true else false)) (fun c76 => ?_) (fun c76 => ?_)
            · have hr18 := hr14.trans (if_pos c76)
              have hr19 := hr15.trans (if_pos c76)
              refine x_eq (st' := [.int (nI 3), .int (b2i true), .ref (adr 0)]) ?_ rfl rfl (by rw [c76] <;> rfl)
              refine x_cV O 2 (c_m_throwsIf_t (μ := (mset μ 0 0 (nI 0))) 3) MS.obj uc6 (lw_V q1774 q1776 qs34 q111 q1777) rfl hd_X6_throwsIf rfl (by rw [RF]; rfl) (by rw [RL]; rfl) ⟨Nat.zero_le _, Nat.zero_le _⟩ rfl rfl dX6_tells_76 ?_
              refine x_top (v' := b2i true) rfl ?_
              refine x_ifeqB O 84 dX6_tells_79 (by decide) (fun c => absurd rfl c) (fun _ => ?_)
              refine x_sub [0] (L' := [(0, .ref (adr 0))]) rfl ?_
              refine x_iconst O (nI 0) dX6_tells_82 (by decide) ?_
              exact x_iretQ O hQ rfl dX6_tells_83 (fun h m => ⟨by rw [hr18], by rw [hr19]; exact m⟩)
            · have hr20 := hr14.trans (if_neg c76)
              have hr21 := hr15.trans (if_neg c76)
              refine x_eq (st' := [.int (nI 3), .int (b2i false), .ref (adr 0)]) ?_ rfl rfl (by rw [bfalse c76] <;> rfl)
              refine x_cV O 2 (c_m_throwsIf_f (μ := (mset μ 0 0 (nI 0))) 3) MS.obj uc6 (lw_V q1774 q1776 qs34 q111 q1777) rfl hd_X6_throwsIf rfl (by rw [RF]; rfl) (by rw [RL]; rfl) ⟨Nat.zero_le _, Nat.zero_le _⟩ rfl rfl dX6_tells_76 ?_
              refine x_top (v' := b2i false) rfl ?_
              refine x_ifeqB O 84 dX6_tells_79 (by decide) (fun _ => ?_) (fun c => absurd c (by decide))
              refine x_sipush O (nI 1101) dX6_tells_84 (by decide) ?_
              refine x_iconst O (nI 3) dX6_tells_87 (by decide) ?_
              refine x_aload_n O 0 dX6_tells_88 rfl rfl ?_
              refine x_mget O k_X6_13_6 (mg_1 _ _) dX6_tells_89 ?_
              refine x_iconst O (nI 5) dX6_tells_92 (by decide) ?_
              refine x_ialdN O MS.c1 (by omega) rfl dX6_tells_93 ?_
              refine x_top (v' := μ 1 5) (rd_oth (by decide)) ?_
              refine x_top (v' := nI (tn (μ 1 5))) ((hI 5 (by decide)).1) ?_
              refine x_imulN O dX6_tells_94 ?_
              refine x_iaddN O dX6_tells_95 ?_
              refine x_istore O [(4, .int (nI (1101 + 3 * tn (μ 1 5)))), (0, .ref (adr 0)), (1, .int t), (2, .int cell), (3, .int minute)] dX6_tells_96 rfl rfl ?_
              refine x_aload_n O 1 dX6_tells_98 rfl rfl ?_
              refine x_mget O k_X6_13_6 (mg_1 _ _) dX6_tells_99 ?_
              refine x_iload O 0 dX6_tells_102 rfl ?_
              refine x_iload_n O 2 dX6_tells_104 rfl rfl ?_
              refine x_mast O 0 MS.c1 rfl rfl rfl (by omega) rfl dX6_tells_105 ?_
              refine x_aload_n O 1 dX6_tells_106 rfl rfl ?_
              refine x_mget O k_X6_13_6 (mg_1 _ _) dX6_tells_107 ?_
              refine x_iload O 0 dX6_tells_110 rfl ?_
              refine x_iconst O (nI 1) dX6_tells_112 (by decide) ?_
              refine x_iaddN O dX6_tells_113 ?_
              refine x_iload_n O 3 dX6_tells_114 rfl rfl ?_
              refine x_mast O 0 MS.c1 rfl rfl rfl (by omega) rfl dX6_tells_115 ?_
              refine x_aload_n O 1 dX6_tells_116 rfl rfl ?_
              refine x_mget O k_X6_13_6 (mg_1 _ _) dX6_tells_117 ?_
              refine x_iload O 0 dX6_tells_120 rfl ?_
              refine x_iconst O (nI 2) dX6_tells_122 (by decide) ?_
              refine x_iaddN O dX6_tells_123 ?_
              refine x_iload_n O 4 dX6_tells_124 rfl rfl ?_
              refine x_mast O 0 MS.c1 rfl rfl rfl (by omega) rfl dX6_tells_125 ?_
              refine x_aload_n O 1 dX6_tells_126 rfl rfl ?_
              refine x_mget O k_X6_13_6 (mg_1 _ _) dX6_tells_127 ?_
              refine x_iconst O (nI 5) dX6_tells_130 (by decide) ?_
              refine x_dup2 O dX6_tells_131 rfl rfl ?_
              refine x_ialdN O MS.c1 (by omega) rfl dX6_tells_132 ?_
              refine x_top (v' := μ 1 5) ((rd_skip (by omega)).trans ((rd_skip (by omega)).trans ((rd_skip (by omega)).trans (rd_oth (by decide))))) ?_
              refine x_top (v' := nI (tn (μ 1 5))) ((hI 5 (by decide)).1) ?_
              refine x_iconst O (nI 1) dX6_tells_133 (by decide) ?_
              refine x_iaddN O dX6_tells_134 ?_
              refine x_mast O 0 MS.c1 rfl rfl rfl (by omega) rfl dX6_tells_135 ?_
              refine x_aload_n O 1 dX6_tells_136 rfl rfl ?_
              refine x_mget O k_X6_13_6 (mg_1 _ _) dX6_tells_137 ?_
              refine x_iconst O (nI 5) dX6_tells_140 (by decide) ?_
              refine x_ialdN O MS.c1 (by omega) rfl dX6_tells_141 ?_
              refine x_top (v' := nI (tn (μ 1 5) + 1)) rd_hit ?_
              refine x_iconst O (nI 1) dX6_tells_142 (by decide) ?_
              refine x_isub O dX6_tells_143 ?_
              exact x_iretQ O hQ rfl dX6_tells_144 (fun h m => ⟨by rw [hr20], by rw [hr21]; exact m⟩)
          refine x_icmpneN O 74 (by omega) (by omega) dX6_tells_67 (by decide) (fun c67 => ?_) (fun c67 => ?_)
          · refine x_iconst O (nI 0) dX6_tells_74 (by decide) ?_
            refine x_top (v' := b2i false) (by decide) ?_
            exact J16 false (by rw [if_neg c67])
          · refine x_iconst O (nI 1) dX6_tells_70 (by decide) ?_
            refine x_goto O 75 dX6_tells_71 (by decide) ?_
            refine x_top (v' := b2i true) (by decide) ?_
            exact J16 true (by rw [if_pos c67])
      refine x_ifneB O 50 dX6_tells_43 (by decide) (fun c43 => ?_) (fun c43 => ?_)
      · refine x_iconst O (nI 0) dX6_tells_50 (by decide) ?_
        refine x_top (v' := b2i false) (by decide) ?_
        exact J10 false (by rw [if_pos c43])
      · refine x_iconst O (nI 1) dX6_tells_46 (by decide) ?_
        refine x_goto O 51 dX6_tells_47 (by decide) ?_
        refine x_top (v' := b2i true) (by decide) ?_
        exact J10 true (by rw [if_neg c43])
  refine x_ifneB O 22 dX6_tells_12 (by decide) (fun c12 => ?_) (fun c12 => ?_)
  · refine x_iconst O (nI 1) dX6_tells_22 (by decide) ?_
    refine x_goto O 27 dX6_tells_23 (by decide) ?_
    refine x_top (v' := b2i true) (by decide) ?_
    exact J4 true (by rw [if_pos c12])
  · refine x_iload_n O 2 dX6_tells_15 rfl rfl ?_
    refine x_cS O 1 (c_m_noCell cell) (lw_S q1768 q1769 q111 q1770) hd_X6_noCell rfl (by rw [RF]; rfl) (by rw [RL]; rfl) ⟨Nat.zero_le _, Nat.zero_le _⟩ rfl rfl dX6_tells_16 ?_
    refine x_ifeqB O 26 dX6_tells_19 (by decide) (fun c19 => ?_) (fun c19 => ?_)
    · refine x_iconst O (nI 0) dX6_tells_26 (by decide) ?_
      refine x_top (v' := b2i false) (by decide) ?_
      exact J4 false (by rw [if_neg c12, if_neg c19])
    · refine x_iconst O (nI 1) dX6_tells_22 (by decide) ?_
      refine x_goto O 27 dX6_tells_23 (by decide) ?_
      refine x_top (v' := b2i true) (by decide) ?_
      exact J4 true (by rw [if_neg c12, if_pos c19])

def j_fdiv (a : Int32) (b : Int32) : Int32 :=
  (if 0 ≤ (a ^^^ b) then a / b else (if ((a / b) * b) = a then a / b else (a / b) - (nI 1)))
set_option maxHeartbeats 4000000 in
set_option maxRecDepth 100000 in
theorem c_j_fdiv {G : UG} {Ω : Hp → Prop}  (a : Int32) (b : Int32) (hb : ¬ b = 0) : Con G yJ7_floorDiv cJ7_floorDiv 3 (some .int) 0 0 0 0 [.int a, .int b] Ω (fun vr_ h' => vr_ = some (.int (j_fdiv a b)) ∧ Ω h') nX := by
  refine con_of2 (by decide +kernel) rfl ?_
  intro F R Q RF RL RC RS hQ O hnh hnm
  obtain ⟨res, hres⟩ : ∃ z, z = (j_fdiv a b) := ⟨_, rfl⟩
  rw [← hres] at hQ
  unfold j_fdiv at hres
  refine x_eq (L' := [(0, .int a), (1, .int b)]) ?_ rfl rfl rfl
  refine x_iload_n O 0 dJ7_floorDiv_0 rfl rfl ?_
  refine x_iload_n O 1 dJ7_floorDiv_1 rfl rfl ?_
  refine x_idiv O dJ7_floorDiv_2 hb ?_
  refine x_istore_n O [(2, .int (a / b)), (0, .int a), (1, .int b)] dJ7_floorDiv_3 rfl rfl rfl ?_
  refine x_iload_n O 1 dJ7_floorDiv_4 rfl rfl ?_
  refine x_iload_n O 2 dJ7_floorDiv_5 rfl rfl ?_
  refine x_ixor O dJ7_floorDiv_6 ?_
  refine x_ifge O 21 dJ7_floorDiv_7 (by decide) (fun c7 => ?_) (fun c7 => ?_)
  · have hr1 := hres.trans (if_pos c7)
    refine x_sub [0, 1] (L' := [(2, .int (a / b)), (0, .int a)]) rfl ?_
    refine x_iload_n O 0 dJ7_floorDiv_21 rfl rfl ?_
    exact x_iretQ O hQ rfl dJ7_floorDiv_22 (fun h m => ⟨by rw [hr1], m⟩)
  · have hr2 := hres.trans (if_neg c7)
    refine x_iload_n O 0 dJ7_floorDiv_10 rfl rfl ?_
    refine x_iload_n O 2 dJ7_floorDiv_11 rfl rfl ?_
    refine x_imul O dJ7_floorDiv_12 ?_
    refine x_iload_n O 1 dJ7_floorDiv_13 rfl rfl ?_
    refine x_icmpeq O 21 dJ7_floorDiv_14 (by decide) (fun c14 => ?_) (fun c14 => ?_)
    · have hr3 := hr2.trans (if_pos c14)
      refine x_sub [0, 1] (L' := [(2, .int (a / b)), (0, .int a)]) rfl ?_
      refine x_iload_n O 0 dJ7_floorDiv_21 rfl rfl ?_
      exact x_iretQ O hQ rfl dJ7_floorDiv_22 (fun h m => ⟨by rw [hr3], m⟩)
    · have hr4 := hr2.trans (if_neg c14)
      refine x_sub [0, 1] (L' := [(2, .int (a / b)), (0, .int a)]) rfl ?_
      refine x_iload_n O 0 dJ7_floorDiv_17 rfl rfl ?_
      refine x_iconst O (nI 1) dJ7_floorDiv_18 (by decide) ?_
      refine x_isub O dJ7_floorDiv_19 ?_
      exact x_iretQ O hQ rfl dJ7_floorDiv_20 (fun h m => ⟨by rw [hr4], m⟩)

def m_nearest (a : Int32) (b : Int32) : Int32 :=
  j_fdiv (((nI 2) * a) + b) ((nI 2) * b)
set_option maxHeartbeats 4000000 in
set_option maxRecDepth 100000 in
theorem c_m_nearest {G : UG} {Ω : Hp → Prop}  (a : Int32) (b : Int32) (hb : ¬ (nI 2) * b = 0) : Con G yX6_nearest cX6_nearest 2 (some .int) 1 22 0 0 [.int a, .int b] Ω (fun vr_ h' => vr_ = some (.int (m_nearest a b)) ∧ Ω h') nX := by
  refine con_of2 (plainFor_of_name (by decide)) rfl ?_
  intro F R Q RF RL RC RS hQ O hnh hnm
  obtain ⟨res, hres⟩ : ∃ z, z = (m_nearest a b) := ⟨_, rfl⟩
  rw [← hres] at hQ
  unfold m_nearest at hres
  refine x_eq (L' := [(0, .int a), (1, .int b)]) ?_ rfl rfl rfl
  refine x_iconst O (nI 2) dX6_nearest_0 (by decide) ?_
  refine x_iload_n O 0 dX6_nearest_1 rfl rfl ?_
  refine x_imul O dX6_nearest_2 ?_
  refine x_iload_n O 1 dX6_nearest_3 rfl rfl ?_
  refine x_iadd O dX6_nearest_4 ?_
  refine x_iconst O (nI 2) dX6_nearest_5 (by decide) ?_
  refine x_iload_n O 1 dX6_nearest_6 rfl rfl ?_
  refine x_imul O dX6_nearest_7 ?_
  refine x_cS O 2 (c_j_fdiv (((nI 2) * a) + b) ((nI 2) * b) hb) (lw_S q1802 q569 q116 q570) hd_J7_floorDiv rfl (by rw [RF]; rfl) (by rw [RL]; rfl) ⟨Nat.zero_le _, Nat.zero_le _⟩ rfl rfl dX6_nearest_8 ?_
  exact x_iretQ O hQ rfl dX6_nearest_11 (fun h m => ⟨by rw [hres], m⟩)

def m_end (μ : Mu) (n : Int32) : Bool :=
  (if n < 0 then false else (if n ≤ (μ 0 5) then true else false))
def m_end_s (μ : Mu) (n : Int32) : Mu :=
  (if n < 0 then (mset μ 0 0 (nI 0)) else (if n ≤ (μ 0 5) then (mset (mset μ 0 0 (nI 0)) 0 5 n) else (mset μ 0 0 (nI 0))))
set_option maxHeartbeats 4000000 in
set_option maxRecDepth 100000 in
theorem c_m_end {G : UG} {adr : Nat → Nat} {h0 : Hp} {μ : Mu}  (n : Int32)  : Con G yX6_end cX6_end 2 (some .boolean) 0 0 0 0 [.ref (adr 0), .int n] (MS G adr h0 μ) (fun vr_ h' => vr_ = some (.int (b2i (m_end μ n))) ∧ MS G adr h0 (m_end_s μ n) h') nX := by
  refine con_of2 (plainFor_of_name (by decide)) rfl ?_
  intro F R Q RF RL RC RS hQ O hnh hnm
  obtain ⟨res, hres⟩ : ∃ z, z = (m_end μ n) := ⟨_, rfl⟩
  rw [← hres] at hQ
  unfold m_end at hres
  obtain ⟨resm, hresm⟩ : ∃ z, z = m_end_s μ n := ⟨_, rfl⟩
  rw [← hresm] at hQ
  unfold m_end_s at hresm
  refine x_eq (L' := [(0, .ref (adr 0)), (1, .int n)]) ?_ rfl rfl rfl
  refine x_aload_n O 0 dX6_end_0 rfl rfl ?_
  refine x_iconst O (nI 0) dX6_end_1 (by decide) ?_
  refine x_mput O p_X6_3_6 (mp_0 _ _ _) rfl dX6_end_2 ?_
  refine x_iload_n O 1 dX6_end_5 rfl rfl ?_
  refine x_iflt O 17 dX6_end_6 (by decide) (fun c6 => ?_) (fun c6 => ?_)
  · have hr1 := hres.trans (if_pos c6)
    have hr2 := hresm.trans (if_pos c6)
    refine x_sub [0] (L' := [(0, .ref (adr 0))]) rfl ?_
    refine x_iconst O (nI 0) dX6_end_17 (by decide) ?_
    refine x_top (v' := b2i false) (by decide) ?_
    exact x_zretQ O hQ rfl dX6_end_18 (fun h m => ⟨by rw [hr1], by rw [hr2]; exact m⟩)
  · have hr3 := hres.trans (if_neg c6)
    have hr4 := hresm.trans (if_neg c6)
    refine x_iload_n O 1 dX6_end_9 rfl rfl ?_
    refine x_aload_n O 0 dX6_end_10 rfl rfl ?_
    refine x_mget O k_X6_103_6 (mg_5 _ _) dX6_end_11 ?_
    refine x_top (v' := μ 0 5) (rd_skip (by decide)) ?_
    refine x_icmple O 19 dX6_end_14 (by decide) (fun c14 => ?_) (fun c14 => ?_)
    · have hr5 := hr3.trans (if_pos c14)
      have hr6 := hr4.trans (if_pos c14)
      refine x_aload_n O 0 dX6_end_19 rfl rfl ?_
      refine x_iload_n O 1 dX6_end_20 rfl rfl ?_
      refine x_mput O p_X6_103_6 (mp_5 _ _ _) rfl dX6_end_21 ?_
      refine x_iconst O (nI 1) dX6_end_24 (by decide) ?_
      refine x_top (v' := b2i true) (by decide) ?_
      exact x_zretQ O hQ rfl dX6_end_25 (fun h m => ⟨by rw [hr5], by rw [hr6]; exact m⟩)
    · have hr7 := hr3.trans (if_neg c14)
      have hr8 := hr4.trans (if_neg c14)
      refine x_sub [0] (L' := [(0, .ref (adr 0))]) rfl ?_
      refine x_iconst O (nI 0) dX6_end_17 (by decide) ?_
      refine x_top (v' := b2i false) (by decide) ?_
      exact x_zretQ O hQ rfl dX6_end_18 (fun h m => ⟨by rw [hr7], by rw [hr8]; exact m⟩)

def m_uses_s (μ : Mu) : Mu :=
  (mset (mset (mset (mset (mset (mset μ 0 0 (nI 0)) 0 7 (μ 0 5)) 0 5 (nI 0)) 0 6 (nI 0)) 0 12 (nI 0)) 0 9 (nI 0))
set_option maxHeartbeats 4000000 in
set_option maxRecDepth 100000 in
theorem c_m_uses {G : UG} {adr : Nat → Nat} {h0 : Hp} {μ : Mu}    : Con G yX6_uses cX6_uses 1 none 0 0 0 0 [.ref (adr 0)] (MS G adr h0 μ) (fun vr_ h' => vr_ = none ∧ MS G adr h0 (m_uses_s μ) h') nX := by
  refine con_of2 (plainFor_of_name (by decide)) rfl ?_
  intro F R Q RF RL RC RS hQ O hnh hnm
  obtain ⟨resm, hresm⟩ : ∃ z, z = m_uses_s μ := ⟨_, rfl⟩
  rw [← hresm] at hQ
  unfold m_uses_s at hresm
  refine x_eq (L' := [(0, .ref (adr 0))]) ?_ rfl rfl rfl
  refine x_aload_n O 0 dX6_uses_0 rfl rfl ?_
  refine x_iconst O (nI 0) dX6_uses_1 (by decide) ?_
  refine x_mput O p_X6_3_6 (mp_0 _ _ _) rfl dX6_uses_2 ?_
  refine x_aload_n O 0 dX6_uses_5 rfl rfl ?_
  refine x_aload_n O 0 dX6_uses_6 rfl rfl ?_
  refine x_mget O k_X6_103_6 (mg_5 _ _) dX6_uses_7 ?_
  refine x_top (v' := μ 0 5) (rd_skip (by decide)) ?_
  refine x_mput O p_X6_106_6 (mp_7 _ _ _) rfl dX6_uses_10 ?_
  refine x_aload_n O 0 dX6_uses_13 rfl rfl ?_
  refine x_iconst O (nI 0) dX6_uses_14 (by decide) ?_
  refine x_mput O p_X6_103_6 (mp_5 _ _ _) rfl dX6_uses_15 ?_
  refine x_aload_n O 0 dX6_uses_18 rfl rfl ?_
  refine x_iconst O (nI 0) dX6_uses_19 (by decide) ?_
  refine x_mput O p_X6_109_6 (mp_6 _ _ _) rfl dX6_uses_20 ?_
  refine x_aload_n O 0 dX6_uses_23 rfl rfl ?_
  refine x_iconst O (nI 0) dX6_uses_24 (by decide) ?_
  refine x_mput O p_X6_112_6 (mp_12 _ _ _) rfl dX6_uses_25 ?_
  refine x_aload_n O 0 dX6_uses_28 rfl rfl ?_
  refine x_iconst O (nI 0) dX6_uses_29 (by decide) ?_
  refine x_mput O p_X6_115_6 (mp_9 _ _ _) rfl dX6_uses_30 ?_
  exact x_vretQ O hQ rfl dX6_uses_33 (fun h m => ⟨rfl, by rw [hresm]; exact m⟩)

def m_still_b86 (W : Nat → Int32) (i5_42 : Nat) (i7_86 : Nat) (v6_86 : Nat) : Nat :=
  v6_86 + ((if (m_ofFind W i7_86 1) = (nI i5_42) then (if m_isSeen W i7_86 = true then 1 else 0) else 0))
def m_still_b42 (W : Nat → Int32) (a : Int32) (b : Int32) (i5_42 : Nat) (v4_42 : Int32) (v3_42 : Nat) : Int32 × Nat :=
  (j_max v4_42 (nI ((fr (fun i s => m_still_b86 W i5_42 i s) (tn (W 3)) 0 0))), v3_42 + ((if m_isIn (nI i5_42) a b = true then (if m_isCovered W ((nI i5_42) / (nI 16)) = true then 0 else 1) else 0)))
def m_still (W : Nat → Int32) (a : Int32) (b : Int32) : Int32 :=
  (if (if m_noCell a = true then true else (if m_noCell b = true then true else false)) = true then nI 0 else (nI ((fr (fun i s => m_still_b42 W a b i s.1 s.2) 256 0 (nI 0, 0)).2)) * ((fr (fun i s => m_still_b42 W a b i s.1 s.2) 256 0 (nI 0, 0)).1))
def m_still_s (μ : Mu) (a : Int32) (b : Int32) : Mu :=
  (if (if m_noCell a = true then true else (if m_noCell b = true then true else false)) = true then (mset (mset μ 0 0 (nI 0)) 0 0 (nI 1)) else (mset μ 0 0 (nI 0)))
set_option maxHeartbeats 4000000 in
set_option maxRecDepth 100000 in
theorem c_m_still {G : UG} {adr : Nat → Nat} {h0 : Hp} {μ : Mu} (hI : MI (μ 1)) (a : Int32) (b : Int32)  : Con G yX6_still cX6_still 8 (some .int) 3 64 0 0 [.ref (adr 0), .int a, .int b] (MS G adr h0 μ) (fun vr_ h' => vr_ = some (.int (m_still (μ 1) a b)) ∧ MS G adr h0 (m_still_s μ a b) h') nX := by
  refine con_of2 (plainFor_of_name (by decide)) rfl ?_
  intro F R Q RF RL RC RS hQ O hnh hnm
  obtain ⟨res, hres⟩ : ∃ z, z = (m_still (μ 1) a b) := ⟨_, rfl⟩
  rw [← hres] at hQ
  unfold m_still at hres
  obtain ⟨resm, hresm⟩ : ∃ z, z = m_still_s μ a b := ⟨_, rfl⟩
  rw [← hresm] at hQ
  unfold m_still_s at hresm
  have hb3 : tn (μ 1 3) ≤ 120 := (hI 3 (by decide)).2
  refine x_eq (L' := [(0, .ref (adr 0)), (1, .int a), (2, .int b)]) ?_ rfl rfl rfl
  refine x_aload_n O 0 dX6_still_0 rfl rfl ?_
  refine x_iconst O (nI 0) dX6_still_1 (by decide) ?_
  refine x_mput O p_X6_3_6 (mp_0 _ _ _) rfl dX6_still_2 ?_
  refine x_aload_n O 0 dX6_still_5 rfl rfl ?_
  refine x_iload_n O 1 dX6_still_6 rfl rfl ?_
  refine x_cS O 1 (c_m_noCell a) (lw_S q1768 q1769 q111 q1770) hd_X6_noCell rfl (by rw [RF]; rfl) (by rw [RL]; rfl) ⟨Nat.zero_le _, Nat.zero_le _⟩ rfl rfl dX6_still_7 ?_
  have J4 : ∀ (y1 : Bool), y1 = (if m_noCell a = true then true else (if m_noCell b = true then true else false)) → X G F R Q 8 25 [(0, .ref (adr 0)), (1, .int a), (2, .int b)] [.int (b2i y1), .ref (adr 0)] (MS G adr h0 ((mset μ 0 0 (nI 0)))) 0 0 := by
    intro y1 e5
    subst e5
    refine x_iconst O (nI 1) dX6_still_25 (by decide) ?_
    refine x_bc ((if m_noCell a = true then true else (if m_noCell b = true then true else false))) (fun c26 => ?_) (fun c26 => ?_)
    · have hr6 := hres.trans (if_pos c26)
      have hr7 := hresm.trans (if_pos c26)
      refine x_eq (st' := [.int (nI 1), .int (b2i true), .ref (adr 0)]) ?_ rfl rfl (by rw [c26] <;> rfl)
      refine x_cV O 2 (c_m_throwsIf_t (μ := (mset μ 0 0 (nI 0))) 1) MS.obj uc6 (lw_V q1774 q1776 qs34 q111 q1777) rfl hd_X6_throwsIf rfl (by rw [RF]; rfl) (by rw [RL]; rfl) ⟨Nat.zero_le _, Nat.zero_le _⟩ rfl rfl dX6_still_26 ?_
      refine x_top (v' := b2i true) rfl ?_
      refine x_ifeqB O 34 dX6_still_29 (by decide) (fun c => absurd rfl c) (fun _ => ?_)
      refine x_sub [0] (L' := [(0, .ref (adr 0))]) rfl ?_
      refine x_iconst O (nI 0) dX6_still_32 (by decide) ?_
      exact x_iretQ O hQ rfl dX6_still_33 (fun h m => ⟨by rw [hr6], by rw [hr7]; exact m⟩)
    · have hr8 := hres.trans (if_neg c26)
      have hr9 := hresm.trans (if_neg c26)
      refine x_eq (st' := [.int (nI 1), .int (b2i false), .ref (adr 0)]) ?_ rfl rfl (by rw [bfalse c26] <;> rfl)
      refine x_cV O 2 (c_m_throwsIf_f (μ := (mset μ 0 0 (nI 0))) 1) MS.obj uc6 (lw_V q1774 q1776 qs34 q111 q1777) rfl hd_X6_throwsIf rfl (by rw [RF]; rfl) (by rw [RL]; rfl) ⟨Nat.zero_le _, Nat.zero_le _⟩ rfl rfl dX6_still_26 ?_
      refine x_top (v' := b2i false) rfl ?_
      refine x_ifeqB O 34 dX6_still_29 (by decide) (fun _ => ?_) (fun c => absurd c (by decide))
      refine x_iconst O (nI 0) dX6_still_34 (by decide) ?_
      refine x_istore_n O [(3, .int (nI 0)), (0, .ref (adr 0)), (1, .int a), (2, .int b)] dX6_still_35 rfl rfl rfl ?_
      refine x_iconst O (nI 0) dX6_still_36 (by decide) ?_
      refine x_istore O [(4, .int (nI 0)), (3, .int (nI 0)), (0, .ref (adr 0)), (1, .int a), (2, .int b)] dX6_still_37 rfl rfl ?_
      refine x_iconst O (nI 0) dX6_still_39 (by decide) ?_
      refine x_istore O [(5, .int (nI 0)), (4, .int (nI 0)), (3, .int (nI 0)), (0, .ref (adr 0)), (1, .int a), (2, .int b)] dX6_still_40 rfl rfl ?_
      have LOOP42 : ∀ (cc_ : Nat) (i5_42 : Nat) (v4_42 : Int32) (v3_42 : Nat), cc_ = 256 - i5_42 → i5_42 < 2147483648 → (∀ (y0 : Int32) (y1 : Nat), (y0, y1) = fr (fun i s => m_still_b42 (μ 1) a b i s.1 s.2) cc_ i5_42 (v4_42, v3_42) → X G F R Q 8 147 [(4, .int y0), (3, .int (nI y1)), (0, .ref (adr 0))] [] (MS G adr h0 ((mset μ 0 0 (nI 0)))) 0 0) → X G F R Q 8 42 [(5, .int (nI i5_42)), (4, .int v4_42), (3, .int (nI v3_42)), (0, .ref (adr 0)), (1, .int a), (2, .int b)] [] (MS G adr h0 ((mset μ 0 0 (nI 0)))) 0 0 := by
        intro cc_
        induction cc_ using Nat.strongRecOn with
        | ind cc_ IH_ =>
          intro i5_42 v4_42 v3_42 hc_ hb_  K_
          refine x_iload O 0 dX6_still_42 rfl ?_
          refine x_sipush O (nI 256) dX6_still_44 (by decide) ?_
          refine x_icmpgeN O 147 (by omega) (by omega) dX6_still_47 (by decide) (fun c47 => ?_) (fun c47 => ?_)
          · refine x_sub [1, 2, 3] (L' := [(4, .int v4_42), (3, .int (nI v3_42)), (0, .ref (adr 0))]) rfl ?_
            obtain rfl : cc_ = 0 := by omega
            exact K_ _ _ rfl
          · refine x_iload_n O 2 dX6_still_50 rfl rfl ?_
            refine x_iload O 0 dX6_still_51 rfl ?_
            refine x_iload_n O 4 dX6_still_53 rfl rfl ?_
            refine x_iload_n O 5 dX6_still_54 rfl rfl ?_
            refine x_cS O 3 (c_m_isIn (nI i5_42) a b) (lw_S q1778 q1779 q111 q1780) hd_X6_isInArea rfl (by rw [RF]; rfl) (by rw [RL]; rfl) ⟨Nat.zero_le _, Nat.zero_le _⟩ rfl rfl dX6_still_55 ?_
            have J10 : ∀ (y2 : Nat), y2 = (if m_isIn (nI i5_42) a b = true then (if m_isCovered (μ 1) ((nI i5_42) / (nI 16)) = true then 0 else 1) else 0) → X G F R Q 8 78 [(5, .int (nI i5_42)), (4, .int v4_42), (0, .ref (adr 0)), (1, .int a), (2, .int b)] [.int (nI y2), .int (nI v3_42)] (MS G adr h0 ((mset μ 0 0 (nI 0)))) 0 0 := by
              intro y2 e11
              subst e11
              refine x_iaddN O dX6_still_78 ?_
              refine x_istore_n O [(3, .int (nI (v3_42 + ((if m_isIn (nI i5_42) a b = true then (if m_isCovered (μ 1) ((nI i5_42) / (nI 16)) = true then 0 else 1) else 0))))), (5, .int (nI i5_42)), (4, .int v4_42), (0, .ref (adr 0)), (1, .int a), (2, .int b)] dX6_still_79 rfl rfl rfl ?_
              refine x_iconst O (nI 0) dX6_still_80 (by decide) ?_
              refine x_istore O [(6, .int (nI 0)), (3, .int (nI (v3_42 + ((if m_isIn (nI i5_42) a b = true then (if m_isCovered (μ 1) ((nI i5_42) / (nI 16)) = true then 0 else 1) else 0))))), (5, .int (nI i5_42)), (4, .int v4_42), (0, .ref (adr 0)), (1, .int a), (2, .int b)] dX6_still_81 rfl rfl ?_
              refine x_iconst O (nI 0) dX6_still_83 (by decide) ?_
              refine x_istore O [(7, .int (nI 0)), (6, .int (nI 0)), (3, .int (nI (v3_42 + ((if m_isIn (nI i5_42) a b = true then (if m_isCovered (μ 1) ((nI i5_42) / (nI 16)) = true then 0 else 1) else 0))))), (5, .int (nI i5_42)), (4, .int v4_42), (0, .ref (adr 0)), (1, .int a), (2, .int b)] dX6_still_84 rfl rfl ?_
              have LOOP86 : ∀ (cc_ : Nat) (i7_86 : Nat) (v6_86 : Nat), cc_ = tn (μ 1 3) - i7_86 → i7_86 < 2147483648 → (∀ (y0 : Nat), y0 = fr (fun i s => m_still_b86 (μ 1) i5_42 i s) cc_ i7_86 v6_86 → X G F R Q 8 132 [(6, .int (nI y0)), (3, .int (nI (v3_42 + ((if m_isIn (nI i5_42) a b = true then (if m_isCovered (μ 1) ((nI i5_42) / (nI 16)) = true then 0 else 1) else 0))))), (5, .int (nI i5_42)), (4, .int v4_42), (0, .ref (adr 0)), (1, .int a), (2, .int b)] [] (MS G adr h0 ((mset μ 0 0 (nI 0)))) 0 0) → X G F R Q 8 86 [(7, .int (nI i7_86)), (6, .int (nI v6_86)), (3, .int (nI (v3_42 + ((if m_isIn (nI i5_42) a b = true then (if m_isCovered (μ 1) ((nI i5_42) / (nI 16)) = true then 0 else 1) else 0))))), (5, .int (nI i5_42)), (4, .int v4_42), (0, .ref (adr 0)), (1, .int a), (2, .int b)] [] (MS G adr h0 ((mset μ 0 0 (nI 0)))) 0 0 := by
                intro cc_
                induction cc_ using Nat.strongRecOn with
                | ind cc_ IH_ =>
                  intro i7_86 v6_86 hc_ hb_  K_
                  refine x_iload O 0 dX6_still_86 rfl ?_
                  refine x_aload_n O 5 dX6_still_88 rfl rfl ?_
                  refine x_cV O 0 (c_m_finds (μ := (mset μ 0 0 (nI 0)))) MS.obj uc6 (lw_V q2042 q2044 qs74 q111 q2045) rfl hd_X6_finds rfl (by rw [RF]; rfl) (by rw [RL]; rfl) ⟨Nat.zero_le _, Nat.zero_le _⟩ rfl rfl dX6_still_89 ?_
                  refine x_top (v' := μ 1 3) (m_finds_u _) ?_
                  refine x_top (v' := nI (tn (μ 1 3))) ((hI 3 (by decide)).1) ?_
                  refine x_icmpgeN O 132 (by omega) (by omega) dX6_still_92 (by decide) (fun c92 => ?_) (fun c92 => ?_)
                  · refine x_sub [1, 2, 3, 4, 5, 6, 7] (L' := [(6, .int (nI v6_86)), (3, .int (nI (v3_42 + ((if m_isIn (nI i5_42) a b = true then (if m_isCovered (μ 1) ((nI i5_42) / (nI 16)) = true then 0 else 1) else 0))))), (5, .int (nI i5_42)), (4, .int v4_42), (0, .ref (adr 0)), (1, .int a), (2, .int b)]) rfl ?_
                    obtain rfl : cc_ = 0 := by omega
                    exact K_ _ rfl
                  · refine x_iload O 1 dX6_still_95 rfl ?_
                    refine x_aload_n O 5 dX6_still_97 rfl rfl ?_
                    refine x_iload O 0 dX6_still_98 rfl ?_
                    refine x_iconst O (nI 1) dX6_still_100 (by decide) ?_
                    refine x_cV O 2 (c_m_ofFind (μ := (mset μ 0 0 (nI 0))) i7_86 1 (by omega) (by omega)) MS.obj uc6 (lw_V q2054 q2056 qs75 q111 q2057) rfl hd_X6_ofFind rfl (by rw [RF]; rfl) (by rw [RL]; rfl) ⟨Nat.zero_le _, Nat.zero_le _⟩ rfl rfl dX6_still_101 ?_
                    refine x_top (v' := m_ofFind (μ 1) i7_86 1) rfl ?_
                    refine x_iload O 3 dX6_still_104 rfl ?_
                    have J12 : ∀ (y3 : Nat), y3 = (if (m_ofFind (μ 1) i7_86 1) = (nI i5_42) then (if m_isSeen (μ 1) i7_86 = true then 1 else 0) else 0) → X G F R Q 8 123 [(7, .int (nI i7_86)), (3, .int (nI (v3_42 + ((if m_isIn (nI i5_42) a b = true then (if m_isCovered (μ 1) ((nI i5_42) / (nI 16)) = true then 0 else 1) else 0))))), (5, .int (nI i5_42)), (4, .int v4_42), (0, .ref (adr 0)), (1, .int a), (2, .int b)] [.int (nI y3), .int (nI v6_86)] (MS G adr h0 ((mset μ 0 0 (nI 0)))) 0 0 := by
                      intro y3 e13
                      subst e13
                      refine x_iaddN O dX6_still_123 ?_
                      refine x_istore O [(6, .int (nI (v6_86 + ((if (m_ofFind (μ 1) i7_86 1) = (nI i5_42) then (if m_isSeen (μ 1) i7_86 = true then 1 else 0) else 0))))), (7, .int (nI i7_86)), (3, .int (nI (v3_42 + ((if m_isIn (nI i5_42) a b = true then (if m_isCovered (μ 1) ((nI i5_42) / (nI 16)) = true then 0 else 1) else 0))))), (5, .int (nI i5_42)), (4, .int v4_42), (0, .ref (adr 0)), (1, .int a), (2, .int b)] dX6_still_124 rfl rfl ?_
                      refine x_iincN O 1 [(7, .int (nI (i7_86 + 1))), (6, .int (nI (v6_86 + ((if (m_ofFind (μ 1) i7_86 1) = (nI i5_42) then (if m_isSeen (μ 1) i7_86 = true then 1 else 0) else 0))))), (3, .int (nI (v3_42 + ((if m_isIn (nI i5_42) a b = true then (if m_isCovered (μ 1) ((nI i5_42) / (nI 16)) = true then 0 else 1) else 0))))), (5, .int (nI i5_42)), (4, .int v4_42), (0, .ref (adr 0)), (1, .int a), (2, .int b)] dX6_still_126 rfl rfl rfl ?_
                      refine x_goto O 86 dX6_still_129 (by decide) ?_
                      obtain ⟨c2_, rfl⟩ : ∃ z, cc_ = z + 1 := ⟨cc_ - 1, by omega⟩
                      have hs_ : (fun i s => m_still_b86 (μ 1) i5_42 i s) i7_86 v6_86 = v6_86 + ((if (m_ofFind (μ 1) i7_86 1) = (nI i5_42) then (if m_isSeen (μ 1) i7_86 = true then 1 else 0) else 0)) := by show m_still_b86 (μ 1) i5_42 i7_86 v6_86 = _; unfold m_still_b86; rfl
                      exact IH_ c2_ (by omega) _ _ (by omega) (by omega) (fun y0 hy_ => K_ y0 (hy_.trans (fr_step hs_).symm))
                    refine x_icmpne O 122 dX6_still_106 (by decide) (fun c106 => ?_) (fun c106 => ?_)
                    · refine x_sub [0, 2, 3, 4, 5, 6, 7] (L' := [(7, .int (nI i7_86)), (3, .int (nI (v3_42 + ((if m_isIn (nI i5_42) a b = true then (if m_isCovered (μ 1) ((nI i5_42) / (nI 16)) = true then 0 else 1) else 0))))), (5, .int (nI i5_42)), (4, .int v4_42), (0, .ref (adr 0)), (1, .int a), (2, .int b)]) rfl ?_
                      refine x_iconst O (nI 0) dX6_still_122 (by decide) ?_
                      exact J12 0 (by rw [if_neg c106])
                    · refine x_sub [0, 2, 3, 4, 5, 6, 7] (L' := [(7, .int (nI i7_86)), (3, .int (nI (v3_42 + ((if m_isIn (nI i5_42) a b = true then (if m_isCovered (μ 1) ((nI i5_42) / (nI 16)) = true then 0 else 1) else 0))))), (5, .int (nI i5_42)), (4, .int v4_42), (0, .ref (adr 0)), (1, .int a), (2, .int b)]) rfl ?_
                      refine x_aload_n O 4 dX6_still_109 rfl rfl ?_
                      refine x_iload O 0 dX6_still_110 rfl ?_
                      refine x_cV O 1 (c_m_isSeen (μ := (mset μ 0 0 (nI 0))) i7_86 (by omega)) MS.obj uc6 (lw_V q2058 q2060 qs76 q111 q2061) rfl hd_X6_isSeen rfl (by rw [RF]; rfl) (by rw [RL]; rfl) ⟨Nat.zero_le _, Nat.zero_le _⟩ rfl rfl dX6_still_112 ?_
                      refine x_top (v' := b2i (m_isSeen (μ 1) i7_86)) rfl ?_
                      refine x_ifeqB O 122 dX6_still_115 (by decide) (fun c115 => ?_) (fun c115 => ?_)
                      · refine x_iconst O (nI 0) dX6_still_122 (by decide) ?_
                        exact J12 0 (by rw [if_pos c106, if_neg c115])
                      · refine x_iconst O (nI 1) dX6_still_118 (by decide) ?_
                        refine x_goto O 123 dX6_still_119 (by decide) ?_
                        exact J12 1 (by rw [if_pos c106, if_pos c115])
              refine LOOP86 (tn (μ 1 3)) 0 0 rfl (by omega) (fun y0 hy_86 => ?_)
              subst hy_86
              refine x_iload O 3 dX6_still_132 rfl ?_
              refine x_iload O 0 dX6_still_134 rfl ?_
              refine x_cS O 2 (c_j_max v4_42 (nI ((fr (fun i s => m_still_b86 (μ 1) i5_42 i s) (tn (μ 1 3)) 0 0)))) (lw_S q1782 q558 q116 q559) hd_J7_max rfl (by rw [RF]; rfl) (by rw [RL]; rfl) ⟨Nat.zero_le _, Nat.zero_le _⟩ rfl rfl dX6_still_136 ?_
              refine x_istore O [(4, .int (j_max v4_42 (nI ((fr (fun i s => m_still_b86 (μ 1) i5_42 i s) (tn (μ 1 3)) 0 0))))), (6, .int (nI ((fr (fun i s => m_still_b86 (μ 1) i5_42 i s) (tn (μ 1 3)) 0 0)))), (3, .int (nI (v3_42 + ((if m_isIn (nI i5_42) a b = true then (if m_isCovered (μ 1) ((nI i5_42) / (nI 16)) = true then 0 else 1) else 0))))), (5, .int (nI i5_42)), (0, .ref (adr 0)), (1, .int a), (2, .int b)] dX6_still_139 rfl rfl ?_
              refine x_sub [0, 2, 3, 4, 5, 6] (L' := [(4, .int (j_max v4_42 (nI ((fr (fun i s => m_still_b86 (μ 1) i5_42 i s) (tn (μ 1 3)) 0 0))))), (3, .int (nI (v3_42 + ((if m_isIn (nI i5_42) a b = true then (if m_isCovered (μ 1) ((nI i5_42) / (nI 16)) = true then 0 else 1) else 0))))), (5, .int (nI i5_42)), (0, .ref (adr 0)), (1, .int a), (2, .int b)]) rfl ?_
              refine x_iincN O 2 [(5, .int (nI (i5_42 + 1))), (4, .int (j_max v4_42 (nI ((fr (fun i s => m_still_b86 (μ 1) i5_42 i s) (tn (μ 1 3)) 0 0))))), (3, .int (nI (v3_42 + ((if m_isIn (nI i5_42) a b = true then (if m_isCovered (μ 1) ((nI i5_42) / (nI 16)) = true then 0 else 1) else 0))))), (0, .ref (adr 0)), (1, .int a), (2, .int b)] dX6_still_141 rfl rfl rfl ?_
              refine x_goto O 42 dX6_still_144 (by decide) ?_
              obtain ⟨c2_, rfl⟩ : ∃ z, cc_ = z + 1 := ⟨cc_ - 1, by omega⟩
              have hs_ : (fun i s => m_still_b42 (μ 1) a b i s.1 s.2) i5_42 (v4_42, v3_42) = (j_max v4_42 (nI ((fr (fun i s => m_still_b86 (μ 1) i5_42 i s) (tn (μ 1 3)) 0 0))), v3_42 + ((if m_isIn (nI i5_42) a b = true then (if m_isCovered (μ 1) ((nI i5_42) / (nI 16)) = true then 0 else 1) else 0))) := by show m_still_b42 (μ 1) a b i5_42 v4_42 v3_42 = _; unfold m_still_b42; rfl
              exact IH_ c2_ (by omega) _ _ _ (by omega) (by omega) (fun y0 y1 hy_ => K_ y0 y1 (hy_.trans (fr_step hs_).symm))
            refine x_ifeqB O 77 dX6_still_58 (by decide) (fun c58 => ?_) (fun c58 => ?_)
            · refine x_sub [0, 1, 3, 4, 5] (L' := [(5, .int (nI i5_42)), (4, .int v4_42), (0, .ref (adr 0)), (1, .int a), (2, .int b)]) rfl ?_
              refine x_iconst O (nI 0) dX6_still_77 (by decide) ?_
              exact J10 0 (by rw [if_neg c58])
            · refine x_sub [0, 1, 3, 4, 5] (L' := [(5, .int (nI i5_42)), (4, .int v4_42), (0, .ref (adr 0)), (1, .int a), (2, .int b)]) rfl ?_
              refine x_aload_n O 2 dX6_still_61 rfl rfl ?_
              refine x_iload O 0 dX6_still_62 rfl ?_
              refine x_bipush O (nI 16) dX6_still_64 (by decide) ?_
              refine x_idiv O dX6_still_66 (by decide) ?_
              refine x_cV O 1 (c_m_isCovered (μ := (mset μ 0 0 (nI 0))) ((nI i5_42) / (nI 16))) MS.obj uc6 (lw_V q2062 q2064 qs77 q111 q2065) rfl hd_X6_isCovered rfl (by rw [RF]; rfl) (by rw [RL]; rfl) ⟨Nat.zero_le _, Nat.zero_le _⟩ rfl rfl dX6_still_67 ?_
              refine x_top (v' := b2i (m_isCovered (μ 1) ((nI i5_42) / (nI 16)))) rfl ?_
              refine x_ifneB O 77 dX6_still_70 (by decide) (fun c70 => ?_) (fun c70 => ?_)
              · refine x_iconst O (nI 0) dX6_still_77 (by decide) ?_
                exact J10 0 (by rw [if_pos c58, if_pos c70])
              · refine x_iconst O (nI 1) dX6_still_73 (by decide) ?_
                refine x_goto O 78 dX6_still_74 (by decide) ?_
                exact J10 1 (by rw [if_pos c58, if_neg c70])
      refine LOOP42 256 0 (nI 0) 0 rfl (by omega) (fun y0 y1 hy_42 => ?_)
      obtain rfl : y0 = (fr (fun i s => m_still_b42 (μ 1) a b i s.1 s.2) 256 0 (nI 0, 0)).1 := congrArg (fun z => z.1) hy_42
      obtain rfl : y1 = (fr (fun i s => m_still_b42 (μ 1) a b i s.1 s.2) 256 0 (nI 0, 0)).2 := congrArg (fun z => z.2) hy_42
      refine x_iload_n O 1 dX6_still_147 rfl rfl ?_
      refine x_iload O 0 dX6_still_148 rfl ?_
      refine x_imul O dX6_still_150 ?_
      exact x_iretQ O hQ rfl dX6_still_151 (fun h m => ⟨by rw [hr8], by rw [hr9]; exact m⟩)
  refine x_ifneB O 20 dX6_still_10 (by decide) (fun c10 => ?_) (fun c10 => ?_)
  · refine x_iconst O (nI 1) dX6_still_20 (by decide) ?_
    refine x_goto O 25 dX6_still_21 (by decide) ?_
    refine x_top (v' := b2i true) (by decide) ?_
    exact J4 true (by rw [if_pos c10])
  · refine x_iload_n O 2 dX6_still_13 rfl rfl ?_
    refine x_cS O 1 (c_m_noCell b) (lw_S q1768 q1769 q111 q1770) hd_X6_noCell rfl (by rw [RF]; rfl) (by rw [RL]; rfl) ⟨Nat.zero_le _, Nat.zero_le _⟩ rfl rfl dX6_still_14 ?_
    refine x_ifeqB O 24 dX6_still_17 (by decide) (fun c17 => ?_) (fun c17 => ?_)
    · refine x_iconst O (nI 0) dX6_still_24 (by decide) ?_
      refine x_top (v' := b2i false) (by decide) ?_
      exact J4 false (by rw [if_neg c10, if_neg c17])
    · refine x_iconst O (nI 1) dX6_still_20 (by decide) ?_
      refine x_goto O 25 dX6_still_21 (by decide) ?_
      refine x_top (v' := b2i true) (by decide) ?_
      exact J4 true (by rw [if_neg c10, if_pos c17])

def m_mayHaveTalked_b19 (W : Nat → Int32) (a : Nat) (b : Nat) (i4_5 : Nat) (i5_19 : Nat) (v3_19 : Bool) : Bool :=
  (if v3_19 = true then true else (if (m_ofTelling W i4_5 0) = (nI a) then (if (m_ofTelling W i5_19 0) = (nI b) then (if (m_ofTelling W i4_5 1) = (m_ofTelling W i5_19 1) then true else false) else false) else false))
def m_mayHaveTalked_b5 (W : Nat → Int32) (a : Nat) (b : Nat) (i4_5 : Nat) (v3_5 : Bool) : Bool :=
  (fr (fun i s => m_mayHaveTalked_b19 W a b i4_5 i s) (tn (W 5)) 0 v3_5)
def m_mayHaveTalked (W : Nat → Int32) (a : Nat) (b : Nat) : Bool :=
  (if (fr (fun i s => m_mayHaveTalked_b5 W a b i s) (tn (W 5)) 0 false) = true then (if a = b then false else (if (m_ofTeller W a 3) = (m_ofTeller W b 3) then true else false)) else false)
set_option maxHeartbeats 4000000 in
set_option maxRecDepth 100000 in
theorem c_m_mayHaveTalked {G : UG} {adr : Nat → Nat} {h0 : Hp} {μ : Mu} (hI : MI (μ 1)) (a : Nat) (b : Nat) (ha : a < 8) (hb : b < 8) : Con G yX6_mayHaveTalked cX6_mayHaveTalked 6 (some .boolean) 1 22 0 0 [.ref (adr 0), .int (nI a), .int (nI b)] (MS G adr h0 μ) (fun vr_ h' => vr_ = some (.int (b2i (m_mayHaveTalked (μ 1) a b))) ∧ MS G adr h0 μ h') nX := by
  refine con_of2 (plainFor_of_name (by decide)) rfl ?_
  intro F R Q RF RL RC RS hQ O hnh hnm
  obtain ⟨res, hres⟩ : ∃ z, z = (m_mayHaveTalked (μ 1) a b) := ⟨_, rfl⟩
  rw [← hres] at hQ
  unfold m_mayHaveTalked at hres
  have hb5 : tn (μ 1 5) ≤ 20 := (hI 5 (by decide)).2
  refine x_eq (L' := [(0, .ref (adr 0)), (1, .int (nI a)), (2, .int (nI b))]) ?_ rfl rfl rfl
  refine x_iconst O (nI 0) dX6_mayHaveTalked_0 (by decide) ?_
  refine x_top (v' := b2i false) (by decide) ?_
  refine x_istore_n O [(3, .int (b2i false)), (0, .ref (adr 0)), (1, .int (nI a)), (2, .int (nI b))] dX6_mayHaveTalked_1 rfl rfl rfl ?_
  refine x_iconst O (nI 0) dX6_mayHaveTalked_2 (by decide) ?_
  refine x_istore O [(4, .int (nI 0)), (3, .int (b2i false)), (0, .ref (adr 0)), (1, .int (nI a)), (2, .int (nI b))] dX6_mayHaveTalked_3 rfl rfl ?_
  have LOOP5 : ∀ (cc_ : Nat) (i4_5 : Nat) (v3_5 : Bool), cc_ = tn (μ 1 5) - i4_5 → i4_5 < 2147483648 → (∀ (y0 : Bool), y0 = fr (fun i s => m_mayHaveTalked_b5 (μ 1) a b i s) cc_ i4_5 v3_5 → X G F R Q 6 91 [(3, .int (b2i y0)), (0, .ref (adr 0)), (1, .int (nI a)), (2, .int (nI b))] [] (MS G adr h0 μ) 0 0) → X G F R Q 6 5 [(4, .int (nI i4_5)), (3, .int (b2i v3_5)), (0, .ref (adr 0)), (1, .int (nI a)), (2, .int (nI b))] [] (MS G adr h0 μ) 0 0 := by
    intro cc_
    induction cc_ using Nat.strongRecOn with
    | ind cc_ IH_ =>
      intro i4_5 v3_5 hc_ hb_  K_
      refine x_iload O 0 dX6_mayHaveTalked_5 rfl ?_
      refine x_aload_n O 2 dX6_mayHaveTalked_7 rfl rfl ?_
      refine x_mget O k_X6_13_6 (mg_1 _ _) dX6_mayHaveTalked_8 ?_
      refine x_iconst O (nI 5) dX6_mayHaveTalked_11 (by decide) ?_
      refine x_ialdN O MS.c1 (by omega) rfl dX6_mayHaveTalked_12 ?_
      refine x_top (v' := nI (tn (μ 1 5))) ((hI 5 (by decide)).1) ?_
      refine x_icmpgeN O 91 (by omega) (by omega) dX6_mayHaveTalked_13 (by decide) (fun c13 => ?_) (fun c13 => ?_)
      · refine x_sub [1, 2, 3, 4] (L' := [(3, .int (b2i v3_5)), (0, .ref (adr 0)), (1, .int (nI a)), (2, .int (nI b))]) rfl ?_
        obtain rfl : cc_ = 0 := by omega
        exact K_ _ rfl
      · refine x_iconst O (nI 0) dX6_mayHaveTalked_16 (by decide) ?_
        refine x_istore O [(5, .int (nI 0)), (4, .int (nI i4_5)), (3, .int (b2i v3_5)), (0, .ref (adr 0)), (1, .int (nI a)), (2, .int (nI b))] dX6_mayHaveTalked_17 rfl rfl ?_
        have LOOP19 : ∀ (cc_ : Nat) (i5_19 : Nat) (v3_19 : Bool), cc_ = tn (μ 1 5) - i5_19 → i5_19 < 2147483648 → (∀ (y0 : Bool), y0 = fr (fun i s => m_mayHaveTalked_b19 (μ 1) a b i4_5 i s) cc_ i5_19 v3_19 → X G F R Q 6 85 [(4, .int (nI i4_5)), (3, .int (b2i y0)), (0, .ref (adr 0)), (1, .int (nI a)), (2, .int (nI b))] [] (MS G adr h0 μ) 0 0) → X G F R Q 6 19 [(5, .int (nI i5_19)), (4, .int (nI i4_5)), (3, .int (b2i v3_19)), (0, .ref (adr 0)), (1, .int (nI a)), (2, .int (nI b))] [] (MS G adr h0 μ) 0 0 := by
          intro cc_
          induction cc_ using Nat.strongRecOn with
          | ind cc_ IH_ =>
            intro i5_19 v3_19 hc_ hb_  K_
            refine x_iload O 0 dX6_mayHaveTalked_19 rfl ?_
            refine x_aload_n O 3 dX6_mayHaveTalked_21 rfl rfl ?_
            refine x_mget O k_X6_13_6 (mg_1 _ _) dX6_mayHaveTalked_22 ?_
            refine x_iconst O (nI 5) dX6_mayHaveTalked_25 (by decide) ?_
            refine x_ialdN O MS.c1 (by omega) rfl dX6_mayHaveTalked_26 ?_
            refine x_top (v' := nI (tn (μ 1 5))) ((hI 5 (by decide)).1) ?_
            refine x_icmpgeN O 85 (by omega) (by omega) dX6_mayHaveTalked_27 (by decide) (fun c27 => ?_) (fun c27 => ?_)
            · refine x_sub [1, 2, 3, 4, 5] (L' := [(4, .int (nI i4_5)), (3, .int (b2i v3_19)), (0, .ref (adr 0)), (1, .int (nI a)), (2, .int (nI b))]) rfl ?_
              obtain rfl : cc_ = 0 := by omega
              exact K_ _ rfl
            · refine x_iload_n O 2 dX6_mayHaveTalked_30 rfl rfl ?_
              have J3 : ∀ (y1 : Bool), y1 = (if v3_19 = true then true else (if (m_ofTelling (μ 1) i4_5 0) = (nI a) then (if (m_ofTelling (μ 1) i5_19 0) = (nI b) then (if (m_ofTelling (μ 1) i4_5 1) = (m_ofTelling (μ 1) i5_19 1) then true else false) else false) else false)) → X G F R Q 6 78 [(5, .int (nI i5_19)), (4, .int (nI i4_5)), (0, .ref (adr 0)), (1, .int (nI a)), (2, .int (nI b))] [.int (b2i y1)] (MS G adr h0 μ) 0 0 := by
                intro y1 e4
                subst e4
                refine x_istore_n O [(3, .int (b2i ((if v3_19 = true then true else (if (m_ofTelling (μ 1) i4_5 0) = (nI a) then (if (m_ofTelling (μ 1) i5_19 0) = (nI b) then (if (m_ofTelling (μ 1) i4_5 1) = (m_ofTelling (μ 1) i5_19 1) then true else false) else false) else false))))), (5, .int (nI i5_19)), (4, .int (nI i4_5)), (0, .ref (adr 0)), (1, .int (nI a)), (2, .int (nI b))] dX6_mayHaveTalked_78 rfl rfl rfl ?_
                refine x_iincN O 1 [(5, .int (nI (i5_19 + 1))), (3, .int (b2i ((if v3_19 = true then true else (if (m_ofTelling (μ 1) i4_5 0) = (nI a) then (if (m_ofTelling (μ 1) i5_19 0) = (nI b) then (if (m_ofTelling (μ 1) i4_5 1) = (m_ofTelling (μ 1) i5_19 1) then true else false) else false) else false))))), (4, .int (nI i4_5)), (0, .ref (adr 0)), (1, .int (nI a)), (2, .int (nI b))] dX6_mayHaveTalked_79 rfl rfl rfl ?_
                refine x_goto O 19 dX6_mayHaveTalked_82 (by decide) ?_
                obtain ⟨c2_, rfl⟩ : ∃ z, cc_ = z + 1 := ⟨cc_ - 1, by omega⟩
                refine x_sub [0, 2, 1, 3, 4, 5] rfl ?_
                have hs_ : (fun i s => m_mayHaveTalked_b19 (μ 1) a b i4_5 i s) i5_19 v3_19 = (if v3_19 = true then true else (if (m_ofTelling (μ 1) i4_5 0) = (nI a) then (if (m_ofTelling (μ 1) i5_19 0) = (nI b) then (if (m_ofTelling (μ 1) i4_5 1) = (m_ofTelling (μ 1) i5_19 1) then true else false) else false) else false)) := by show m_mayHaveTalked_b19 (μ 1) a b i4_5 i5_19 v3_19 = _; unfold m_mayHaveTalked_b19; rfl
                exact IH_ c2_ (by omega) _ _ (by omega) (by omega) (fun y0 hy_ => K_ y0 (hy_.trans (fr_step hs_).symm))
              refine x_ifneB O 73 dX6_mayHaveTalked_31 (by decide) (fun c31 => ?_) (fun c31 => ?_)
              · refine x_sub [0, 1, 3, 4, 5] (L' := [(5, .int (nI i5_19)), (4, .int (nI i4_5)), (0, .ref (adr 0)), (1, .int (nI a)), (2, .int (nI b))]) rfl ?_
                refine x_iconst O (nI 1) dX6_mayHaveTalked_73 (by decide) ?_
                refine x_goto O 78 dX6_mayHaveTalked_74 (by decide) ?_
                refine x_top (v' := b2i true) (by decide) ?_
                exact J3 true (by rw [if_pos c31])
              · refine x_sub [0, 1, 3, 4, 5] (L' := [(5, .int (nI i5_19)), (4, .int (nI i4_5)), (0, .ref (adr 0)), (1, .int (nI a)), (2, .int (nI b))]) rfl ?_
                refine x_aload_n O 2 dX6_mayHaveTalked_34 rfl rfl ?_
                refine x_iload O 1 dX6_mayHaveTalked_35 rfl ?_
                refine x_iconst O (nI 0) dX6_mayHaveTalked_37 (by decide) ?_
                refine x_cV O 2 (c_m_ofTelling (μ := μ) i4_5 0 (by omega) (by omega)) MS.obj uc6 (lw_V q2203 q2205 qs95 q111 q2206) rfl hd_X6_ofTelling rfl (by rw [RF]; rfl) (by rw [RL]; rfl) ⟨Nat.zero_le _, Nat.zero_le _⟩ rfl rfl dX6_mayHaveTalked_38 ?_
                refine x_iload_n O 3 dX6_mayHaveTalked_41 rfl rfl ?_
                refine x_icmpne O 77 dX6_mayHaveTalked_42 (by decide) (fun c42 => ?_) (fun c42 => ?_)
                · refine x_iconst O (nI 0) dX6_mayHaveTalked_77 (by decide) ?_
                  refine x_top (v' := b2i false) (by decide) ?_
                  exact J3 false (by rw [if_neg c31, if_neg c42])
                · refine x_aload_n O 2 dX6_mayHaveTalked_45 rfl rfl ?_
                  refine x_iload O 0 dX6_mayHaveTalked_46 rfl ?_
                  refine x_iconst O (nI 0) dX6_mayHaveTalked_48 (by decide) ?_
                  refine x_cV O 2 (c_m_ofTelling (μ := μ) i5_19 0 (by omega) (by omega)) MS.obj uc6 (lw_V q2203 q2205 qs95 q111 q2206) rfl hd_X6_ofTelling rfl (by rw [RF]; rfl) (by rw [RL]; rfl) ⟨Nat.zero_le _, Nat.zero_le _⟩ rfl rfl dX6_mayHaveTalked_49 ?_
                  refine x_iload_n O 4 dX6_mayHaveTalked_52 rfl rfl ?_
                  refine x_icmpne O 77 dX6_mayHaveTalked_53 (by decide) (fun c53 => ?_) (fun c53 => ?_)
                  · refine x_iconst O (nI 0) dX6_mayHaveTalked_77 (by decide) ?_
                    refine x_top (v' := b2i false) (by decide) ?_
                    exact J3 false (by rw [if_neg c31, if_pos c42, if_neg c53])
                  · refine x_aload_n O 2 dX6_mayHaveTalked_56 rfl rfl ?_
                    refine x_iload O 1 dX6_mayHaveTalked_57 rfl ?_
                    refine x_iconst O (nI 1) dX6_mayHaveTalked_59 (by decide) ?_
                    refine x_cV O 2 (c_m_ofTelling (μ := μ) i4_5 1 (by omega) (by omega)) MS.obj uc6 (lw_V q2203 q2205 qs95 q111 q2206) rfl hd_X6_ofTelling rfl (by rw [RF]; rfl) (by rw [RL]; rfl) ⟨Nat.zero_le _, Nat.zero_le _⟩ rfl rfl dX6_mayHaveTalked_60 ?_
                    refine x_aload_n O 2 dX6_mayHaveTalked_63 rfl rfl ?_
                    refine x_iload O 0 dX6_mayHaveTalked_64 rfl ?_
                    refine x_iconst O (nI 1) dX6_mayHaveTalked_66 (by decide) ?_
                    refine x_cV O 2 (c_m_ofTelling (μ := μ) i5_19 1 (by omega) (by omega)) MS.obj uc6 (lw_V q2203 q2205 qs95 q111 q2206) rfl hd_X6_ofTelling rfl (by rw [RF]; rfl) (by rw [RL]; rfl) ⟨Nat.zero_le _, Nat.zero_le _⟩ rfl rfl dX6_mayHaveTalked_67 ?_
                    refine x_icmpne O 77 dX6_mayHaveTalked_70 (by decide) (fun c70 => ?_) (fun c70 => ?_)
                    · refine x_iconst O (nI 0) dX6_mayHaveTalked_77 (by decide) ?_
                      refine x_top (v' := b2i false) (by decide) ?_
                      exact J3 false (by rw [if_neg c31, if_pos c42, if_pos c53, if_neg c70])
                    · refine x_iconst O (nI 1) dX6_mayHaveTalked_73 (by decide) ?_
                      refine x_goto O 78 dX6_mayHaveTalked_74 (by decide) ?_
                      refine x_top (v' := b2i true) (by decide) ?_
                      exact J3 true (by rw [if_neg c31, if_pos c42, if_pos c53, if_pos c70])
        refine LOOP19 (tn (μ 1 5)) 0 v3_5 rfl (by omega) (fun y0 hy_19 => ?_)
        subst hy_19
        refine x_iincN O 0 [(4, .int (nI (i4_5 + 1))), (3, .int (b2i ((fr (fun i s => m_mayHaveTalked_b19 (μ 1) a b i4_5 i s) (tn (μ 1 5)) 0 v3_5)))), (0, .ref (adr 0)), (1, .int (nI a)), (2, .int (nI b))] dX6_mayHaveTalked_85 rfl rfl rfl ?_
        refine x_goto O 5 dX6_mayHaveTalked_88 (by decide) ?_
        obtain ⟨c2_, rfl⟩ : ∃ z, cc_ = z + 1 := ⟨cc_ - 1, by omega⟩
        have hs_ : (fun i s => m_mayHaveTalked_b5 (μ 1) a b i s) i4_5 v3_5 = (fr (fun i s => m_mayHaveTalked_b19 (μ 1) a b i4_5 i s) (tn (μ 1 5)) 0 v3_5) := by show m_mayHaveTalked_b5 (μ 1) a b i4_5 v3_5 = _; unfold m_mayHaveTalked_b5; rfl
        exact IH_ c2_ (by omega) _ _ (by omega) (by omega) (fun y0 hy_ => K_ y0 (hy_.trans (fr_step hs_).symm))
  refine LOOP5 (tn (μ 1 5)) 0 false rfl (by omega) (fun y0 hy_5 => ?_)
  subst hy_5
  refine x_iload_n O 0 dX6_mayHaveTalked_91 rfl rfl ?_
  have J5 : ∀ (y2 : Bool), y2 = (if (fr (fun i s => m_mayHaveTalked_b5 (μ 1) a b i s) (tn (μ 1 5)) 0 false) = true then (if a = b then false else (if (m_ofTeller (μ 1) a 3) = (m_ofTeller (μ 1) b 3) then true else false)) else false) → X G F R Q 6 120 [(0, .ref (adr 0))] [.int (b2i y2)] (MS G adr h0 μ) 0 0 := by
    intro y2 e6
    subst e6
    exact x_zretQ O hQ rfl dX6_mayHaveTalked_120 (fun h m => ⟨by rw [hres], m⟩)
  refine x_ifeqB O 119 dX6_mayHaveTalked_92 (by decide) (fun c92 => ?_) (fun c92 => ?_)
  · refine x_sub [1] (L' := [(0, .ref (adr 0))]) rfl ?_
    refine x_iconst O (nI 0) dX6_mayHaveTalked_119 (by decide) ?_
    refine x_top (v' := b2i false) (by decide) ?_
    exact J5 false (by rw [if_neg c92])
  · refine x_sub [1, 2, 3] (L' := [(0, .ref (adr 0)), (1, .int (nI a)), (2, .int (nI b))]) rfl ?_
    refine x_iload_n O 1 dX6_mayHaveTalked_95 rfl rfl ?_
    refine x_iload_n O 2 dX6_mayHaveTalked_96 rfl rfl ?_
    refine x_icmpeqN O 119 (by omega) (by omega) dX6_mayHaveTalked_97 (by decide) (fun c97 => ?_) (fun c97 => ?_)
    · refine x_sub [0] (L' := [(0, .ref (adr 0))]) rfl ?_
      refine x_iconst O (nI 0) dX6_mayHaveTalked_119 (by decide) ?_
      refine x_top (v' := b2i false) (by decide) ?_
      exact J5 false (by rw [if_pos c92, if_pos c97])
    · refine x_aload_n O 0 dX6_mayHaveTalked_100 rfl rfl ?_
      refine x_iload_n O 1 dX6_mayHaveTalked_101 rfl rfl ?_
      refine x_iconst O (nI 3) dX6_mayHaveTalked_102 (by decide) ?_
      refine x_cV O 2 (c_m_ofTeller (μ := μ) a 3 (by omega) (by omega)) MS.obj uc6 (lw_V q2211 q2213 qs97 q111 q2214) rfl hd_X6_ofTeller rfl (by rw [RF]; rfl) (by rw [RL]; rfl) ⟨Nat.zero_le _, Nat.zero_le _⟩ rfl rfl dX6_mayHaveTalked_103 ?_
      refine x_aload_n O 0 dX6_mayHaveTalked_106 rfl rfl ?_
      refine x_iload_n O 2 dX6_mayHaveTalked_107 rfl rfl ?_
      refine x_iconst O (nI 3) dX6_mayHaveTalked_108 (by decide) ?_
      refine x_cV O 2 (c_m_ofTeller (μ := μ) b 3 (by omega) (by omega)) MS.obj uc6 (lw_V q2211 q2213 qs97 q111 q2214) rfl hd_X6_ofTeller rfl (by rw [RF]; rfl) (by rw [RL]; rfl) ⟨Nat.zero_le _, Nat.zero_le _⟩ rfl rfl dX6_mayHaveTalked_109 ?_
      refine x_icmpne O 119 dX6_mayHaveTalked_112 (by decide) (fun c112 => ?_) (fun c112 => ?_)
      · refine x_sub [0] (L' := [(0, .ref (adr 0))]) rfl ?_
        refine x_iconst O (nI 0) dX6_mayHaveTalked_119 (by decide) ?_
        refine x_top (v' := b2i false) (by decide) ?_
        exact J5 false (by rw [if_pos c92, if_neg c97, if_neg c112])
      · refine x_sub [0] (L' := [(0, .ref (adr 0))]) rfl ?_
        refine x_iconst O (nI 1) dX6_mayHaveTalked_115 (by decide) ?_
        refine x_goto O 120 dX6_mayHaveTalked_116 (by decide) ?_
        refine x_top (v' := b2i true) (by decide) ?_
        exact J5 true (by rw [if_pos c92, if_neg c97, if_pos c112])

def m_goes (W : Nat → Int32) (a : Nat) (b : Nat) : Int32 :=
  (g_far (nI a) (nI b)) + (nI ((if (W (13 + b)) ≤ (W (13 + a)) then 0 else 1)))
set_option maxHeartbeats 4000000 in
set_option maxRecDepth 100000 in
theorem c_m_goes {G : UG} {adr : Nat → Nat} {h0 : Hp} {μ : Mu}  (a : Nat) (b : Nat) (ha : a < 256) (hb : b < 256) : Con G yX6_goes cX6_goes 3 (some .int) 2 42 0 0 [.ref (adr 0), .int (nI a), .int (nI b)] (MS G adr h0 μ) (fun vr_ h' => vr_ = some (.int (m_goes (μ 1) a b)) ∧ MS G adr h0 μ h') nX := by
  refine con_of2 (plainFor_of_name (by decide)) rfl ?_
  intro F R Q RF RL RC RS hQ O hnh hnm
  obtain ⟨res, hres⟩ : ∃ z, z = (m_goes (μ 1) a b) := ⟨_, rfl⟩
  rw [← hres] at hQ
  unfold m_goes at hres
  refine x_eq (L' := [(0, .ref (adr 0)), (1, .int (nI a)), (2, .int (nI b))]) ?_ rfl rfl rfl
  refine x_iload_n O 1 dX6_goes_0 rfl rfl ?_
  refine x_iload_n O 2 dX6_goes_1 rfl rfl ?_
  refine x_cS O 2 (c_g_far (nI a) (nI b)) (lw_S q1795 q1796 q111 q1797) hd_X6_far rfl (by rw [RF]; rfl) (by rw [RL]; rfl) ⟨Nat.zero_le _, Nat.zero_le _⟩ rfl rfl dX6_goes_2 ?_
  refine x_aload_n O 0 dX6_goes_5 rfl rfl ?_
  refine x_mget O k_X6_13_6 (mg_1 _ _) dX6_goes_6 ?_
  refine x_bipush O (nI 13) dX6_goes_9 (by decide) ?_
  refine x_iload_n O 2 dX6_goes_11 rfl rfl ?_
  refine x_iaddN O dX6_goes_12 ?_
  refine x_ialdN O MS.c1 (by omega) rfl dX6_goes_13 ?_
  refine x_aload_n O 0 dX6_goes_14 rfl rfl ?_
  refine x_mget O k_X6_13_6 (mg_1 _ _) dX6_goes_15 ?_
  refine x_bipush O (nI 13) dX6_goes_18 (by decide) ?_
  refine x_iload_n O 1 dX6_goes_20 rfl rfl ?_
  refine x_iaddN O dX6_goes_21 ?_
  refine x_ialdN O MS.c1 (by omega) rfl dX6_goes_22 ?_
  have J2 : ∀ (y1 : Nat), y1 = (if (μ 1 (13 + b)) ≤ (μ 1 (13 + a)) then 0 else 1) → X G F R Q 3 31 [(0, .ref (adr 0))] [.int (nI y1), .int (g_far (nI a) (nI b))] (MS G adr h0 μ) 0 0 := by
    intro y1 e3
    subst e3
    refine x_iadd O dX6_goes_31 ?_
    exact x_iretQ O hQ rfl dX6_goes_32 (fun h m => ⟨by rw [hres], m⟩)
  refine x_icmple O 30 dX6_goes_23 (by decide) (fun c23 => ?_) (fun c23 => ?_)
  · refine x_sub [0] (L' := [(0, .ref (adr 0))]) rfl ?_
    refine x_iconst O (nI 0) dX6_goes_30 (by decide) ?_
    exact J2 0 (by rw [if_pos c23])
  · refine x_sub [0] (L' := [(0, .ref (adr 0))]) rfl ?_
    refine x_iconst O (nI 1) dX6_goes_26 (by decide) ?_
    refine x_goto O 31 dX6_goes_27 (by decide) ?_
    exact J2 1 (by rw [if_neg c23])

def m_talked (W : Nat → Int32) (a : Int32) (b : Int32) : Bool :=
  (if (if m_none W a 4 = true then true else (if m_none W b 4 = true then true else false)) = true then false else (if m_mayHaveTalked W (tn a) (tn b) = true then true else false))
def m_talked_s (μ : Mu) (a : Int32) (b : Int32) : Mu :=
  (if (if m_none (μ 1) a 4 = true then true else (if m_none (μ 1) b 4 = true then true else false)) = true then (mset (mset μ 0 0 (nI 0)) 0 0 (nI 1)) else (mset μ 0 0 (nI 0)))
set_option maxHeartbeats 4000000 in
set_option maxRecDepth 100000 in
theorem c_m_talked {G : UG} {adr : Nat → Nat} {h0 : Hp} {μ : Mu} (hI : MI (μ 1)) (a : Int32) (b : Int32)  : Con G yX6_talked cX6_talked 3 (some .boolean) 2 47 0 0 [.ref (adr 0), .int a, .int b] (MS G adr h0 μ) (fun vr_ h' => vr_ = some (.int (b2i (m_talked (μ 1) a b))) ∧ MS G adr h0 (m_talked_s μ a b) h') nX := by
  refine con_of2 (plainFor_of_name (by decide)) rfl ?_
  intro F R Q RF RL RC RS hQ O hnh hnm
  obtain ⟨res, hres⟩ : ∃ z, z = (m_talked (μ 1) a b) := ⟨_, rfl⟩
  rw [← hres] at hQ
  unfold m_talked at hres
  obtain ⟨resm, hresm⟩ : ∃ z, z = m_talked_s μ a b := ⟨_, rfl⟩
  rw [← hresm] at hQ
  unfold m_talked_s at hresm
  have hb4 : tn (μ 1 4) ≤ 8 := (hI 4 (by decide)).2
  refine x_eq (L' := [(0, .ref (adr 0)), (1, .int a), (2, .int b)]) ?_ rfl rfl rfl
  refine x_aload_n O 0 dX6_talked_0 rfl rfl ?_
  refine x_iconst O (nI 0) dX6_talked_1 (by decide) ?_
  refine x_mput O p_X6_3_6 (mp_0 _ _ _) rfl dX6_talked_2 ?_
  refine x_aload_n O 0 dX6_talked_5 rfl rfl ?_
  refine x_aload_n O 0 dX6_talked_6 rfl rfl ?_
  refine x_iload_n O 1 dX6_talked_7 rfl rfl ?_
  refine x_iconst O (nI 4) dX6_talked_8 (by decide) ?_
  refine x_cV O 2 (c_m_none (μ := (mset μ 0 0 (nI 0))) a 4 (by omega)) MS.obj uc6 (lw_V q1964 q1966 qs59 q111 q1967) rfl hd_X6_none rfl (by rw [RF]; rfl) (by rw [RL]; rfl) ⟨Nat.zero_le _, Nat.zero_le _⟩ rfl rfl dX6_talked_9 ?_
  refine x_top (v' := b2i (m_none (μ 1) a 4)) rfl ?_
  have J3 : ∀ (y1 : Bool), y1 = (if m_none (μ 1) a 4 = true then true else (if m_none (μ 1) b 4 = true then true else false)) → X G F R Q 3 29 [(0, .ref (adr 0)), (1, .int a), (2, .int b)] [.int (b2i y1), .ref (adr 0)] (MS G adr h0 ((mset μ 0 0 (nI 0)))) 0 0 := by
    intro y1 e4
    subst e4
    refine x_iconst O (nI 1) dX6_talked_29 (by decide) ?_
    refine x_bc ((if m_none (μ 1) a 4 = true then true else (if m_none (μ 1) b 4 = true then true else false))) (fun c30 => ?_) (fun c30 => ?_)
    · have hr5 := hres.trans (if_pos c30)
      have hr6 := hresm.trans (if_pos c30)
      refine x_eq (st' := [.int (nI 1), .int (b2i true), .ref (adr 0)]) ?_ rfl rfl (by rw [c30] <;> rfl)
      refine x_cV O 2 (c_m_throwsIf_t (μ := (mset μ 0 0 (nI 0))) 1) MS.obj uc6 (lw_V q1774 q1776 qs34 q111 q1777) rfl hd_X6_throwsIf rfl (by rw [RF]; rfl) (by rw [RL]; rfl) ⟨Nat.zero_le _, Nat.zero_le _⟩ rfl rfl dX6_talked_30 ?_
      refine x_top (v' := b2i true) rfl ?_
      refine x_ifneB O 49 dX6_talked_33 (by decide) (fun _ => ?_) (fun c => absurd rfl c)
      refine x_sub [0] (L' := [(0, .ref (adr 0))]) rfl ?_
      refine x_iconst O (nI 0) dX6_talked_49 (by decide) ?_
      refine x_top (v' := b2i false) (by decide) ?_
      exact x_zretQ O hQ rfl dX6_talked_50 (fun h m => ⟨by rw [hr5], by rw [hr6]; exact m⟩)
    · have hr7 := hres.trans (if_neg c30)
      have hr8 := hresm.trans (if_neg c30)
      refine x_eq (st' := [.int (nI 1), .int (b2i false), .ref (adr 0)]) ?_ rfl rfl (by rw [bfalse c30] <;> rfl)
      refine x_cV O 2 (c_m_throwsIf_f (μ := (mset μ 0 0 (nI 0))) 1) MS.obj uc6 (lw_V q1774 q1776 qs34 q111 q1777) rfl hd_X6_throwsIf rfl (by rw [RF]; rfl) (by rw [RL]; rfl) ⟨Nat.zero_le _, Nat.zero_le _⟩ rfl rfl dX6_talked_30 ?_
      refine x_top (v' := b2i false) rfl ?_
      refine x_ifneB O 49 dX6_talked_33 (by decide) (fun c => absurd c (by decide)) (fun _ => ?_)
      refine x_aload_n O 0 dX6_talked_36 rfl rfl ?_
      refine x_iload_n O 1 dX6_talked_37 rfl rfl ?_
      refine x_top (v' := nI (tn a)) ((none_nn (w := 4) (by decide) hI (porA c30)).1) ?_
      refine x_iload_n O 2 dX6_talked_38 rfl rfl ?_
      refine x_top (v' := nI (tn b)) ((none_nn (w := 4) (by decide) hI (porB c30)).1) ?_
      refine x_cV O 2 (c_m_mayHaveTalked (μ := (mset μ 0 0 (nI 0))) hI (tn a) (tn b) (by have := (none_nn (w := 4) (by decide) hI (porA c30)).2; omega) (by have := (none_nn (w := 4) (by decide) hI (porB c30)).2; omega)) MS.obj uc6 (lw_V q2219 q2221 qs98 q111 q2222) rfl hd_X6_mayHaveTalked rfl (by rw [RF]; rfl) (by rw [RL]; rfl) ⟨Nat.zero_le _, Nat.zero_le _⟩ rfl rfl dX6_talked_39 ?_
      refine x_top (v' := b2i (m_mayHaveTalked (μ 1) (tn a) (tn b))) rfl ?_
      have J9 : ∀ (y2 : Bool), y2 = (if m_mayHaveTalked (μ 1) (tn a) (tn b) = true then true else false) → X G F R Q 3 50 [(0, .ref (adr 0))] [.int (b2i y2)] (MS G adr h0 ((mset μ 0 0 (nI 0)))) 0 0 := by
        intro y2 e10
        subst e10
        exact x_zretQ O hQ rfl dX6_talked_50 (fun h m => ⟨by rw [hr7], by rw [hr8]; exact m⟩)
      refine x_ifeqB O 49 dX6_talked_42 (by decide) (fun c42 => ?_) (fun c42 => ?_)
      · refine x_sub [0] (L' := [(0, .ref (adr 0))]) rfl ?_
        refine x_iconst O (nI 0) dX6_talked_49 (by decide) ?_
        refine x_top (v' := b2i false) (by decide) ?_
        exact J9 false (by rw [if_neg c42])
      · refine x_sub [0] (L' := [(0, .ref (adr 0))]) rfl ?_
        refine x_iconst O (nI 1) dX6_talked_45 (by decide) ?_
        refine x_goto O 50 dX6_talked_46 (by decide) ?_
        refine x_top (v' := b2i true) (by decide) ?_
        exact J9 true (by rw [if_pos c42])
  refine x_ifneB O 24 dX6_talked_12 (by decide) (fun c12 => ?_) (fun c12 => ?_)
  · refine x_iconst O (nI 1) dX6_talked_24 (by decide) ?_
    refine x_goto O 29 dX6_talked_25 (by decide) ?_
    refine x_top (v' := b2i true) (by decide) ?_
    exact J3 true (by rw [if_pos c12])
  · refine x_aload_n O 0 dX6_talked_15 rfl rfl ?_
    refine x_iload_n O 2 dX6_talked_16 rfl rfl ?_
    refine x_iconst O (nI 4) dX6_talked_17 (by decide) ?_
    refine x_cV O 2 (c_m_none (μ := (mset μ 0 0 (nI 0))) b 4 (by omega)) MS.obj uc6 (lw_V q1964 q1966 qs59 q111 q1967) rfl hd_X6_none rfl (by rw [RF]; rfl) (by rw [RL]; rfl) ⟨Nat.zero_le _, Nat.zero_le _⟩ rfl rfl dX6_talked_18 ?_
    refine x_top (v' := b2i (m_none (μ 1) b 4)) rfl ?_
    refine x_ifeqB O 28 dX6_talked_21 (by decide) (fun c21 => ?_) (fun c21 => ?_)
    · refine x_iconst O (nI 0) dX6_talked_28 (by decide) ?_
      refine x_top (v' := b2i false) (by decide) ?_
      exact J3 false (by rw [if_neg c12, if_neg c21])
    · refine x_iconst O (nI 1) dX6_talked_24 (by decide) ?_
      refine x_goto O 29 dX6_talked_25 (by decide) ?_
      refine x_top (v' := b2i true) (by decide) ?_
      exact J3 true (by rw [if_neg c12, if_pos c21])
