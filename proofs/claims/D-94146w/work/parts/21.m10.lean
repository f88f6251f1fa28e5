def m_asks_b2 (W : Nat → Int32) (C5 : Nat → Int32) (C10 : Nat → Int32) (F24 : Int32)  (i1_2 : Nat) (a5_2 : (Nat → Int32)) : (Nat → Int32) :=
  ups a5_2 i1_2 (nI 0)
def m_asks_b23 (W : Nat → Int32) (C5 : Nat → Int32) (C10 : Nat → Int32) (F24 : Int32)  (i1_23 : Nat) (a5_23 : (Nat → Int32)) : (Nat → Int32) :=
  ups a5_23 (tn (m_ofFind W i1_23 0)) ((a5_23 (tn (m_ofFind W i1_23 0))) + (nI ((if m_isSeen W i1_23 = true then 1 else 0))))
def m_asks_b83 (W : Nat → Int32) (C5 : Nat → Int32) (C10 : Nat → Int32) (F24 : Int32)  (i1_83 : Nat) (a5_83 : (Nat → Int32)) : (Nat → Int32) :=
  ups a5_83 5 ((a5_83 5) + (nI ((if m_fitsAll W i1_83 = true then 1 else 0))))
def m_asks_b141 (W : Nat → Int32) (C5 : Nat → Int32) (C10 : Nat → Int32) (F24 : Int32)  (i1_141 : Nat) (f17_141 : Int32) (f24_141 : Int32) (a10_141 : (Nat → Int32)) : Int32 × Int32 × (Nat → Int32) :=
  (j_max f17_141 (m_longestHeld W a10_141 (nI 0) i1_141 (nI 1)), nI (m_longestHeld_f24 W a10_141 (nI 0) i1_141 (nI 1)), m_longestHeld_c10 W a10_141 (nI 0) i1_141 (nI 1))
def m_asks_f17 (W : Nat → Int32) (C5 : Nat → Int32) (C10 : Nat → Int32) (F24 : Int32)  : Int32 :=
  (fr (fun i s => m_asks_b141 W C5 C10 F24 i s.1 s.2.1 s.2.2) 16 0 (nI 0, F24, C10)).1
def m_asks_f24 (W : Nat → Int32) (C5 : Nat → Int32) (C10 : Nat → Int32) (F24 : Int32)  : Int32 :=
  (fr (fun i s => m_asks_b141 W C5 C10 F24 i s.1 s.2.1 s.2.2) 16 0 (nI 0, F24, C10)).2.1
def m_asks_c5 (W : Nat → Int32) (C5 : Nat → Int32) (C10 : Nat → Int32) (F24 : Int32)  : Nat → Int32 :=
  ups ((fr (fun i s => m_asks_b83 W C5 C10 F24 i s) (tn (W 5)) 0 (ups ((fr (fun i s => m_asks_b23 W C5 C10 F24 i s) (tn (W 3)) 0 (fr (fun i s => m_asks_b2 W C5 C10 F24 i s) 7 0 C5))) 4 (j_bits (m_neededIn W (nI 0) (nI 255)))))) 6 (m_heapsOf W (nI 4) false)
def m_asks_c10 (W : Nat → Int32) (C5 : Nat → Int32) (C10 : Nat → Int32) (F24 : Int32)  : Nat → Int32 :=
  (fr (fun i s => m_asks_b141 W C5 C10 F24 i s.1 s.2.1 s.2.2) 16 0 (nI 0, F24, C10)).2.2
set_option maxHeartbeats 1000000 in
set_option maxRecDepth 100000 in
theorem c_m_asks {G : UG} {adr : Nat → Nat} {h0 : Hp} {μ : Mu} (hJ : MJ (μ 1))   : Con G yX6_asks cX6_asks 2 none 7 160 0 0 [.ref (adr 0)] (MS G adr h0 μ) (fun vr_ h' => vr_ = none ∧ MS G adr h0 (mc (mc (mset (mset μ 0 17 (m_asks_f17 (μ 1) (μ 5) (μ 10) (μ 0 24))) 0 24 (m_asks_f24 (μ 1) (μ 5) (μ 10) (μ 0 24))) 5 (m_asks_c5 (μ 1) (μ 5) (μ 10) (μ 0 24))) 10 (m_asks_c10 (μ 1) (μ 5) (μ 10) (μ 0 24))) h') nX := by
  refine con_of2 (plainFor_of_name (by decide)) rfl ?_
  intro F R Q RF RL RC RS hQ O hnh hnm
  obtain ⟨rs0, hrs0⟩ : ∃ z, z = m_asks_f17 (μ 1) (μ 5) (μ 10) (μ 0 24) := ⟨_, rfl⟩
  rw [← hrs0] at hQ
  unfold m_asks_f17 at hrs0
  obtain ⟨rs1, hrs1⟩ : ∃ z, z = m_asks_f24 (μ 1) (μ 5) (μ 10) (μ 0 24) := ⟨_, rfl⟩
  rw [← hrs1] at hQ
  unfold m_asks_f24 at hrs1
  obtain ⟨rs2, hrs2⟩ : ∃ z, z = m_asks_c5 (μ 1) (μ 5) (μ 10) (μ 0 24) := ⟨_, rfl⟩
  rw [← hrs2] at hQ
  unfold m_asks_c5 at hrs2
  obtain ⟨rs3, hrs3⟩ : ∃ z, z = m_asks_c10 (μ 1) (μ 5) (μ 10) (μ 0 24) := ⟨_, rfl⟩
  rw [← hrs3] at hQ
  unfold m_asks_c10 at hrs3
  have hI := hJ.1
  have hb3 : tn (μ 1 3) ≤ 120 := (hI 3 (by decide)).2
  have hb5 : tn (μ 1 5) ≤ 20 := (hI 5 (by decide)).2
  refine x_eq (L' := [(0, .ref (adr 0))]) ?_ rfl rfl rfl
  refine x_iconst O (nI 0) dX6_asks_0 (by decide) ?_
  refine x_istore_n O [(1, .int (nI 0)), (0, .ref (adr 0))] dX6_asks_1 rfl rfl rfl ?_
  have LOOP2 : ∀ (cc_ : Nat) (i1_2 : Nat) (a5_2 : (Nat → Int32)), cc_ = 7 - i1_2 → i1_2 < 2147483648 → (∀ (y0 : (Nat → Int32)), y0 = fr (fun i s => m_asks_b2 (μ 1) (μ 5) (μ 10) (μ 0 24) i s) cc_ i1_2 a5_2 → X G F R Q 2 21 [(0, .ref (adr 0))] [] (MS G adr h0 ((mc μ 5 y0))) 0 0) → X G F R Q 2 2 [(1, .int (nI i1_2)), (0, .ref (adr 0))] [] (MS G adr h0 ((mc μ 5 a5_2))) 0 0 := by
    intro cc_
    induction cc_ using Nat.strongRecOn with
    | ind cc_ IH_ =>
      intro i1_2 a5_2 hc_ hb_  K_
      refine x_iload_n O 0 dX6_asks_2 rfl rfl ?_
      refine x_bipush O (nI 7) dX6_asks_3 (by decide) ?_
      refine x_icmpgeN O 21 (by omega) (by omega) dX6_asks_5 (by decide) (fun c5 => ?_) (fun c5 => ?_)
      · refine x_sub [1] (L' := [(0, .ref (adr 0))]) rfl ?_
        obtain rfl : cc_ = 0 := by omega
        exact K_ _ rfl
      · refine x_aload_n O 1 dX6_asks_8 rfl rfl ?_
        refine x_mget O k_X6_30_6 (mg_14 _ _) dX6_asks_9 ?_
        refine x_iload_n O 0 dX6_asks_12 rfl rfl ?_
        refine x_iconst O (nI 0) dX6_asks_13 (by decide) ?_
        refine x_mastQ O 4 MS.c5 rfl rfl rfl (by omega) rfl dX6_asks_14 (μ' := (mc μ 5 (ups a5_2 i1_2 (nI 0)))) wc_s ?_
        refine x_iincN O 0 [(1, .int (nI (i1_2 + 1))), (0, .ref (adr 0))] dX6_asks_15 rfl rfl rfl ?_
        refine x_goto O 2 dX6_asks_18 (by decide) ?_
        obtain ⟨c2_, rfl⟩ : ∃ z, cc_ = z + 1 := ⟨cc_ - 1, by omega⟩
        have hs_ : (fun i s => m_asks_b2 (μ 1) (μ 5) (μ 10) (μ 0 24) i s) i1_2 a5_2 = ups a5_2 i1_2 (nI 0) := by show m_asks_b2 (μ 1) (μ 5) (μ 10) (μ 0 24) i1_2 a5_2 = _; unfold m_asks_b2; rfl
        exact IH_ c2_ (by omega) _ _ (by omega) (by omega) (fun y0 hy_ => K_ y0 (hy_.trans (fr_step hs_).symm))
  refine x_weak (Ω' := MS G adr h0 ((mc μ 5 (μ 5)))) (fun _ m => m.eq (mc_id (c := 5) (f := μ 5) (by rfl)).symm) ?_
  refine LOOP2 7 0 (μ 5) rfl (by omega) (fun y0 hy_2 => ?_)
  subst hy_2
  refine x_iconst O (nI 0) dX6_asks_21 (by decide) ?_
  refine x_istore_n O [(1, .int (nI 0)), (0, .ref (adr 0))] dX6_asks_22 rfl rfl rfl ?_
  have LOOP23 : ∀ (cc_ : Nat) (i1_23 : Nat) (a5_23 : (Nat → Int32)), cc_ = tn (μ 1 3) - i1_23 → i1_23 < 2147483648 → (∀ (y0 : (Nat → Int32)), y0 = fr (fun i s => m_asks_b23 (μ 1) (μ 5) (μ 10) (μ 0 24) i s) cc_ i1_23 a5_23 → X G F R Q 2 64 [(0, .ref (adr 0))] [] (MS G adr h0 ((mc μ 5 y0))) 0 0) → X G F R Q 2 23 [(1, .int (nI i1_23)), (0, .ref (adr 0))] [] (MS G adr h0 ((mc μ 5 a5_23))) 0 0 := by
    intro cc_
    induction cc_ using Nat.strongRecOn with
    | ind cc_ IH_ =>
      intro i1_23 a5_23 hc_ hb_  K_
      refine x_iload_n O 0 dX6_asks_23 rfl rfl ?_
      refine x_aload_n O 1 dX6_asks_24 rfl rfl ?_
      refine x_cV O 0 (c_m_finds (μ := (mc μ 5 a5_23))) MS.obj uc6 (lw_V q2042 q2044 qs74 q111 q2045) rfl hd_X6_finds rfl (by rw [RF]; rfl) (by rw [RL]; rfl) ⟨Nat.zero_le _, Nat.zero_le _⟩ rfl rfl dX6_asks_25 ?_
      refine x_top (v' := μ 1 3) (m_finds_u _) ?_
      refine x_top (v' := nI (tn (μ 1 3))) ((hJ.1 3 (by decide)).1) ?_
      refine x_icmpgeN O 64 (by omega) (by omega) dX6_asks_28 (by decide) (fun c28 => ?_) (fun c28 => ?_)
      · refine x_sub [1] (L' := [(0, .ref (adr 0))]) rfl ?_
        obtain rfl : cc_ = 0 := by omega
        exact K_ _ rfl
      · refine x_aload_n O 1 dX6_asks_31 rfl rfl ?_
        refine x_mget O k_X6_30_6 (mg_14 _ _) dX6_asks_32 ?_
        refine x_aload_n O 1 dX6_asks_35 rfl rfl ?_
        refine x_iload_n O 0 dX6_asks_36 rfl rfl ?_
        refine x_iconst O (nI 0) dX6_asks_37 (by decide) ?_
        refine x_cV O 2 (c_m_ofFind (μ := (mc μ 5 a5_23)) i1_23 0 (by omega) (by omega)) MS.obj uc6 (lw_V q2054 q2056 qs75 q111 q2057) rfl hd_X6_ofFind rfl (by rw [RF]; rfl) (by rw [RL]; rfl) ⟨Nat.zero_le _, Nat.zero_le _⟩ rfl rfl dX6_asks_38 ?_
        refine x_top (v' := m_ofFind (μ 1) i1_23 0) (by rw [show (mc μ 5 a5_23) 1 = μ 1 from (mc_n (by decide))]) ?_
        refine x_top (v' := nI (tn (m_ofFind (μ 1) i1_23 0))) ((hJ.2.2.1 _ (by omega)).1.1) ?_
        refine x_dup2 O dX6_asks_41 rfl rfl ?_
        refine x_ialdN O MS.c5 (by have := (hJ.2.2.1 i1_23 (by omega)).1.2; omega) rfl dX6_asks_42 ?_
        refine x_top (v' := a5_23 (tn (m_ofFind (μ 1) i1_23 0))) (congrFun mc_s (tn (m_ofFind (μ 1) i1_23 0))) ?_
        refine x_aload_n O 1 dX6_asks_43 rfl rfl ?_
        refine x_iload_n O 0 dX6_asks_44 rfl rfl ?_
        refine x_cV O 1 (c_m_isSeen (μ := (mc μ 5 a5_23)) i1_23 (by omega)) MS.obj uc6 (lw_V q2058 q2060 qs76 q111 q2061) rfl hd_X6_isSeen rfl (by rw [RF]; rfl) (by rw [RL]; rfl) ⟨Nat.zero_le _, Nat.zero_le _⟩ rfl rfl dX6_asks_45 ?_
        refine x_top (v' := b2i (m_isSeen (μ 1) i1_23)) (by rw [show (mc μ 5 a5_23) 1 = μ 1 from (mc_n (by decide))]) ?_
        have J3 : ∀ (y1 : Nat), y1 = (if m_isSeen (μ 1) i1_23 = true then 1 else 0) → X G F R Q 2 56 [(1, .int (nI i1_23)), (0, .ref (adr 0))] [.int (nI y1), .int (a5_23 (tn (m_ofFind (μ 1) i1_23 0))), .int (nI (tn (m_ofFind (μ 1) i1_23 0))), .ref (adr 5)] (MS G adr h0 ((mc μ 5 a5_23))) 0 0 := by
          intro y1 e4
          subst e4
          refine x_iadd O dX6_asks_56 ?_
          refine x_mastQ O 4 MS.c5 rfl rfl rfl (by have := (hJ.2.2.1 i1_23 (by omega)).1.2; omega) rfl dX6_asks_57 (μ' := (mc μ 5 (ups a5_23 (tn (m_ofFind (μ 1) i1_23 0)) ((a5_23 (tn (m_ofFind (μ 1) i1_23 0))) + (nI ((if m_isSeen (μ 1) i1_23 = true then 1 else 0))))))) wc_s ?_
          refine x_iincN O 0 [(1, .int (nI (i1_23 + 1))), (0, .ref (adr 0))] dX6_asks_58 rfl rfl rfl ?_
          refine x_goto O 23 dX6_asks_61 (by decide) ?_
          obtain ⟨c2_, rfl⟩ : ∃ z, cc_ = z + 1 := ⟨cc_ - 1, by omega⟩
          have hs_ : (fun i s => m_asks_b23 (μ 1) (μ 5) (μ 10) (μ 0 24) i s) i1_23 a5_23 = ups a5_23 (tn (m_ofFind (μ 1) i1_23 0)) ((a5_23 (tn (m_ofFind (μ 1) i1_23 0))) + (nI ((if m_isSeen (μ 1) i1_23 = true then 1 else 0)))) := by show m_asks_b23 (μ 1) (μ 5) (μ 10) (μ 0 24) i1_23 a5_23 = _; unfold m_asks_b23; rfl
          exact IH_ c2_ (by omega) _ _ (by omega) (by omega) (fun y0 hy_ => K_ y0 (hy_.trans (fr_step hs_).symm))
        refine x_ifeqB O 55 dX6_asks_48 (by decide) (fun c48 => ?_) (fun c48 => ?_)
        · refine x_iconst O (nI 0) dX6_asks_55 (by decide) ?_
          exact J3 0 (by rw [if_neg c48])
        · refine x_iconst O (nI 1) dX6_asks_51 (by decide) ?_
          refine x_goto O 56 dX6_asks_52 (by decide) ?_
          exact J3 1 (by rw [if_pos c48])
  refine LOOP23 (tn (μ 1 3)) 0 ((fr (fun i s => m_asks_b2 (μ 1) (μ 5) (μ 10) (μ 0 24) i s) 7 0 (μ 5))) rfl (by omega) (fun y0 hy_23 => ?_)
  subst hy_23
  refine x_aload_n O 0 dX6_asks_64 rfl rfl ?_
  refine x_mget O k_X6_30_6 (mg_14 _ _) dX6_asks_65 ?_
  refine x_iconst O (nI 4) dX6_asks_68 (by decide) ?_
  refine x_aload_n O 0 dX6_asks_69 rfl rfl ?_
  refine x_iconst O (nI 0) dX6_asks_70 (by decide) ?_
  refine x_sipush O (nI 255) dX6_asks_71 (by decide) ?_
  refine x_cV O 2 (c_m_neededIn (μ := (mc μ 5 ((fr (fun i s => m_asks_b23 (μ 1) (μ 5) (μ 10) (μ 0 24) i s) (tn (μ 1 3)) 0 (fr (fun i s => m_asks_b2 (μ 1) (μ 5) (μ 10) (μ 0 24) i s) 7 0 (μ 5)))))) hI (nI 0) (nI 255)) MS.obj uc6 (lw_V q2101 q2103 qs81 q111 q2104) rfl hd_X6_neededIn rfl (by rw [RF]; rfl) (by rw [RL]; rfl) ⟨Nat.zero_le _, Nat.zero_le _⟩ rfl rfl dX6_asks_74 ?_
  refine x_top (v' := m_neededIn (μ 1) (nI 0) (nI 255)) (by rw [show (mc μ 5 ((fr (fun i s => m_asks_b23 (μ 1) (μ 5) (μ 10) (μ 0 24) i s) (tn (μ 1 3)) 0 (fr (fun i s => m_asks_b2 (μ 1) (μ 5) (μ 10) (μ 0 24) i s) 7 0 (μ 5))))) 1 = μ 1 from (mc_n (by decide))]) ?_
  refine x_cS O 1 (c_j_bits (m_neededIn (μ 1) (nI 0) (nI 255))) (lw_S q2105 q572 q142 q573) hd_J13_bitCount rfl (by rw [RF]; rfl) (by rw [RL]; rfl) ⟨Nat.zero_le _, Nat.zero_le _⟩ rfl rfl dX6_asks_77 ?_
  refine x_top (v' := j_bits (m_neededIn (μ 1) (nI 0) (nI 255))) rfl ?_
  refine x_mastQ O 4 MS.c5 rfl rfl rfl (by omega) rfl dX6_asks_80 (μ' := (mc μ 5 (ups ((fr (fun i s => m_asks_b23 (μ 1) (μ 5) (μ 10) (μ 0 24) i s) (tn (μ 1 3)) 0 (fr (fun i s => m_asks_b2 (μ 1) (μ 5) (μ 10) (μ 0 24) i s) 7 0 (μ 5)))) 4 (j_bits (m_neededIn (μ 1) (nI 0) (nI 255)))))) wc_s ?_
  refine x_iconst O (nI 0) dX6_asks_81 (by decide) ?_
  refine x_istore_n O [(1, .int (nI 0)), (0, .ref (adr 0))] dX6_asks_82 rfl rfl rfl ?_
  have LOOP83 : ∀ (cc_ : Nat) (i1_83 : Nat) (a5_83 : (Nat → Int32)), cc_ = tn (μ 1 5) - i1_83 → i1_83 < 2147483648 → (∀ (y0 : (Nat → Int32)), y0 = fr (fun i s => m_asks_b83 (μ 1) (μ 5) (μ 10) (μ 0 24) i s) cc_ i1_83 a5_83 → X G F R Q 2 121 [(0, .ref (adr 0))] [] (MS G adr h0 ((mc μ 5 y0))) 0 0) → X G F R Q 2 83 [(1, .int (nI i1_83)), (0, .ref (adr 0))] [] (MS G adr h0 ((mc μ 5 a5_83))) 0 0 := by
    intro cc_
    induction cc_ using Nat.strongRecOn with
    | ind cc_ IH_ =>
      intro i1_83 a5_83 hc_ hb_  K_
      refine x_iload_n O 0 dX6_asks_83 rfl rfl ?_
      refine x_aload_n O 1 dX6_asks_84 rfl rfl ?_
      refine x_mget O k_X6_13_6 (mg_1 _ _) dX6_asks_85 ?_
      refine x_iconst O (nI 5) dX6_asks_88 (by decide) ?_
      refine x_ialdN O MS.c1 (by omega) rfl dX6_asks_89 ?_
      refine x_top (v' := μ 1 5) (congrFun (mc_n (by decide)) 5) ?_
      refine x_top (v' := nI (tn (μ 1 5))) ((hJ.1 5 (by decide)).1) ?_
      refine x_icmpgeN O 121 (by omega) (by omega) dX6_asks_90 (by decide) (fun c90 => ?_) (fun c90 => ?_)
      · refine x_sub [1] (L' := [(0, .ref (adr 0))]) rfl ?_
        obtain rfl : cc_ = 0 := by omega
        exact K_ _ rfl
      · refine x_aload_n O 1 dX6_asks_93 rfl rfl ?_
        refine x_mget O k_X6_30_6 (mg_14 _ _) dX6_asks_94 ?_
        refine x_iconst O (nI 5) dX6_asks_97 (by decide) ?_
        refine x_dup2 O dX6_asks_98 rfl rfl ?_
        refine x_ialdN O MS.c5 (by omega) rfl dX6_asks_99 ?_
        refine x_top (v' := a5_83 5) (congrFun mc_s 5) ?_
        refine x_aload_n O 1 dX6_asks_100 rfl rfl ?_
        refine x_iload_n O 0 dX6_asks_101 rfl rfl ?_
        refine x_cV O 1 (c_m_fitsAll (μ := (mc μ 5 a5_83)) hJ i1_83 (by omega)) MS.obj uc6 (lw_V q2199 q2201 qs94 q111 q2202) rfl hd_X6_fitsAll rfl (by rw [RF]; rfl) (by rw [RL]; rfl) ⟨Nat.zero_le _, Nat.zero_le _⟩ rfl rfl dX6_asks_102 ?_
        refine x_top (v' := b2i (m_fitsAll (μ 1) i1_83)) (by rw [show (mc μ 5 a5_83) 1 = μ 1 from (mc_n (by decide))]) ?_
        have J5 : ∀ (y2 : Nat), y2 = (if m_fitsAll (μ 1) i1_83 = true then 1 else 0) → X G F R Q 2 113 [(1, .int (nI i1_83)), (0, .ref (adr 0))] [.int (nI y2), .int (a5_83 5), .int (nI 5), .ref (adr 5)] (MS G adr h0 ((mc μ 5 a5_83))) 0 0 := by
          intro y2 e6
          subst e6
          refine x_iadd O dX6_asks_113 ?_
          refine x_mastQ O 4 MS.c5 rfl rfl rfl (by omega) rfl dX6_asks_114 (μ' := (mc μ 5 (ups a5_83 5 ((a5_83 5) + (nI ((if m_fitsAll (μ 1) i1_83 = true then 1 else 0))))))) wc_s ?_
          refine x_iincN O 0 [(1, .int (nI (i1_83 + 1))), (0, .ref (adr 0))] dX6_asks_115 rfl rfl rfl ?_
          refine x_goto O 83 dX6_asks_118 (by decide) ?_
          obtain ⟨c2_, rfl⟩ : ∃ z, cc_ = z + 1 := ⟨cc_ - 1, by omega⟩
          have hs_ : (fun i s => m_asks_b83 (μ 1) (μ 5) (μ 10) (μ 0 24) i s) i1_83 a5_83 = ups a5_83 5 ((a5_83 5) + (nI ((if m_fitsAll (μ 1) i1_83 = true then 1 else 0)))) := by show m_asks_b83 (μ 1) (μ 5) (μ 10) (μ 0 24) i1_83 a5_83 = _; unfold m_asks_b83; rfl
          exact IH_ c2_ (by omega) _ _ (by omega) (by omega) (fun y0 hy_ => K_ y0 (hy_.trans (fr_step hs_).symm))
        refine x_ifeqB O 112 dX6_asks_105 (by decide) (fun c105 => ?_) (fun c105 => ?_)
        · refine x_iconst O (nI 0) dX6_asks_112 (by decide) ?_
          exact J5 0 (by rw [if_neg c105])
        · refine x_iconst O (nI 1) dX6_asks_108 (by decide) ?_
          refine x_goto O 113 dX6_asks_109 (by decide) ?_
          exact J5 1 (by rw [if_pos c105])
  refine LOOP83 (tn (μ 1 5)) 0 (ups ((fr (fun i s => m_asks_b23 (μ 1) (μ 5) (μ 10) (μ 0 24) i s) (tn (μ 1 3)) 0 (fr (fun i s => m_asks_b2 (μ 1) (μ 5) (μ 10) (μ 0 24) i s) 7 0 (μ 5)))) 4 (j_bits (m_neededIn (μ 1) (nI 0) (nI 255)))) rfl (by omega) (fun y0 hy_83 => ?_)
  subst hy_83
  refine x_aload_n O 0 dX6_asks_121 rfl rfl ?_
  refine x_mget O k_X6_30_6 (mg_14 _ _) dX6_asks_122 ?_
  refine x_bipush O (nI 6) dX6_asks_125 (by decide) ?_
  refine x_aload_n O 0 dX6_asks_127 rfl rfl ?_
  refine x_iconst O (nI 4) dX6_asks_128 (by decide) ?_
  refine x_iconst O (nI 0) dX6_asks_129 (by decide) ?_
  refine x_top (v' := b2i false) (by decide) ?_
  refine x_cV O 2 (c_m_heapsOf (μ := (mc μ 5 ((fr (fun i s => m_asks_b83 (μ 1) (μ 5) (μ 10) (μ 0 24) i s) (tn (μ 1 5)) 0 (ups ((fr (fun i s => m_asks_b23 (μ 1) (μ 5) (μ 10) (μ 0 24) i s) (tn (μ 1 3)) 0 (fr (fun i s => m_asks_b2 (μ 1) (μ 5) (μ 10) (μ 0 24) i s) 7 0 (μ 5)))) 4 (j_bits (m_neededIn (μ 1) (nI 0) (nI 255)))))))) hI (nI 4) false) MS.obj uc6 (lw_V q2171 q2173 qs92 q111 q2174) rfl hd_X6_heapsOf rfl (by rw [RF]; rfl) (by rw [RL]; rfl) ⟨Nat.zero_le _, Nat.zero_le _⟩ rfl rfl dX6_asks_130 ?_
  refine x_top (v' := m_heapsOf (μ 1) (nI 4) false) (by rw [show (mc μ 5 ((fr (fun i s => m_asks_b83 (μ 1) (μ 5) (μ 10) (μ 0 24) i s) (tn (μ 1 5)) 0 (ups ((fr (fun i s => m_asks_b23 (μ 1) (μ 5) (μ 10) (μ 0 24) i s) (tn (μ 1 3)) 0 (fr (fun i s => m_asks_b2 (μ 1) (μ 5) (μ 10) (μ 0 24) i s) 7 0 (μ 5)))) 4 (j_bits (m_neededIn (μ 1) (nI 0) (nI 255))))))) 1 = μ 1 from (mc_n (by decide))]) ?_
  refine x_mastQ O 4 MS.c5 rfl rfl rfl (by omega) rfl dX6_asks_133 (μ' := (mc μ 5 (ups ((fr (fun i s => m_asks_b83 (μ 1) (μ 5) (μ 10) (μ 0 24) i s) (tn (μ 1 5)) 0 (ups ((fr (fun i s => m_asks_b23 (μ 1) (μ 5) (μ 10) (μ 0 24) i s) (tn (μ 1 3)) 0 (fr (fun i s => m_asks_b2 (μ 1) (μ 5) (μ 10) (μ 0 24) i s) 7 0 (μ 5)))) 4 (j_bits (m_neededIn (μ 1) (nI 0) (nI 255)))))) 6 (m_heapsOf (μ 1) (nI 4) false)))) wc_s ?_
  refine x_aload_n O 0 dX6_asks_134 rfl rfl ?_
  refine x_iconst O (nI 0) dX6_asks_135 (by decide) ?_
  refine x_mputQ O p_X6_270_6 (mp_17 _ _ _) rfl dX6_asks_136 (μ' := (mc (mset μ 0 17 (nI 0)) 5 (ups ((fr (fun i s => m_asks_b83 (μ 1) (μ 5) (μ 10) (μ 0 24) i s) (tn (μ 1 5)) 0 (ups ((fr (fun i s => m_asks_b23 (μ 1) (μ 5) (μ 10) (μ 0 24) i s) (tn (μ 1 3)) 0 (fr (fun i s => m_asks_b2 (μ 1) (μ 5) (μ 10) (μ 0 24) i s) 7 0 (μ 5)))) 4 (j_bits (m_neededIn (μ 1) (nI 0) (nI 255)))))) 6 (m_heapsOf (μ 1) (nI 4) false)))) (wc_n (by decide)) ?_
  refine x_iconst O (nI 0) dX6_asks_139 (by decide) ?_
  refine x_istore_n O [(1, .int (nI 0)), (0, .ref (adr 0))] dX6_asks_140 rfl rfl rfl ?_
  have LOOP141 : ∀ (cc_ : Nat) (i1_141 : Nat) (f17_141 : Int32) (f24_141 : Int32) (a10_141 : (Nat → Int32)), cc_ = 16 - i1_141 → i1_141 < 2147483648 → (∀ (y0 : Int32) (y1 : Int32) (y2 : (Nat → Int32)), (y0, y1, y2) = fr (fun i s => m_asks_b141 (μ 1) (μ 5) (μ 10) (μ 0 24) i s.1 s.2.1 s.2.2) cc_ i1_141 (f17_141, f24_141, a10_141) → X G F R Q 2 171 [(0, .ref (adr 0))] [] (MS G adr h0 ((mc (mc (mset (mset μ 0 17 y0) 0 24 y1) 5 (ups ((fr (fun i s => m_asks_b83 (μ 1) (μ 5) (μ 10) (μ 0 24) i s) (tn (μ 1 5)) 0 (ups ((fr (fun i s => m_asks_b23 (μ 1) (μ 5) (μ 10) (μ 0 24) i s) (tn (μ 1 3)) 0 (fr (fun i s => m_asks_b2 (μ 1) (μ 5) (μ 10) (μ 0 24) i s) 7 0 (μ 5)))) 4 (j_bits (m_neededIn (μ 1) (nI 0) (nI 255)))))) 6 (m_heapsOf (μ 1) (nI 4) false))) 10 y2))) 0 0) → X G F R Q 2 141 [(1, .int (nI i1_141)), (0, .ref (adr 0))] [] (MS G adr h0 ((mc (mc (mset (mset μ 0 17 f17_141) 0 24 f24_141) 5 (ups ((fr (fun i s => m_asks_b83 (μ 1) (μ 5) (μ 10) (μ 0 24) i s) (tn (μ 1 5)) 0 (ups ((fr (fun i s => m_asks_b23 (μ 1) (μ 5) (μ 10) (μ 0 24) i s) (tn (μ 1 3)) 0 (fr (fun i s => m_asks_b2 (μ 1) (μ 5) (μ 10) (μ 0 24) i s) 7 0 (μ 5)))) 4 (j_bits (m_neededIn (μ 1) (nI 0) (nI 255)))))) 6 (m_heapsOf (μ 1) (nI 4) false))) 10 a10_141))) 0 0 := by
    intro cc_
    induction cc_ using Nat.strongRecOn with
    | ind cc_ IH_ =>
      intro i1_141 f17_141 f24_141 a10_141 hc_ hb_  K_
      refine x_iload_n O 0 dX6_asks_141 rfl rfl ?_
      refine x_bipush O (nI 16) dX6_asks_142 (by decide) ?_
      refine x_icmpgeN O 171 (by omega) (by omega) dX6_asks_144 (by decide) (fun c144 => ?_) (fun c144 => ?_)
      · refine x_sub [1] (L' := [(0, .ref (adr 0))]) rfl ?_
        obtain rfl : cc_ = 0 := by omega
        exact K_ _ _ _ rfl
      · refine x_aload_n O 1 dX6_asks_147 rfl rfl ?_
        refine x_aload_n O 1 dX6_asks_148 rfl rfl ?_
        refine x_mget O k_X6_270_6 (mg_17 _ _) dX6_asks_149 ?_
        refine x_top (v' := f17_141) ((congrFun (mc_n (by decide)) 17).trans ((congrFun (mc_n (by decide)) 17).trans ((rd_skip (by decide)).trans rd_hit))) ?_
        refine x_aload_n O 1 dX6_asks_152 rfl rfl ?_
        refine x_iconst O (nI 0) dX6_asks_153 (by decide) ?_
        refine x_iload_n O 0 dX6_asks_154 rfl rfl ?_
        refine x_iconst O (nI 1) dX6_asks_155 (by decide) ?_
        refine x_cV O 3 (c_m_longestHeld (μ := (mc (mc (mset (mset μ 0 17 f17_141) 0 24 f24_141) 5 (ups ((fr (fun i s => m_asks_b83 (μ 1) (μ 5) (μ 10) (μ 0 24) i s) (tn (μ 1 5)) 0 (ups ((fr (fun i s => m_asks_b23 (μ 1) (μ 5) (μ 10) (μ 0 24) i s) (tn (μ 1 3)) 0 (fr (fun i s => m_asks_b2 (μ 1) (μ 5) (μ 10) (μ 0 24) i s) 7 0 (μ 5)))) 4 (j_bits (m_neededIn (μ 1) (nI 0) (nI 255)))))) 6 (m_heapsOf (μ 1) (nI 4) false))) 10 a10_141)) hI (nI 0) i1_141 (nI 1) (by omega)) MS.obj uc6 (lw_V q2159 q2161 qs90 q111 q2162) rfl hd_X6_longestHeld rfl (by rw [RF]; rfl) (by rw [RL]; rfl) ⟨Nat.zero_le _, Nat.zero_le _⟩ rfl rfl dX6_asks_156 ?_
        refine x_top (v' := m_longestHeld (μ 1) a10_141 (nI 0) i1_141 (nI 1)) (by rw [show (mc (mc (mset (mset μ 0 17 f17_141) 0 24 f24_141) 5 (ups ((fr (fun i s => m_asks_b83 (μ 1) (μ 5) (μ 10) (μ 0 24) i s) (tn (μ 1 5)) 0 (ups ((fr (fun i s => m_asks_b23 (μ 1) (μ 5) (μ 10) (μ 0 24) i s) (tn (μ 1 3)) 0 (fr (fun i s => m_asks_b2 (μ 1) (μ 5) (μ 10) (μ 0 24) i s) 7 0 (μ 5)))) 4 (j_bits (m_neededIn (μ 1) (nI 0) (nI 255)))))) 6 (m_heapsOf (μ 1) (nI 4) false))) 10 a10_141) 1 = μ 1 from ((mc_n (by decide)).trans ((mc_n (by decide)).trans ((mset_n (by decide)).trans (mset_n (by decide))))), show (mc (mc (mset (mset μ 0 17 f17_141) 0 24 f24_141) 5 (ups ((fr (fun i s => m_asks_b83 (μ 1) (μ 5) (μ 10) (μ 0 24) i s) (tn (μ 1 5)) 0 (ups ((fr (fun i s => m_asks_b23 (μ 1) (μ 5) (μ 10) (μ 0 24) i s) (tn (μ 1 3)) 0 (fr (fun i s => m_asks_b2 (μ 1) (μ 5) (μ 10) (μ 0 24) i s) 7 0 (μ 5)))) 4 (j_bits (m_neededIn (μ 1) (nI 0) (nI 255)))))) 6 (m_heapsOf (μ 1) (nI 4) false))) 10 a10_141) 10 = a10_141 from mc_s]) ?_
        refine x_weak (Ω' := MS G adr h0 (mc (mc (mset (mset μ 0 17 f17_141) 0 24 (nI (m_longestHeld_f24 (μ 1) a10_141 (nI 0) i1_141 (nI 1)))) 5 (ups ((fr (fun i s => m_asks_b83 (μ 1) (μ 5) (μ 10) (μ 0 24) i s) (tn (μ 1 5)) 0 (ups ((fr (fun i s => m_asks_b23 (μ 1) (μ 5) (μ 10) (μ 0 24) i s) (tn (μ 1 3)) 0 (fr (fun i s => m_asks_b2 (μ 1) (μ 5) (μ 10) (μ 0 24) i s) 7 0 (μ 5)))) 4 (j_bits (m_neededIn (μ 1) (nI 0) (nI 255)))))) 6 (m_heapsOf (μ 1) (nI 4) false))) 10 (m_longestHeld_c10 (μ 1) a10_141 (nI 0) i1_141 (nI 1)))) (fun _ m => by rw [show (mc (mc (mset (mset μ 0 17 f17_141) 0 24 f24_141) 5 (ups ((fr (fun i s => m_asks_b83 (μ 1) (μ 5) (μ 10) (μ 0 24) i s) (tn (μ 1 5)) 0 (ups ((fr (fun i s => m_asks_b23 (μ 1) (μ 5) (μ 10) (μ 0 24) i s) (tn (μ 1 3)) 0 (fr (fun i s => m_asks_b2 (μ 1) (μ 5) (μ 10) (μ 0 24) i s) 7 0 (μ 5)))) 4 (j_bits (m_neededIn (μ 1) (nI 0) (nI 255)))))) 6 (m_heapsOf (μ 1) (nI 4) false))) 10 a10_141) 1 = μ 1 from ((mc_n (by decide)).trans ((mc_n (by decide)).trans ((mset_n (by decide)).trans (mset_n (by decide))))), show (mc (mc (mset (mset μ 0 17 f17_141) 0 24 f24_141) 5 (ups ((fr (fun i s => m_asks_b83 (μ 1) (μ 5) (μ 10) (μ 0 24) i s) (tn (μ 1 5)) 0 (ups ((fr (fun i s => m_asks_b23 (μ 1) (μ 5) (μ 10) (μ 0 24) i s) (tn (μ 1 3)) 0 (fr (fun i s => m_asks_b2 (μ 1) (μ 5) (μ 10) (μ 0 24) i s) 7 0 (μ 5)))) 4 (j_bits (m_neededIn (μ 1) (nI 0) (nI 255)))))) 6 (m_heapsOf (μ 1) (nI 4) false))) 10 a10_141) 10 = a10_141 from mc_s] at m; exact m.eq ((congrArg (fun m_ => mc m_ 10 _) (wc_n (by decide))).trans ((congrArg (fun m_ => mc m_ 10 _) (congrArg (fun m_ => mc m_ 10 _) (wc_n (by decide)))).trans ((congrArg (fun m_ => mc m_ 10 _) (congrArg (fun m_ => mc m_ 10 _) (congrArg (fun m_ => mc m_ 5 _) ff_s))).trans cc_s)))) ?_
        refine x_cS O 2 (c_j_max f17_141 (m_longestHeld (μ 1) a10_141 (nI 0) i1_141 (nI 1))) (lw_S q1782 q558 q116 q559) hd_J7_max rfl (by rw [RF]; rfl) (by rw [RL]; rfl) ⟨Nat.zero_le _, Nat.zero_le _⟩ rfl rfl dX6_asks_159 ?_
        refine x_top (v' := j_max f17_141 (m_longestHeld (μ 1) a10_141 (nI 0) i1_141 (nI 1))) rfl ?_
        refine x_mputQ O p_X6_270_6 (mp_17 _ _ _) rfl dX6_asks_162 (μ' := (mc (mc (mset (mset μ 0 17 (j_max f17_141 (m_longestHeld (μ 1) a10_141 (nI 0) i1_141 (nI 1)))) 0 24 (nI (m_longestHeld_f24 (μ 1) a10_141 (nI 0) i1_141 (nI 1)))) 5 (ups ((fr (fun i s => m_asks_b83 (μ 1) (μ 5) (μ 10) (μ 0 24) i s) (tn (μ 1 5)) 0 (ups ((fr (fun i s => m_asks_b23 (μ 1) (μ 5) (μ 10) (μ 0 24) i s) (tn (μ 1 3)) 0 (fr (fun i s => m_asks_b2 (μ 1) (μ 5) (μ 10) (μ 0 24) i s) 7 0 (μ 5)))) 4 (j_bits (m_neededIn (μ 1) (nI 0) (nI 255)))))) 6 (m_heapsOf (μ 1) (nI 4) false))) 10 (m_longestHeld_c10 (μ 1) a10_141 (nI 0) i1_141 (nI 1)))) ((wc_n (by decide)).trans ((congrArg (fun m_ => mc m_ 10 _) (wc_n (by decide))).trans ((congrArg (fun m_ => mc m_ 10 _) (congrArg (fun m_ => mc m_ 5 _) (ff_n (by decide)))).trans (congrArg (fun m_ => mc m_ 10 _) (congrArg (fun m_ => mc m_ 5 _) (congrArg (fun m_ => mset m_ 0 24 _) ff_s)))))) ?_
        refine x_iincN O 0 [(1, .int (nI (i1_141 + 1))), (0, .ref (adr 0))] dX6_asks_165 rfl rfl rfl ?_
        refine x_goto O 141 dX6_asks_168 (by decide) ?_
        obtain ⟨c2_, rfl⟩ : ∃ z, cc_ = z + 1 := ⟨cc_ - 1, by omega⟩
        have hs_ : (fun i s => m_asks_b141 (μ 1) (μ 5) (μ 10) (μ 0 24) i s.1 s.2.1 s.2.2) i1_141 (f17_141, f24_141, a10_141) = (j_max f17_141 (m_longestHeld (μ 1) a10_141 (nI 0) i1_141 (nI 1)), nI (m_longestHeld_f24 (μ 1) a10_141 (nI 0) i1_141 (nI 1)), m_longestHeld_c10 (μ 1) a10_141 (nI 0) i1_141 (nI 1)) := by show m_asks_b141 (μ 1) (μ 5) (μ 10) (μ 0 24) i1_141 f17_141 f24_141 a10_141 = _; unfold m_asks_b141; rfl
        exact IH_ c2_ (by omega) _ _ _ _ (by omega) (by omega) (fun y0 y1 y2 hy_ => K_ y0 y1 y2 (hy_.trans (fr_step hs_).symm))
  refine x_weak (Ω' := MS G adr h0 ((mc (mc (mset (mset μ 0 17 (nI 0)) 0 24 (μ 0 24)) 5 (ups ((fr (fun i s => m_asks_b83 (μ 1) (μ 5) (μ 10) (μ 0 24) i s) (tn (μ 1 5)) 0 (ups ((fr (fun i s => m_asks_b23 (μ 1) (μ 5) (μ 10) (μ 0 24) i s) (tn (μ 1 3)) 0 (fr (fun i s => m_asks_b2 (μ 1) (μ 5) (μ 10) (μ 0 24) i s) 7 0 (μ 5)))) 4 (j_bits (m_neededIn (μ 1) (nI 0) (nI 255)))))) 6 (m_heapsOf (μ 1) (nI 4) false))) 10 (μ 10)))) (fun _ m => m.eq ((mf_id (k := 24) (v := μ 0 24) (by rfl)).symm.trans ((mc_id (c := 10) (f := μ 10) (by rfl)).symm.trans (congrArg (fun m_ => mc m_ 10 _) (wc_n (by decide)))))) ?_
  refine LOOP141 16 0 (nI 0) (μ 0 24) (μ 10) rfl (by omega) (fun y0 y1 y2 hy_141 => ?_)
  obtain rfl : y0 = (fr (fun i s => m_asks_b141 (μ 1) (μ 5) (μ 10) (μ 0 24) i s.1 s.2.1 s.2.2) 16 0 (nI 0, μ 0 24, μ 10)).1 := congrArg (fun z => z.1) hy_141
  obtain rfl : y1 = (fr (fun i s => m_asks_b141 (μ 1) (μ 5) (μ 10) (μ 0 24) i s.1 s.2.1 s.2.2) 16 0 (nI 0, μ 0 24, μ 10)).2.1 := congrArg (fun z => z.2.1) hy_141
  obtain rfl : y2 = (fr (fun i s => m_asks_b141 (μ 1) (μ 5) (μ 10) (μ 0 24) i s.1 s.2.1 s.2.2) 16 0 (nI 0, μ 0 24, μ 10)).2.2 := congrArg (fun z => z.2.2) hy_141
  exact x_vretQ O hQ rfl dX6_asks_171 (fun h m => ⟨rfl, by rw [hrs0, hrs1, hrs2, hrs3]; exact m.eq rfl⟩)

def m_holds (W : Nat → Int32) (C5 : Nat → Int32) (C6 : Nat → Int32) (C10 : Nat → Int32) (F15 : Int32) (F16 : Int32) (F17 : Int32) (F24 : Int32) (story : Int32) : Bool :=
  (if m_none W story 6 = true then false else m_holdsLine W (m_asks_c5 W C5 C10 F24) C6 F15 F16 (m_asks_f17 W C5 C10 F24) (4 + tn story) 0)
def m_holds_f0 (W : Nat → Int32) (C5 : Nat → Int32) (C6 : Nat → Int32) (C10 : Nat → Int32) (F15 : Int32) (F16 : Int32) (F17 : Int32) (F24 : Int32) (story : Int32) : Nat :=
  (if m_none W story 6 = true then 1 else 0)
def m_holds_f17 (W : Nat → Int32) (C5 : Nat → Int32) (C6 : Nat → Int32) (C10 : Nat → Int32) (F15 : Int32) (F16 : Int32) (F17 : Int32) (F24 : Int32) (story : Int32) : Int32 :=
  (if m_none W story 6 = true then F17 else m_asks_f17 W C5 C10 F24)
def m_holds_f24 (W : Nat → Int32) (C5 : Nat → Int32) (C6 : Nat → Int32) (C10 : Nat → Int32) (F15 : Int32) (F16 : Int32) (F17 : Int32) (F24 : Int32) (story : Int32) : Int32 :=
  (if m_none W story 6 = true then F24 else m_asks_f24 W C5 C10 F24)
def m_holds_c5 (W : Nat → Int32) (C5 : Nat → Int32) (C6 : Nat → Int32) (C10 : Nat → Int32) (F15 : Int32) (F16 : Int32) (F17 : Int32) (F24 : Int32) (story : Int32) : Nat → Int32 :=
  (if m_none W story 6 = true then C5 else m_asks_c5 W C5 C10 F24)
def m_holds_c6 (W : Nat → Int32) (C5 : Nat → Int32) (C6 : Nat → Int32) (C10 : Nat → Int32) (F15 : Int32) (F16 : Int32) (F17 : Int32) (F24 : Int32) (story : Int32) : Nat → Int32 :=
  (if m_none W story 6 = true then C6 else m_holdsLine_c6 W (m_asks_c5 W C5 C10 F24) C6 F15 F16 (m_asks_f17 W C5 C10 F24) (4 + tn story) 0)
def m_holds_c10 (W : Nat → Int32) (C5 : Nat → Int32) (C6 : Nat → Int32) (C10 : Nat → Int32) (F15 : Int32) (F16 : Int32) (F17 : Int32) (F24 : Int32) (story : Int32) : Nat → Int32 :=
  (if m_none W story 6 = true then C10 else m_asks_c10 W C5 C10 F24)
set_option maxHeartbeats 1000000 in
set_option maxRecDepth 100000 in
theorem c_m_holds {G : UG} {adr : Nat → Nat} {h0 : Hp} {μ : Mu} (hJ : MJ (μ 1)) (hT : TX (μ 1)) (hS : ∀ s, s < tn (μ 1 6) → μ 1 (m_textAt (4 + s)) = nI 1) (story : Int32)  : Con G yX6_holds cX6_holds 2 (some .boolean) 8 181 0 0 [.ref (adr 0), .int story] (MS G adr h0 μ) (fun vr_ h' => vr_ = some (.int (b2i (m_holds (μ 1) (μ 5) (μ 6) (μ 10) (μ 0 15) (μ 0 16) (μ 0 17) (μ 0 24) story))) ∧ MS G adr h0 (mc (mc (mc (mset (mset (mset μ 0 0 (nI (m_holds_f0 (μ 1) (μ 5) (μ 6) (μ 10) (μ 0 15) (μ 0 16) (μ 0 17) (μ 0 24) story))) 0 17 (m_holds_f17 (μ 1) (μ 5) (μ 6) (μ 10) (μ 0 15) (μ 0 16) (μ 0 17) (μ 0 24) story)) 0 24 (m_holds_f24 (μ 1) (μ 5) (μ 6) (μ 10) (μ 0 15) (μ 0 16) (μ 0 17) (μ 0 24) story)) 5 (m_holds_c5 (μ 1) (μ 5) (μ 6) (μ 10) (μ 0 15) (μ 0 16) (μ 0 17) (μ 0 24) story)) 6 (m_holds_c6 (μ 1) (μ 5) (μ 6) (μ 10) (μ 0 15) (μ 0 16) (μ 0 17) (μ 0 24) story)) 10 (m_holds_c10 (μ 1) (μ 5) (μ 6) (μ 10) (μ 0 15) (μ 0 16) (μ 0 17) (μ 0 24) story)) h') nX := by
  refine con_of2 (plainFor_of_name (by decide)) rfl ?_
  intro F R Q RF RL RC RS hQ O hnh hnm
  obtain ⟨res, hres⟩ : ∃ z, z = (m_holds (μ 1) (μ 5) (μ 6) (μ 10) (μ 0 15) (μ 0 16) (μ 0 17) (μ 0 24) story) := ⟨_, rfl⟩
  rw [← hres] at hQ
  unfold m_holds at hres
  obtain ⟨rs0, hrs0⟩ : ∃ z, z = m_holds_f0 (μ 1) (μ 5) (μ 6) (μ 10) (μ 0 15) (μ 0 16) (μ 0 17) (μ 0 24) story := ⟨_, rfl⟩
  rw [← hrs0] at hQ
  unfold m_holds_f0 at hrs0
  obtain ⟨rs1, hrs1⟩ : ∃ z, z = m_holds_f17 (μ 1) (μ 5) (μ 6) (μ 10) (μ 0 15) (μ 0 16) (μ 0 17) (μ 0 24) story := ⟨_, rfl⟩
  rw [← hrs1] at hQ
  unfold m_holds_f17 at hrs1
  obtain ⟨rs2, hrs2⟩ : ∃ z, z = m_holds_f24 (μ 1) (μ 5) (μ 6) (μ 10) (μ 0 15) (μ 0 16) (μ 0 17) (μ 0 24) story := ⟨_, rfl⟩
  rw [← hrs2] at hQ
  unfold m_holds_f24 at hrs2
  obtain ⟨rs3, hrs3⟩ : ∃ z, z = m_holds_c5 (μ 1) (μ 5) (μ 6) (μ 10) (μ 0 15) (μ 0 16) (μ 0 17) (μ 0 24) story := ⟨_, rfl⟩
  rw [← hrs3] at hQ
  unfold m_holds_c5 at hrs3
  obtain ⟨rs4, hrs4⟩ : ∃ z, z = m_holds_c6 (μ 1) (μ 5) (μ 6) (μ 10) (μ 0 15) (μ 0 16) (μ 0 17) (μ 0 24) story := ⟨_, rfl⟩
  rw [← hrs4] at hQ
  unfold m_holds_c6 at hrs4
  obtain ⟨rs5, hrs5⟩ : ∃ z, z = m_holds_c10 (μ 1) (μ 5) (μ 6) (μ 10) (μ 0 15) (μ 0 16) (μ 0 17) (μ 0 24) story := ⟨_, rfl⟩
  rw [← hrs5] at hQ
  unfold m_holds_c10 at hrs5
  have hI := hJ.1
  have hb6 : tn (μ 1 6) ≤ 5 := (hI 6 (by decide)).2
  refine x_eq (L' := [(0, .ref (adr 0)), (1, .int story)]) ?_ rfl rfl rfl
  refine x_aload_n O 0 dX6_holds_0 rfl rfl ?_
  refine x_iconst O (nI 0) dX6_holds_1 (by decide) ?_
  refine x_mputQ O p_X6_3_6 (mp_0 _ _ _) rfl dX6_holds_2 (μ' := (mset μ 0 0 (nI 0))) rfl ?_
  refine x_aload_n O 0 dX6_holds_5 rfl rfl ?_
  refine x_aload_n O 0 dX6_holds_6 rfl rfl ?_
  refine x_iload_n O 1 dX6_holds_7 rfl rfl ?_
  refine x_bipush O (nI 6) dX6_holds_8 (by decide) ?_
  refine x_cV O 2 (c_m_none (μ := (mset μ 0 0 (nI 0))) story 6 (by omega)) MS.obj uc6 (lw_V q1964 q1966 qs59 q111 q1967) rfl hd_X6_none rfl (by rw [RF]; rfl) (by rw [RL]; rfl) ⟨Nat.zero_le _, Nat.zero_le _⟩ rfl rfl dX6_holds_10 ?_
  refine x_top (v' := b2i (m_none (μ 1) story 6)) (by rw [show (mset μ 0 0 (nI 0)) 1 = μ 1 from (mset_n (by decide))]) ?_
  refine x_iconst O (nI 1) dX6_holds_13 (by decide) ?_
  refine x_bc (m_none (μ 1) story 6) (fun c14 => ?_) (fun c14 => ?_)
  · have hr1 := hres.trans (if_pos c14)
    have hr2 := hrs0.trans (if_pos c14)
    have hr3 := hrs1.trans (if_pos c14)
    have hr4 := hrs2.trans (if_pos c14)
    have hr5 := hrs3.trans (if_pos c14)
    have hr6 := hrs4.trans (if_pos c14)
    have hr7 := hrs5.trans (if_pos c14)
    refine x_eq (st' := [.int (nI 1), .int (b2i true), .ref (adr 0)]) ?_ rfl rfl (by rw [c14] <;> rfl)
    refine x_cV O 2 (c_m_throwsIf_t (μ := (mset μ 0 0 (nI 0))) 1) MS.obj uc6 (lw_V q1774 q1776 qs34 q111 q1777) rfl hd_X6_throwsIf rfl (by rw [RF]; rfl) (by rw [RL]; rfl) ⟨Nat.zero_le _, Nat.zero_le _⟩ rfl rfl dX6_holds_14 ?_
    refine x_top (v' := b2i true) rfl ?_
    refine x_weak (Ω' := MS G adr h0 (mset μ 0 0 (nI 1))) (fun _ m => m.eq ff_s) ?_
    refine x_ifeqB O 22 dX6_holds_17 (by decide) (fun c => absurd rfl c) (fun _ => ?_)
    refine x_sub [0] (L' := [(0, .ref (adr 0))]) rfl ?_
    refine x_iconst O (nI 0) dX6_holds_20 (by decide) ?_
    refine x_top (v' := b2i false) (by decide) ?_
    exact x_zretQ O hQ rfl dX6_holds_21 (fun h m => ⟨by rw [hr1], by rw [hr2, hr3, hr4, hr5, hr6, hr7]; exact m.eq ((mf_id (k := 17) (v := μ 0 17) (by rfl)).symm.trans ((mf_id (k := 24) (v := μ 0 24) (by rfl)).symm.trans ((mc_id (c := 5) (f := μ 5) (by rfl)).symm.trans ((mc_id (c := 6) (f := μ 6) (by rfl)).symm.trans (mc_id (c := 10) (f := μ 10) (by rfl)).symm))))⟩)
  · have hr8 := hres.trans (if_neg c14)
    have hr9 := hrs0.trans (if_neg c14)
    have hr10 := hrs1.trans (if_neg c14)
    have hr11 := hrs2.trans (if_neg c14)
    have hr12 := hrs3.trans (if_neg c14)
    have hr13 := hrs4.trans (if_neg c14)
    have hr14 := hrs5.trans (if_neg c14)
    refine x_eq (st' := [.int (nI 1), .int (b2i false), .ref (adr 0)]) ?_ rfl rfl (by rw [bfalse c14] <;> rfl)
    refine x_cV O 2 (c_m_throwsIf_f (μ := (mset μ 0 0 (nI 0))) 1) MS.obj uc6 (lw_V q1774 q1776 qs34 q111 q1777) rfl hd_X6_throwsIf rfl (by rw [RF]; rfl) (by rw [RL]; rfl) ⟨Nat.zero_le _, Nat.zero_le _⟩ rfl rfl dX6_holds_14 ?_
    refine x_top (v' := b2i false) rfl ?_
    refine x_ifeqB O 22 dX6_holds_17 (by decide) (fun _ => ?_) (fun c => absurd c (by decide))
    have hst := (none_nn (w := 6) (by decide) hI c14).2
    refine x_aload_n O 0 dX6_holds_22 rfl rfl ?_
    refine x_cV O 0 (c_m_asks (μ := (mset μ 0 0 (nI 0))) hJ) MS.obj uc6 (lw_V q2247 q2249 qs101 q111 q2250) rfl hd_X6_asks rfl (by rw [RF]; rfl) (by rw [RL]; rfl) ⟨Nat.zero_le _, Nat.zero_le _⟩ rfl rfl dX6_holds_23 ?_
    refine x_weak (Ω' := MS G adr h0 (mc (mc (mset (mset (mset μ 0 0 (nI 0)) 0 17 (m_asks_f17 (μ 1) (μ 5) (μ 10) (μ 0 24))) 0 24 (m_asks_f24 (μ 1) (μ 5) (μ 10) (μ 0 24))) 5 (m_asks_c5 (μ 1) (μ 5) (μ 10) (μ 0 24))) 10 (m_asks_c10 (μ 1) (μ 5) (μ 10) (μ 0 24)))) (fun _ m => by rw [show (mset μ 0 0 (nI 0)) 1 = μ 1 from (mset_n (by decide)), show (mset μ 0 0 (nI 0)) 5 = μ 5 from (mset_n (by decide)), show (mset μ 0 0 (nI 0)) 10 = μ 10 from (mset_n (by decide)), show (mset μ 0 0 (nI 0)) 0 24 = μ 0 24 from (rd_skip (by decide))] at m; exact m.eq rfl) ?_
    refine x_aload_n O 0 dX6_holds_26 rfl rfl ?_
    refine x_iconst O (nI 4) dX6_holds_27 (by decide) ?_
    refine x_iload_n O 1 dX6_holds_28 rfl rfl ?_
    refine x_top (v' := nI (tn story)) ((none_nn (w := 6) (by decide) hI c14).1) ?_
    refine x_iaddN O dX6_holds_29 ?_
    refine x_iconst O (nI 0) dX6_holds_30 (by decide) ?_
    refine x_cV O 2 (c_m_holdsLine (μ := (mc (mc (mset (mset (mset μ 0 0 (nI 0)) 0 17 (m_asks_f17 (μ 1) (μ 5) (μ 10) (μ 0 24))) 0 24 (m_asks_f24 (μ 1) (μ 5) (μ 10) (μ 0 24))) 5 (m_asks_c5 (μ 1) (μ 5) (μ 10) (μ 0 24))) 10 (m_asks_c10 (μ 1) (μ 5) (μ 10) (μ 0 24)))) (4 + tn story) 0 ((hT _ (by omega)).2 0 (by rw [hS _ hst]; decide)) (by omega) (by omega)) MS.obj uc6 (lw_V q2016 q2018 qs69 q111 q2019) rfl hd_X6_holdsLine rfl (by rw [RF]; rfl) (by rw [RL]; rfl) ⟨Nat.zero_le _, Nat.zero_le _⟩ rfl rfl dX6_holds_31 ?_
    refine x_top (v' := b2i (m_holdsLine (μ 1) (m_asks_c5 (μ 1) (μ 5) (μ 10) (μ 0 24)) (μ 6) (μ 0 15) (μ 0 16) (m_asks_f17 (μ 1) (μ 5) (μ 10) (μ 0 24)) (4 + tn story) 0)) (by rw [show (mc (mc (mset (mset (mset μ 0 0 (nI 0)) 0 17 (m_asks_f17 (μ 1) (μ 5) (μ 10) (μ 0 24))) 0 24 (m_asks_f24 (μ 1) (μ 5) (μ 10) (μ 0 24))) 5 (m_asks_c5 (μ 1) (μ 5) (μ 10) (μ 0 24))) 10 (m_asks_c10 (μ 1) (μ 5) (μ 10) (μ 0 24))) 1 = μ 1 from ((mc_n (by decide)).trans ((mc_n (by decide)).trans ((mset_n (by decide)).trans ((mset_n (by decide)).trans (mset_n (by decide)))))), show (mc (mc (mset (mset (mset μ 0 0 (nI 0)) 0 17 (m_asks_f17 (μ 1) (μ 5) (μ 10) (μ 0 24))) 0 24 (m_asks_f24 (μ 1) (μ 5) (μ 10) (μ 0 24))) 5 (m_asks_c5 (μ 1) (μ 5) (μ 10) (μ 0 24))) 10 (m_asks_c10 (μ 1) (μ 5) (μ 10) (μ 0 24))) 5 = m_asks_c5 (μ 1) (μ 5) (μ 10) (μ 0 24) from ((mc_n (by decide)).trans mc_s), show (mc (mc (mset (mset (mset μ 0 0 (nI 0)) 0 17 (m_asks_f17 (μ 1) (μ 5) (μ 10) (μ 0 24))) 0 24 (m_asks_f24 (μ 1) (μ 5) (μ 10) (μ 0 24))) 5 (m_asks_c5 (μ 1) (μ 5) (μ 10) (μ 0 24))) 10 (m_asks_c10 (μ 1) (μ 5) (μ 10) (μ 0 24))) 6 = μ 6 from ((mc_n (by decide)).trans ((mc_n (by decide)).trans ((mset_n (by decide)).trans ((mset_n (by decide)).trans (mset_n (by decide)))))), show (mc (mc (mset (mset (mset μ 0 0 (nI 0)) 0 17 (m_asks_f17 (μ 1) (μ 5) (μ 10) (μ 0 24))) 0 24 (m_asks_f24 (μ 1) (μ 5) (μ 10) (μ 0 24))) 5 (m_asks_c5 (μ 1) (μ 5) (μ 10) (μ 0 24))) 10 (m_asks_c10 (μ 1) (μ 5) (μ 10) (μ 0 24))) 0 15 = μ 0 15 from ((congrFun (mc_n (by decide)) 15).trans ((congrFun (mc_n (by decide)) 15).trans ((rd_skip (by decide)).trans ((rd_skip (by decide)).trans (rd_skip (by decide)))))), show (mc (mc (mset (mset (mset μ 0 0 (nI 0)) 0 17 (m_asks_f17 (μ 1) (μ 5) (μ 10) (μ 0 24))) 0 24 (m_asks_f24 (μ 1) (μ 5) (μ 10) (μ 0 24))) 5 (m_asks_c5 (μ 1) (μ 5) (μ 10) (μ 0 24))) 10 (m_asks_c10 (μ 1) (μ 5) (μ 10) (μ 0 24))) 0 16 = μ 0 16 from ((congrFun (mc_n (by decide)) 16).trans ((congrFun (mc_n (by decide)) 16).trans ((rd_skip (by decide)).trans ((rd_skip (by decide)).trans (rd_skip (by decide)))))), show (mc (mc (mset (mset (mset μ 0 0 (nI 0)) 0 17 (m_asks_f17 (μ 1) (μ 5) (μ 10) (μ 0 24))) 0 24 (m_asks_f24 (μ 1) (μ 5) (μ 10) (μ 0 24))) 5 (m_asks_c5 (μ 1) (μ 5) (μ 10) (μ 0 24))) 10 (m_asks_c10 (μ 1) (μ 5) (μ 10) (μ 0 24))) 0 17 = m_asks_f17 (μ 1) (μ 5) (μ 10) (μ 0 24) from ((congrFun (mc_n (by decide)) 17).trans ((congrFun (mc_n (by decide)) 17).trans ((rd_skip (by decide)).trans rd_hit)))]) ?_
    refine x_weak (Ω' := MS G adr h0 (mc (mc (mc (mset (mset (mset μ 0 0 (nI 0)) 0 17 (m_asks_f17 (μ 1) (μ 5) (μ 10) (μ 0 24))) 0 24 (m_asks_f24 (μ 1) (μ 5) (μ 10) (μ 0 24))) 5 (m_asks_c5 (μ 1) (μ 5) (μ 10) (μ 0 24))) 6 (m_holdsLine_c6 (μ 1) (m_asks_c5 (μ 1) (μ 5) (μ 10) (μ 0 24)) (μ 6) (μ 0 15) (μ 0 16) (m_asks_f17 (μ 1) (μ 5) (μ 10) (μ 0 24)) (4 + tn story) 0)) 10 (m_asks_c10 (μ 1) (μ 5) (μ 10) (μ 0 24)))) (fun _ m => by rw [show (mc (mc (mset (mset (mset μ 0 0 (nI 0)) 0 17 (m_asks_f17 (μ 1) (μ 5) (μ 10) (μ 0 24))) 0 24 (m_asks_f24 (μ 1) (μ 5) (μ 10) (μ 0 24))) 5 (m_asks_c5 (μ 1) (μ 5) (μ 10) (μ 0 24))) 10 (m_asks_c10 (μ 1) (μ 5) (μ 10) (μ 0 24))) 1 = μ 1 from ((mc_n (by decide)).trans ((mc_n (by decide)).trans ((mset_n (by decide)).trans ((mset_n (by decide)).trans (mset_n (by decide)))))), show (mc (mc (mset (mset (mset μ 0 0 (nI 0)) 0 17 (m_asks_f17 (μ 1) (μ 5) (μ 10) (μ 0 24))) 0 24 (m_asks_f24 (μ 1) (μ 5) (μ 10) (μ 0 24))) 5 (m_asks_c5 (μ 1) (μ 5) (μ 10) (μ 0 24))) 10 (m_asks_c10 (μ 1) (μ 5) (μ 10) (μ 0 24))) 5 = m_asks_c5 (μ 1) (μ 5) (μ 10) (μ 0 24) from ((mc_n (by decide)).trans mc_s), show (mc (mc (mset (mset (mset μ 0 0 (nI 0)) 0 17 (m_asks_f17 (μ 1) (μ 5) (μ 10) (μ 0 24))) 0 24 (m_asks_f24 (μ 1) (μ 5) (μ 10) (μ 0 24))) 5 (m_asks_c5 (μ 1) (μ 5) (μ 10) (μ 0 24))) 10 (m_asks_c10 (μ 1) (μ 5) (μ 10) (μ 0 24))) 6 = μ 6 from ((mc_n (by decide)).trans ((mc_n (by decide)).trans ((mset_n (by decide)).trans ((mset_n (by decide)).trans (mset_n (by decide)))))), show (mc (mc (mset (mset (mset μ 0 0 (nI 0)) 0 17 (m_asks_f17 (μ 1) (μ 5) (μ 10) (μ 0 24))) 0 24 (m_asks_f24 (μ 1) (μ 5) (μ 10) (μ 0 24))) 5 (m_asks_c5 (μ 1) (μ 5) (μ 10) (μ 0 24))) 10 (m_asks_c10 (μ 1) (μ 5) (μ 10) (μ 0 24))) 0 15 = μ 0 15 from ((congrFun (mc_n (by decide)) 15).trans ((congrFun (mc_n (by decide)) 15).trans ((rd_skip (by decide)).trans ((rd_skip (by decide)).trans (rd_skip (by decide)))))), show (mc (mc (mset (mset (mset μ 0 0 (nI 0)) 0 17 (m_asks_f17 (μ 1) (μ 5) (μ 10) (μ 0 24))) 0 24 (m_asks_f24 (μ 1) (μ 5) (μ 10) (μ 0 24))) 5 (m_asks_c5 (μ 1) (μ 5) (μ 10) (μ 0 24))) 10 (m_asks_c10 (μ 1) (μ 5) (μ 10) (μ 0 24))) 0 16 = μ 0 16 from ((congrFun (mc_n (by decide)) 16).trans ((congrFun (mc_n (by decide)) 16).trans ((rd_skip (by decide)).trans ((rd_skip (by decide)).trans (rd_skip (by decide)))))), show (mc (mc (mset (mset (mset μ 0 0 (nI 0)) 0 17 (m_asks_f17 (μ 1) (μ 5) (μ 10) (μ 0 24))) 0 24 (m_asks_f24 (μ 1) (μ 5) (μ 10) (μ 0 24))) 5 (m_asks_c5 (μ 1) (μ 5) (μ 10) (μ 0 24))) 10 (m_asks_c10 (μ 1) (μ 5) (μ 10) (μ 0 24))) 0 17 = m_asks_f17 (μ 1) (μ 5) (μ 10) (μ 0 24) from ((congrFun (mc_n (by decide)) 17).trans ((congrFun (mc_n (by decide)) 17).trans ((rd_skip (by decide)).trans rd_hit)))] at m; exact m.eq (cc_n (by decide))) ?_
    exact x_zretQ O hQ rfl dX6_holds_34 (fun h m => ⟨by rw [hr8], by rw [hr9, hr10, hr11, hr12, hr13, hr14]; exact m.eq rfl⟩)

def m_odds_b30 (W : Nat → Int32) (C5 : Nat → Int32) (C6 : Nat → Int32) (C10 : Nat → Int32) (F15 : Int32) (F16 : Int32) (F17 : Int32) (F24 : Int32)  (i3_30 : Nat) (v2_30 : Int32) (a6_30 : (Nat → Int32)) : Int32 × (Nat → Int32) :=
  (v2_30 + ((if m_holdsLine W (m_asks_c5 W C5 C10 F24) a6_30 F15 F16 (m_asks_f17 W C5 C10 F24) (4 + i3_30) 0 = true then W (1161 + i3_30) else nI 0)), m_holdsLine_c6 W (m_asks_c5 W C5 C10 F24) a6_30 F15 F16 (m_asks_f17 W C5 C10 F24) (4 + i3_30) 0)
def m_odds (W : Nat → Int32) (C5 : Nat → Int32) (C6 : Nat → Int32) (C10 : Nat → Int32) (F15 : Int32) (F16 : Int32) (F17 : Int32) (F24 : Int32) (story : Int32) : Int32 :=
  (if m_none W story 6 = true then nI 0 else (if m_holdsLine W (m_asks_c5 W C5 C10 F24) ((fr (fun i s => m_odds_b30 W C5 C6 C10 F15 F16 F17 F24 i s.1 s.2) (tn (W 6)) 0 (nI 0, C6)).2) F15 F16 (m_asks_f17 W C5 C10 F24) (4 + tn story) 0 = true then ((nI 10000) * (W (1161 + tn story))) / ((fr (fun i s => m_odds_b30 W C5 C6 C10 F15 F16 F17 F24 i s.1 s.2) (tn (W 6)) 0 (nI 0, C6)).1) else nI 0))
def m_odds_f0 (W : Nat → Int32) (C5 : Nat → Int32) (C6 : Nat → Int32) (C10 : Nat → Int32) (F15 : Int32) (F16 : Int32) (F17 : Int32) (F24 : Int32) (story : Int32) : Nat :=
  (if m_none W story 6 = true then 1 else 0)
def m_odds_f17 (W : Nat → Int32) (C5 : Nat → Int32) (C6 : Nat → Int32) (C10 : Nat → Int32) (F15 : Int32) (F16 : Int32) (F17 : Int32) (F24 : Int32) (story : Int32) : Int32 :=
  (if m_none W story 6 = true then F17 else m_asks_f17 W C5 C10 F24)
def m_odds_f24 (W : Nat → Int32) (C5 : Nat → Int32) (C6 : Nat → Int32) (C10 : Nat → Int32) (F15 : Int32) (F16 : Int32) (F17 : Int32) (F24 : Int32) (story : Int32) : Int32 :=
  (if m_none W story 6 = true then F24 else m_asks_f24 W C5 C10 F24)
def m_odds_c5 (W : Nat → Int32) (C5 : Nat → Int32) (C6 : Nat → Int32) (C10 : Nat → Int32) (F15 : Int32) (F16 : Int32) (F17 : Int32) (F24 : Int32) (story : Int32) : Nat → Int32 :=
  (if m_none W story 6 = true then C5 else m_asks_c5 W C5 C10 F24)
def m_odds_c6 (W : Nat → Int32) (C5 : Nat → Int32) (C6 : Nat → Int32) (C10 : Nat → Int32) (F15 : Int32) (F16 : Int32) (F17 : Int32) (F24 : Int32) (story : Int32) : Nat → Int32 :=
  (if m_none W story 6 = true then C6 else m_holdsLine_c6 W (m_asks_c5 W C5 C10 F24) ((fr (fun i s => m_odds_b30 W C5 C6 C10 F15 F16 F17 F24 i s.1 s.2) (tn (W 6)) 0 (nI 0, C6)).2) F15 F16 (m_asks_f17 W C5 C10 F24) (4 + tn story) 0)
def m_odds_c10 (W : Nat → Int32) (C5 : Nat → Int32) (C6 : Nat → Int32) (C10 : Nat → Int32) (F15 : Int32) (F16 : Int32) (F17 : Int32) (F24 : Int32) (story : Int32) : Nat → Int32 :=
  (if m_none W story 6 = true then C10 else m_asks_c10 W C5 C10 F24)
set_option maxHeartbeats 1000000 in
set_option maxRecDepth 100000 in
theorem c_m_odds {G : UG} {adr : Nat → Nat} {h0 : Hp} {μ : Mu} (hJ : MJ (μ 1)) (hT : TX (μ 1)) (hS : ∀ s, s < tn (μ 1 6) → μ 1 (m_textAt (4 + s)) = nI 1) (story : Int32) (hz : m_holdsLine (μ 1) (m_asks_c5 (μ 1) (μ 5) (μ 10) (μ 0 24)) ((fr (fun i s => m_odds_b30 (μ 1) (μ 5) (μ 6) (μ 10) (μ 0 15) (μ 0 16) (μ 0 17) (μ 0 24) i s.1 s.2) (tn (μ 1 6)) 0 (nI 0, μ 6)).2) (μ 0 15) (μ 0 16) (m_asks_f17 (μ 1) (μ 5) (μ 10) (μ 0 24)) (4 + tn story) 0 = true → ¬ (fr (fun i s => m_odds_b30 (μ 1) (μ 5) (μ 6) (μ 10) (μ 0 15) (μ 0 16) (μ 0 17) (μ 0 24) i s.1 s.2) (tn (μ 1 6)) 0 (nI 0, μ 6)).1 = 0) : Con G yX6_odds cX6_odds 4 (some .int) 8 181 0 0 [.ref (adr 0), .int story] (MS G adr h0 μ) (fun vr_ h' => vr_ = some (.int (m_odds (μ 1) (μ 5) (μ 6) (μ 10) (μ 0 15) (μ 0 16) (μ 0 17) (μ 0 24) story)) ∧ MS G adr h0 (mc (mc (mc (mset (mset (mset μ 0 0 (nI (m_odds_f0 (μ 1) (μ 5) (μ 6) (μ 10) (μ 0 15) (μ 0 16) (μ 0 17) (μ 0 24) story))) 0 17 (m_odds_f17 (μ 1) (μ 5) (μ 6) (μ 10) (μ 0 15) (μ 0 16) (μ 0 17) (μ 0 24) story)) 0 24 (m_odds_f24 (μ 1) (μ 5) (μ 6) (μ 10) (μ 0 15) (μ 0 16) (μ 0 17) (μ 0 24) story)) 5 (m_odds_c5 (μ 1) (μ 5) (μ 6) (μ 10) (μ 0 15) (μ 0 16) (μ 0 17) (μ 0 24) story)) 6 (m_odds_c6 (μ 1) (μ 5) (μ 6) (μ 10) (μ 0 15) (μ 0 16) (μ 0 17) (μ 0 24) story)) 10 (m_odds_c10 (μ 1) (μ 5) (μ 6) (μ 10) (μ 0 15) (μ 0 16) (μ 0 17) (μ 0 24) story)) h') nX := by
  refine con_of2 (plainFor_of_name (by decide)) rfl ?_
  intro F R Q RF RL RC RS hQ O hnh hnm
  obtain ⟨res, hres⟩ : ∃ z, z = (m_odds (μ 1) (μ 5) (μ 6) (μ 10) (μ 0 15) (μ 0 16) (μ 0 17) (μ 0 24) story) := ⟨_, rfl⟩
  rw [← hres] at hQ
  unfold m_odds at hres
  obtain ⟨rs0, hrs0⟩ : ∃ z, z = m_odds_f0 (μ 1) (μ 5) (μ 6) (μ 10) (μ 0 15) (μ 0 16) (μ 0 17) (μ 0 24) story := ⟨_, rfl⟩
  rw [← hrs0] at hQ
  unfold m_odds_f0 at hrs0
  obtain ⟨rs1, hrs1⟩ : ∃ z, z = m_odds_f17 (μ 1) (μ 5) (μ 6) (μ 10) (μ 0 15) (μ 0 16) (μ 0 17) (μ 0 24) story := ⟨_, rfl⟩
  rw [← hrs1] at hQ
  unfold m_odds_f17 at hrs1
  obtain ⟨rs2, hrs2⟩ : ∃ z, z = m_odds_f24 (μ 1) (μ 5) (μ 6) (μ 10) (μ 0 15) (μ 0 16) (μ 0 17) (μ 0 24) story := ⟨_, rfl⟩
  rw [← hrs2] at hQ
  unfold m_odds_f24 at hrs2
  obtain ⟨rs3, hrs3⟩ : ∃ z, z = m_odds_c5 (μ 1) (μ 5) (μ 6) (μ 10) (μ 0 15) (μ 0 16) (μ 0 17) (μ 0 24) story := ⟨_, rfl⟩
  rw [← hrs3] at hQ
  unfold m_odds_c5 at hrs3
  obtain ⟨rs4, hrs4⟩ : ∃ z, z = m_odds_c6 (μ 1) (μ 5) (μ 6) (μ 10) (μ 0 15) (μ 0 16) (μ 0 17) (μ 0 24) story := ⟨_, rfl⟩
  rw [← hrs4] at hQ
  unfold m_odds_c6 at hrs4
  obtain ⟨rs5, hrs5⟩ : ∃ z, z = m_odds_c10 (μ 1) (μ 5) (μ 6) (μ 10) (μ 0 15) (μ 0 16) (μ 0 17) (μ 0 24) story := ⟨_, rfl⟩
  rw [← hrs5] at hQ
  unfold m_odds_c10 at hrs5
  have hI := hJ.1
  have hb6 : tn (μ 1 6) ≤ 5 := (hI 6 (by decide)).2
  refine x_eq (L' := [(0, .ref (adr 0)), (1, .int story)]) ?_ rfl rfl rfl
  refine x_aload_n O 0 dX6_odds_0 rfl rfl ?_
  refine x_iconst O (nI 0) dX6_odds_1 (by decide) ?_
  refine x_mputQ O p_X6_3_6 (mp_0 _ _ _) rfl dX6_odds_2 (μ' := (mset μ 0 0 (nI 0))) rfl ?_
  refine x_aload_n O 0 dX6_odds_5 rfl rfl ?_
  refine x_aload_n O 0 dX6_odds_6 rfl rfl ?_
  refine x_iload_n O 1 dX6_odds_7 rfl rfl ?_
  refine x_bipush O (nI 6) dX6_odds_8 (by decide) ?_
  refine x_cV O 2 (c_m_none (μ := (mset μ 0 0 (nI 0))) story 6 (by omega)) MS.obj uc6 (lw_V q1964 q1966 qs59 q111 q1967) rfl hd_X6_none rfl (by rw [RF]; rfl) (by rw [RL]; rfl) ⟨Nat.zero_le _, Nat.zero_le _⟩ rfl rfl dX6_odds_10 ?_
  refine x_top (v' := b2i (m_none (μ 1) story 6)) (by rw [show (mset μ 0 0 (nI 0)) 1 = μ 1 from (mset_n (by decide))]) ?_
  refine x_iconst O (nI 1) dX6_odds_13 (by decide) ?_
  refine x_bc (m_none (μ 1) story 6) (fun c14 => ?_) (fun c14 => ?_)
  · have hr3 := hres.trans (if_pos c14)
    have hr4 := hrs0.trans (if_pos c14)
    have hr5 := hrs1.trans (if_pos c14)
    have hr6 := hrs2.trans (if_pos c14)
    have hr7 := hrs3.trans (if_pos c14)
    have hr8 := hrs4.trans (if_pos c14)
    have hr9 := hrs5.trans (if_pos c14)
    refine x_eq (st' := [.int (nI 1), .int (b2i true), .ref (adr 0)]) ?_ rfl rfl (by rw [c14] <;> rfl)
    refine x_cV O 2 (c_m_throwsIf_t (μ := (mset μ 0 0 (nI 0))) 1) MS.obj uc6 (lw_V q1774 q1776 qs34 q111 q1777) rfl hd_X6_throwsIf rfl (by rw [RF]; rfl) (by rw [RL]; rfl) ⟨Nat.zero_le _, Nat.zero_le _⟩ rfl rfl dX6_odds_14 ?_
    refine x_top (v' := b2i true) rfl ?_
    refine x_weak (Ω' := MS G adr h0 (mset μ 0 0 (nI 1))) (fun _ m => m.eq ff_s) ?_
    refine x_ifeqB O 22 dX6_odds_17 (by decide) (fun c => absurd rfl c) (fun _ => ?_)
    refine x_sub [0] (L' := [(0, .ref (adr 0))]) rfl ?_
    refine x_iconst O (nI 0) dX6_odds_20 (by decide) ?_
    exact x_iretQ O hQ rfl dX6_odds_21 (fun h m => ⟨by rw [hr3], by rw [hr4, hr5, hr6, hr7, hr8, hr9]; exact m.eq ((mf_id (k := 17) (v := μ 0 17) (by rfl)).symm.trans ((mf_id (k := 24) (v := μ 0 24) (by rfl)).symm.trans ((mc_id (c := 5) (f := μ 5) (by rfl)).symm.trans ((mc_id (c := 6) (f := μ 6) (by rfl)).symm.trans (mc_id (c := 10) (f := μ 10) (by rfl)).symm))))⟩)
  · have hr10 := hres.trans (if_neg c14)
    have hr11 := hrs0.trans (if_neg c14)
    have hr12 := hrs1.trans (if_neg c14)
    have hr13 := hrs2.trans (if_neg c14)
    have hr14 := hrs3.trans (if_neg c14)
    have hr15 := hrs4.trans (if_neg c14)
    have hr16 := hrs5.trans (if_neg c14)
    refine x_eq (st' := [.int (nI 1), .int (b2i false), .ref (adr 0)]) ?_ rfl rfl (by rw [bfalse c14] <;> rfl)
    refine x_cV O 2 (c_m_throwsIf_f (μ := (mset μ 0 0 (nI 0))) 1) MS.obj uc6 (lw_V q1774 q1776 qs34 q111 q1777) rfl hd_X6_throwsIf rfl (by rw [RF]; rfl) (by rw [RL]; rfl) ⟨Nat.zero_le _, Nat.zero_le _⟩ rfl rfl dX6_odds_14 ?_
    refine x_top (v' := b2i false) rfl ?_
    refine x_ifeqB O 22 dX6_odds_17 (by decide) (fun _ => ?_) (fun c => absurd c (by decide))
    have hst := (none_nn (w := 6) (by decide) hI c14).2
    refine x_aload_n O 0 dX6_odds_22 rfl rfl ?_
    refine x_cV O 0 (c_m_asks (μ := (mset μ 0 0 (nI 0))) hJ) MS.obj uc6 (lw_V q2247 q2249 qs101 q111 q2250) rfl hd_X6_asks rfl (by rw [RF]; rfl) (by rw [RL]; rfl) ⟨Nat.zero_le _, Nat.zero_le _⟩ rfl rfl dX6_odds_23 ?_
    refine x_weak (Ω' := MS G adr h0 (mc (mc (mset (mset (mset μ 0 0 (nI 0)) 0 17 (m_asks_f17 (μ 1) (μ 5) (μ 10) (μ 0 24))) 0 24 (m_asks_f24 (μ 1) (μ 5) (μ 10) (μ 0 24))) 5 (m_asks_c5 (μ 1) (μ 5) (μ 10) (μ 0 24))) 10 (m_asks_c10 (μ 1) (μ 5) (μ 10) (μ 0 24)))) (fun _ m => by rw [show (mset μ 0 0 (nI 0)) 1 = μ 1 from (mset_n (by decide)), show (mset μ 0 0 (nI 0)) 5 = μ 5 from (mset_n (by decide)), show (mset μ 0 0 (nI 0)) 10 = μ 10 from (mset_n (by decide)), show (mset μ 0 0 (nI 0)) 0 24 = μ 0 24 from (rd_skip (by decide))] at m; exact m.eq rfl) ?_
    refine x_iconst O (nI 0) dX6_odds_26 (by decide) ?_
    refine x_istore_n O [(2, .int (nI 0)), (0, .ref (adr 0)), (1, .int story)] dX6_odds_27 rfl rfl rfl ?_
    refine x_iconst O (nI 0) dX6_odds_28 (by decide) ?_
    refine x_istore_n O [(3, .int (nI 0)), (2, .int (nI 0)), (0, .ref (adr 0)), (1, .int story)] dX6_odds_29 rfl rfl rfl ?_
    have LOOP30 : ∀ (cc_ : Nat) (i3_30 : Nat) (v2_30 : Int32) (a6_30 : (Nat → Int32)), cc_ = tn (μ 1 6) - i3_30 → i3_30 < 2147483648 → (∀ (y0 : Int32) (y1 : (Nat → Int32)), (y0, y1) = fr (fun i s => m_odds_b30 (μ 1) (μ 5) (μ 6) (μ 10) (μ 0 15) (μ 0 16) (μ 0 17) (μ 0 24) i s.1 s.2) cc_ i3_30 (v2_30, a6_30) → X G F R Q 4 75 [(2, .int y0), (0, .ref (adr 0)), (1, .int story)] [] (MS G adr h0 ((mc (mc (mc (mset (mset (mset μ 0 0 (nI 0)) 0 17 (m_asks_f17 (μ 1) (μ 5) (μ 10) (μ 0 24))) 0 24 (m_asks_f24 (μ 1) (μ 5) (μ 10) (μ 0 24))) 5 (m_asks_c5 (μ 1) (μ 5) (μ 10) (μ 0 24))) 6 y1) 10 (m_asks_c10 (μ 1) (μ 5) (μ 10) (μ 0 24))))) 0 0) → X G F R Q 4 30 [(3, .int (nI i3_30)), (2, .int v2_30), (0, .ref (adr 0)), (1, .int story)] [] (MS G adr h0 ((mc (mc (mc (mset (mset (mset μ 0 0 (nI 0)) 0 17 (m_asks_f17 (μ 1) (μ 5) (μ 10) (μ 0 24))) 0 24 (m_asks_f24 (μ 1) (μ 5) (μ 10) (μ 0 24))) 5 (m_asks_c5 (μ 1) (μ 5) (μ 10) (μ 0 24))) 6 a6_30) 10 (m_asks_c10 (μ 1) (μ 5) (μ 10) (μ 0 24))))) 0 0 := by
      intro cc_
      induction cc_ using Nat.strongRecOn with
      | ind cc_ IH_ =>
        intro i3_30 v2_30 a6_30 hc_ hb_  K_
        refine x_iload_n O 0 dX6_odds_30 rfl rfl ?_
        refine x_aload_n O 2 dX6_odds_31 rfl rfl ?_
        refine x_mget O k_X6_13_6 (mg_1 _ _) dX6_odds_32 ?_
        refine x_bipush O (nI 6) dX6_odds_35 (by decide) ?_
        refine x_ialdN O MS.c1 (by omega) rfl dX6_odds_37 ?_
        refine x_top (v' := μ 1 6) ((congrFun (mc_n (by decide)) 6).trans ((congrFun (mc_n (by decide)) 6).trans ((congrFun (mc_n (by decide)) 6).trans ((congrFun (mset_n (by decide)) 6).trans ((congrFun (mset_n (by decide)) 6).trans (congrFun (mset_n (by decide)) 6)))))) ?_
        refine x_top (v' := nI (tn (μ 1 6))) ((hJ.1 6 (by decide)).1) ?_
        refine x_icmpgeN O 75 (by omega) (by omega) dX6_odds_38 (by decide) (fun c38 => ?_) (fun c38 => ?_)
        · refine x_sub [1, 2, 3] (L' := [(2, .int v2_30), (0, .ref (adr 0)), (1, .int story)]) rfl ?_
          obtain rfl : cc_ = 0 := by omega
          exact K_ _ _ rfl
        · refine x_iload_n O 1 dX6_odds_41 rfl rfl ?_
          refine x_aload_n O 2 dX6_odds_42 rfl rfl ?_
          refine x_iconst O (nI 4) dX6_odds_43 (by decide) ?_
          refine x_iload_n O 0 dX6_odds_44 rfl rfl ?_
          refine x_iaddN O dX6_odds_45 ?_
          refine x_iconst O (nI 0) dX6_odds_46 (by decide) ?_
          refine x_cV O 2 (c_m_holdsLine (μ := (mc (mc (mc (mset (mset (mset μ 0 0 (nI 0)) 0 17 (m_asks_f17 (μ 1) (μ 5) (μ 10) (μ 0 24))) 0 24 (m_asks_f24 (μ 1) (μ 5) (μ 10) (μ 0 24))) 5 (m_asks_c5 (μ 1) (μ 5) (μ 10) (μ 0 24))) 6 a6_30) 10 (m_asks_c10 (μ 1) (μ 5) (μ 10) (μ 0 24)))) (4 + i3_30) 0 ((hT _ (by omega)).2 0 (by rw [hS _ (by omega)]; decide)) (by omega) (by omega)) MS.obj uc6 (lw_V q2016 q2018 qs69 q111 q2019) rfl hd_X6_holdsLine rfl (by rw [RF]; rfl) (by rw [RL]; rfl) ⟨Nat.zero_le _, Nat.zero_le _⟩ rfl rfl dX6_odds_47 ?_
          refine x_top (v' := b2i (m_holdsLine (μ 1) (m_asks_c5 (μ 1) (μ 5) (μ 10) (μ 0 24)) a6_30 (μ 0 15) (μ 0 16) (m_asks_f17 (μ 1) (μ 5) (μ 10) (μ 0 24)) (4 + i3_30) 0)) (by rw [show (mc (mc (mc (mset (mset (mset μ 0 0 (nI 0)) 0 17 (m_asks_f17 (μ 1) (μ 5) (μ 10) (μ 0 24))) 0 24 (m_asks_f24 (μ 1) (μ 5) (μ 10) (μ 0 24))) 5 (m_asks_c5 (μ 1) (μ 5) (μ 10) (μ 0 24))) 6 a6_30) 10 (m_asks_c10 (μ 1) (μ 5) (μ 10) (μ 0 24))) 1 = μ 1 from ((mc_n (by decide)).trans ((mc_n (by decide)).trans ((mc_n (by decide)).trans ((mset_n (by decide)).trans ((mset_n (by decide)).trans (mset_n (by decide))))))), show (mc (mc (mc (mset (mset (mset μ 0 0 (nI 0)) 0 17 (m_asks_f17 (μ 1) (μ 5) (μ 10) (μ 0 24))) 0 24 (m_asks_f24 (μ 1) (μ 5) (μ 10) (μ 0 24))) 5 (m_asks_c5 (μ 1) (μ 5) (μ 10) (μ 0 24))) 6 a6_30) 10 (m_asks_c10 (μ 1) (μ 5) (μ 10) (μ 0 24))) 5 = m_asks_c5 (μ 1) (μ 5) (μ 10) (μ 0 24) from ((mc_n (by decide)).trans ((mc_n (by decide)).trans mc_s)), show (mc (mc (mc (mset (mset (mset μ 0 0 (nI 0)) 0 17 (m_asks_f17 (μ 1) (μ 5) (μ 10) (μ 0 24))) 0 24 (m_asks_f24 (μ 1) (μ 5) (μ 10) (μ 0 24))) 5 (m_asks_c5 (μ 1) (μ 5) (μ 10) (μ 0 24))) 6 a6_30) 10 (m_asks_c10 (μ 1) (μ 5) (μ 10) (μ 0 24))) 6 = a6_30 from ((mc_n (by decide)).trans mc_s), show (mc (mc (mc (mset (mset (mset μ 0 0 (nI 0)) 0 17 (m_asks_f17 (μ 1) (μ 5) (μ 10) (μ 0 24))) 0 24 (m_asks_f24 (μ 1) (μ 5) (μ 10) (μ 0 24))) 5 (m_asks_c5 (μ 1) (μ 5) (μ 10) (μ 0 24))) 6 a6_30) 10 (m_asks_c10 (μ 1) (μ 5) (μ 10) (μ 0 24))) 0 15 = μ 0 15 from ((congrFun (mc_n (by decide)) 15).trans ((congrFun (mc_n (by decide)) 15).trans ((congrFun (mc_n (by decide)) 15).trans ((rd_skip (by decide)).trans ((rd_skip (by decide)).trans (rd_skip (by decide))))))), show (mc (mc (mc (mset (mset (mset μ 0 0 (nI 0)) 0 17 (m_asks_f17 (μ 1) (μ 5) (μ 10) (μ 0 24))) 0 24 (m_asks_f24 (μ 1) (μ 5) (μ 10) (μ 0 24))) 5 (m_asks_c5 (μ 1) (μ 5) (μ 10) (μ 0 24))) 6 a6_30) 10 (m_asks_c10 (μ 1) (μ 5) (μ 10) (μ 0 24))) 0 16 = μ 0 16 from ((congrFun (mc_n (by decide)) 16).trans ((congrFun (mc_n (by decide)) 16).trans ((congrFun (mc_n (by decide)) 16).trans ((rd_skip (by decide)).trans ((rd_skip (by decide)).trans (rd_skip (by decide))))))), show (mc (mc (mc (mset (mset (mset μ 0 0 (nI 0)) 0 17 (m_asks_f17 (μ 1) (μ 5) (μ 10) (μ 0 24))) 0 24 (m_asks_f24 (μ 1) (μ 5) (μ 10) (μ 0 24))) 5 (m_asks_c5 (μ 1) (μ 5) (μ 10) (μ 0 24))) 6 a6_30) 10 (m_asks_c10 (μ 1) (μ 5) (μ 10) (μ 0 24))) 0 17 = m_asks_f17 (μ 1) (μ 5) (μ 10) (μ 0 24) from ((congrFun (mc_n (by decide)) 17).trans ((congrFun (mc_n (by decide)) 17).trans ((congrFun (mc_n (by decide)) 17).trans ((rd_skip (by decide)).trans rd_hit))))]) ?_
          refine x_weak (Ω' := MS G adr h0 (mc (mc (mc (mset (mset (mset μ 0 0 (nI 0)) 0 17 (m_asks_f17 (μ 1) (μ 5) (μ 10) (μ 0 24))) 0 24 (m_asks_f24 (μ 1) (μ 5) (μ 10) (μ 0 24))) 5 (m_asks_c5 (μ 1) (μ 5) (μ 10) (μ 0 24))) 6 (m_holdsLine_c6 (μ 1) (m_asks_c5 (μ 1) (μ 5) (μ 10) (μ 0 24)) a6_30 (μ 0 15) (μ 0 16) (m_asks_f17 (μ 1) (μ 5) (μ 10) (μ 0 24)) (4 + i3_30) 0)) 10 (m_asks_c10 (μ 1) (μ 5) (μ 10) (μ 0 24)))) (fun _ m => by rw [show (mc (mc (mc (mset (mset (mset μ 0 0 (nI 0)) 0 17 (m_asks_f17 (μ 1) (μ 5) (μ 10) (μ 0 24))) 0 24 (m_asks_f24 (μ 1) (μ 5) (μ 10) (μ 0 24))) 5 (m_asks_c5 (μ 1) (μ 5) (μ 10) (μ 0 24))) 6 a6_30) 10 (m_asks_c10 (μ 1) (μ 5) (μ 10) (μ 0 24))) 1 = μ 1 from ((mc_n (by decide)).trans ((mc_n (by decide)).trans ((mc_n (by decide)).trans ((mset_n (by decide)).trans ((mset_n (by decide)).trans (mset_n (by decide))))))), show (mc (mc (mc (mset (mset (mset μ 0 0 (nI 0)) 0 17 (m_asks_f17 (μ 1) (μ 5) (μ 10) (μ 0 24))) 0 24 (m_asks_f24 (μ 1) (μ 5) (μ 10) (μ 0 24))) 5 (m_asks_c5 (μ 1) (μ 5) (μ 10) (μ 0 24))) 6 a6_30) 10 (m_asks_c10 (μ 1) (μ 5) (μ 10) (μ 0 24))) 5 = m_asks_c5 (μ 1) (μ 5) (μ 10) (μ 0 24) from ((mc_n (by decide)).trans ((mc_n (by decide)).trans mc_s)), show (mc (mc (mc (mset (mset (mset μ 0 0 (nI 0)) 0 17 (m_asks_f17 (μ 1) (μ 5) (μ 10) (μ 0 24))) 0 24 (m_asks_f24 (μ 1) (μ 5) (μ 10) (μ 0 24))) 5 (m_asks_c5 (μ 1) (μ 5) (μ 10) (μ 0 24))) 6 a6_30) 10 (m_asks_c10 (μ 1) (μ 5) (μ 10) (μ 0 24))) 6 = a6_30 from ((mc_n (by decide)).trans mc_s), show (mc (mc (mc (mset (mset (mset μ 0 0 (nI 0)) 0 17 (m_asks_f17 (μ 1) (μ 5) (μ 10) (μ 0 24))) 0 24 (m_asks_f24 (μ 1) (μ 5) (μ 10) (μ 0 24))) 5 (m_asks_c5 (μ 1) (μ 5) (μ 10) (μ 0 24))) 6 a6_30) 10 (m_asks_c10 (μ 1) (μ 5) (μ 10) (μ 0 24))) 0 15 = μ 0 15 from ((congrFun (mc_n (by decide)) 15).trans ((congrFun (mc_n (by decide)) 15).trans ((congrFun (mc_n (by decide)) 15).trans ((rd_skip (by decide)).trans ((rd_skip (by decide)).trans (rd_skip (by decide))))))), show (mc (mc (mc (mset (mset (mset μ 0 0 (nI 0)) 0 17 (m_asks_f17 (μ 1) (μ 5) (μ 10) (μ 0 24))) 0 24 (m_asks_f24 (μ 1) (μ 5) (μ 10) (μ 0 24))) 5 (m_asks_c5 (μ 1) (μ 5) (μ 10) (μ 0 24))) 6 a6_30) 10 (m_asks_c10 (μ 1) (μ 5) (μ 10) (μ 0 24))) 0 16 = μ 0 16 from ((congrFun (mc_n (by decide)) 16).trans ((congrFun (mc_n (by decide)) 16).trans ((congrFun (mc_n (by decide)) 16).trans ((rd_skip (by decide)).trans ((rd_skip (by decide)).trans (rd_skip (by decide))))))), show (mc (mc (mc (mset (mset (mset μ 0 0 (nI 0)) 0 17 (m_asks_f17 (μ 1) (μ 5) (μ 10) (μ 0 24))) 0 24 (m_asks_f24 (μ 1) (μ 5) (μ 10) (μ 0 24))) 5 (m_asks_c5 (μ 1) (μ 5) (μ 10) (μ 0 24))) 6 a6_30) 10 (m_asks_c10 (μ 1) (μ 5) (μ 10) (μ 0 24))) 0 17 = m_asks_f17 (μ 1) (μ 5) (μ 10) (μ 0 24) from ((congrFun (mc_n (by decide)) 17).trans ((congrFun (mc_n (by decide)) 17).trans ((congrFun (mc_n (by decide)) 17).trans ((rd_skip (by decide)).trans rd_hit))))] at m; exact m.eq ((cc_n (by decide)).trans (congrArg (fun m_ => mc m_ 10 _) cc_s))) ?_
          have J17 : ∀ (y1 : Int32), y1 = (if m_holdsLine (μ 1) (m_asks_c5 (μ 1) (μ 5) (μ 10) (μ 0 24)) a6_30 (μ 0 15) (μ 0 16) (m_asks_f17 (μ 1) (μ 5) (μ 10) (μ 0 24)) (4 + i3_30) 0 = true then μ 1 (1161 + i3_30) else nI 0) → X G F R Q 4 67 [(3, .int (nI i3_30)), (0, .ref (adr 0)), (1, .int story)] [.int y1, .int v2_30] (MS G adr h0 ((mc (mc (mc (mset (mset (mset μ 0 0 (nI 0)) 0 17 (m_asks_f17 (μ 1) (μ 5) (μ 10) (μ 0 24))) 0 24 (m_asks_f24 (μ 1) (μ 5) (μ 10) (μ 0 24))) 5 (m_asks_c5 (μ 1) (μ 5) (μ 10) (μ 0 24))) 6 (m_holdsLine_c6 (μ 1) (m_asks_c5 (μ 1) (μ 5) (μ 10) (μ 0 24)) a6_30 (μ 0 15) (μ 0 16) (m_asks_f17 (μ 1) (μ 5) (μ 10) (μ 0 24)) (4 + i3_30) 0)) 10 (m_asks_c10 (μ 1) (μ 5) (μ 10) (μ 0 24))))) 0 0 := by
            intro y1 e18
            subst e18
            refine x_iadd O dX6_odds_67 ?_
            refine x_istore_n O [(2, .int (v2_30 + ((if m_holdsLine (μ 1) (m_asks_c5 (μ 1) (μ 5) (μ 10) (μ 0 24)) a6_30 (μ 0 15) (μ 0 16) (m_asks_f17 (μ 1) (μ 5) (μ 10) (μ 0 24)) (4 + i3_30) 0 = true then μ 1 (1161 + i3_30) else nI 0)))), (3, .int (nI i3_30)), (0, .ref (adr 0)), (1, .int story)] dX6_odds_68 rfl rfl rfl ?_
            refine x_iincN O 1 [(3, .int (nI (i3_30 + 1))), (2, .int (v2_30 + ((if m_holdsLine (μ 1) (m_asks_c5 (μ 1) (μ 5) (μ 10) (μ 0 24)) a6_30 (μ 0 15) (μ 0 16) (m_asks_f17 (μ 1) (μ 5) (μ 10) (μ 0 24)) (4 + i3_30) 0 = true then μ 1 (1161 + i3_30) else nI 0)))), (0, .ref (adr 0)), (1, .int story)] dX6_odds_69 rfl rfl rfl ?_
            refine x_goto O 30 dX6_odds_72 (by decide) ?_
            obtain ⟨c2_, rfl⟩ : ∃ z, cc_ = z + 1 := ⟨cc_ - 1, by omega⟩
            have hs_ : (fun i s => m_odds_b30 (μ 1) (μ 5) (μ 6) (μ 10) (μ 0 15) (μ 0 16) (μ 0 17) (μ 0 24) i s.1 s.2) i3_30 (v2_30, a6_30) = (v2_30 + ((if m_holdsLine (μ 1) (m_asks_c5 (μ 1) (μ 5) (μ 10) (μ 0 24)) a6_30 (μ 0 15) (μ 0 16) (m_asks_f17 (μ 1) (μ 5) (μ 10) (μ 0 24)) (4 + i3_30) 0 = true then μ 1 (1161 + i3_30) else nI 0)), m_holdsLine_c6 (μ 1) (m_asks_c5 (μ 1) (μ 5) (μ 10) (μ 0 24)) a6_30 (μ 0 15) (μ 0 16) (m_asks_f17 (μ 1) (μ 5) (μ 10) (μ 0 24)) (4 + i3_30) 0) := by show m_odds_b30 (μ 1) (μ 5) (μ 6) (μ 10) (μ 0 15) (μ 0 16) (μ 0 17) (μ 0 24) i3_30 v2_30 a6_30 = _; unfold m_odds_b30; rfl
            exact IH_ c2_ (by omega) _ _ _ (by omega) (by omega) (fun y0 y1 hy_ => K_ y0 y1 (hy_.trans (fr_step hs_).symm))
          refine x_ifeqB O 66 dX6_odds_50 (by decide) (fun c50 => ?_) (fun c50 => ?_)
          · refine x_sub [0, 2, 3] (L' := [(3, .int (nI i3_30)), (0, .ref (adr 0)), (1, .int story)]) rfl ?_
            refine x_iconst O (nI 0) dX6_odds_66 (by decide) ?_
            exact J17 (nI 0) (by rw [if_neg c50])
          · refine x_sub [0, 2, 3] (L' := [(3, .int (nI i3_30)), (0, .ref (adr 0)), (1, .int story)]) rfl ?_
            refine x_aload_n O 1 dX6_odds_53 rfl rfl ?_
            refine x_mget O k_X6_13_6 (mg_1 _ _) dX6_odds_54 ?_
            refine x_sipush O (nI 1161) dX6_odds_57 (by decide) ?_
            refine x_iload_n O 0 dX6_odds_60 rfl rfl ?_
            refine x_iaddN O dX6_odds_61 ?_
            refine x_ialdN O MS.c1 (by omega) rfl dX6_odds_62 ?_
            refine x_top (v' := μ 1 (1161 + i3_30)) ((congrFun (mc_n (by decide)) (1161 + i3_30)).trans ((congrFun (mc_n (by decide)) (1161 + i3_30)).trans ((congrFun (mc_n (by decide)) (1161 + i3_30)).trans ((congrFun (mset_n (by decide)) (1161 + i3_30)).trans ((congrFun (mset_n (by decide)) (1161 + i3_30)).trans (congrFun (mset_n (by decide)) (1161 + i3_30))))))) ?_
            refine x_goto O 67 dX6_odds_63 (by decide) ?_
            exact J17 (μ 1 (1161 + i3_30)) (by rw [if_pos c50])
    refine x_weak (Ω' := MS G adr h0 ((mc (mc (mc (mset (mset (mset μ 0 0 (nI 0)) 0 17 (m_asks_f17 (μ 1) (μ 5) (μ 10) (μ 0 24))) 0 24 (m_asks_f24 (μ 1) (μ 5) (μ 10) (μ 0 24))) 5 (m_asks_c5 (μ 1) (μ 5) (μ 10) (μ 0 24))) 6 (μ 6)) 10 (m_asks_c10 (μ 1) (μ 5) (μ 10) (μ 0 24))))) (fun _ m => m.eq ((mc_id (c := 6) (f := μ 6) (by rfl)).symm.trans (cc_n (by decide)))) ?_
    refine LOOP30 (tn (μ 1 6)) 0 (nI 0) (μ 6) rfl (by omega) (fun y0 y1 hy_30 => ?_)
    obtain rfl : y0 = (fr (fun i s => m_odds_b30 (μ 1) (μ 5) (μ 6) (μ 10) (μ 0 15) (μ 0 16) (μ 0 17) (μ 0 24) i s.1 s.2) (tn (μ 1 6)) 0 (nI 0, μ 6)).1 := congrArg (fun z => z.1) hy_30
    obtain rfl : y1 = (fr (fun i s => m_odds_b30 (μ 1) (μ 5) (μ 6) (μ 10) (μ 0 15) (μ 0 16) (μ 0 17) (μ 0 24) i s.1 s.2) (tn (μ 1 6)) 0 (nI 0, μ 6)).2 := congrArg (fun z => z.2) hy_30
    refine x_aload_n O 1 dX6_odds_75 rfl rfl ?_
    refine x_iconst O (nI 4) dX6_odds_76 (by decide) ?_
    refine x_iload_n O 2 dX6_odds_77 rfl rfl ?_
    refine x_top (v' := nI (tn story)) ((none_nn (w := 6) (by decide) hI c14).1) ?_
    refine x_iaddN O dX6_odds_78 ?_
    refine x_iconst O (nI 0) dX6_odds_79 (by decide) ?_
    refine x_cV O 2 (c_m_holdsLine (μ := (mc (mc (mc (mset (mset (mset μ 0 0 (nI 0)) 0 17 (m_asks_f17 (μ 1) (μ 5) (μ 10) (μ 0 24))) 0 24 (m_asks_f24 (μ 1) (μ 5) (μ 10) (μ 0 24))) 5 (m_asks_c5 (μ 1) (μ 5) (μ 10) (μ 0 24))) 6 ((fr (fun i s => m_odds_b30 (μ 1) (μ 5) (μ 6) (μ 10) (μ 0 15) (μ 0 16) (μ 0 17) (μ 0 24) i s.1 s.2) (tn (μ 1 6)) 0 (nI 0, μ 6)).2)) 10 (m_asks_c10 (μ 1) (μ 5) (μ 10) (μ 0 24)))) (4 + tn story) 0 ((hT _ (by omega)).2 0 (by rw [hS _ hst]; decide)) (by omega) (by omega)) MS.obj uc6 (lw_V q2016 q2018 qs69 q111 q2019) rfl hd_X6_holdsLine rfl (by rw [RF]; rfl) (by rw [RL]; rfl) ⟨Nat.zero_le _, Nat.zero_le _⟩ rfl rfl dX6_odds_80 ?_
    refine x_top (v' := b2i (m_holdsLine (μ 1) (m_asks_c5 (μ 1) (μ 5) (μ 10) (μ 0 24)) ((fr (fun i s => m_odds_b30 (μ 1) (μ 5) (μ 6) (μ 10) (μ 0 15) (μ 0 16) (μ 0 17) (μ 0 24) i s.1 s.2) (tn (μ 1 6)) 0 (nI 0, μ 6)).2) (μ 0 15) (μ 0 16) (m_asks_f17 (μ 1) (μ 5) (μ 10) (μ 0 24)) (4 + tn story) 0)) (by rw [show (mc (mc (mc (mset (mset (mset μ 0 0 (nI 0)) 0 17 (m_asks_f17 (μ 1) (μ 5) (μ 10) (μ 0 24))) 0 24 (m_asks_f24 (μ 1) (μ 5) (μ 10) (μ 0 24))) 5 (m_asks_c5 (μ 1) (μ 5) (μ 10) (μ 0 24))) 6 ((fr (fun i s => m_odds_b30 (μ 1) (μ 5) (μ 6) (μ 10) (μ 0 15) (μ 0 16) (μ 0 17) (μ 0 24) i s.1 s.2) (tn (μ 1 6)) 0 (nI 0, μ 6)).2)) 10 (m_asks_c10 (μ 1) (μ 5) (μ 10) (μ 0 24))) 1 = μ 1 from ((mc_n (by decide)).trans ((mc_n (by decide)).trans ((mc_n (by decide)).trans ((mset_n (by decide)).trans ((mset_n (by decide)).trans (mset_n (by decide))))))), show (mc (mc (mc (mset (mset (mset μ 0 0 (nI 0)) 0 17 (m_asks_f17 (μ 1) (μ 5) (μ 10) (μ 0 24))) 0 24 (m_asks_f24 (μ 1) (μ 5) (μ 10) (μ 0 24))) 5 (m_asks_c5 (μ 1) (μ 5) (μ 10) (μ 0 24))) 6 ((fr (fun i s => m_odds_b30 (μ 1) (μ 5) (μ 6) (μ 10) (μ 0 15) (μ 0 16) (μ 0 17) (μ 0 24) i s.1 s.2) (tn (μ 1 6)) 0 (nI 0, μ 6)).2)) 10 (m_asks_c10 (μ 1) (μ 5) (μ 10) (μ 0 24))) 5 = m_asks_c5 (μ 1) (μ 5) (μ 10) (μ 0 24) from ((mc_n (by decide)).trans ((mc_n (by decide)).trans mc_s)), show (mc (mc (mc (mset (mset (mset μ 0 0 (nI 0)) 0 17 (m_asks_f17 (μ 1) (μ 5) (μ 10) (μ 0 24))) 0 24 (m_asks_f24 (μ 1) (μ 5) (μ 10) (μ 0 24))) 5 (m_asks_c5 (μ 1) (μ 5) (μ 10) (μ 0 24))) 6 ((fr (fun i s => m_odds_b30 (μ 1) (μ 5) (μ 6) (μ 10) (μ 0 15) (μ 0 16) (μ 0 17) (μ 0 24) i s.1 s.2) (tn (μ 1 6)) 0 (nI 0, μ 6)).2)) 10 (m_asks_c10 (μ 1) (μ 5) (μ 10) (μ 0 24))) 6 = (fr (fun i s => m_odds_b30 (μ 1) (μ 5) (μ 6) (μ 10) (μ 0 15) (μ 0 16) (μ 0 17) (μ 0 24) i s.1 s.2) (tn (μ 1 6)) 0 (nI 0, μ 6)).2 from ((mc_n (by decide)).trans mc_s), show (mc (mc (mc (mset (mset (mset μ 0 0 (nI 0)) 0 17 (m_asks_f17 (μ 1) (μ 5) (μ 10) (μ 0 24))) 0 24 (m_asks_f24 (μ 1) (μ 5) (μ 10) (μ 0 24))) 5 (m_asks_c5 (μ 1) (μ 5) (μ 10) (μ 0 24))) 6 ((fr (fun i s => m_odds_b30 (μ 1) (μ 5) (μ 6) (μ 10) (μ 0 15) (μ 0 16) (μ 0 17) (μ 0 24) i s.1 s.2) (tn (μ 1 6)) 0 (nI 0, μ 6)).2)) 10 (m_asks_c10 (μ 1) (μ 5) (μ 10) (μ 0 24))) 0 15 = μ 0 15 from ((congrFun (mc_n (by decide)) 15).trans ((congrFun (mc_n (by decide)) 15).trans ((congrFun (mc_n (by decide)) 15).trans ((rd_skip (by decide)).trans ((rd_skip (by decide)).trans (rd_skip (by decide))))))), show (mc (mc (mc (mset (mset (mset μ 0 0 (nI 0)) 0 17 (m_asks_f17 (μ 1) (μ 5) (μ 10) (μ 0 24))) 0 24 (m_asks_f24 (μ 1) (μ 5) (μ 10) (μ 0 24))) 5 (m_asks_c5 (μ 1) (μ 5) (μ 10) (μ 0 24))) 6 ((fr (fun i s => m_odds_b30 (μ 1) (μ 5) (μ 6) (μ 10) (μ 0 15) (μ 0 16) (μ 0 17) (μ 0 24) i s.1 s.2) (tn (μ 1 6)) 0 (nI 0, μ 6)).2)) 10 (m_asks_c10 (μ 1) (μ 5) (μ 10) (μ 0 24))) 0 16 = μ 0 16 from ((congrFun (mc_n (by decide)) 16).trans ((congrFun (mc_n (by decide)) 16).trans ((congrFun (mc_n (by decide)) 16).trans ((rd_skip (by decide)).trans ((rd_skip (by decide)).trans (rd_skip (by decide))))))), show (mc (mc (mc (mset (mset (mset μ 0 0 (nI 0)) 0 17 (m_asks_f17 (μ 1) (μ 5) (μ 10) (μ 0 24))) 0 24 (m_asks_f24 (μ 1) (μ 5) (μ 10) (μ 0 24))) 5 (m_asks_c5 (μ 1) (μ 5) (μ 10) (μ 0 24))) 6 ((fr (fun i s => m_odds_b30 (μ 1) (μ 5) (μ 6) (μ 10) (μ 0 15) (μ 0 16) (μ 0 17) (μ 0 24) i s.1 s.2) (tn (μ 1 6)) 0 (nI 0, μ 6)).2)) 10 (m_asks_c10 (μ 1) (μ 5) (μ 10) (μ 0 24))) 0 17 = m_asks_f17 (μ 1) (μ 5) (μ 10) (μ 0 24) from ((congrFun (mc_n (by decide)) 17).trans ((congrFun (mc_n (by decide)) 17).trans ((congrFun (mc_n (by decide)) 17).trans ((rd_skip (by decide)).trans rd_hit))))]) ?_
    refine x_weak (Ω' := MS G adr h0 (mc (mc (mc (mset (mset (mset μ 0 0 (nI 0)) 0 17 (m_asks_f17 (μ 1) (μ 5) (μ 10) (μ 0 24))) 0 24 (m_asks_f24 (μ 1) (μ 5) (μ 10) (μ 0 24))) 5 (m_asks_c5 (μ 1) (μ 5) (μ 10) (μ 0 24))) 6 (m_holdsLine_c6 (μ 1) (m_asks_c5 (μ 1) (μ 5) (μ 10) (μ 0 24)) ((fr (fun i s => m_odds_b30 (μ 1) (μ 5) (μ 6) (μ 10) (μ 0 15) (μ 0 16) (μ 0 17) (μ 0 24) i s.1 s.2) (tn (μ 1 6)) 0 (nI 0, μ 6)).2) (μ 0 15) (μ 0 16) (m_asks_f17 (μ 1) (μ 5) (μ 10) (μ 0 24)) (4 + tn story) 0)) 10 (m_asks_c10 (μ 1) (μ 5) (μ 10) (μ 0 24)))) (fun _ m => by rw [show (mc (mc (mc (mset (mset (mset μ 0 0 (nI 0)) 0 17 (m_asks_f17 (μ 1) (μ 5) (μ 10) (μ 0 24))) 0 24 (m_asks_f24 (μ 1) (μ 5) (μ 10) (μ 0 24))) 5 (m_asks_c5 (μ 1) (μ 5) (μ 10) (μ 0 24))) 6 ((fr (fun i s => m_odds_b30 (μ 1) (μ 5) (μ 6) (μ 10) (μ 0 15) (μ 0 16) (μ 0 17) (μ 0 24) i s.1 s.2) (tn (μ 1 6)) 0 (nI 0, μ 6)).2)) 10 (m_asks_c10 (μ 1) (μ 5) (μ 10) (μ 0 24))) 1 = μ 1 from ((mc_n (by decide)).trans ((mc_n (by decide)).trans ((mc_n (by decide)).trans ((mset_n (by decide)).trans ((mset_n (by decide)).trans (mset_n (by decide))))))), show (mc (mc (mc (mset (mset (mset μ 0 0 (nI 0)) 0 17 (m_asks_f17 (μ 1) (μ 5) (μ 10) (μ 0 24))) 0 24 (m_asks_f24 (μ 1) (μ 5) (μ 10) (μ 0 24))) 5 (m_asks_c5 (μ 1) (μ 5) (μ 10) (μ 0 24))) 6 ((fr (fun i s => m_odds_b30 (μ 1) (μ 5) (μ 6) (μ 10) (μ 0 15) (μ 0 16) (μ 0 17) (μ 0 24) i s.1 s.2) (tn (μ 1 6)) 0 (nI 0, μ 6)).2)) 10 (m_asks_c10 (μ 1) (μ 5) (μ 10) (μ 0 24))) 5 = m_asks_c5 (μ 1) (μ 5) (μ 10) (μ 0 24) from ((mc_n (by decide)).trans ((mc_n (by decide)).trans mc_s)), show (mc (mc (mc (mset (mset (mset μ 0 0 (nI 0)) 0 17 (m_asks_f17 (μ 1) (μ 5) (μ 10) (μ 0 24))) 0 24 (m_asks_f24 (μ 1) (μ 5) (μ 10) (μ 0 24))) 5 (m_asks_c5 (μ 1) (μ 5) (μ 10) (μ 0 24))) 6 ((fr (fun i s => m_odds_b30 (μ 1) (μ 5) (μ 6) (μ 10) (μ 0 15) (μ 0 16) (μ 0 17) (μ 0 24) i s.1 s.2) (tn (μ 1 6)) 0 (nI 0, μ 6)).2)) 10 (m_asks_c10 (μ 1) (μ 5) (μ 10) (μ 0 24))) 6 = (fr (fun i s => m_odds_b30 (μ 1) (μ 5) (μ 6) (μ 10) (μ 0 15) (μ 0 16) (μ 0 17) (μ 0 24) i s.1 s.2) (tn (μ 1 6)) 0 (nI 0, μ 6)).2 from ((mc_n (by decide)).trans mc_s), show (mc (mc (mc (mset (mset (mset μ 0 0 (nI 0)) 0 17 (m_asks_f17 (μ 1) (μ 5) (μ 10) (μ 0 24))) 0 24 (m_asks_f24 (μ 1) (μ 5) (μ 10) (μ 0 24))) 5 (m_asks_c5 (μ 1) (μ 5) (μ 10) (μ 0 24))) 6 ((fr (fun i s => m_odds_b30 (μ 1) (μ 5) (μ 6) (μ 10) (μ 0 15) (μ 0 16) (μ 0 17) (μ 0 24) i s.1 s.2) (tn (μ 1 6)) 0 (nI 0, μ 6)).2)) 10 (m_asks_c10 (μ 1) (μ 5) (μ 10) (μ 0 24))) 0 15 = μ 0 15 from ((congrFun (mc_n (by decide)) 15).trans ((congrFun (mc_n (by decide)) 15).trans ((congrFun (mc_n (by decide)) 15).trans ((rd_skip (by decide)).trans ((rd_skip (by decide)).trans (rd_skip (by decide))))))), show (mc (mc (mc (mset (mset (mset μ 0 0 (nI 0)) 0 17 (m_asks_f17 (μ 1) (μ 5) (μ 10) (μ 0 24))) 0 24 (m_asks_f24 (μ 1) (μ 5) (μ 10) (μ 0 24))) 5 (m_asks_c5 (μ 1) (μ 5) (μ 10) (μ 0 24))) 6 ((fr (fun i s => m_odds_b30 (μ 1) (μ 5) (μ 6) (μ 10) (μ 0 15) (μ 0 16) (μ 0 17) (μ 0 24) i s.1 s.2) (tn (μ 1 6)) 0 (nI 0, μ 6)).2)) 10 (m_asks_c10 (μ 1) (μ 5) (μ 10) (μ 0 24))) 0 16 = μ 0 16 from ((congrFun (mc_n (by decide)) 16).trans ((congrFun (mc_n (by decide)) 16).trans ((congrFun (mc_n (by decide)) 16).trans ((rd_skip (by decide)).trans ((rd_skip (by decide)).trans (rd_skip (by decide))))))), show (mc (mc (mc (mset (mset (mset μ 0 0 (nI 0)) 0 17 (m_asks_f17 (μ 1) (μ 5) (μ 10) (μ 0 24))) 0 24 (m_asks_f24 (μ 1) (μ 5) (μ 10) (μ 0 24))) 5 (m_asks_c5 (μ 1) (μ 5) (μ 10) (μ 0 24))) 6 ((fr (fun i s => m_odds_b30 (μ 1) (μ 5) (μ 6) (μ 10) (μ 0 15) (μ 0 16) (μ 0 17) (μ 0 24) i s.1 s.2) (tn (μ 1 6)) 0 (nI 0, μ 6)).2)) 10 (m_asks_c10 (μ 1) (μ 5) (μ 10) (μ 0 24))) 0 17 = m_asks_f17 (μ 1) (μ 5) (μ 10) (μ 0 24) from ((congrFun (mc_n (by decide)) 17).trans ((congrFun (mc_n (by decide)) 17).trans ((congrFun (mc_n (by decide)) 17).trans ((rd_skip (by decide)).trans rd_hit))))] at m; exact m.eq ((cc_n (by decide)).trans (congrArg (fun m_ => mc m_ 10 _) cc_s))) ?_
    have J19 : ∀ (y2 : Int32), y2 = (if m_holdsLine (μ 1) (m_asks_c5 (μ 1) (μ 5) (μ 10) (μ 0 24)) ((fr (fun i s => m_odds_b30 (μ 1) (μ 5) (μ 6) (μ 10) (μ 0 15) (μ 0 16) (μ 0 17) (μ 0 24) i s.1 s.2) (tn (μ 1 6)) 0 (nI 0, μ 6)).2) (μ 0 15) (μ 0 16) (m_asks_f17 (μ 1) (μ 5) (μ 10) (μ 0 24)) (4 + tn story) 0 = true then ((nI 10000) * (μ 1 (1161 + tn story))) / ((fr (fun i s => m_odds_b30 (μ 1) (μ 5) (μ 6) (μ 10) (μ 0 15) (μ 0 16) (μ 0 17) (μ 0 24) i s.1 s.2) (tn (μ 1 6)) 0 (nI 0, μ 6)).1) else nI 0) → X G F R Q 4 106 [(0, .ref (adr 0))] [.int y2] (MS G adr h0 ((mc (mc (mc (mset (mset (mset μ 0 0 (nI 0)) 0 17 (m_asks_f17 (μ 1) (μ 5) (μ 10) (μ 0 24))) 0 24 (m_asks_f24 (μ 1) (μ 5) (μ 10) (μ 0 24))) 5 (m_asks_c5 (μ 1) (μ 5) (μ 10) (μ 0 24))) 6 (m_holdsLine_c6 (μ 1) (m_asks_c5 (μ 1) (μ 5) (μ 10) (μ 0 24)) ((fr (fun i s => m_odds_b30 (μ 1) (μ 5) (μ 6) (μ 10) (μ 0 15) (μ 0 16) (μ 0 17) (μ 0 24) i s.1 s.2) (tn (μ 1 6)) 0 (nI 0, μ 6)).2) (μ 0 15) (μ 0 16) (m_asks_f17 (μ 1) (μ 5) (μ 10) (μ 0 24)) (4 + tn story) 0)) 10 (m_asks_c10 (μ 1) (μ 5) (μ 10) (μ 0 24))))) 0 0 := by
      intro y2 e20
      subst e20
      exact x_iretQ O hQ rfl dX6_odds_106 (fun h m => ⟨by rw [hr10], by rw [hr11, hr12, hr13, hr14, hr15, hr16]; exact m.eq rfl⟩)
    refine x_ifeqB O 105 dX6_odds_83 (by decide) (fun c83 => ?_) (fun c83 => ?_)
    · refine x_sub [1] (L' := [(0, .ref (adr 0))]) rfl ?_
      refine x_iconst O (nI 0) dX6_odds_105 (by decide) ?_
      exact J19 (nI 0) (by rw [if_neg c83])
    · refine x_sipush O (nI 10000) dX6_odds_86 (by decide) ?_
      refine x_aload_n O 1 dX6_odds_89 rfl rfl ?_
      refine x_mget O k_X6_13_6 (mg_1 _ _) dX6_odds_90 ?_
      refine x_sipush O (nI 1161) dX6_odds_93 (by decide) ?_
      refine x_iload_n O 2 dX6_odds_96 rfl rfl ?_
      refine x_top (v' := nI (tn story)) ((none_nn (w := 6) (by decide) hI c14).1) ?_
      refine x_iaddN O dX6_odds_97 ?_
      refine x_ialdN O MS.c1 (by omega) rfl dX6_odds_98 ?_
      refine x_top (v' := μ 1 (1161 + tn story)) ((congrFun (mc_n (by decide)) (1161 + tn story)).trans ((congrFun (mc_n (by decide)) (1161 + tn story)).trans ((congrFun (mc_n (by decide)) (1161 + tn story)).trans ((congrFun (mset_n (by decide)) (1161 + tn story)).trans ((congrFun (mset_n (by decide)) (1161 + tn story)).trans (congrFun (mset_n (by decide)) (1161 + tn story))))))) ?_
      refine x_imul O dX6_odds_99 ?_
      refine x_iload_n O 0 dX6_odds_100 rfl rfl ?_
      refine x_idiv O dX6_odds_101 (hz c83) ?_
      refine x_goto O 106 dX6_odds_102 (by decide) ?_
      refine x_sub [1] (L' := [(0, .ref (adr 0))]) rfl ?_
      exact J19 (((nI 10000) * (μ 1 (1161 + tn story))) / ((fr (fun i s => m_odds_b30 (μ 1) (μ 5) (μ 6) (μ 10) (μ 0 15) (μ 0 16) (μ 0 17) (μ 0 24) i s.1 s.2) (tn (μ 1 6)) 0 (nI 0, μ 6)).1)) (by rw [if_pos c83])
