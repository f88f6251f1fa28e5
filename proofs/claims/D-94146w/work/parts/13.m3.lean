theorem ntf {b : Bool} (h : ¬ (if b = true then false else true) = true) : b = true := by
  cases b with
  | true => rfl
  | false => exact absurd rfl h
theorem nn_lt {x : Int32} {b : Nat} (h0 : nI 0 ≤ x) (h : ¬ nI (b + 1) ≤ x) (hb : b < 100000) : nn x b := by
  have hx : x ≤ nI (b + 1) := Int32.le_of_lt (Int32.not_le.mp h)
  obtain ⟨j, hj, rfl⟩ := nI_of2 (nI_toInt (by omega : b + 1 < 2 ^ 31)) (Int32.not_lt.mpr h0) hx
  have hne : j ≠ b + 1 := fun e => h (by rw [e]; exact Int32.le_refl _)
  exact nn_nI (by omega) (by omega)
theorem ntd {p : Prop} [Decidable p] (h : ¬ (if p then true else false) = true) : ¬ p := fun q => h (by rw [if_pos q])
theorem por1 {b c : Bool} {d : Prop} [Decidable d] {e : Bool} (h : ¬ (if b = true then true else if c = true then true else if d then false else if e = true then true else false) = true) : ¬ b = true := fun q => h (by rw [if_pos q])
def m_machine_s (μ : Mu) (depth : Int32) (wide : Int32) : Mu :=
  (if (if m_in depth (nI 0) (nI 9) = true then (if m_in wide (nI 0) (nI 3) = true then false else true) else true) = true then (mset (mset μ 0 0 (nI 0)) 0 0 (nI 1)) else (mset (mset (mset μ 0 0 (nI 0)) 1 10 depth) 1 11 wide))
set_option maxHeartbeats 4000000 in
set_option maxRecDepth 100000 in
theorem c_m_machine {G : UG} {adr : Nat → Nat} {h0 : Hp} {μ : Mu}  (depth : Int32) (wide : Int32)  : Con G yX6_machine cX6_machine 3 none 1 22 0 0 [.ref (adr 0), .int depth, .int wide] (MS G adr h0 μ) (fun vr_ h' => vr_ = none ∧ MS G adr h0 (m_machine_s μ depth wide) h') nX := by
  refine con_of2 (plainFor_of_name (by decide)) rfl ?_
  intro F R Q RF RL RC RS hQ O hnh hnm
  obtain ⟨resm, hresm⟩ : ∃ z, z = m_machine_s μ depth wide := ⟨_, rfl⟩
  rw [← hresm] at hQ
  unfold m_machine_s at hresm
  refine x_eq (L' := [(0, .ref (adr 0)), (1, .int depth), (2, .int wide)]) ?_ rfl rfl rfl
  refine x_aload_n O 0 dX6_machine_0 rfl rfl ?_
  refine x_iconst O (nI 0) dX6_machine_1 (by decide) ?_
  refine x_mput O p_X6_3_6 (mp_0 _ _ _) rfl dX6_machine_2 ?_
  refine x_aload_n O 0 dX6_machine_5 rfl rfl ?_
  refine x_iload_n O 1 dX6_machine_6 rfl rfl ?_
  refine x_iconst O (nI 0) dX6_machine_7 (by decide) ?_
  refine x_bipush O (nI 9) dX6_machine_8 (by decide) ?_
  refine x_cS O 3 (c_m_in depth (nI 0) (nI 9)) (lw_S q1771 q1772 q111 q1773) hd_X6_in rfl (by rw [RF]; rfl) (by rw [RL]; rfl) ⟨Nat.zero_le _, Nat.zero_le _⟩ rfl rfl dX6_machine_10 ?_
  have J2 : ∀ (y1 : Bool), y1 = (if m_in depth (nI 0) (nI 9) = true then (if m_in wide (nI 0) (nI 3) = true then false else true) else true) → X G F R Q 3 30 [(0, .ref (adr 0)), (1, .int depth), (2, .int wide)] [.int (b2i y1), .ref (adr 0)] (MS G adr h0 ((mset μ 0 0 (nI 0)))) 0 0 := by
    intro y1 e3
    subst e3
    refine x_iconst O (nI 1) dX6_machine_30 (by decide) ?_
    refine x_bc ((if m_in depth (nI 0) (nI 9) = true then (if m_in wide (nI 0) (nI 3) = true then false else true) else true)) (fun c31 => ?_) (fun c31 => ?_)
    · have hr4 := hresm.trans (if_pos c31)
      refine x_eq (st' := [.int (nI 1), .int (b2i true), .ref (adr 0)]) ?_ rfl rfl (by rw [c31] <;> rfl)
      refine x_cV O 2 (c_m_throwsIf_t (μ := (mset μ 0 0 (nI 0))) 1) MS.obj uc6 (lw_V q1774 q1776 qs34 q111 q1777) rfl hd_X6_throwsIf rfl (by rw [RF]; rfl) (by rw [RL]; rfl) ⟨Nat.zero_le _, Nat.zero_le _⟩ rfl rfl dX6_machine_31 ?_
      refine x_top (v' := b2i true) rfl ?_
      refine x_ifeqB O 38 dX6_machine_34 (by decide) (fun c => absurd rfl c) (fun _ => ?_)
      refine x_sub [0] (L' := [(0, .ref (adr 0))]) rfl ?_
      exact x_vretQ O hQ rfl dX6_machine_37 (fun h m => ⟨rfl, by rw [hr4]; exact m⟩)
    · have hr5 := hresm.trans (if_neg c31)
      refine x_eq (st' := [.int (nI 1), .int (b2i false), .ref (adr 0)]) ?_ rfl rfl (by rw [bfalse c31] <;> rfl)
      refine x_cV O 2 (c_m_throwsIf_f (μ := (mset μ 0 0 (nI 0))) 1) MS.obj uc6 (lw_V q1774 q1776 qs34 q111 q1777) rfl hd_X6_throwsIf rfl (by rw [RF]; rfl) (by rw [RL]; rfl) ⟨Nat.zero_le _, Nat.zero_le _⟩ rfl rfl dX6_machine_31 ?_
      refine x_top (v' := b2i false) rfl ?_
      refine x_ifeqB O 38 dX6_machine_34 (by decide) (fun _ => ?_) (fun c => absurd c (by decide))
      refine x_aload_n O 0 dX6_machine_38 rfl rfl ?_
      refine x_mget O k_X6_13_6 (mg_1 _ _) dX6_machine_39 ?_
      refine x_bipush O (nI 10) dX6_machine_42 (by decide) ?_
      refine x_iload_n O 1 dX6_machine_44 rfl rfl ?_
      refine x_mast O 0 MS.c1 rfl rfl rfl (by omega) rfl dX6_machine_45 ?_
      refine x_aload_n O 0 dX6_machine_46 rfl rfl ?_
      refine x_mget O k_X6_13_6 (mg_1 _ _) dX6_machine_47 ?_
      refine x_bipush O (nI 11) dX6_machine_50 (by decide) ?_
      refine x_iload_n O 2 dX6_machine_52 rfl rfl ?_
      refine x_mast O 0 MS.c1 rfl rfl rfl (by omega) rfl dX6_machine_53 ?_
      exact x_vretQ O hQ rfl dX6_machine_54 (fun h m => ⟨rfl, by rw [hr5]; exact m⟩)
  refine x_ifeqB O 25 dX6_machine_13 (by decide) (fun c13 => ?_) (fun c13 => ?_)
  · refine x_iconst O (nI 1) dX6_machine_25 (by decide) ?_
    refine x_goto O 30 dX6_machine_26 (by decide) ?_
    refine x_top (v' := b2i true) (by decide) ?_
    exact J2 true (by rw [if_neg c13])
  · refine x_iload_n O 2 dX6_machine_16 rfl rfl ?_
    refine x_iconst O (nI 0) dX6_machine_17 (by decide) ?_
    refine x_iconst O (nI 3) dX6_machine_18 (by decide) ?_
    refine x_cS O 3 (c_m_in wide (nI 0) (nI 3)) (lw_S q1771 q1772 q111 q1773) hd_X6_in rfl (by rw [RF]; rfl) (by rw [RL]; rfl) ⟨Nat.zero_le _, Nat.zero_le _⟩ rfl rfl dX6_machine_19 ?_
    refine x_ifneB O 29 dX6_machine_22 (by decide) (fun c22 => ?_) (fun c22 => ?_)
    · refine x_iconst O (nI 0) dX6_machine_29 (by decide) ?_
      refine x_top (v' := b2i false) (by decide) ?_
      exact J2 false (by rw [if_pos c13, if_pos c22])
    · refine x_iconst O (nI 1) dX6_machine_25 (by decide) ?_
      refine x_goto O 30 dX6_machine_26 (by decide) ?_
      refine x_top (v' := b2i true) (by decide) ?_
      exact J2 true (by rw [if_pos c13, if_neg c22])

def m_walk (μ : Mu) (row : Int32) : Int32 :=
  (if m_noRow row = true then nI 0 else (nI (m_seenMany ((mset (mset μ 0 0 (nI 0)) 1 12 ((μ 1 12) ||| ((nI 1) <<< (row &&& 31)))) 1))) - (nI (m_seenMany (μ 1))))
def m_walk_s (μ : Mu) (row : Int32) : Mu :=
  (if m_noRow row = true then (mset (mset μ 0 0 (nI 0)) 0 0 (nI 1)) else (mset (mset μ 0 0 (nI 0)) 1 12 ((μ 1 12) ||| ((nI 1) <<< (row &&& 31)))))
set_option maxHeartbeats 4000000 in
set_option maxRecDepth 100000 in
theorem c_m_walk {G : UG} {adr : Nat → Nat} {h0 : Hp} {μ : Mu} (hI : MI (μ 1)) (row : Int32)  : Con G yX6_walk cX6_walk 3 (some .int) 4 86 0 0 [.ref (adr 0), .int row] (MS G adr h0 μ) (fun vr_ h' => vr_ = some (.int (m_walk μ row)) ∧ MS G adr h0 (m_walk_s μ row) h') nX := by
  refine con_of2 (plainFor_of_name (by decide)) rfl ?_
  intro F R Q RF RL RC RS hQ O hnh hnm
  obtain ⟨res, hres⟩ : ∃ z, z = (m_walk μ row) := ⟨_, rfl⟩
  rw [← hres] at hQ
  unfold m_walk at hres
  obtain ⟨resm, hresm⟩ : ∃ z, z = m_walk_s μ row := ⟨_, rfl⟩
  rw [← hresm] at hQ
  unfold m_walk_s at hresm
  refine x_eq (L' := [(0, .ref (adr 0)), (1, .int row)]) ?_ rfl rfl rfl
  refine x_aload_n O 0 dX6_walk_0 rfl rfl ?_
  refine x_iconst O (nI 0) dX6_walk_1 (by decide) ?_
  refine x_mput O p_X6_3_6 (mp_0 _ _ _) rfl dX6_walk_2 ?_
  refine x_aload_n O 0 dX6_walk_5 rfl rfl ?_
  refine x_iload_n O 1 dX6_walk_6 rfl rfl ?_
  refine x_cS O 1 (c_m_noRow row) (lw_S q2086 q2087 q111 q2088) hd_X6_noRow rfl (by rw [RF]; rfl) (by rw [RL]; rfl) ⟨Nat.zero_le _, Nat.zero_le _⟩ rfl rfl dX6_walk_7 ?_
  refine x_iconst O (nI 1) dX6_walk_10 (by decide) ?_
  refine x_bc (m_noRow row) (fun c11 => ?_) (fun c11 => ?_)
  · have hr1 := hres.trans (if_pos c11)
    have hr2 := hresm.trans (if_pos c11)
    refine x_eq (st' := [.int (nI 1), .int (b2i true), .ref (adr 0)]) ?_ rfl rfl (by rw [c11] <;> rfl)
    refine x_cV O 2 (c_m_throwsIf_t (μ := (mset μ 0 0 (nI 0))) 1) MS.obj uc6 (lw_V q1774 q1776 qs34 q111 q1777) rfl hd_X6_throwsIf rfl (by rw [RF]; rfl) (by rw [RL]; rfl) ⟨Nat.zero_le _, Nat.zero_le _⟩ rfl rfl dX6_walk_11 ?_
    refine x_top (v' := b2i true) rfl ?_
    refine x_ifeqB O 19 dX6_walk_14 (by decide) (fun c => absurd rfl c) (fun _ => ?_)
    refine x_sub [0] (L' := [(0, .ref (adr 0))]) rfl ?_
    refine x_iconst O (nI 0) dX6_walk_17 (by decide) ?_
    exact x_iretQ O hQ rfl dX6_walk_18 (fun h m => ⟨by rw [hr1], by rw [hr2]; exact m⟩)
  · have hr3 := hres.trans (if_neg c11)
    have hr4 := hresm.trans (if_neg c11)
    refine x_eq (st' := [.int (nI 1), .int (b2i false), .ref (adr 0)]) ?_ rfl rfl (by rw [bfalse c11] <;> rfl)
    refine x_cV O 2 (c_m_throwsIf_f (μ := (mset μ 0 0 (nI 0))) 1) MS.obj uc6 (lw_V q1774 q1776 qs34 q111 q1777) rfl hd_X6_throwsIf rfl (by rw [RF]; rfl) (by rw [RL]; rfl) ⟨Nat.zero_le _, Nat.zero_le _⟩ rfl rfl dX6_walk_11 ?_
    refine x_top (v' := b2i false) rfl ?_
    refine x_ifeqB O 19 dX6_walk_14 (by decide) (fun _ => ?_) (fun c => absurd c (by decide))
    refine x_aload_n O 0 dX6_walk_19 rfl rfl ?_
    refine x_cV O 0 (c_m_seenMany (μ := (mset μ 0 0 (nI 0))) hI) MS.obj uc6 (lw_V q2089 q2091 qs80 q111 q2092) rfl hd_X6_seenMany rfl (by rw [RF]; rfl) (by rw [RL]; rfl) ⟨Nat.zero_le _, Nat.zero_le _⟩ rfl rfl dX6_walk_20 ?_
    refine x_top (v' := nI (m_seenMany (μ 1))) rfl ?_
    refine x_istore_n O [(2, .int (nI (m_seenMany (μ 1)))), (0, .ref (adr 0)), (1, .int row)] dX6_walk_23 rfl rfl rfl ?_
    refine x_aload_n O 1 dX6_walk_24 rfl rfl ?_
    refine x_mget O k_X6_13_6 (mg_1 _ _) dX6_walk_25 ?_
    refine x_bipush O (nI 12) dX6_walk_28 (by decide) ?_
    refine x_dup2 O dX6_walk_30 rfl rfl ?_
    refine x_ialdN O MS.c1 (by omega) rfl dX6_walk_31 ?_
    refine x_top (v' := μ 1 12) (rd_oth (by decide)) ?_
    refine x_iconst O (nI 1) dX6_walk_32 (by decide) ?_
    refine x_iload_n O 2 dX6_walk_33 rfl rfl ?_
    refine x_ishl O dX6_walk_34 ?_
    refine x_ior O dX6_walk_35 ?_
    refine x_mast O 0 MS.c1 rfl rfl rfl (by omega) rfl dX6_walk_36 ?_
    refine x_aload_n O 1 dX6_walk_37 rfl rfl ?_
    refine x_cV O 0 (c_m_seenMany (μ := (mset (mset μ 0 0 (nI 0)) 1 12 ((μ 1 12) ||| ((nI 1) <<< (row &&& 31))))) (MI_w (by decide) hI)) MS.obj uc6 (lw_V q2089 q2091 qs80 q111 q2092) rfl hd_X6_seenMany rfl (by rw [RF]; rfl) (by rw [RL]; rfl) ⟨Nat.zero_le _, Nat.zero_le _⟩ rfl rfl dX6_walk_38 ?_
    refine x_top (v' := nI (m_seenMany ((mset (mset μ 0 0 (nI 0)) 1 12 ((μ 1 12) ||| ((nI 1) <<< (row &&& 31)))) 1))) rfl ?_
    refine x_iload_n O 0 dX6_walk_41 rfl rfl ?_
    refine x_isub O dX6_walk_42 ?_
    exact x_iretQ O hQ rfl dX6_walk_43 (fun h m => ⟨by rw [hr3], by rw [hr4]; exact m⟩)

def m_later_b33 (W : Nat → Int32) (what : Int32) (i3_33 : Nat) (v2_33 : Nat) : Nat :=
  (if m_isSeen W i3_33 = true then v2_33 + ((if (if what = (nI 2) then (if m_isKind W i3_33 0 = true then (if (m_mayBe W i3_33) = 0 then true else false) else false) else (if (if m_isKind W i3_33 0 = true then (if m_isModern W i3_33 = true then true else false) else false) = true then true else (if what = 0 then (if m_isKind W i3_33 3 = true then (if (m_ofFind W i3_33 3) ≤ (W 8) then false else true) else false) else false))) = true then 1 else 0)) else v2_33)
def m_later (W : Nat → Int32) (what : Int32) : Nat :=
  (if (if m_in what (nI 0) (nI 2) = true then false else true) = true then 0 else (fr (fun i s => m_later_b33 W what i s) (tn (W 3)) 0 0))
def m_later_s (μ : Mu) (what : Int32) : Mu :=
  (if (if m_in what (nI 0) (nI 2) = true then false else true) = true then (mset (mset μ 0 0 (nI 0)) 0 0 (nI 1)) else (mset μ 0 0 (nI 0)))
set_option maxHeartbeats 4000000 in
set_option maxRecDepth 100000 in
theorem c_m_later {G : UG} {adr : Nat → Nat} {h0 : Hp} {μ : Mu} (hI : MI (μ 1)) (what : Int32)  : Con G yX6_later cX6_later 6 (some .int) 4 91 0 0 [.ref (adr 0), .int what] (MS G adr h0 μ) (fun vr_ h' => vr_ = some (.int (nI (m_later (μ 1) what))) ∧ MS G adr h0 (m_later_s μ what) h') nX := by
  refine con_of2 (plainFor_of_name (by decide)) rfl ?_
  intro F R Q RF RL RC RS hQ O hnh hnm
  obtain ⟨res, hres⟩ : ∃ z, z = (m_later (μ 1) what) := ⟨_, rfl⟩
  rw [← hres] at hQ
  unfold m_later at hres
  obtain ⟨resm, hresm⟩ : ∃ z, z = m_later_s μ what := ⟨_, rfl⟩
  rw [← hresm] at hQ
  unfold m_later_s at hresm
  have hb3 : tn (μ 1 3) ≤ 120 := (hI 3 (by decide)).2
  refine x_eq (L' := [(0, .ref (adr 0)), (1, .int what)]) ?_ rfl rfl rfl
  refine x_aload_n O 0 dX6_later_0 rfl rfl ?_
  refine x_iconst O (nI 0) dX6_later_1 (by decide) ?_
  refine x_mput O p_X6_3_6 (mp_0 _ _ _) rfl dX6_later_2 ?_
  refine x_aload_n O 0 dX6_later_5 rfl rfl ?_
  refine x_iload_n O 1 dX6_later_6 rfl rfl ?_
  refine x_iconst O (nI 0) dX6_later_7 (by decide) ?_
  refine x_iconst O (nI 2) dX6_later_8 (by decide) ?_
  refine x_cS O 3 (c_m_in what (nI 0) (nI 2)) (lw_S q1771 q1772 q111 q1773) hd_X6_in rfl (by rw [RF]; rfl) (by rw [RL]; rfl) ⟨Nat.zero_le _, Nat.zero_le _⟩ rfl rfl dX6_later_9 ?_
  have J6 : ∀ (y1 : Bool), y1 = (if m_in what (nI 0) (nI 2) = true then false else true) → X G F R Q 6 20 [(0, .ref (adr 0)), (1, .int what)] [.int (b2i y1), .ref (adr 0)] (MS G adr h0 ((mset μ 0 0 (nI 0)))) 0 0 := by
    intro y1 e7
    subst e7
    refine x_iconst O (nI 1) dX6_later_20 (by decide) ?_
    refine x_bc ((if m_in what (nI 0) (nI 2) = true then false else true)) (fun c21 => ?_) (fun c21 => ?_)
    · have hr8 := hres.trans (if_pos c21)
      have hr9 := hresm.trans (if_pos c21)
      refine x_eq (st' := [.int (nI 1), .int (b2i true), .ref (adr 0)]) ?_ rfl rfl (by rw [c21] <;> rfl)
      refine x_cV O 2 (c_m_throwsIf_t (μ := (mset μ 0 0 (nI 0))) 1) MS.obj uc6 (lw_V q1774 q1776 qs34 q111 q1777) rfl hd_X6_throwsIf rfl (by rw [RF]; rfl) (by rw [RL]; rfl) ⟨Nat.zero_le _, Nat.zero_le _⟩ rfl rfl dX6_later_21 ?_
      refine x_top (v' := b2i true) rfl ?_
      refine x_ifeqB O 29 dX6_later_24 (by decide) (fun c => absurd rfl c) (fun _ => ?_)
      refine x_sub [0] (L' := [(0, .ref (adr 0))]) rfl ?_
      refine x_iconst O (nI 0) dX6_later_27 (by decide) ?_
      exact x_iretQ O hQ rfl dX6_later_28 (fun h m => ⟨by rw [hr8], by rw [hr9]; exact m⟩)
    · have hr10 := hres.trans (if_neg c21)
      have hr11 := hresm.trans (if_neg c21)
      refine x_eq (st' := [.int (nI 1), .int (b2i false), .ref (adr 0)]) ?_ rfl rfl (by rw [bfalse c21] <;> rfl)
      refine x_cV O 2 (c_m_throwsIf_f (μ := (mset μ 0 0 (nI 0))) 1) MS.obj uc6 (lw_V q1774 q1776 qs34 q111 q1777) rfl hd_X6_throwsIf rfl (by rw [RF]; rfl) (by rw [RL]; rfl) ⟨Nat.zero_le _, Nat.zero_le _⟩ rfl rfl dX6_later_21 ?_
      refine x_top (v' := b2i false) rfl ?_
      refine x_ifeqB O 29 dX6_later_24 (by decide) (fun _ => ?_) (fun c => absurd c (by decide))
      refine x_iconst O (nI 0) dX6_later_29 (by decide) ?_
      refine x_istore_n O [(2, .int (nI 0)), (0, .ref (adr 0)), (1, .int what)] dX6_later_30 rfl rfl rfl ?_
      refine x_iconst O (nI 0) dX6_later_31 (by decide) ?_
      refine x_istore_n O [(3, .int (nI 0)), (2, .int (nI 0)), (0, .ref (adr 0)), (1, .int what)] dX6_later_32 rfl rfl rfl ?_
      have LOOP33 : ∀ (cc_ : Nat) (i3_33 : Nat) (v2_33 : Nat), cc_ = tn (μ 1 3) - i3_33 → i3_33 < 2147483648 → (∀ (y0 : Nat), y0 = fr (fun i s => m_later_b33 (μ 1) what i s) cc_ i3_33 v2_33 → X G F R Q 6 166 [(2, .int (nI y0)), (0, .ref (adr 0))] [] (MS G adr h0 ((mset μ 0 0 (nI 0)))) 0 0) → X G F R Q 6 33 [(3, .int (nI i3_33)), (2, .int (nI v2_33)), (0, .ref (adr 0)), (1, .int what)] [] (MS G adr h0 ((mset μ 0 0 (nI 0)))) 0 0 := by
        intro cc_
        induction cc_ using Nat.strongRecOn with
        | ind cc_ IH_ =>
          intro i3_33 v2_33 hc_ hb_  K_
          refine x_iload_n O 0 dX6_later_33 rfl rfl ?_
          refine x_aload_n O 2 dX6_later_34 rfl rfl ?_
          refine x_cV O 0 (c_m_finds (μ := (mset μ 0 0 (nI 0)))) MS.obj uc6 (lw_V q2042 q2044 qs74 q111 q2045) rfl hd_X6_finds rfl (by rw [RF]; rfl) (by rw [RL]; rfl) ⟨Nat.zero_le _, Nat.zero_le _⟩ rfl rfl dX6_later_35 ?_
          refine x_top (v' := μ 1 3) (m_finds_u _) ?_
          refine x_top (v' := nI (tn (μ 1 3))) ((hI 3 (by decide)).1) ?_
          refine x_icmpgeN O 166 (by omega) (by omega) dX6_later_38 (by decide) (fun c38 => ?_) (fun c38 => ?_)
          · refine x_sub [1, 2] (L' := [(2, .int (nI v2_33)), (0, .ref (adr 0))]) rfl ?_
            obtain rfl : cc_ = 0 := by omega
            exact K_ _ rfl
          · refine x_aload_n O 2 dX6_later_41 rfl rfl ?_
            refine x_iload_n O 0 dX6_later_42 rfl rfl ?_
            refine x_cV O 1 (c_m_isSeen (μ := (mset μ 0 0 (nI 0))) i3_33 (by omega)) MS.obj uc6 (lw_V q2058 q2060 qs76 q111 q2061) rfl hd_X6_isSeen rfl (by rw [RF]; rfl) (by rw [RL]; rfl) ⟨Nat.zero_le _, Nat.zero_le _⟩ rfl rfl dX6_later_43 ?_
            refine x_top (v' := b2i (m_isSeen (μ 1) i3_33)) rfl ?_
            have J12 : ∀ (y5 : Nat), y5 = (if m_isSeen (μ 1) i3_33 = true then v2_33 + ((if (if what = (nI 2) then (if m_isKind (μ 1) i3_33 0 = true then (if (m_mayBe (μ 1) i3_33) = 0 then true else false) else false) else (if (if m_isKind (μ 1) i3_33 0 = true then (if m_isModern (μ 1) i3_33 = true then true else false) else false) = true then true else (if what = 0 then (if m_isKind (μ 1) i3_33 3 = true then (if (m_ofFind (μ 1) i3_33 3) ≤ (μ 1 8) then false else true) else false) else false))) = true then 1 else 0)) else v2_33) → X G F R Q 6 160 [(2, .int (nI y5)), (3, .int (nI i3_33)), (0, .ref (adr 0)), (1, .int what)] [] (MS G adr h0 ((mset μ 0 0 (nI 0)))) 0 0 := by
              intro y5 e13
              subst e13
              refine x_iincN O 1 [(3, .int (nI (i3_33 + 1))), (2, .int (nI ((if m_isSeen (μ 1) i3_33 = true then v2_33 + ((if (if what = (nI 2) then (if m_isKind (μ 1) i3_33 0 = true then (if (m_mayBe (μ 1) i3_33) = 0 then true else false) else false) else (if (if m_isKind (μ 1) i3_33 0 = true then (if m_isModern (μ 1) i3_33 = true then true else false) else false) = true then true else (if what = 0 then (if m_isKind (μ 1) i3_33 3 = true then (if (m_ofFind (μ 1) i3_33 3) ≤ (μ 1 8) then false else true) else false) else false))) = true then 1 else 0)) else v2_33)))), (0, .ref (adr 0)), (1, .int what)] dX6_later_160 rfl rfl rfl ?_
              refine x_goto O 33 dX6_later_163 (by decide) ?_
              obtain ⟨c2_, rfl⟩ : ∃ z, cc_ = z + 1 := ⟨cc_ - 1, by omega⟩
              have hs_ : (fun i s => m_later_b33 (μ 1) what i s) i3_33 v2_33 = (if m_isSeen (μ 1) i3_33 = true then v2_33 + ((if (if what = (nI 2) then (if m_isKind (μ 1) i3_33 0 = true then (if (m_mayBe (μ 1) i3_33) = 0 then true else false) else false) else (if (if m_isKind (μ 1) i3_33 0 = true then (if m_isModern (μ 1) i3_33 = true then true else false) else false) = true then true else (if what = 0 then (if m_isKind (μ 1) i3_33 3 = true then (if (m_ofFind (μ 1) i3_33 3) ≤ (μ 1 8) then false else true) else false) else false))) = true then 1 else 0)) else v2_33) := by show m_later_b33 (μ 1) what i3_33 v2_33 = _; unfold m_later_b33; rfl
              exact IH_ c2_ (by omega) _ _ (by omega) (by omega) (fun y0 hy_ => K_ y0 (hy_.trans (fr_step hs_).symm))
            refine x_ifneB O 52 dX6_later_46 (by decide) (fun c46 => ?_) (fun c46 => ?_)
            · refine x_aload_n O 2 dX6_later_52 rfl rfl ?_
              refine x_iload_n O 0 dX6_later_53 rfl rfl ?_
              refine x_iconst O (nI 0) dX6_later_54 (by decide) ?_
              refine x_cV O 2 (c_m_isKind (μ := (mset μ 0 0 (nI 0))) i3_33 0 (by omega)) MS.obj uc6 (lw_V q2070 q2072 qs79 q111 q2073) rfl hd_X6_isKind rfl (by rw [RF]; rfl) (by rw [RL]; rfl) ⟨Nat.zero_le _, Nat.zero_le _⟩ rfl rfl dX6_later_55 ?_
              refine x_top (v' := b2i (m_isKind (μ 1) i3_33 0)) rfl ?_
              have J14 : ∀ (y2 : Bool), y2 = (if m_isKind (μ 1) i3_33 0 = true then (if m_isModern (μ 1) i3_33 = true then true else false) else false) → X G F R Q 6 74 [(3, .int (nI i3_33)), (2, .int (nI v2_33)), (0, .ref (adr 0)), (1, .int what)] [.int (b2i y2)] (MS G adr h0 ((mset μ 0 0 (nI 0)))) 0 0 := by
                intro y2 e15
                subst e15
                refine x_istore O [(4, .int (b2i ((if m_isKind (μ 1) i3_33 0 = true then (if m_isModern (μ 1) i3_33 = true then true else false) else false)))), (3, .int (nI i3_33)), (2, .int (nI v2_33)), (0, .ref (adr 0)), (1, .int what)] dX6_later_74 rfl rfl ?_
                refine x_iload_n O 4 dX6_later_76 rfl rfl ?_
                refine x_iconst O (nI 2) dX6_later_77 (by decide) ?_
                have J16 : ∀ (y3 : Bool), y3 = (if what = (nI 2) then (if m_isKind (μ 1) i3_33 0 = true then (if (m_mayBe (μ 1) i3_33) = 0 then true else false) else false) else (if (if m_isKind (μ 1) i3_33 0 = true then (if m_isModern (μ 1) i3_33 = true then true else false) else false) = true then true else (if what = 0 then (if m_isKind (μ 1) i3_33 3 = true then (if (m_ofFind (μ 1) i3_33 3) ≤ (μ 1 8) then false else true) else false) else false))) → X G F R Q 6 145 [(3, .int (nI i3_33)), (2, .int (nI v2_33)), (0, .ref (adr 0)), (1, .int what)] [.int (b2i y3)] (MS G adr h0 ((mset μ 0 0 (nI 0)))) 0 0 := by
                  intro y3 e17
                  subst e17
                  refine x_istore O [(5, .int (b2i ((if what = (nI 2) then (if m_isKind (μ 1) i3_33 0 = true then (if (m_mayBe (μ 1) i3_33) = 0 then true else false) else false) else (if (if m_isKind (μ 1) i3_33 0 = true then (if m_isModern (μ 1) i3_33 = true then true else false) else false) = true then true else (if what = 0 then (if m_isKind (μ 1) i3_33 3 = true then (if (m_ofFind (μ 1) i3_33 3) ≤ (μ 1 8) then false else true) else false) else false)))))), (3, .int (nI i3_33)), (2, .int (nI v2_33)), (0, .ref (adr 0)), (1, .int what)] dX6_later_145 rfl rfl ?_
                  refine x_iload_n O 2 dX6_later_147 rfl rfl ?_
                  refine x_iload O 0 dX6_later_148 rfl ?_
                  have J18 : ∀ (y4 : Nat), y4 = (if (if what = (nI 2) then (if m_isKind (μ 1) i3_33 0 = true then (if (m_mayBe (μ 1) i3_33) = 0 then true else false) else false) else (if (if m_isKind (μ 1) i3_33 0 = true then (if m_isModern (μ 1) i3_33 = true then true else false) else false) = true then true else (if what = 0 then (if m_isKind (μ 1) i3_33 3 = true then (if (m_ofFind (μ 1) i3_33 3) ≤ (μ 1 8) then false else true) else false) else false))) = true then 1 else 0) → X G F R Q 6 158 [(3, .int (nI i3_33)), (0, .ref (adr 0)), (1, .int what)] [.int (nI y4), .int (nI v2_33)] (MS G adr h0 ((mset μ 0 0 (nI 0)))) 0 0 := by
                    intro y4 e19
                    subst e19
                    refine x_iaddN O dX6_later_158 ?_
                    refine x_istore_n O [(2, .int (nI (v2_33 + ((if (if what = (nI 2) then (if m_isKind (μ 1) i3_33 0 = true then (if (m_mayBe (μ 1) i3_33) = 0 then true else false) else false) else (if (if m_isKind (μ 1) i3_33 0 = true then (if m_isModern (μ 1) i3_33 = true then true else false) else false) = true then true else (if what = 0 then (if m_isKind (μ 1) i3_33 3 = true then (if (m_ofFind (μ 1) i3_33 3) ≤ (μ 1 8) then false else true) else false) else false))) = true then 1 else 0))))), (3, .int (nI i3_33)), (0, .ref (adr 0)), (1, .int what)] dX6_later_159 rfl rfl rfl ?_
                    exact J12 (v2_33 + ((if (if what = (nI 2) then (if m_isKind (μ 1) i3_33 0 = true then (if (m_mayBe (μ 1) i3_33) = 0 then true else false) else false) else (if (if m_isKind (μ 1) i3_33 0 = true then (if m_isModern (μ 1) i3_33 = true then true else false) else false) = true then true else (if what = 0 then (if m_isKind (μ 1) i3_33 3 = true then (if (m_ofFind (μ 1) i3_33 3) ≤ (μ 1 8) then false else true) else false) else false))) = true then 1 else 0))) (by rw [if_pos c46])
                  refine x_ifeqB O 157 dX6_later_150 (by decide) (fun c150 => ?_) (fun c150 => ?_)
                  · refine x_sub [1, 3, 4] (L' := [(3, .int (nI i3_33)), (0, .ref (adr 0)), (1, .int what)]) rfl ?_
                    refine x_iconst O (nI 0) dX6_later_157 (by decide) ?_
                    exact J18 0 (by rw [if_neg c150])
                  · refine x_sub [1, 3, 4] (L' := [(3, .int (nI i3_33)), (0, .ref (adr 0)), (1, .int what)]) rfl ?_
                    refine x_iconst O (nI 1) dX6_later_153 (by decide) ?_
                    refine x_goto O 158 dX6_later_154 (by decide) ?_
                    exact J18 1 (by rw [if_pos c150])
                refine x_icmpne O 106 dX6_later_78 (by decide) (fun c78 => ?_) (fun c78 => ?_)
                · refine x_iload O 0 dX6_later_106 rfl ?_
                  refine x_ifneB O 140 dX6_later_108 (by decide) (fun c108 => ?_) (fun c108 => ?_)
                  · refine x_sub [1, 2, 3, 4] (L' := [(3, .int (nI i3_33)), (2, .int (nI v2_33)), (0, .ref (adr 0)), (1, .int what)]) rfl ?_
                    refine x_iconst O (nI 1) dX6_later_140 (by decide) ?_
                    refine x_goto O 145 dX6_later_141 (by decide) ?_
                    refine x_top (v' := b2i true) (by decide) ?_
                    exact J16 true (by rw [if_neg c78, if_pos c108])
                  · refine x_sub [1, 2, 3, 4] (L' := [(3, .int (nI i3_33)), (2, .int (nI v2_33)), (0, .ref (adr 0)), (1, .int what)]) rfl ?_
                    refine x_iload_n O 3 dX6_later_111 rfl rfl ?_
                    refine x_ifne O 144 dX6_later_112 (by decide) (fun c112 => ?_) (fun c112 => ?_)
                    · refine x_iconst O (nI 0) dX6_later_144 (by decide) ?_
                      refine x_top (v' := b2i false) (by decide) ?_
                      exact J16 false (by rw [if_neg c78, if_neg c108, if_neg c112])
                    · refine x_aload_n O 2 dX6_later_115 rfl rfl ?_
                      refine x_iload_n O 0 dX6_later_116 rfl rfl ?_
                      refine x_iconst O (nI 3) dX6_later_117 (by decide) ?_
                      refine x_cV O 2 (c_m_isKind (μ := (mset μ 0 0 (nI 0))) i3_33 3 (by omega)) MS.obj uc6 (lw_V q2070 q2072 qs79 q111 q2073) rfl hd_X6_isKind rfl (by rw [RF]; rfl) (by rw [RL]; rfl) ⟨Nat.zero_le _, Nat.zero_le _⟩ rfl rfl dX6_later_118 ?_
                      refine x_top (v' := b2i (m_isKind (μ 1) i3_33 3)) rfl ?_
                      refine x_ifeqB O 144 dX6_later_121 (by decide) (fun c121 => ?_) (fun c121 => ?_)
                      · refine x_iconst O (nI 0) dX6_later_144 (by decide) ?_
                        refine x_top (v' := b2i false) (by decide) ?_
                        exact J16 false (by rw [if_neg c78, if_neg c108, if_pos c112, if_neg c121])
                      · refine x_aload_n O 2 dX6_later_124 rfl rfl ?_
                        refine x_iload_n O 0 dX6_later_125 rfl rfl ?_
                        refine x_iconst O (nI 3) dX6_later_126 (by decide) ?_
                        refine x_cV O 2 (c_m_ofFind (μ := (mset μ 0 0 (nI 0))) i3_33 3 (by omega) (by omega)) MS.obj uc6 (lw_V q2054 q2056 qs75 q111 q2057) rfl hd_X6_ofFind rfl (by rw [RF]; rfl) (by rw [RL]; rfl) ⟨Nat.zero_le _, Nat.zero_le _⟩ rfl rfl dX6_later_127 ?_
                        refine x_top (v' := m_ofFind (μ 1) i3_33 3) rfl ?_
                        refine x_aload_n O 2 dX6_later_130 rfl rfl ?_
                        refine x_mget O k_X6_13_6 (mg_1 _ _) dX6_later_131 ?_
                        refine x_bipush O (nI 8) dX6_later_134 (by decide) ?_
                        refine x_ialdN O MS.c1 (by omega) rfl dX6_later_136 ?_
                        refine x_top (v' := μ 1 8) (rd_oth (by decide)) ?_
                        refine x_icmple O 144 dX6_later_137 (by decide) (fun c137 => ?_) (fun c137 => ?_)
                        · refine x_iconst O (nI 0) dX6_later_144 (by decide) ?_
                          refine x_top (v' := b2i false) (by decide) ?_
                          exact J16 false (by rw [if_neg c78, if_neg c108, if_pos c112, if_pos c121, if_pos c137])
                        · refine x_iconst O (nI 1) dX6_later_140 (by decide) ?_
                          refine x_goto O 145 dX6_later_141 (by decide) ?_
                          refine x_top (v' := b2i true) (by decide) ?_
                          exact J16 true (by rw [if_neg c78, if_neg c108, if_pos c112, if_pos c121, if_neg c137])
                · refine x_sub [1, 2, 3, 4] (L' := [(3, .int (nI i3_33)), (2, .int (nI v2_33)), (0, .ref (adr 0)), (1, .int what)]) rfl ?_
                  refine x_aload_n O 2 dX6_later_81 rfl rfl ?_
                  refine x_iload_n O 0 dX6_later_82 rfl rfl ?_
                  refine x_iconst O (nI 0) dX6_later_83 (by decide) ?_
                  refine x_cV O 2 (c_m_isKind (μ := (mset μ 0 0 (nI 0))) i3_33 0 (by omega)) MS.obj uc6 (lw_V q2070 q2072 qs79 q111 q2073) rfl hd_X6_isKind rfl (by rw [RF]; rfl) (by rw [RL]; rfl) ⟨Nat.zero_le _, Nat.zero_le _⟩ rfl rfl dX6_later_84 ?_
                  refine x_top (v' := b2i (m_isKind (μ 1) i3_33 0)) rfl ?_
                  refine x_ifeqB O 102 dX6_later_87 (by decide) (fun c87 => ?_) (fun c87 => ?_)
                  · refine x_iconst O (nI 0) dX6_later_102 (by decide) ?_
                    refine x_goto O 145 dX6_later_103 (by decide) ?_
                    refine x_top (v' := b2i false) (by decide) ?_
                    exact J16 false (by rw [if_pos c78, if_neg c87])
                  · refine x_aload_n O 2 dX6_later_90 rfl rfl ?_
                    refine x_iload_n O 0 dX6_later_91 rfl rfl ?_
                    refine x_cV O 1 (c_m_mayBe (μ := (mset μ 0 0 (nI 0))) hI i3_33 (by omega)) MS.obj uc6 (lw_V q2066 q2068 qs78 q111 q2069) rfl hd_X6_mayBe rfl (by rw [RF]; rfl) (by rw [RL]; rfl) ⟨Nat.zero_le _, Nat.zero_le _⟩ rfl rfl dX6_later_92 ?_
                    refine x_top (v' := m_mayBe (μ 1) i3_33) rfl ?_
                    refine x_ifne O 102 dX6_later_95 (by decide) (fun c95 => ?_) (fun c95 => ?_)
                    · refine x_iconst O (nI 0) dX6_later_102 (by decide) ?_
                      refine x_goto O 145 dX6_later_103 (by decide) ?_
                      refine x_top (v' := b2i false) (by decide) ?_
                      exact J16 false (by rw [if_pos c78, if_pos c87, if_neg c95])
                    · refine x_iconst O (nI 1) dX6_later_98 (by decide) ?_
                      refine x_goto O 145 dX6_later_99 (by decide) ?_
                      refine x_top (v' := b2i true) (by decide) ?_
                      exact J16 true (by rw [if_pos c78, if_pos c87, if_pos c95])
              refine x_ifeqB O 73 dX6_later_58 (by decide) (fun c58 => ?_) (fun c58 => ?_)
              · refine x_iconst O (nI 0) dX6_later_73 (by decide) ?_
                refine x_top (v' := b2i false) (by decide) ?_
                exact J14 false (by rw [if_neg c58])
              · refine x_aload_n O 2 dX6_later_61 rfl rfl ?_
                refine x_iload_n O 0 dX6_later_62 rfl rfl ?_
                refine x_cV O 1 (c_m_isModern (μ := (mset μ 0 0 (nI 0))) hI i3_33 (by omega)) MS.obj uc6 (lw_V q2118 q2120 qs83 q111 q2121) rfl hd_X6_isModern rfl (by rw [RF]; rfl) (by rw [RL]; rfl) ⟨Nat.zero_le _, Nat.zero_le _⟩ rfl rfl dX6_later_63 ?_
                refine x_top (v' := b2i (m_isModern (μ 1) i3_33)) rfl ?_
                refine x_ifeqB O 73 dX6_later_66 (by decide) (fun c66 => ?_) (fun c66 => ?_)
                · refine x_iconst O (nI 0) dX6_later_73 (by decide) ?_
                  refine x_top (v' := b2i false) (by decide) ?_
                  exact J14 false (by rw [if_pos c58, if_neg c66])
                · refine x_iconst O (nI 1) dX6_later_69 (by decide) ?_
                  refine x_goto O 74 dX6_later_70 (by decide) ?_
                  refine x_top (v' := b2i true) (by decide) ?_
                  exact J14 true (by rw [if_pos c58, if_pos c66])
            · refine x_goto O 160 dX6_later_49 (by decide) ?_
              refine x_sub [1, 0, 2, 3] rfl ?_
              exact J12 v2_33 (by rw [if_neg c46])
      refine LOOP33 (tn (μ 1 3)) 0 0 rfl (by omega) (fun y0 hy_33 => ?_)
      subst hy_33
      refine x_iload_n O 0 dX6_later_166 rfl rfl ?_
      exact x_iretQ O hQ rfl dX6_later_167 (fun h m => ⟨by rw [hr10], by rw [hr11]; exact m⟩)
  refine x_ifneB O 19 dX6_later_12 (by decide) (fun c12 => ?_) (fun c12 => ?_)
  · refine x_iconst O (nI 0) dX6_later_19 (by decide) ?_
    refine x_top (v' := b2i false) (by decide) ?_
    exact J6 false (by rw [if_pos c12])
  · refine x_iconst O (nI 1) dX6_later_15 (by decide) ?_
    refine x_goto O 20 dX6_later_16 (by decide) ?_
    refine x_top (v' := b2i true) (by decide) ?_
    exact J6 true (by rw [if_neg c12])

def m_look (W : Nat → Int32) (person : Int32) (what : Int32) : Int32 :=
  (if m_none W person 1 = true then nI 0 else (if (if m_in what (nI 0) (nI 7) = true then false else true) = true then nI 0 else (if (nI 6) ≤ what then nI (m_near W (tn person) ((if what = (nI 6) then true else false)) (nI ((if what = (nI 6) then 3 else 2)))) else m_of W (tn person) (tn what))))
def m_look_s (μ : Mu) (person : Int32) (what : Int32) : Mu :=
  (if m_none (μ 1) person 1 = true then (mset (mset μ 0 0 (nI 0)) 0 0 (nI 1)) else (if (if m_in what (nI 0) (nI 7) = true then false else true) = true then (mset (mset μ 0 0 (nI 0)) 0 0 (nI 2)) else (mset μ 0 0 (nI 0))))
set_option maxHeartbeats 4000000 in
set_option maxRecDepth 100000 in
theorem c_m_look {G : UG} {adr : Nat → Nat} {h0 : Hp} {μ : Mu} (hI : MI (μ 1)) (person : Int32) (what : Int32)  : Con G yX6_look cX6_look 3 (some .int) 3 69 0 0 [.ref (adr 0), .int person, .int what] (MS G adr h0 μ) (fun vr_ h' => vr_ = some (.int (m_look (μ 1) person what)) ∧ MS G adr h0 (m_look_s μ person what) h') nX := by
  refine con_of2 (plainFor_of_name (by decide)) rfl ?_
  intro F R Q RF RL RC RS hQ O hnh hnm
  obtain ⟨res, hres⟩ : ∃ z, z = (m_look (μ 1) person what) := ⟨_, rfl⟩
  rw [← hres] at hQ
  unfold m_look at hres
  obtain ⟨resm, hresm⟩ : ∃ z, z = m_look_s μ person what := ⟨_, rfl⟩
  rw [← hresm] at hQ
  unfold m_look_s at hresm
  have hb1 : tn (μ 1 1) ≤ 8 := (hI 1 (by decide)).2
  refine x_eq (L' := [(0, .ref (adr 0)), (1, .int person), (2, .int what)]) ?_ rfl rfl rfl
  refine x_aload_n O 0 dX6_look_0 rfl rfl ?_
  refine x_iconst O (nI 0) dX6_look_1 (by decide) ?_
  refine x_mput O p_X6_3_6 (mp_0 _ _ _) rfl dX6_look_2 ?_
  refine x_aload_n O 0 dX6_look_5 rfl rfl ?_
  refine x_aload_n O 0 dX6_look_6 rfl rfl ?_
  refine x_iload_n O 1 dX6_look_7 rfl rfl ?_
  refine x_iconst O (nI 1) dX6_look_8 (by decide) ?_
  refine x_cV O 2 (c_m_none (μ := (mset μ 0 0 (nI 0))) person 1 (by omega)) MS.obj uc6 (lw_V q1964 q1966 qs59 q111 q1967) rfl hd_X6_none rfl (by rw [RF]; rfl) (by rw [RL]; rfl) ⟨Nat.zero_le _, Nat.zero_le _⟩ rfl rfl dX6_look_9 ?_
  refine x_top (v' := b2i (m_none (μ 1) person 1)) rfl ?_
  refine x_iconst O (nI 1) dX6_look_12 (by decide) ?_
  refine x_bc (m_none (μ 1) person 1) (fun c13 => ?_) (fun c13 => ?_)
  · have hr5 := hres.trans (if_pos c13)
    have hr6 := hresm.trans (if_pos c13)
    refine x_eq (st' := [.int (nI 1), .int (b2i true), .ref (adr 0)]) ?_ rfl rfl (by rw [c13] <;> rfl)
    refine x_cV O 2 (c_m_throwsIf_t (μ := (mset μ 0 0 (nI 0))) 1) MS.obj uc6 (lw_V q1774 q1776 qs34 q111 q1777) rfl hd_X6_throwsIf rfl (by rw [RF]; rfl) (by rw [RL]; rfl) ⟨Nat.zero_le _, Nat.zero_le _⟩ rfl rfl dX6_look_13 ?_
    refine x_top (v' := b2i true) rfl ?_
    refine x_ifneB O 42 dX6_look_16 (by decide) (fun _ => ?_) (fun c => absurd rfl c)
    refine x_sub [0] (L' := [(0, .ref (adr 0))]) rfl ?_
    refine x_iconst O (nI 0) dX6_look_42 (by decide) ?_
    exact x_iretQ O hQ rfl dX6_look_43 (fun h m => ⟨by rw [hr5], by rw [hr6]; exact m⟩)
  · have hr7 := hres.trans (if_neg c13)
    have hr8 := hresm.trans (if_neg c13)
    refine x_eq (st' := [.int (nI 1), .int (b2i false), .ref (adr 0)]) ?_ rfl rfl (by rw [bfalse c13] <;> rfl)
    refine x_cV O 2 (c_m_throwsIf_f (μ := (mset μ 0 0 (nI 0))) 1) MS.obj uc6 (lw_V q1774 q1776 qs34 q111 q1777) rfl hd_X6_throwsIf rfl (by rw [RF]; rfl) (by rw [RL]; rfl) ⟨Nat.zero_le _, Nat.zero_le _⟩ rfl rfl dX6_look_13 ?_
    refine x_top (v' := b2i false) rfl ?_
    refine x_ifneB O 42 dX6_look_16 (by decide) (fun c => absurd c (by decide)) (fun _ => ?_)
    refine x_aload_n O 0 dX6_look_19 rfl rfl ?_
    refine x_iload_n O 2 dX6_look_20 rfl rfl ?_
    refine x_iconst O (nI 0) dX6_look_21 (by decide) ?_
    refine x_bipush O (nI 7) dX6_look_22 (by decide) ?_
    refine x_cS O 3 (c_m_in what (nI 0) (nI 7)) (lw_S q1771 q1772 q111 q1773) hd_X6_in rfl (by rw [RF]; rfl) (by rw [RL]; rfl) ⟨Nat.zero_le _, Nat.zero_le _⟩ rfl rfl dX6_look_24 ?_
    have J9 : ∀ (y1 : Bool), y1 = (if m_in what (nI 0) (nI 7) = true then false else true) → X G F R Q 3 35 [(0, .ref (adr 0)), (1, .int person), (2, .int what)] [.int (b2i y1), .ref (adr 0)] (MS G adr h0 ((mset μ 0 0 (nI 0)))) 0 0 := by
      intro y1 e10
      subst e10
      refine x_iconst O (nI 2) dX6_look_35 (by decide) ?_
      refine x_bc ((if m_in what (nI 0) (nI 7) = true then false else true)) (fun c36 => ?_) (fun c36 => ?_)
      · have hr11 := hr7.trans (if_pos c36)
        have hr12 := hr8.trans (if_pos c36)
        refine x_eq (st' := [.int (nI 2), .int (b2i true), .ref (adr 0)]) ?_ rfl rfl (by rw [c36] <;> rfl)
        refine x_cV O 2 (c_m_throwsIf_t (μ := (mset μ 0 0 (nI 0))) 2) MS.obj uc6 (lw_V q1774 q1776 qs34 q111 q1777) rfl hd_X6_throwsIf rfl (by rw [RF]; rfl) (by rw [RL]; rfl) ⟨Nat.zero_le _, Nat.zero_le _⟩ rfl rfl dX6_look_36 ?_
        refine x_top (v' := b2i true) rfl ?_
        refine x_ifeqB O 44 dX6_look_39 (by decide) (fun c => absurd rfl c) (fun _ => ?_)
        refine x_sub [0] (L' := [(0, .ref (adr 0))]) rfl ?_
        refine x_iconst O (nI 0) dX6_look_42 (by decide) ?_
        exact x_iretQ O hQ rfl dX6_look_43 (fun h m => ⟨by rw [hr11], by rw [hr12]; exact m⟩)
      · have hr13 := hr7.trans (if_neg c36)
        have hr14 := hr8.trans (if_neg c36)
        refine x_eq (st' := [.int (nI 2), .int (b2i false), .ref (adr 0)]) ?_ rfl rfl (by rw [bfalse c36] <;> rfl)
        refine x_cV O 2 (c_m_throwsIf_f (μ := (mset μ 0 0 (nI 0))) 2) MS.obj uc6 (lw_V q1774 q1776 qs34 q111 q1777) rfl hd_X6_throwsIf rfl (by rw [RF]; rfl) (by rw [RL]; rfl) ⟨Nat.zero_le _, Nat.zero_le _⟩ rfl rfl dX6_look_36 ?_
        refine x_top (v' := b2i false) rfl ?_
        refine x_ifeqB O 44 dX6_look_39 (by decide) (fun _ => ?_) (fun c => absurd c (by decide))
        refine x_iload_n O 2 dX6_look_44 rfl rfl ?_
        refine x_bipush O (nI 6) dX6_look_45 (by decide) ?_
        have J15 : ∀ (y4 : Int32), y4 = (if (nI 6) ≤ what then nI (m_near (μ 1) (tn person) ((if what = (nI 6) then true else false)) (nI ((if what = (nI 6) then 3 else 2)))) else m_of (μ 1) (tn person) (tn what)) → X G F R Q 3 86 [(0, .ref (adr 0))] [.int y4] (MS G adr h0 ((mset μ 0 0 (nI 0)))) 0 0 := by
          intro y4 e16
          subst e16
          exact x_iretQ O hQ rfl dX6_look_86 (fun h m => ⟨by rw [hr13], by rw [hr14]; exact m⟩)
        refine x_icmpge O 59 dX6_look_47 (by decide) (fun c47 => ?_) (fun c47 => ?_)
        · refine x_aload_n O 0 dX6_look_59 rfl rfl ?_
          refine x_iload_n O 1 dX6_look_60 rfl rfl ?_
          refine x_top (v' := nI (tn person)) ((none_nn (w := 1) (by decide) hI c13).1) ?_
          refine x_iload_n O 2 dX6_look_61 rfl rfl ?_
          refine x_bipush O (nI 6) dX6_look_62 (by decide) ?_
          have J17 : ∀ (y2 : Bool), y2 = (if what = (nI 6) then true else false) → X G F R Q 3 72 [(0, .ref (adr 0)), (2, .int what)] [.int (b2i y2), .int (nI (tn person)), .ref (adr 0)] (MS G adr h0 ((mset μ 0 0 (nI 0)))) 0 0 := by
            intro y2 e18
            subst e18
            refine x_iload_n O 1 dX6_look_72 rfl rfl ?_
            refine x_bipush O (nI 6) dX6_look_73 (by decide) ?_
            have J19 : ∀ (y3 : Nat), y3 = (if what = (nI 6) then 3 else 2) → X G F R Q 3 83 [(0, .ref (adr 0))] [.int (nI y3), .int (b2i ((if what = (nI 6) then true else false))), .int (nI (tn person)), .ref (adr 0)] (MS G adr h0 ((mset μ 0 0 (nI 0)))) 0 0 := by
              intro y3 e20
              subst e20
              refine x_cV O 3 (c_m_near (μ := (mset μ 0 0 (nI 0))) hI (tn person) ((if what = (nI 6) then true else false)) (nI ((if what = (nI 6) then 3 else 2))) (by have := (none_nn (w := 1) (by decide) hI c13).2; omega)) MS.obj uc6 (lw_V q1980 q1982 qs62 q111 q1983) rfl hd_X6_near rfl (by rw [RF]; rfl) (by rw [RL]; rfl) ⟨Nat.zero_le _, Nat.zero_le _⟩ rfl rfl dX6_look_83 ?_
              refine x_top (v' := nI (m_near (μ 1) (tn person) ((if what = (nI 6) then true else false)) (nI ((if what = (nI 6) then 3 else 2))))) rfl ?_
              exact J15 (nI (m_near (μ 1) (tn person) ((if what = (nI 6) then true else false)) (nI ((if what = (nI 6) then 3 else 2))))) (by rw [if_pos c47])
            refine x_icmpne O 82 dX6_look_75 (by decide) (fun c75 => ?_) (fun c75 => ?_)
            · refine x_sub [0] (L' := [(0, .ref (adr 0))]) rfl ?_
              refine x_iconst O (nI 2) dX6_look_82 (by decide) ?_
              exact J19 2 (by rw [if_neg c75])
            · refine x_sub [0] (L' := [(0, .ref (adr 0))]) rfl ?_
              refine x_iconst O (nI 3) dX6_look_78 (by decide) ?_
              refine x_goto O 83 dX6_look_79 (by decide) ?_
              exact J19 3 (by rw [if_pos c75])
          refine x_icmpne O 71 dX6_look_64 (by decide) (fun c64 => ?_) (fun c64 => ?_)
          · refine x_sub [0, 2] (L' := [(0, .ref (adr 0)), (2, .int what)]) rfl ?_
            refine x_iconst O (nI 0) dX6_look_71 (by decide) ?_
            refine x_top (v' := b2i false) (by decide) ?_
            exact J17 false (by rw [if_neg c64])
          · refine x_sub [0, 2] (L' := [(0, .ref (adr 0)), (2, .int what)]) rfl ?_
            refine x_iconst O (nI 1) dX6_look_67 (by decide) ?_
            refine x_goto O 72 dX6_look_68 (by decide) ?_
            refine x_top (v' := b2i true) (by decide) ?_
            exact J17 true (by rw [if_pos c64])
        · refine x_aload_n O 0 dX6_look_50 rfl rfl ?_
          refine x_iload_n O 1 dX6_look_51 rfl rfl ?_
          refine x_top (v' := nI (tn person)) ((none_nn (w := 1) (by decide) hI c13).1) ?_
          refine x_iload_n O 2 dX6_look_52 rfl rfl ?_
          refine x_top (v' := nI (tn what)) ((nn_lt (b := 5) (in_spec.mp (ntf c36)).1 c47 (by decide)).1) ?_
          refine x_cV O 2 (c_m_of (μ := (mset μ 0 0 (nI 0))) (tn person) (tn what) (by have := (none_nn (w := 1) (by decide) hI c13).2; omega) (by have := (nn_lt (b := 5) (in_spec.mp (ntf c36)).1 c47 (by decide)).2; omega)) MS.obj uc6 (lw_V q1968 q1970 qs60 q111 q1971) rfl hd_X6_of rfl (by rw [RF]; rfl) (by rw [RL]; rfl) ⟨Nat.zero_le _, Nat.zero_le _⟩ rfl rfl dX6_look_53 ?_
          refine x_top (v' := m_of (μ 1) (tn person) (tn what)) rfl ?_
          refine x_goto O 86 dX6_look_56 (by decide) ?_
          refine x_sub [0] (L' := [(0, .ref (adr 0))]) rfl ?_
          exact J15 (m_of (μ 1) (tn person) (tn what)) (by rw [if_neg c47])
    refine x_ifneB O 34 dX6_look_27 (by decide) (fun c27 => ?_) (fun c27 => ?_)
    · refine x_iconst O (nI 0) dX6_look_34 (by decide) ?_
      refine x_top (v' := b2i false) (by decide) ?_
      exact J9 false (by rw [if_pos c27])
    · refine x_iconst O (nI 1) dX6_look_30 (by decide) ?_
      refine x_goto O 35 dX6_look_31 (by decide) ?_
      refine x_top (v' := b2i true) (by decide) ?_
      exact J9 true (by rw [if_neg c27])

def m_other (μ : Mu) (kind : Int32) (cell : Int32) (depth : Int32) (n : Int32) : Int32 :=
  (if m_noCell cell = true then nI 0 else (if (if m_in kind (nI 1) (nI 3) = true then (if m_in depth (nI 0) (nI 9) = true then (if kind = (nI 1) then (if m_in n (nI 0) (nI 1) = true then false else true) else (if kind = (nI 2) then (if m_in n (nI 1) (nI 255) = true then false else true) else (if m_noYear n = true then true else false))) else true) else true) = true then nI 0 else (if (if tn (μ 1 3) = 120 then true else false) = true then nI 0 else ((m_leaves_s ((mset μ 0 0 (nI 0))) kind cell depth n) 1 3) - (nI 1))))
def m_other_s (μ : Mu) (kind : Int32) (cell : Int32) (depth : Int32) (n : Int32) : Mu :=
  (if m_noCell cell = true then (mset (mset μ 0 0 (nI 0)) 0 0 (nI 1)) else (if (if m_in kind (nI 1) (nI 3) = true then (if m_in depth (nI 0) (nI 9) = true then (if kind = (nI 1) then (if m_in n (nI 0) (nI 1) = true then false else true) else (if kind = (nI 2) then (if m_in n (nI 1) (nI 255) = true then false else true) else (if m_noYear n = true then true else false))) else true) else true) = true then (mset (mset μ 0 0 (nI 0)) 0 0 (nI 2)) else (if (if tn (μ 1 3) = 120 then true else false) = true then (mset (mset μ 0 0 (nI 0)) 0 0 (nI 3)) else (m_leaves_s ((mset μ 0 0 (nI 0))) kind cell depth n))))
set_option maxHeartbeats 4000000 in
set_option maxRecDepth 100000 in
theorem c_m_other {G : UG} {adr : Nat → Nat} {h0 : Hp} {μ : Mu} (hI : MI (μ 1)) (kind : Int32) (cell : Int32) (depth : Int32) (n : Int32)  : Con G yX6_other cX6_other 6 (some .int) 2 42 0 0 [.ref (adr 0), .int kind, .int cell, .int depth, .int n] (MS G adr h0 μ) (fun vr_ h' => vr_ = some (.int (m_other μ kind cell depth n)) ∧ MS G adr h0 (m_other_s μ kind cell depth n) h') nX := by
  refine con_of2 (plainFor_of_name (by decide)) rfl ?_
  intro F R Q RF RL RC RS hQ O hnh hnm
  obtain ⟨res, hres⟩ : ∃ z, z = (m_other μ kind cell depth n) := ⟨_, rfl⟩
  rw [← hres] at hQ
  unfold m_other at hres
  obtain ⟨resm, hresm⟩ : ∃ z, z = m_other_s μ kind cell depth n := ⟨_, rfl⟩
  rw [← hresm] at hQ
  unfold m_other_s at hresm
  have hb3 : tn (μ 1 3) ≤ 120 := (hI 3 (by decide)).2
  refine x_eq (L' := [(0, .ref (adr 0)), (1, .int kind), (2, .int cell), (3, .int depth), (4, .int n)]) ?_ rfl rfl rfl
  refine x_aload_n O 0 dX6_other_0 rfl rfl ?_
  refine x_iconst O (nI 0) dX6_other_1 (by decide) ?_
  refine x_mput O p_X6_3_6 (mp_0 _ _ _) rfl dX6_other_2 ?_
  refine x_aload_n O 0 dX6_other_5 rfl rfl ?_
  refine x_iload_n O 2 dX6_other_6 rfl rfl ?_
  refine x_cS O 1 (c_m_noCell cell) (lw_S q1768 q1769 q111 q1770) hd_X6_noCell rfl (by rw [RF]; rfl) (by rw [RL]; rfl) ⟨Nat.zero_le _, Nat.zero_le _⟩ rfl rfl dX6_other_7 ?_
  refine x_iconst O (nI 1) dX6_other_10 (by decide) ?_
  refine x_bc (m_noCell cell) (fun c11 => ?_) (fun c11 => ?_)
  · have hr3 := hres.trans (if_pos c11)
    have hr4 := hresm.trans (if_pos c11)
    refine x_eq (st' := [.int (nI 1), .int (b2i true), .ref (adr 0)]) ?_ rfl rfl (by rw [c11] <;> rfl)
    refine x_cV O 2 (c_m_throwsIf_t (μ := (mset μ 0 0 (nI 0))) 1) MS.obj uc6 (lw_V q1774 q1776 qs34 q111 q1777) rfl hd_X6_throwsIf rfl (by rw [RF]; rfl) (by rw [RL]; rfl) ⟨Nat.zero_le _, Nat.zero_le _⟩ rfl rfl dX6_other_11 ?_
    refine x_top (v' := b2i true) rfl ?_
    refine x_ifeqB O 19 dX6_other_14 (by decide) (fun c => absurd rfl c) (fun _ => ?_)
    refine x_sub [0] (L' := [(0, .ref (adr 0))]) rfl ?_
    refine x_iconst O (nI 0) dX6_other_17 (by decide) ?_
    exact x_iretQ O hQ rfl dX6_other_18 (fun h m => ⟨by rw [hr3], by rw [hr4]; exact m⟩)
  · have hr5 := hres.trans (if_neg c11)
    have hr6 := hresm.trans (if_neg c11)
    refine x_eq (st' := [.int (nI 1), .int (b2i false), .ref (adr 0)]) ?_ rfl rfl (by rw [bfalse c11] <;> rfl)
    refine x_cV O 2 (c_m_throwsIf_f (μ := (mset μ 0 0 (nI 0))) 1) MS.obj uc6 (lw_V q1774 q1776 qs34 q111 q1777) rfl hd_X6_throwsIf rfl (by rw [RF]; rfl) (by rw [RL]; rfl) ⟨Nat.zero_le _, Nat.zero_le _⟩ rfl rfl dX6_other_11 ?_
    refine x_top (v' := b2i false) rfl ?_
    refine x_ifeqB O 19 dX6_other_14 (by decide) (fun _ => ?_) (fun c => absurd c (by decide))
    refine x_iload_n O 1 dX6_other_19 rfl rfl ?_
    refine x_iconst O (nI 1) dX6_other_20 (by decide) ?_
    refine x_iconst O (nI 3) dX6_other_21 (by decide) ?_
    refine x_cS O 3 (c_m_in kind (nI 1) (nI 3)) (lw_S q1771 q1772 q111 q1773) hd_X6_in rfl (by rw [RF]; rfl) (by rw [RL]; rfl) ⟨Nat.zero_le _, Nat.zero_le _⟩ rfl rfl dX6_other_22 ?_
    have J7 : ∀ (y1 : Bool), y1 = (if m_in kind (nI 1) (nI 3) = true then (if m_in depth (nI 0) (nI 9) = true then (if kind = (nI 1) then (if m_in n (nI 0) (nI 1) = true then false else true) else (if kind = (nI 2) then (if m_in n (nI 1) (nI 255) = true then false else true) else (if m_noYear n = true then true else false))) else true) else true) → X G F R Q 6 89 [(0, .ref (adr 0)), (1, .int kind), (2, .int cell), (3, .int depth), (4, .int n)] [.int (b2i y1)] (MS G adr h0 ((mset μ 0 0 (nI 0)))) 0 0 := by
      intro y1 e8
      subst e8
      refine x_istore O [(5, .int (b2i ((if m_in kind (nI 1) (nI 3) = true then (if m_in depth (nI 0) (nI 9) = true then (if kind = (nI 1) then (if m_in n (nI 0) (nI 1) = true then false else true) else (if kind = (nI 2) then (if m_in n (nI 1) (nI 255) = true then false else true) else (if m_noYear n = true then true else false))) else true) else true)))), (0, .ref (adr 0)), (1, .int kind), (2, .int cell), (3, .int depth), (4, .int n)] dX6_other_89 rfl rfl ?_
      refine x_aload_n O 1 dX6_other_91 rfl rfl ?_
      refine x_iload O 0 dX6_other_92 rfl ?_
      refine x_iconst O (nI 2) dX6_other_94 (by decide) ?_
      refine x_bc ((if m_in kind (nI 1) (nI 3) = true then (if m_in depth (nI 0) (nI 9) = true then (if kind = (nI 1) then (if m_in n (nI 0) (nI 1) = true then false else true) else (if kind = (nI 2) then (if m_in n (nI 1) (nI 255) = true then false else true) else (if m_noYear n = true then true else false))) else true) else true)) (fun c95 => ?_) (fun c95 => ?_)
      · have hr9 := hr5.trans (if_pos c95)
        have hr10 := hr6.trans (if_pos c95)
        refine x_eq (st' := [.int (nI 2), .int (b2i true), .ref (adr 0)]) ?_ rfl rfl (by rw [c95] <;> rfl)
        refine x_cV O 2 (c_m_throwsIf_t (μ := (mset μ 0 0 (nI 0))) 2) MS.obj uc6 (lw_V q1774 q1776 qs34 q111 q1777) rfl hd_X6_throwsIf rfl (by rw [RF]; rfl) (by rw [RL]; rfl) ⟨Nat.zero_le _, Nat.zero_le _⟩ rfl rfl dX6_other_95 ?_
        refine x_top (v' := b2i true) rfl ?_
        refine x_ifneB O 123 dX6_other_98 (by decide) (fun _ => ?_) (fun c => absurd rfl c)
        refine x_sub [1] (L' := [(0, .ref (adr 0))]) rfl ?_
        refine x_iconst O (nI 0) dX6_other_123 (by decide) ?_
        exact x_iretQ O hQ rfl dX6_other_124 (fun h m => ⟨by rw [hr9], by rw [hr10]; exact m⟩)
      · have hr11 := hr5.trans (if_neg c95)
        have hr12 := hr6.trans (if_neg c95)
        refine x_eq (st' := [.int (nI 2), .int (b2i false), .ref (adr 0)]) ?_ rfl rfl (by rw [bfalse c95] <;> rfl)
        refine x_cV O 2 (c_m_throwsIf_f (μ := (mset μ 0 0 (nI 0))) 2) MS.obj uc6 (lw_V q1774 q1776 qs34 q111 q1777) rfl hd_X6_throwsIf rfl (by rw [RF]; rfl) (by rw [RL]; rfl) ⟨Nat.zero_le _, Nat.zero_le _⟩ rfl rfl dX6_other_95 ?_
        refine x_top (v' := b2i false) rfl ?_
        refine x_ifneB O 123 dX6_other_98 (by decide) (fun c => absurd c (by decide)) (fun _ => ?_)
        refine x_sub [1, 2, 3, 4, 5] (L' := [(0, .ref (adr 0)), (1, .int kind), (2, .int cell), (3, .int depth), (4, .int n)]) rfl ?_
        refine x_aload_n O 0 dX6_other_101 rfl rfl ?_
        refine x_aload_n O 0 dX6_other_102 rfl rfl ?_
        refine x_cV O 0 (c_m_finds (μ := (mset μ 0 0 (nI 0)))) MS.obj uc6 (lw_V q2042 q2044 qs74 q111 q2045) rfl hd_X6_finds rfl (by rw [RF]; rfl) (by rw [RL]; rfl) ⟨Nat.zero_le _, Nat.zero_le _⟩ rfl rfl dX6_other_103 ?_
        refine x_top (v' := μ 1 3) (m_finds_u _) ?_
        refine x_top (v' := nI (tn (μ 1 3))) ((hI 3 (by decide)).1) ?_
        refine x_bipush O (nI 120) dX6_other_106 (by decide) ?_
        have J13 : ∀ (y2 : Bool), y2 = (if tn (μ 1 3) = 120 then true else false) → X G F R Q 6 116 [(0, .ref (adr 0)), (1, .int kind), (2, .int cell), (3, .int depth), (4, .int n)] [.int (b2i y2), .ref (adr 0)] (MS G adr h0 ((mset μ 0 0 (nI 0)))) 0 0 := by
          intro y2 e14
          subst e14
          refine x_iconst O (nI 3) dX6_other_116 (by decide) ?_
          refine x_bc ((if tn (μ 1 3) = 120 then true else false)) (fun c117 => ?_) (fun c117 => ?_)
          · have hr15 := hr11.trans (if_pos c117)
            have hr16 := hr12.trans (if_pos c117)
            refine x_eq (st' := [.int (nI 3), .int (b2i true), .ref (adr 0)]) ?_ rfl rfl (by rw [c117] <;> rfl)
            refine x_cV O 2 (c_m_throwsIf_t (μ := (mset μ 0 0 (nI 0))) 3) MS.obj uc6 (lw_V q1774 q1776 qs34 q111 q1777) rfl hd_X6_throwsIf rfl (by rw [RF]; rfl) (by rw [RL]; rfl) ⟨Nat.zero_le _, Nat.zero_le _⟩ rfl rfl dX6_other_117 ?_
            refine x_top (v' := b2i true) rfl ?_
            refine x_ifeqB O 125 dX6_other_120 (by decide) (fun c => absurd rfl c) (fun _ => ?_)
            refine x_sub [0] (L' := [(0, .ref (adr 0))]) rfl ?_
            refine x_iconst O (nI 0) dX6_other_123 (by decide) ?_
            exact x_iretQ O hQ rfl dX6_other_124 (fun h m => ⟨by rw [hr15], by rw [hr16]; exact m⟩)
          · have hr17 := hr11.trans (if_neg c117)
            have hr18 := hr12.trans (if_neg c117)
            refine x_eq (st' := [.int (nI 3), .int (b2i false), .ref (adr 0)]) ?_ rfl rfl (by rw [bfalse c117] <;> rfl)
            refine x_cV O 2 (c_m_throwsIf_f (μ := (mset μ 0 0 (nI 0))) 3) MS.obj uc6 (lw_V q1774 q1776 qs34 q111 q1777) rfl hd_X6_throwsIf rfl (by rw [RF]; rfl) (by rw [RL]; rfl) ⟨Nat.zero_le _, Nat.zero_le _⟩ rfl rfl dX6_other_117 ?_
            refine x_top (v' := b2i false) rfl ?_
            refine x_ifeqB O 125 dX6_other_120 (by decide) (fun _ => ?_) (fun c => absurd c (by decide))
            refine x_aload_n O 0 dX6_other_125 rfl rfl ?_
            refine x_iload_n O 1 dX6_other_126 rfl rfl ?_
            refine x_iload_n O 2 dX6_other_127 rfl rfl ?_
            refine x_iload_n O 3 dX6_other_128 rfl rfl ?_
            refine x_iload O 4 dX6_other_129 rfl ?_
            refine x_cV O 4 (c_m_leaves (μ := (mset μ 0 0 (nI 0))) hI kind cell depth n) MS.obj uc6 (lw_V q2028 q2030 qs72 q111 q2031) rfl hd_X6_leaves rfl (by rw [RF]; rfl) (by rw [RL]; rfl) ⟨Nat.zero_le _, Nat.zero_le _⟩ rfl rfl dX6_other_131 ?_
            refine x_aload_n O 0 dX6_other_134 rfl rfl ?_
            refine x_cV O 0 (c_m_finds (μ := (m_leaves_s ((mset μ 0 0 (nI 0))) kind cell depth n))) MS.obj uc6 (lw_V q2042 q2044 qs74 q111 q2045) rfl hd_X6_finds rfl (by rw [RF]; rfl) (by rw [RL]; rfl) ⟨Nat.zero_le _, Nat.zero_le _⟩ rfl rfl dX6_other_135 ?_
            refine x_top (v' := (m_leaves_s ((mset μ 0 0 (nI 0))) kind cell depth n) 1 3) (m_finds_u _) ?_
            refine x_iconst O (nI 1) dX6_other_138 (by decide) ?_
            refine x_isub O dX6_other_139 ?_
            exact x_iretQ O hQ rfl dX6_other_140 (fun h m => ⟨by rw [hr17], by rw [hr18]; exact m⟩)
        refine x_icmpneN O 115 (by omega) (by omega) dX6_other_108 (by decide) (fun c108 => ?_) (fun c108 => ?_)
        · refine x_iconst O (nI 0) dX6_other_115 (by decide) ?_
          refine x_top (v' := b2i false) (by decide) ?_
          exact J13 false (by rw [if_neg c108])
        · refine x_iconst O (nI 1) dX6_other_111 (by decide) ?_
          refine x_goto O 116 dX6_other_112 (by decide) ?_
          refine x_top (v' := b2i true) (by decide) ?_
          exact J13 true (by rw [if_pos c108])
    refine x_ifeqB O 84 dX6_other_25 (by decide) (fun c25 => ?_) (fun c25 => ?_)
    · refine x_iconst O (nI 1) dX6_other_84 (by decide) ?_
      refine x_goto O 89 dX6_other_85 (by decide) ?_
      refine x_top (v' := b2i true) (by decide) ?_
      exact J7 true (by rw [if_neg c25])
    · refine x_iload_n O 3 dX6_other_28 rfl rfl ?_
      refine x_iconst O (nI 0) dX6_other_29 (by decide) ?_
      refine x_bipush O (nI 9) dX6_other_30 (by decide) ?_
      refine x_cS O 3 (c_m_in depth (nI 0) (nI 9)) (lw_S q1771 q1772 q111 q1773) hd_X6_in rfl (by rw [RF]; rfl) (by rw [RL]; rfl) ⟨Nat.zero_le _, Nat.zero_le _⟩ rfl rfl dX6_other_32 ?_
      refine x_ifeqB O 84 dX6_other_35 (by decide) (fun c35 => ?_) (fun c35 => ?_)
      · refine x_iconst O (nI 1) dX6_other_84 (by decide) ?_
        refine x_goto O 89 dX6_other_85 (by decide) ?_
        refine x_top (v' := b2i true) (by decide) ?_
        exact J7 true (by rw [if_pos c25, if_neg c35])
      · refine x_iload_n O 1 dX6_other_38 rfl rfl ?_
        refine x_iconst O (nI 1) dX6_other_39 (by decide) ?_
        refine x_icmpne O 56 dX6_other_40 (by decide) (fun c40 => ?_) (fun c40 => ?_)
        · refine x_iload_n O 1 dX6_other_56 rfl rfl ?_
          refine x_iconst O (nI 2) dX6_other_57 (by decide) ?_
          refine x_icmpne O 76 dX6_other_58 (by decide) (fun c58 => ?_) (fun c58 => ?_)
          · refine x_iload O 4 dX6_other_76 rfl ?_
            refine x_cS O 1 (c_m_noYear n) (lw_S q1807 q1808 q111 q1809) hd_X6_noYear rfl (by rw [RF]; rfl) (by rw [RL]; rfl) ⟨Nat.zero_le _, Nat.zero_le _⟩ rfl rfl dX6_other_78 ?_
            refine x_ifeqB O 88 dX6_other_81 (by decide) (fun c81 => ?_) (fun c81 => ?_)
            · refine x_iconst O (nI 0) dX6_other_88 (by decide) ?_
              refine x_top (v' := b2i false) (by decide) ?_
              exact J7 false (by rw [if_pos c25, if_pos c35, if_neg c40, if_neg c58, if_neg c81])
            · refine x_iconst O (nI 1) dX6_other_84 (by decide) ?_
              refine x_goto O 89 dX6_other_85 (by decide) ?_
              refine x_top (v' := b2i true) (by decide) ?_
              exact J7 true (by rw [if_pos c25, if_pos c35, if_neg c40, if_neg c58, if_pos c81])
          · refine x_iload O 4 dX6_other_61 rfl ?_
            refine x_iconst O (nI 1) dX6_other_63 (by decide) ?_
            refine x_sipush O (nI 255) dX6_other_64 (by decide) ?_
            refine x_cS O 3 (c_m_in n (nI 1) (nI 255)) (lw_S q1771 q1772 q111 q1773) hd_X6_in rfl (by rw [RF]; rfl) (by rw [RL]; rfl) ⟨Nat.zero_le _, Nat.zero_le _⟩ rfl rfl dX6_other_67 ?_
            refine x_ifneB O 88 dX6_other_70 (by decide) (fun c70 => ?_) (fun c70 => ?_)
            · refine x_iconst O (nI 0) dX6_other_88 (by decide) ?_
              refine x_top (v' := b2i false) (by decide) ?_
              exact J7 false (by rw [if_pos c25, if_pos c35, if_neg c40, if_pos c58, if_pos c70])
            · refine x_goto O 84 dX6_other_73 (by decide) ?_
              refine x_iconst O (nI 1) dX6_other_84 (by decide) ?_
              refine x_goto O 89 dX6_other_85 (by decide) ?_
              refine x_top (v' := b2i true) (by decide) ?_
              exact J7 true (by rw [if_pos c25, if_pos c35, if_neg c40, if_pos c58, if_neg c70])
        · refine x_iload O 4 dX6_other_43 rfl ?_
          refine x_iconst O (nI 0) dX6_other_45 (by decide) ?_
          refine x_iconst O (nI 1) dX6_other_46 (by decide) ?_
          refine x_cS O 3 (c_m_in n (nI 0) (nI 1)) (lw_S q1771 q1772 q111 q1773) hd_X6_in rfl (by rw [RF]; rfl) (by rw [RL]; rfl) ⟨Nat.zero_le _, Nat.zero_le _⟩ rfl rfl dX6_other_47 ?_
          refine x_ifneB O 88 dX6_other_50 (by decide) (fun c50 => ?_) (fun c50 => ?_)
          · refine x_iconst O (nI 0) dX6_other_88 (by decide) ?_
            refine x_top (v' := b2i false) (by decide) ?_
            exact J7 false (by rw [if_pos c25, if_pos c35, if_pos c40, if_pos c50])
          · refine x_goto O 84 dX6_other_53 (by decide) ?_
            refine x_iconst O (nI 1) dX6_other_84 (by decide) ?_
            refine x_goto O 89 dX6_other_85 (by decide) ?_
            refine x_top (v' := b2i true) (by decide) ?_
            exact J7 true (by rw [if_pos c25, if_pos c35, if_pos c40, if_neg c50])

def m_when_s (μ : Mu) (find : Int32) (a : Int32) (b : Int32) : Mu :=
  (if m_none (μ 1) find 3 = true then (mset (mset μ 0 0 (nI 0)) 0 0 (nI 1)) else (if (if m_isKind (μ 1) (tn find) 0 = true then (if m_in a (nI 0) b = true then (if b ≤ (nI 239) then false else true) else true) else true) = true then (mset (mset μ 0 0 (nI 0)) 0 0 (nI 2)) else (mset (mset (mset μ 0 0 (nI 0)) 1 (349 + 6 * tn find + 4) a) 1 (349 + 6 * tn find + 5) b)))
set_option maxHeartbeats 4000000 in
set_option maxRecDepth 100000 in
theorem c_m_when {G : UG} {adr : Nat → Nat} {h0 : Hp} {μ : Mu} (hI : MI (μ 1)) (find : Int32) (a : Int32) (b : Int32)  : Con G yX6_when cX6_when 4 none 2 44 0 0 [.ref (adr 0), .int find, .int a, .int b] (MS G adr h0 μ) (fun vr_ h' => vr_ = none ∧ MS G adr h0 (m_when_s μ find a b) h') nX := by
  refine con_of2 (plainFor_of_name (by decide)) rfl ?_
  intro F R Q RF RL RC RS hQ O hnh hnm
  obtain ⟨resm, hresm⟩ : ∃ z, z = m_when_s μ find a b := ⟨_, rfl⟩
  rw [← hresm] at hQ
  unfold m_when_s at hresm
  have hb3 : tn (μ 1 3) ≤ 120 := (hI 3 (by decide)).2
  refine x_eq (L' := [(0, .ref (adr 0)), (1, .int find), (2, .int a), (3, .int b)]) ?_ rfl rfl rfl
  refine x_aload_n O 0 dX6_when_0 rfl rfl ?_
  refine x_iconst O (nI 0) dX6_when_1 (by decide) ?_
  refine x_mput O p_X6_3_6 (mp_0 _ _ _) rfl dX6_when_2 ?_
  refine x_aload_n O 0 dX6_when_5 rfl rfl ?_
  refine x_aload_n O 0 dX6_when_6 rfl rfl ?_
  refine x_iload_n O 1 dX6_when_7 rfl rfl ?_
  refine x_iconst O (nI 3) dX6_when_8 (by decide) ?_
  refine x_cV O 2 (c_m_none (μ := (mset μ 0 0 (nI 0))) find 3 (by omega)) MS.obj uc6 (lw_V q1964 q1966 qs59 q111 q1967) rfl hd_X6_none rfl (by rw [RF]; rfl) (by rw [RL]; rfl) ⟨Nat.zero_le _, Nat.zero_le _⟩ rfl rfl dX6_when_9 ?_
  refine x_top (v' := b2i (m_none (μ 1) find 3)) rfl ?_
  refine x_iconst O (nI 1) dX6_when_12 (by decide) ?_
  refine x_bc (m_none (μ 1) find 3) (fun c13 => ?_) (fun c13 => ?_)
  · have hr2 := hresm.trans (if_pos c13)
    refine x_eq (st' := [.int (nI 1), .int (b2i true), .ref (adr 0)]) ?_ rfl rfl (by rw [c13] <;> rfl)
    refine x_cV O 2 (c_m_throwsIf_t (μ := (mset μ 0 0 (nI 0))) 1) MS.obj uc6 (lw_V q1774 q1776 qs34 q111 q1777) rfl hd_X6_throwsIf rfl (by rw [RF]; rfl) (by rw [RL]; rfl) ⟨Nat.zero_le _, Nat.zero_le _⟩ rfl rfl dX6_when_13 ?_
    refine x_top (v' := b2i true) rfl ?_
    refine x_ifneB O 57 dX6_when_16 (by decide) (fun _ => ?_) (fun c => absurd rfl c)
    refine x_sub [0] (L' := [(0, .ref (adr 0))]) rfl ?_
    exact x_vretQ O hQ rfl dX6_when_57 (fun h m => ⟨rfl, by rw [hr2]; exact m⟩)
  · have hr3 := hresm.trans (if_neg c13)
    refine x_eq (st' := [.int (nI 1), .int (b2i false), .ref (adr 0)]) ?_ rfl rfl (by rw [bfalse c13] <;> rfl)
    refine x_cV O 2 (c_m_throwsIf_f (μ := (mset μ 0 0 (nI 0))) 1) MS.obj uc6 (lw_V q1774 q1776 qs34 q111 q1777) rfl hd_X6_throwsIf rfl (by rw [RF]; rfl) (by rw [RL]; rfl) ⟨Nat.zero_le _, Nat.zero_le _⟩ rfl rfl dX6_when_13 ?_
    refine x_top (v' := b2i false) rfl ?_
    refine x_ifneB O 57 dX6_when_16 (by decide) (fun c => absurd c (by decide)) (fun _ => ?_)
    refine x_aload_n O 0 dX6_when_19 rfl rfl ?_
    refine x_aload_n O 0 dX6_when_20 rfl rfl ?_
    refine x_iload_n O 1 dX6_when_21 rfl rfl ?_
    refine x_top (v' := nI (tn find)) ((none_nn (w := 3) (by decide) hI c13).1) ?_
    refine x_iconst O (nI 0) dX6_when_22 (by decide) ?_
    refine x_cV O 2 (c_m_isKind (μ := (mset μ 0 0 (nI 0))) (tn find) 0 (by have := (none_nn (w := 3) (by decide) hI c13).2; omega)) MS.obj uc6 (lw_V q2070 q2072 qs79 q111 q2073) rfl hd_X6_isKind rfl (by rw [RF]; rfl) (by rw [RL]; rfl) ⟨Nat.zero_le _, Nat.zero_le _⟩ rfl rfl dX6_when_23 ?_
    refine x_top (v' := b2i (m_isKind (μ 1) (tn find) 0)) rfl ?_
    have J4 : ∀ (y1 : Bool), y1 = (if m_isKind (μ 1) (tn find) 0 = true then (if m_in a (nI 0) b = true then (if b ≤ (nI 239) then false else true) else true) else true) → X G F R Q 4 50 [(0, .ref (adr 0)), (1, .int find), (2, .int a), (3, .int b)] [.int (b2i y1), .ref (adr 0)] (MS G adr h0 ((mset μ 0 0 (nI 0)))) 0 0 := by
      intro y1 e5
      subst e5
      refine x_iconst O (nI 2) dX6_when_50 (by decide) ?_
      refine x_bc ((if m_isKind (μ 1) (tn find) 0 = true then (if m_in a (nI 0) b = true then (if b ≤ (nI 239) then false else true) else true) else true)) (fun c51 => ?_) (fun c51 => ?_)
      · have hr6 := hr3.trans (if_pos c51)
        refine x_eq (st' := [.int (nI 2), .int (b2i true), .ref (adr 0)]) ?_ rfl rfl (by rw [c51] <;> rfl)
        refine x_cV O 2 (c_m_throwsIf_t (μ := (mset μ 0 0 (nI 0))) 2) MS.obj uc6 (lw_V q1774 q1776 qs34 q111 q1777) rfl hd_X6_throwsIf rfl (by rw [RF]; rfl) (by rw [RL]; rfl) ⟨Nat.zero_le _, Nat.zero_le _⟩ rfl rfl dX6_when_51 ?_
        refine x_top (v' := b2i true) rfl ?_
        refine x_ifeqB O 58 dX6_when_54 (by decide) (fun c => absurd rfl c) (fun _ => ?_)
        refine x_sub [0] (L' := [(0, .ref (adr 0))]) rfl ?_
        exact x_vretQ O hQ rfl dX6_when_57 (fun h m => ⟨rfl, by rw [hr6]; exact m⟩)
      · have hr7 := hr3.trans (if_neg c51)
        refine x_eq (st' := [.int (nI 2), .int (b2i false), .ref (adr 0)]) ?_ rfl rfl (by rw [bfalse c51] <;> rfl)
        refine x_cV O 2 (c_m_throwsIf_f (μ := (mset μ 0 0 (nI 0))) 2) MS.obj uc6 (lw_V q1774 q1776 qs34 q111 q1777) rfl hd_X6_throwsIf rfl (by rw [RF]; rfl) (by rw [RL]; rfl) ⟨Nat.zero_le _, Nat.zero_le _⟩ rfl rfl dX6_when_51 ?_
        refine x_top (v' := b2i false) rfl ?_
        refine x_ifeqB O 58 dX6_when_54 (by decide) (fun _ => ?_) (fun c => absurd c (by decide))
        refine x_aload_n O 0 dX6_when_58 rfl rfl ?_
        refine x_mget O k_X6_13_6 (mg_1 _ _) dX6_when_59 ?_
        refine x_sipush O (nI 349) dX6_when_62 (by decide) ?_
        refine x_bipush O (nI 6) dX6_when_65 (by decide) ?_
        refine x_iload_n O 1 dX6_when_67 rfl rfl ?_
        refine x_top (v' := nI (tn find)) ((none_nn (w := 3) (by decide) hI c13).1) ?_
        refine x_imulN O dX6_when_68 ?_
        refine x_iaddN O dX6_when_69 ?_
        refine x_iconst O (nI 4) dX6_when_70 (by decide) ?_
        refine x_iaddN O dX6_when_71 ?_
        refine x_iload_n O 2 dX6_when_72 rfl rfl ?_
        refine x_mast O 0 MS.c1 rfl rfl rfl (by have := (none_nn (w := 3) (by decide) hI c13).2; omega) rfl dX6_when_73 ?_
        refine x_aload_n O 0 dX6_when_74 rfl rfl ?_
        refine x_mget O k_X6_13_6 (mg_1 _ _) dX6_when_75 ?_
        refine x_sipush O (nI 349) dX6_when_78 (by decide) ?_
        refine x_bipush O (nI 6) dX6_when_81 (by decide) ?_
        refine x_iload_n O 1 dX6_when_83 rfl rfl ?_
        refine x_top (v' := nI (tn find)) ((none_nn (w := 3) (by decide) hI c13).1) ?_
        refine x_imulN O dX6_when_84 ?_
        refine x_iaddN O dX6_when_85 ?_
        refine x_iconst O (nI 5) dX6_when_86 (by decide) ?_
        refine x_iaddN O dX6_when_87 ?_
        refine x_iload_n O 3 dX6_when_88 rfl rfl ?_
        refine x_mast O 0 MS.c1 rfl rfl rfl (by have := (none_nn (w := 3) (by decide) hI c13).2; omega) rfl dX6_when_89 ?_
        exact x_vretQ O hQ rfl dX6_when_90 (fun h m => ⟨rfl, by rw [hr7]; exact m⟩)
    refine x_ifeqB O 45 dX6_when_26 (by decide) (fun c26 => ?_) (fun c26 => ?_)
    · refine x_iconst O (nI 1) dX6_when_45 (by decide) ?_
      refine x_goto O 50 dX6_when_46 (by decide) ?_
      refine x_top (v' := b2i true) (by decide) ?_
      exact J4 true (by rw [if_neg c26])
    · refine x_iload_n O 2 dX6_when_29 rfl rfl ?_
      refine x_iconst O (nI 0) dX6_when_30 (by decide) ?_
      refine x_iload_n O 3 dX6_when_31 rfl rfl ?_
      refine x_cS O 3 (c_m_in a (nI 0) b) (lw_S q1771 q1772 q111 q1773) hd_X6_in rfl (by rw [RF]; rfl) (by rw [RL]; rfl) ⟨Nat.zero_le _, Nat.zero_le _⟩ rfl rfl dX6_when_32 ?_
      refine x_ifeqB O 45 dX6_when_35 (by decide) (fun c35 => ?_) (fun c35 => ?_)
      · refine x_iconst O (nI 1) dX6_when_45 (by decide) ?_
        refine x_goto O 50 dX6_when_46 (by decide) ?_
        refine x_top (v' := b2i true) (by decide) ?_
        exact J4 true (by rw [if_pos c26, if_neg c35])
      · refine x_iload_n O 3 dX6_when_38 rfl rfl ?_
        refine x_sipush O (nI 239) dX6_when_39 (by decide) ?_
        refine x_icmple O 49 dX6_when_42 (by decide) (fun c42 => ?_) (fun c42 => ?_)
        · refine x_iconst O (nI 0) dX6_when_49 (by decide) ?_
          refine x_top (v' := b2i false) (by decide) ?_
          exact J4 false (by rw [if_pos c26, if_pos c35, if_pos c42])
        · refine x_iconst O (nI 1) dX6_when_45 (by decide) ?_
          refine x_goto O 50 dX6_when_46 (by decide) ?_
          refine x_top (v' := b2i true) (by decide) ?_
          exact J4 true (by rw [if_pos c26, if_pos c35, if_neg c42])

def j_ntz (a : Int32) : Int32 :=
  (if 0 < ((a ^^^ ((-1))) &&& (a - (nI 1))) then ((if ((if ((if ((if ((a ^^^ ((-1))) &&& (a - (nI 1))) ≤ ((65536)) then (a ^^^ ((-1))) &&& (a - (nI 1)) else (((a ^^^ ((-1))) &&& (a - (nI 1))).toUInt32 >>> ((nI 16).toUInt32 &&& Int32.toUInt32 31)).toInt32)) ≤ (nI 256) then (if ((a ^^^ ((-1))) &&& (a - (nI 1))) ≤ ((65536)) then (a ^^^ ((-1))) &&& (a - (nI 1)) else (((a ^^^ ((-1))) &&& (a - (nI 1))).toUInt32 >>> ((nI 16).toUInt32 &&& Int32.toUInt32 31)).toInt32) else (((if ((a ^^^ ((-1))) &&& (a - (nI 1))) ≤ ((65536)) then (a ^^^ ((-1))) &&& (a - (nI 1)) else (((a ^^^ ((-1))) &&& (a - (nI 1))).toUInt32 >>> ((nI 16).toUInt32 &&& Int32.toUInt32 31)).toInt32)).toUInt32 >>> ((nI 8).toUInt32 &&& Int32.toUInt32 31)).toInt32)) ≤ (nI 16) then (if ((if ((a ^^^ ((-1))) &&& (a - (nI 1))) ≤ ((65536)) then (a ^^^ ((-1))) &&& (a - (nI 1)) else (((a ^^^ ((-1))) &&& (a - (nI 1))).toUInt32 >>> ((nI 16).toUInt32 &&& Int32.toUInt32 31)).toInt32)) ≤ (nI 256) then (if ((a ^^^ ((-1))) &&& (a - (nI 1))) ≤ ((65536)) then (a ^^^ ((-1))) &&& (a - (nI 1)) else (((a ^^^ ((-1))) &&& (a - (nI 1))).toUInt32 >>> ((nI 16).toUInt32 &&& Int32.toUInt32 31)).toInt32) else (((if ((a ^^^ ((-1))) &&& (a - (nI 1))) ≤ ((65536)) then (a ^^^ ((-1))) &&& (a - (nI 1)) else (((a ^^^ ((-1))) &&& (a - (nI 1))).toUInt32 >>> ((nI 16).toUInt32 &&& Int32.toUInt32 31)).toInt32)).toUInt32 >>> ((nI 8).toUInt32 &&& Int32.toUInt32 31)).toInt32) else (((if ((if ((a ^^^ ((-1))) &&& (a - (nI 1))) ≤ ((65536)) then (a ^^^ ((-1))) &&& (a - (nI 1)) else (((a ^^^ ((-1))) &&& (a - (nI 1))).toUInt32 >>> ((nI 16).toUInt32 &&& Int32.toUInt32 31)).toInt32)) ≤ (nI 256) then (if ((a ^^^ ((-1))) &&& (a - (nI 1))) ≤ ((65536)) then (a ^^^ ((-1))) &&& (a - (nI 1)) else (((a ^^^ ((-1))) &&& (a - (nI 1))).toUInt32 >>> ((nI 16).toUInt32 &&& Int32.toUInt32 31)).toInt32) else (((if ((a ^^^ ((-1))) &&& (a - (nI 1))) ≤ ((65536)) then (a ^^^ ((-1))) &&& (a - (nI 1)) else (((a ^^^ ((-1))) &&& (a - (nI 1))).toUInt32 >>> ((nI 16).toUInt32 &&& Int32.toUInt32 31)).toInt32)).toUInt32 >>> ((nI 8).toUInt32 &&& Int32.toUInt32 31)).toInt32)).toUInt32 >>> ((nI 4).toUInt32 &&& Int32.toUInt32 31)).toInt32)) ≤ (nI 4) then (if ((if ((if ((a ^^^ ((-1))) &&& (a - (nI 1))) ≤ ((65536)) then (a ^^^ ((-1))) &&& (a - (nI 1)) else (((a ^^^ ((-1))) &&& (a - (nI 1))).toUInt32 >>> ((nI 16).toUInt32 &&& Int32.toUInt32 31)).toInt32)) ≤ (nI 256) then (if ((a ^^^ ((-1))) &&& (a - (nI 1))) ≤ ((65536)) then (a ^^^ ((-1))) &&& (a - (nI 1)) else (((a ^^^ ((-1))) &&& (a - (nI 1))).toUInt32 >>> ((nI 16).toUInt32 &&& Int32.toUInt32 31)).toInt32) else (((if ((a ^^^ ((-1))) &&& (a - (nI 1))) ≤ ((65536)) then (a ^^^ ((-1))) &&& (a - (nI 1)) else (((a ^^^ ((-1))) &&& (a - (nI 1))).toUInt32 >>> ((nI 16).toUInt32 &&& Int32.toUInt32 31)).toInt32)).toUInt32 >>> ((nI 8).toUInt32 &&& Int32.toUInt32 31)).toInt32)) ≤ (nI 16) then (if ((if ((a ^^^ ((-1))) &&& (a - (nI 1))) ≤ ((65536)) then (a ^^^ ((-1))) &&& (a - (nI 1)) else (((a ^^^ ((-1))) &&& (a - (nI 1))).toUInt32 >>> ((nI 16).toUInt32 &&& Int32.toUInt32 31)).toInt32)) ≤ (nI 256) then (if ((a ^^^ ((-1))) &&& (a - (nI 1))) ≤ ((65536)) then nI 1 else (nI 1) + (16)) else ((if ((a ^^^ ((-1))) &&& (a - (nI 1))) ≤ ((65536)) then nI 1 else (nI 1) + (16))) + (8)) else ((if ((if ((a ^^^ ((-1))) &&& (a - (nI 1))) ≤ ((65536)) then (a ^^^ ((-1))) &&& (a - (nI 1)) else (((a ^^^ ((-1))) &&& (a - (nI 1))).toUInt32 >>> ((nI 16).toUInt32 &&& Int32.toUInt32 31)).toInt32)) ≤ (nI 256) then (if ((a ^^^ ((-1))) &&& (a - (nI 1))) ≤ ((65536)) then nI 1 else (nI 1) + (16)) else ((if ((a ^^^ ((-1))) &&& (a - (nI 1))) ≤ ((65536)) then nI 1 else (nI 1) + (16))) + (8))) + (4)) else ((if ((if ((if ((a ^^^ ((-1))) &&& (a - (nI 1))) ≤ ((65536)) then (a ^^^ ((-1))) &&& (a - (nI 1)) else (((a ^^^ ((-1))) &&& (a - (nI 1))).toUInt32 >>> ((nI 16).toUInt32 &&& Int32.toUInt32 31)).toInt32)) ≤ (nI 256) then (if ((a ^^^ ((-1))) &&& (a - (nI 1))) ≤ ((65536)) then (a ^^^ ((-1))) &&& (a - (nI 1)) else (((a ^^^ ((-1))) &&& (a - (nI 1))).toUInt32 >>> ((nI 16).toUInt32 &&& Int32.toUInt32 31)).toInt32) else (((if ((a ^^^ ((-1))) &&& (a - (nI 1))) ≤ ((65536)) then (a ^^^ ((-1))) &&& (a - (nI 1)) else (((a ^^^ ((-1))) &&& (a - (nI 1))).toUInt32 >>> ((nI 16).toUInt32 &&& Int32.toUInt32 31)).toInt32)).toUInt32 >>> ((nI 8).toUInt32 &&& Int32.toUInt32 31)).toInt32)) ≤ (nI 16) then (if ((if ((a ^^^ ((-1))) &&& (a - (nI 1))) ≤ ((65536)) then (a ^^^ ((-1))) &&& (a - (nI 1)) else (((a ^^^ ((-1))) &&& (a - (nI 1))).toUInt32 >>> ((nI 16).toUInt32 &&& Int32.toUInt32 31)).toInt32)) ≤ (nI 256) then (if ((a ^^^ ((-1))) &&& (a - (nI 1))) ≤ ((65536)) then nI 1 else (nI 1) + (16)) else ((if ((a ^^^ ((-1))) &&& (a - (nI 1))) ≤ ((65536)) then nI 1 else (nI 1) + (16))) + (8)) else ((if ((if ((a ^^^ ((-1))) &&& (a - (nI 1))) ≤ ((65536)) then (a ^^^ ((-1))) &&& (a - (nI 1)) else (((a ^^^ ((-1))) &&& (a - (nI 1))).toUInt32 >>> ((nI 16).toUInt32 &&& Int32.toUInt32 31)).toInt32)) ≤ (nI 256) then (if ((a ^^^ ((-1))) &&& (a - (nI 1))) ≤ ((65536)) then nI 1 else (nI 1) + (16)) else ((if ((a ^^^ ((-1))) &&& (a - (nI 1))) ≤ ((65536)) then nI 1 else (nI 1) + (16))) + (8))) + (4))) + (2))) + ((((if ((if ((if ((if ((a ^^^ ((-1))) &&& (a - (nI 1))) ≤ ((65536)) then (a ^^^ ((-1))) &&& (a - (nI 1)) else (((a ^^^ ((-1))) &&& (a - (nI 1))).toUInt32 >>> ((nI 16).toUInt32 &&& Int32.toUInt32 31)).toInt32)) ≤ (nI 256) then (if ((a ^^^ ((-1))) &&& (a - (nI 1))) ≤ ((65536)) then (a ^^^ ((-1))) &&& (a - (nI 1)) else (((a ^^^ ((-1))) &&& (a - (nI 1))).toUInt32 >>> ((nI 16).toUInt32 &&& Int32.toUInt32 31)).toInt32) else (((if ((a ^^^ ((-1))) &&& (a - (nI 1))) ≤ ((65536)) then (a ^^^ ((-1))) &&& (a - (nI 1)) else (((a ^^^ ((-1))) &&& (a - (nI 1))).toUInt32 >>> ((nI 16).toUInt32 &&& Int32.toUInt32 31)).toInt32)).toUInt32 >>> ((nI 8).toUInt32 &&& Int32.toUInt32 31)).toInt32)) ≤ (nI 16) then (if ((if ((a ^^^ ((-1))) &&& (a - (nI 1))) ≤ ((65536)) then (a ^^^ ((-1))) &&& (a - (nI 1)) else (((a ^^^ ((-1))) &&& (a - (nI 1))).toUInt32 >>> ((nI 16).toUInt32 &&& Int32.toUInt32 31)).toInt32)) ≤ (nI 256) then (if ((a ^^^ ((-1))) &&& (a - (nI 1))) ≤ ((65536)) then (a ^^^ ((-1))) &&& (a - (nI 1)) else (((a ^^^ ((-1))) &&& (a - (nI 1))).toUInt32 >>> ((nI 16).toUInt32 &&& Int32.toUInt32 31)).toInt32) else (((if ((a ^^^ ((-1))) &&& (a - (nI 1))) ≤ ((65536)) then (a ^^^ ((-1))) &&& (a - (nI 1)) else (((a ^^^ ((-1))) &&& (a - (nI 1))).toUInt32 >>> ((nI 16).toUInt32 &&& Int32.toUInt32 31)).toInt32)).toUInt32 >>> ((nI 8).toUInt32 &&& Int32.toUInt32 31)).toInt32) else (((if ((if ((a ^^^ ((-1))) &&& (a - (nI 1))) ≤ ((65536)) then (a ^^^ ((-1))) &&& (a - (nI 1)) else (((a ^^^ ((-1))) &&& (a - (nI 1))).toUInt32 >>> ((nI 16).toUInt32 &&& Int32.toUInt32 31)).toInt32)) ≤ (nI 256) then (if ((a ^^^ ((-1))) &&& (a - (nI 1))) ≤ ((65536)) then (a ^^^ ((-1))) &&& (a - (nI 1)) else (((a ^^^ ((-1))) &&& (a - (nI 1))).toUInt32 >>> ((nI 16).toUInt32 &&& Int32.toUInt32 31)).toInt32) else (((if ((a ^^^ ((-1))) &&& (a - (nI 1))) ≤ ((65536)) then (a ^^^ ((-1))) &&& (a - (nI 1)) else (((a ^^^ ((-1))) &&& (a - (nI 1))).toUInt32 >>> ((nI 16).toUInt32 &&& Int32.toUInt32 31)).toInt32)).toUInt32 >>> ((nI 8).toUInt32 &&& Int32.toUInt32 31)).toInt32)).toUInt32 >>> ((nI 4).toUInt32 &&& Int32.toUInt32 31)).toInt32)) ≤ (nI 4) then (if ((if ((if ((a ^^^ ((-1))) &&& (a - (nI 1))) ≤ ((65536)) then (a ^^^ ((-1))) &&& (a - (nI 1)) else (((a ^^^ ((-1))) &&& (a - (nI 1))).toUInt32 >>> ((nI 16).toUInt32 &&& Int32.toUInt32 31)).toInt32)) ≤ (nI 256) then (if ((a ^^^ ((-1))) &&& (a - (nI 1))) ≤ ((65536)) then (a ^^^ ((-1))) &&& (a - (nI 1)) else (((a ^^^ ((-1))) &&& (a - (nI 1))).toUInt32 >>> ((nI 16).toUInt32 &&& Int32.toUInt32 31)).toInt32) else (((if ((a ^^^ ((-1))) &&& (a - (nI 1))) ≤ ((65536)) then (a ^^^ ((-1))) &&& (a - (nI 1)) else (((a ^^^ ((-1))) &&& (a - (nI 1))).toUInt32 >>> ((nI 16).toUInt32 &&& Int32.toUInt32 31)).toInt32)).toUInt32 >>> ((nI 8).toUInt32 &&& Int32.toUInt32 31)).toInt32)) ≤ (nI 16) then (if ((if ((a ^^^ ((-1))) &&& (a - (nI 1))) ≤ ((65536)) then (a ^^^ ((-1))) &&& (a - (nI 1)) else (((a ^^^ ((-1))) &&& (a - (nI 1))).toUInt32 >>> ((nI 16).toUInt32 &&& Int32.toUInt32 31)).toInt32)) ≤ (nI 256) then (if ((a ^^^ ((-1))) &&& (a - (nI 1))) ≤ ((65536)) then (a ^^^ ((-1))) &&& (a - (nI 1)) else (((a ^^^ ((-1))) &&& (a - (nI 1))).toUInt32 >>> ((nI 16).toUInt32 &&& Int32.toUInt32 31)).toInt32) else (((if ((a ^^^ ((-1))) &&& (a - (nI 1))) ≤ ((65536)) then (a ^^^ ((-1))) &&& (a - (nI 1)) else (((a ^^^ ((-1))) &&& (a - (nI 1))).toUInt32 >>> ((nI 16).toUInt32 &&& Int32.toUInt32 31)).toInt32)).toUInt32 >>> ((nI 8).toUInt32 &&& Int32.toUInt32 31)).toInt32) else (((if ((if ((a ^^^ ((-1))) &&& (a - (nI 1))) ≤ ((65536)) then (a ^^^ ((-1))) &&& (a - (nI 1)) else (((a ^^^ ((-1))) &&& (a - (nI 1))).toUInt32 >>> ((nI 16).toUInt32 &&& Int32.toUInt32 31)).toInt32)) ≤ (nI 256) then (if ((a ^^^ ((-1))) &&& (a - (nI 1))) ≤ ((65536)) then (a ^^^ ((-1))) &&& (a - (nI 1)) else (((a ^^^ ((-1))) &&& (a - (nI 1))).toUInt32 >>> ((nI 16).toUInt32 &&& Int32.toUInt32 31)).toInt32) else (((if ((a ^^^ ((-1))) &&& (a - (nI 1))) ≤ ((65536)) then (a ^^^ ((-1))) &&& (a - (nI 1)) else (((a ^^^ ((-1))) &&& (a - (nI 1))).toUInt32 >>> ((nI 16).toUInt32 &&& Int32.toUInt32 31)).toInt32)).toUInt32 >>> ((nI 8).toUInt32 &&& Int32.toUInt32 31)).toInt32)).toUInt32 >>> ((nI 4).toUInt32 &&& Int32.toUInt32 31)).toInt32) else (((if ((if ((if ((a ^^^ ((-1))) &&& (a - (nI 1))) ≤ ((65536)) then (a ^^^ ((-1))) &&& (a - (nI 1)) else (((a ^^^ ((-1))) &&& (a - (nI 1))).toUInt32 >>> ((nI 16).toUInt32 &&& Int32.toUInt32 31)).toInt32)) ≤ (nI 256) then (if ((a ^^^ ((-1))) &&& (a - (nI 1))) ≤ ((65536)) then (a ^^^ ((-1))) &&& (a - (nI 1)) else (((a ^^^ ((-1))) &&& (a - (nI 1))).toUInt32 >>> ((nI 16).toUInt32 &&& Int32.toUInt32 31)).toInt32) else (((if ((a ^^^ ((-1))) &&& (a - (nI 1))) ≤ ((65536)) then (a ^^^ ((-1))) &&& (a - (nI 1)) else (((a ^^^ ((-1))) &&& (a - (nI 1))).toUInt32 >>> ((nI 16).toUInt32 &&& Int32.toUInt32 31)).toInt32)).toUInt32 >>> ((nI 8).toUInt32 &&& Int32.toUInt32 31)).toInt32)) ≤ (nI 16) then (if ((if ((a ^^^ ((-1))) &&& (a - (nI 1))) ≤ ((65536)) then (a ^^^ ((-1))) &&& (a - (nI 1)) else (((a ^^^ ((-1))) &&& (a - (nI 1))).toUInt32 >>> ((nI 16).toUInt32 &&& Int32.toUInt32 31)).toInt32)) ≤ (nI 256) then (if ((a ^^^ ((-1))) &&& (a - (nI 1))) ≤ ((65536)) then (a ^^^ ((-1))) &&& (a - (nI 1)) else (((a ^^^ ((-1))) &&& (a - (nI 1))).toUInt32 >>> ((nI 16).toUInt32 &&& Int32.toUInt32 31)).toInt32) else (((if ((a ^^^ ((-1))) &&& (a - (nI 1))) ≤ ((65536)) then (a ^^^ ((-1))) &&& (a - (nI 1)) else (((a ^^^ ((-1))) &&& (a - (nI 1))).toUInt32 >>> ((nI 16).toUInt32 &&& Int32.toUInt32 31)).toInt32)).toUInt32 >>> ((nI 8).toUInt32 &&& Int32.toUInt32 31)).toInt32) else (((if ((if ((a ^^^ ((-1))) &&& (a - (nI 1))) ≤ ((65536)) then (a ^^^ ((-1))) &&& (a - (nI 1)) else (((a ^^^ ((-1))) &&& (a - (nI 1))).toUInt32 >>> ((nI 16).toUInt32 &&& Int32.toUInt32 31)).toInt32)) ≤ (nI 256) then (if ((a ^^^ ((-1))) &&& (a - (nI 1))) ≤ ((65536)) then (a ^^^ ((-1))) &&& (a - (nI 1)) else (((a ^^^ ((-1))) &&& (a - (nI 1))).toUInt32 >>> ((nI 16).toUInt32 &&& Int32.toUInt32 31)).toInt32) else (((if ((a ^^^ ((-1))) &&& (a - (nI 1))) ≤ ((65536)) then (a ^^^ ((-1))) &&& (a - (nI 1)) else (((a ^^^ ((-1))) &&& (a - (nI 1))).toUInt32 >>> ((nI 16).toUInt32 &&& Int32.toUInt32 31)).toInt32)).toUInt32 >>> ((nI 8).toUInt32 &&& Int32.toUInt32 31)).toInt32)).toUInt32 >>> ((nI 4).toUInt32 &&& Int32.toUInt32 31)).toInt32)).toUInt32 >>> ((nI 2).toUInt32 &&& Int32.toUInt32 31)).toInt32)).toUInt32 >>> ((nI 1).toUInt32 &&& Int32.toUInt32 31)).toInt32) else ((a ^^^ ((-1))) &&& (a - (nI 1))) &&& (nI 32))
set_option maxHeartbeats 4000000 in
set_option maxRecDepth 100000 in
theorem c_j_ntz {G : UG} {Ω : Hp → Prop}  (a : Int32)  : Con G yJ13_numberOfTrailingZeros cJ13_numberOfTrailingZeros 2 (some .int) 0 0 0 0 [.int a] Ω (fun vr_ h' => vr_ = some (.int (j_ntz a)) ∧ Ω h') nX := by
  refine con_of2 (plainFor_of_name (by decide)) rfl ?_
  intro F R Q RF RL RC RS hQ O hnh hnm
  obtain ⟨res, hres⟩ : ∃ z, z = (j_ntz a) := ⟨_, rfl⟩
  rw [← hres] at hQ
  unfold j_ntz at hres
  refine x_eq (L' := [(0, .int a)]) ?_ rfl rfl rfl
  refine x_iload_n O 0 dJ13_numberOfTrailingZeros_0 rfl rfl ?_
  refine x_iconst O ((-1)) dJ13_numberOfTrailingZeros_1 (by decide) ?_
  refine x_ixor O dJ13_numberOfTrailingZeros_2 ?_
  refine x_iload_n O 0 dJ13_numberOfTrailingZeros_3 rfl rfl ?_
  refine x_iconst O (nI 1) dJ13_numberOfTrailingZeros_4 (by decide) ?_
  refine x_isub O dJ13_numberOfTrailingZeros_5 ?_
  refine x_iand O dJ13_numberOfTrailingZeros_6 ?_
  refine x_istore_n O [(0, .int ((a ^^^ ((-1))) &&& (a - (nI 1))))] dJ13_numberOfTrailingZeros_7 rfl rfl rfl ?_
  refine x_iload_n O 0 dJ13_numberOfTrailingZeros_8 rfl rfl ?_
  refine x_ifgt O 17 dJ13_numberOfTrailingZeros_9 (by decide) (fun c9 => ?_) (fun c9 => ?_)
  · have hr9 := hres.trans (if_pos c9)
    refine x_iconst O (nI 1) dJ13_numberOfTrailingZeros_17 (by decide) ?_
    refine x_istore_n O [(1, .int (nI 1)), (0, .int ((a ^^^ ((-1))) &&& (a - (nI 1))))] dJ13_numberOfTrailingZeros_18 rfl rfl rfl ?_
    refine x_iload_n O 1 dJ13_numberOfTrailingZeros_19 rfl rfl ?_
    refine x_ldcw O q1419 dJ13_numberOfTrailingZeros_20 ?_
    have J10 : ∀ (y1 : Int32) (y2 : Int32), y1 = (if ((a ^^^ ((-1))) &&& (a - (nI 1))) ≤ ((65536)) then nI 1 else (nI 1) + (16)) → y2 = (if ((a ^^^ ((-1))) &&& (a - (nI 1))) ≤ ((65536)) then (a ^^^ ((-1))) &&& (a - (nI 1)) else (((a ^^^ ((-1))) &&& (a - (nI 1))).toUInt32 >>> ((nI 16).toUInt32 &&& Int32.toUInt32 31)).toInt32) → X G F R Q 2 34 [(1, .int y1), (0, .int y2)] [] Ω 0 0 := by
      intro y1 y2 e11 e12
      subst e11; subst e12
      refine x_iload_n O 1 dJ13_numberOfTrailingZeros_34 rfl rfl ?_
      refine x_sipush O (nI 256) dJ13_numberOfTrailingZeros_35 (by decide) ?_
      have J13 : ∀ (y3 : Int32) (y4 : Int32), y3 = (if ((if ((a ^^^ ((-1))) &&& (a - (nI 1))) ≤ ((65536)) then (a ^^^ ((-1))) &&& (a - (nI 1)) else (((a ^^^ ((-1))) &&& (a - (nI 1))).toUInt32 >>> ((nI 16).toUInt32 &&& Int32.toUInt32 31)).toInt32)) ≤ (nI 256) then (if ((a ^^^ ((-1))) &&& (a - (nI 1))) ≤ ((65536)) then nI 1 else (nI 1) + (16)) else ((if ((a ^^^ ((-1))) &&& (a - (nI 1))) ≤ ((65536)) then nI 1 else (nI 1) + (16))) + (8)) → y4 = (if ((if ((a ^^^ ((-1))) &&& (a - (nI 1))) ≤ ((65536)) then (a ^^^ ((-1))) &&& (a - (nI 1)) else (((a ^^^ ((-1))) &&& (a - (nI 1))).toUInt32 >>> ((nI 16).toUInt32 &&& Int32.toUInt32 31)).toInt32)) ≤ (nI 256) then (if ((a ^^^ ((-1))) &&& (a - (nI 1))) ≤ ((65536)) then (a ^^^ ((-1))) &&& (a - (nI 1)) else (((a ^^^ ((-1))) &&& (a - (nI 1))).toUInt32 >>> ((nI 16).toUInt32 &&& Int32.toUInt32 31)).toInt32) else (((if ((a ^^^ ((-1))) &&& (a - (nI 1))) ≤ ((65536)) then (a ^^^ ((-1))) &&& (a - (nI 1)) else (((a ^^^ ((-1))) &&& (a - (nI 1))).toUInt32 >>> ((nI 16).toUInt32 &&& Int32.toUInt32 31)).toInt32)).toUInt32 >>> ((nI 8).toUInt32 &&& Int32.toUInt32 31)).toInt32) → X G F R Q 2 49 [(1, .int y3), (0, .int y4)] [] Ω 0 0 := by
        intro y3 y4 e14 e15
        subst e14; subst e15
        refine x_iload_n O 1 dJ13_numberOfTrailingZeros_49 rfl rfl ?_
        refine x_bipush O (nI 16) dJ13_numberOfTrailingZeros_50 (by decide) ?_
        have J16 : ∀ (y5 : Int32) (y6 : Int32), y5 = (if ((if ((if ((a ^^^ ((-1))) &&& (a - (nI 1))) ≤ ((65536)) then (a ^^^ ((-1))) &&& (a - (nI 1)) else (((a ^^^ ((-1))) &&& (a - (nI 1))).toUInt32 >>> ((nI 16).toUInt32 &&& Int32.toUInt32 31)).toInt32)) ≤ (nI 256) then (if ((a ^^^ ((-1))) &&& (a - (nI 1))) ≤ ((65536)) then (a ^^^ ((-1))) &&& (a - (nI 1)) else (((a ^^^ ((-1))) &&& (a - (nI 1))).toUInt32 >>> ((nI 16).toUInt32 &&& Int32.toUInt32 31)).toInt32) else (((if ((a ^^^ ((-1))) &&& (a - (nI 1))) ≤ ((65536)) then (a ^^^ ((-1))) &&& (a - (nI 1)) else (((a ^^^ ((-1))) &&& (a - (nI 1))).toUInt32 >>> ((nI 16).toUInt32 &&& Int32.toUInt32 31)).toInt32)).toUInt32 >>> ((nI 8).toUInt32 &&& Int32.toUInt32 31)).toInt32)) ≤ (nI 16) then (if ((if ((a ^^^ ((-1))) &&& (a - (nI 1))) ≤ ((65536)) then (a ^^^ ((-1))) &&& (a - (nI 1)) else (((a ^^^ ((-1))) &&& (a - (nI 1))).toUInt32 >>> ((nI 16).toUInt32 &&& Int32.toUInt32 31)).toInt32)) ≤ (nI 256) then (if ((a ^^^ ((-1))) &&& (a - (nI 1))) ≤ ((65536)) then nI 1 else (nI 1) + (16)) else ((if ((a ^^^ ((-1))) &&& (a - (nI 1))) ≤ ((65536)) then nI 1 else (nI 1) + (16))) + (8)) else ((if ((if ((a ^^^ ((-1))) &&& (a - (nI 1))) ≤ ((65536)) then (a ^^^ ((-1))) &&& (a - (nI 1)) else (((a ^^^ ((-1))) &&& (a - (nI 1))).toUInt32 >>> ((nI 16).toUInt32 &&& Int32.toUInt32 31)).toInt32)) ≤ (nI 256) then (if ((a ^^^ ((-1))) &&& (a - (nI 1))) ≤ ((65536)) then nI 1 else (nI 1) + (16)) else ((if ((a ^^^ ((-1))) &&& (a - (nI 1))) ≤ ((65536)) then nI 1 else (nI 1) + (16))) + (8))) + (4)) → y6 = (if ((if ((if ((a ^^^ ((-1))) &&& (a - (nI 1))) ≤ ((65536)) then (a ^^^ ((-1))) &&& (a - (nI 1)) else (((a ^^^ ((-1))) &&& (a - (nI 1))).toUInt32 >>> ((nI 16).toUInt32 &&& Int32.toUInt32 31)).toInt32)) ≤ (nI 256) then (if ((a ^^^ ((-1))) &&& (a - (nI 1))) ≤ ((65536)) then (a ^^^ ((-1))) &&& (a - (nI 1)) else (((a ^^^ ((-1))) &&& (a - (nI 1))).toUInt32 >>> ((nI 16).toUInt32 &&& Int32.toUInt32 31)).toInt32) else (((if ((a ^^^ ((-1))) &&& (a - (nI 1))) ≤ ((65536)) then (a ^^^ ((-1))) &&& (a - (nI 1)) else (((a ^^^ ((-1))) &&& (a - (nI 1))).toUInt32 >>> ((nI 16).toUInt32 &&& Int32.toUInt32 31)).toInt32)).toUInt32 >>> ((nI 8).toUInt32 &&& Int32.toUInt32 31)).toInt32)) ≤ (nI 16) then (if ((if ((a ^^^ ((-1))) &&& (a - (nI 1))) ≤ ((65536)) then (a ^^^ ((-1))) &&& (a - (nI 1)) else (((a ^^^ ((-1))) &&& (a - (nI 1))).toUInt32 >>> ((nI 16).toUInt32 &&& Int32.toUInt32 31)).toInt32)) ≤ (nI 256) then (if ((a ^^^ ((-1))) &&& (a - (nI 1))) ≤ ((65536)) then (a ^^^ ((-1))) &&& (a - (nI 1)) else (((a ^^^ ((-1))) &&& (a - (nI 1))).toUInt32 >>> ((nI 16).toUInt32 &&& Int32.toUInt32 31)).toInt32) else (((if ((a ^^^ ((-1))) &&& (a - (nI 1))) ≤ ((65536)) then (a ^^^ ((-1))) &&& (a - (nI 1)) else (((a ^^^ ((-1))) &&& (a - (nI 1))).toUInt32 >>> ((nI 16).toUInt32 &&& Int32.toUInt32 31)).toInt32)).toUInt32 >>> ((nI 8).toUInt32 &&& Int32.toUInt32 31)).toInt32) else (((if ((if ((a ^^^ ((-1))) &&& (a - (nI 1))) ≤ ((65536)) then (a ^^^ ((-1))) &&& (a - (nI 1)) else (((a ^^^ ((-1))) &&& (a - (nI 1))).toUInt32 >>> ((nI 16).toUInt32 &&& Int32.toUInt32 31)).toInt32)) ≤ (nI 256) then (if ((a ^^^ ((-1))) &&& (a - (nI 1))) ≤ ((65536)) then (a ^^^ ((-1))) &&& (a - (nI 1)) else (((a ^^^ ((-1))) &&& (a - (nI 1))).toUInt32 >>> ((nI 16).toUInt32 &&& Int32.toUInt32 31)).toInt32) else (((if ((a ^^^ ((-1))) &&& (a - (nI 1))) ≤ ((65536)) then (a ^^^ ((-1))) &&& (a - (nI 1)) else (((a ^^^ ((-1))) &&& (a - (nI 1))).toUInt32 >>> ((nI 16).toUInt32 &&& Int32.toUInt32 31)).toInt32)).toUInt32 >>> ((nI 8).toUInt32 &&& Int32.toUInt32 31)).toInt32)).toUInt32 >>> ((nI 4).toUInt32 &&& Int32.toUInt32 31)).toInt32) → X G F R Q 2 62 [(1, .int y5), (0, .int y6)] [] Ω 0 0 := by
          intro y5 y6 e17 e18
          subst e17; subst e18
          refine x_iload_n O 1 dJ13_numberOfTrailingZeros_62 rfl rfl ?_
          refine x_iconst O (nI 4) dJ13_numberOfTrailingZeros_63 (by decide) ?_
          have J19 : ∀ (y7 : Int32) (y8 : Int32), y7 = (if ((if ((if ((if ((a ^^^ ((-1))) &&& (a - (nI 1))) ≤ ((65536)) then (a ^^^ ((-1))) &&& (a - (nI 1)) else (((a ^^^ ((-1))) &&& (a - (nI 1))).toUInt32 >>> ((nI 16).toUInt32 &&& Int32.toUInt32 31)).toInt32)) ≤ (nI 256) then (if ((a ^^^ ((-1))) &&& (a - (nI 1))) ≤ ((65536)) then (a ^^^ ((-1))) &&& (a - (nI 1)) else (((a ^^^ ((-1))) &&& (a - (nI 1))).toUInt32 >>> ((nI 16).toUInt32 &&& Int32.toUInt32 31)).toInt32) else (((if ((a ^^^ ((-1))) &&& (a - (nI 1))) ≤ ((65536)) then (a ^^^ ((-1))) &&& (a - (nI 1)) else (((a ^^^ ((-1))) &&& (a - (nI 1))).toUInt32 >>> ((nI 16).toUInt32 &&& Int32.toUInt32 31)).toInt32)).toUInt32 >>> ((nI 8).toUInt32 &&& Int32.toUInt32 31)).toInt32)) ≤ (nI 16) then (if ((if ((a ^^^ ((-1))) &&& (a - (nI 1))) ≤ ((65536)) then (a ^^^ ((-1))) &&& (a - (nI 1)) else (((a ^^^ ((-1))) &&& (a - (nI 1))).toUInt32 >>> ((nI 16).toUInt32 &&& Int32.toUInt32 31)).toInt32)) ≤ (nI 256) then (if ((a ^^^ ((-1))) &&& (a - (nI 1))) ≤ ((65536)) then (a ^^^ ((-1))) &&& (a - (nI 1)) else (((a ^^^ ((-1))) &&& (a - (nI 1))).toUInt32 >>> ((nI 16).toUInt32 &&& Int32.toUInt32 31)).toInt32) else (((if ((a ^^^ ((-1))) &&& (a - (nI 1))) ≤ ((65536)) then (a ^^^ ((-1))) &&& (a - (nI 1)) else (((a ^^^ ((-1))) &&& (a - (nI 1))).toUInt32 >>> ((nI 16).toUInt32 &&& Int32.toUInt32 31)).toInt32)).toUInt32 >>> ((nI 8).toUInt32 &&& Int32.toUInt32 31)).toInt32) else (((if ((if ((a ^^^ ((-1))) &&& (a - (nI 1))) ≤ ((65536)) then (a ^^^ ((-1))) &&& (a - (nI 1)) else (((a ^^^ ((-1))) &&& (a - (nI 1))).toUInt32 >>> ((nI 16).toUInt32 &&& Int32.toUInt32 31)).toInt32)) ≤ (nI 256) then (if ((a ^^^ ((-1))) &&& (a - (nI 1))) ≤ ((65536)) then (a ^^^ ((-1))) &&& (a - (nI 1)) else (((a ^^^ ((-1))) &&& (a - (nI 1))).toUInt32 >>> ((nI 16).toUInt32 &&& Int32.toUInt32 31)).toInt32) else (((if ((a ^^^ ((-1))) &&& (a - (nI 1))) ≤ ((65536)) then (a ^^^ ((-1))) &&& (a - (nI 1)) else (((a ^^^ ((-1))) &&& (a - (nI 1))).toUInt32 >>> ((nI 16).toUInt32 &&& Int32.toUInt32 31)).toInt32)).toUInt32 >>> ((nI 8).toUInt32 &&& Int32.toUInt32 31)).toInt32)).toUInt32 >>> ((nI 4).toUInt32 &&& Int32.toUInt32 31)).toInt32)) ≤ (nI 4) then (if ((if ((if ((a ^^^ ((-1))) &&& (a - (nI 1))) ≤ ((65536)) then (a ^^^ ((-1))) &&& (a - (nI 1)) else (((a ^^^ ((-1))) &&& (a - (nI 1))).toUInt32 >>> ((nI 16).toUInt32 &&& Int32.toUInt32 31)).toInt32)) ≤ (nI 256) then (if ((a ^^^ ((-1))) &&& (a - (nI 1))) ≤ ((65536)) then (a ^^^ ((-1))) &&& (a - (nI 1)) else (((a ^^^ ((-1))) &&& (a - (nI 1))).toUInt32 >>> ((nI 16).toUInt32 &&& Int32.toUInt32 31)).toInt32) else (((if ((a ^^^ ((-1))) &&& (a - (nI 1))) ≤ ((65536)) then (a ^^^ ((-1))) &&& (a - (nI 1)) else (((a ^^^ ((-1))) &&& (a - (nI 1))).toUInt32 >>> ((nI 16).toUInt32 &&& Int32.toUInt32 31)).toInt32)).toUInt32 >>> ((nI 8).toUInt32 &&& Int32.toUInt32 31)).toInt32)) ≤ (nI 16) then (if ((if ((a ^^^ ((-1))) &&& (a - (nI 1))) ≤ ((65536)) then (a ^^^ ((-1))) &&& (a - (nI 1)) else (((a ^^^ ((-1))) &&& (a - (nI 1))).toUInt32 >>> ((nI 16).toUInt32 &&& Int32.toUInt32 31)).toInt32)) ≤ (nI 256) then (if ((a ^^^ ((-1))) &&& (a - (nI 1))) ≤ ((65536)) then nI 1 else (nI 1) + (16)) else ((if ((a ^^^ ((-1))) &&& (a - (nI 1))) ≤ ((65536)) then nI 1 else (nI 1) + (16))) + (8)) else ((if ((if ((a ^^^ ((-1))) &&& (a - (nI 1))) ≤ ((65536)) then (a ^^^ ((-1))) &&& (a - (nI 1)) else (((a ^^^ ((-1))) &&& (a - (nI 1))).toUInt32 >>> ((nI 16).toUInt32 &&& Int32.toUInt32 31)).toInt32)) ≤ (nI 256) then (if ((a ^^^ ((-1))) &&& (a - (nI 1))) ≤ ((65536)) then nI 1 else (nI 1) + (16)) else ((if ((a ^^^ ((-1))) &&& (a - (nI 1))) ≤ ((65536)) then nI 1 else (nI 1) + (16))) + (8))) + (4)) else ((if ((if ((if ((a ^^^ ((-1))) &&& (a - (nI 1))) ≤ ((65536)) then (a ^^^ ((-1))) &&& (a - (nI 1)) else (((a ^^^ ((-1))) &&& (a - (nI 1))).toUInt32 >>> ((nI 16).toUInt32 &&& Int32.toUInt32 31)).toInt32)) ≤ (nI 256) then (if ((a ^^^ ((-1))) &&& (a - (nI 1))) ≤ ((65536)) then (a ^^^ ((-1))) &&& (a - (nI 1)) else (((a ^^^ ((-1))) &&& (a - (nI 1))).toUInt32 >>> ((nI 16).toUInt32 &&& Int32.toUInt32 31)).toInt32) else (((if ((a ^^^ ((-1))) &&& (a - (nI 1))) ≤ ((65536)) then (a ^^^ ((-1))) &&& (a - (nI 1)) else (((a ^^^ ((-1))) &&& (a - (nI 1))).toUInt32 >>> ((nI 16).toUInt32 &&& Int32.toUInt32 31)).toInt32)).toUInt32 >>> ((nI 8).toUInt32 &&& Int32.toUInt32 31)).toInt32)) ≤ (nI 16) then (if ((if ((a ^^^ ((-1))) &&& (a - (nI 1))) ≤ ((65536)) then (a ^^^ ((-1))) &&& (a - (nI 1)) else (((a ^^^ ((-1))) &&& (a - (nI 1))).toUInt32 >>> ((nI 16).toUInt32 &&& Int32.toUInt32 31)).toInt32)) ≤ (nI 256) then (if ((a ^^^ ((-1))) &&& (a - (nI 1))) ≤ ((65536)) then nI 1 else (nI 1) + (16)) else ((if ((a ^^^ ((-1))) &&& (a - (nI 1))) ≤ ((65536)) then nI 1 else (nI 1) + (16))) + (8)) else ((if ((if ((a ^^^ ((-1))) &&& (a - (nI 1))) ≤ ((65536)) then (a ^^^ ((-1))) &&& (a - (nI 1)) else (((a ^^^ ((-1))) &&& (a - (nI 1))).toUInt32 >>> ((nI 16).toUInt32 &&& Int32.toUInt32 31)).toInt32)) ≤ (nI 256) then (if ((a ^^^ ((-1))) &&& (a - (nI 1))) ≤ ((65536)) then nI 1 else (nI 1) + (16)) else ((if ((a ^^^ ((-1))) &&& (a - (nI 1))) ≤ ((65536)) then nI 1 else (nI 1) + (16))) + (8))) + (4))) + (2)) → y8 = (if ((if ((if ((if ((a ^^^ ((-1))) &&& (a - (nI 1))) ≤ ((65536)) then (a ^^^ ((-1))) &&& (a - (nI 1)) else (((a ^^^ ((-1))) &&& (a - (nI 1))).toUInt32 >>> ((nI 16).toUInt32 &&& Int32.toUInt32 31)).toInt32)) ≤ (nI 256) then (if ((a ^^^ ((-1))) &&& (a - (nI 1))) ≤ ((65536)) then (a ^^^ ((-1))) &&& (a - (nI 1)) else (((a ^^^ ((-1))) &&& (a - (nI 1))).toUInt32 >>> ((nI 16).toUInt32 &&& Int32.toUInt32 31)).toInt32) else (((if ((a ^^^ ((-1))) &&& (a - (nI 1))) ≤ ((65536)) then (a ^^^ ((-1))) &&& (a - (nI 1)) else (((a ^^^ ((-1))) &&& (a - (nI 1))).toUInt32 >>> ((nI 16).toUInt32 &&& Int32.toUInt32 31)).toInt32)).toUInt32 >>> ((nI 8).toUInt32 &&& Int32.toUInt32 31)).toInt32)) ≤ (nI 16) then (if ((if ((a ^^^ ((-1))) &&& (a - (nI 1))) ≤ ((65536)) then (a ^^^ ((-1))) &&& (a - (nI 1)) else (((a ^^^ ((-1))) &&& (a - (nI 1))).toUInt32 >>> ((nI 16).toUInt32 &&& Int32.toUInt32 31)).toInt32)) ≤ (nI 256) then (if ((a ^^^ ((-1))) &&& (a - (nI 1))) ≤ ((65536)) then (a ^^^ ((-1))) &&& (a - (nI 1)) else (((a ^^^ ((-1))) &&& (a - (nI 1))).toUInt32 >>> ((nI 16).toUInt32 &&& Int32.toUInt32 31)).toInt32) else (((if ((a ^^^ ((-1))) &&& (a - (nI 1))) ≤ ((65536)) then (a ^^^ ((-1))) &&& (a - (nI 1)) else (((a ^^^ ((-1))) &&& (a - (nI 1))).toUInt32 >>> ((nI 16).toUInt32 &&& Int32.toUInt32 31)).toInt32)).toUInt32 >>> ((nI 8).toUInt32 &&& Int32.toUInt32 31)).toInt32) else (((if ((if ((a ^^^ ((-1))) &&& (a - (nI 1))) ≤ ((65536)) then (a ^^^ ((-1))) &&& (a - (nI 1)) else (((a ^^^ ((-1))) &&& (a - (nI 1))).toUInt32 >>> ((nI 16).toUInt32 &&& Int32.toUInt32 31)).toInt32)) ≤ (nI 256) then (if ((a ^^^ ((-1))) &&& (a - (nI 1))) ≤ ((65536)) then (a ^^^ ((-1))) &&& (a - (nI 1)) else (((a ^^^ ((-1))) &&& (a - (nI 1))).toUInt32 >>> ((nI 16).toUInt32 &&& Int32.toUInt32 31)).toInt32) else (((if ((a ^^^ ((-1))) &&& (a - (nI 1))) ≤ ((65536)) then (a ^^^ ((-1))) &&& (a - (nI 1)) else (((a ^^^ ((-1))) &&& (a - (nI 1))).toUInt32 >>> ((nI 16).toUInt32 &&& Int32.toUInt32 31)).toInt32)).toUInt32 >>> ((nI 8).toUInt32 &&& Int32.toUInt32 31)).toInt32)).toUInt32 >>> ((nI 4).toUInt32 &&& Int32.toUInt32 31)).toInt32)) ≤ (nI 4) then (if ((if ((if ((a ^^^ ((-1))) &&& (a - (nI 1))) ≤ ((65536)) then (a ^^^ ((-1))) &&& (a - (nI 1)) else (((a ^^^ ((-1))) &&& (a - (nI 1))).toUInt32 >>> ((nI 16).toUInt32 &&& Int32.toUInt32 31)).toInt32)) ≤ (nI 256) then (if ((a ^^^ ((-1))) &&& (a - (nI 1))) ≤ ((65536)) then (a ^^^ ((-1))) &&& (a - (nI 1)) else (((a ^^^ ((-1))) &&& (a - (nI 1))).toUInt32 >>> ((nI 16).toUInt32 &&& Int32.toUInt32 31)).toInt32) else (((if ((a ^^^ ((-1))) &&& (a - (nI 1))) ≤ ((65536)) then (a ^^^ ((-1))) &&& (a - (nI 1)) else (((a ^^^ ((-1))) &&& (a - (nI 1))).toUInt32 >>> ((nI 16).toUInt32 &&& Int32.toUInt32 31)).toInt32)).toUInt32 >>> ((nI 8).toUInt32 &&& Int32.toUInt32 31)).toInt32)) ≤ (nI 16) then (if ((if ((a ^^^ ((-1))) &&& (a - (nI 1))) ≤ ((65536)) then (a ^^^ ((-1))) &&& (a - (nI 1)) else (((a ^^^ ((-1))) &&& (a - (nI 1))).toUInt32 >>> ((nI 16).toUInt32 &&& Int32.toUInt32 31)).toInt32)) ≤ (nI 256) then (if ((a ^^^ ((-1))) &&& (a - (nI 1))) ≤ ((65536)) then (a ^^^ ((-1))) &&& (a - (nI 1)) else (((a ^^^ ((-1))) &&& (a - (nI 1))).toUInt32 >>> ((nI 16).toUInt32 &&& Int32.toUInt32 31)).toInt32) else (((if ((a ^^^ ((-1))) &&& (a - (nI 1))) ≤ ((65536)) then (a ^^^ ((-1))) &&& (a - (nI 1)) else (((a ^^^ ((-1))) &&& (a - (nI 1))).toUInt32 >>> ((nI 16).toUInt32 &&& Int32.toUInt32 31)).toInt32)).toUInt32 >>> ((nI 8).toUInt32 &&& Int32.toUInt32 31)).toInt32) else (((if ((if ((a ^^^ ((-1))) &&& (a - (nI 1))) ≤ ((65536)) then (a ^^^ ((-1))) &&& (a - (nI 1)) else (((a ^^^ ((-1))) &&& (a - (nI 1))).toUInt32 >>> ((nI 16).toUInt32 &&& Int32.toUInt32 31)).toInt32)) ≤ (nI 256) then (if ((a ^^^ ((-1))) &&& (a - (nI 1))) ≤ ((65536)) then (a ^^^ ((-1))) &&& (a - (nI 1)) else (((a ^^^ ((-1))) &&& (a - (nI 1))).toUInt32 >>> ((nI 16).toUInt32 &&& Int32.toUInt32 31)).toInt32) else (((if ((a ^^^ ((-1))) &&& (a - (nI 1))) ≤ ((65536)) then (a ^^^ ((-1))) &&& (a - (nI 1)) else (((a ^^^ ((-1))) &&& (a - (nI 1))).toUInt32 >>> ((nI 16).toUInt32 &&& Int32.toUInt32 31)).toInt32)).toUInt32 >>> ((nI 8).toUInt32 &&& Int32.toUInt32 31)).toInt32)).toUInt32 >>> ((nI 4).toUInt32 &&& Int32.toUInt32 31)).toInt32) else (((if ((if ((if ((a ^^^ ((-1))) &&& (a - (nI 1))) ≤ ((65536)) then (a ^^^ ((-1))) &&& (a - (nI 1)) else (((a ^^^ ((-1))) &&& (a - (nI 1))).toUInt32 >>> ((nI 16).toUInt32 &&& Int32.toUInt32 31)).toInt32)) ≤ (nI 256) then (if ((a ^^^ ((-1))) &&& (a - (nI 1))) ≤ ((65536)) then (a ^^^ ((-1))) &&& (a - (nI 1)) else (((a ^^^ ((-1))) &&& (a - (nI 1))).toUInt32 >>> ((nI 16).toUInt32 &&& Int32.toUInt32 31)).toInt32) else (((if ((a ^^^ ((-1))) &&& (a - (nI 1))) ≤ ((65536)) then (a ^^^ ((-1))) &&& (a - (nI 1)) else (((a ^^^ ((-1))) &&& (a - (nI 1))).toUInt32 >>> ((nI 16).toUInt32 &&& Int32.toUInt32 31)).toInt32)).toUInt32 >>> ((nI 8).toUInt32 &&& Int32.toUInt32 31)).toInt32)) ≤ (nI 16) then (if ((if ((a ^^^ ((-1))) &&& (a - (nI 1))) ≤ ((65536)) then (a ^^^ ((-1))) &&& (a - (nI 1)) else (((a ^^^ ((-1))) &&& (a - (nI 1))).toUInt32 >>> ((nI 16).toUInt32 &&& Int32.toUInt32 31)).toInt32)) ≤ (nI 256) then (if ((a ^^^ ((-1))) &&& (a - (nI 1))) ≤ ((65536)) then (a ^^^ ((-1))) &&& (a - (nI 1)) else (((a ^^^ ((-1))) &&& (a - (nI 1))).toUInt32 >>> ((nI 16).toUInt32 &&& Int32.toUInt32 31)).toInt32) else (((if ((a ^^^ ((-1))) &&& (a - (nI 1))) ≤ ((65536)) then (a ^^^ ((-1))) &&& (a - (nI 1)) else (((a ^^^ ((-1))) &&& (a - (nI 1))).toUInt32 >>> ((nI 16).toUInt32 &&& Int32.toUInt32 31)).toInt32)).toUInt32 >>> ((nI 8).toUInt32 &&& Int32.toUInt32 31)).toInt32) else (((if ((if ((a ^^^ ((-1))) &&& (a - (nI 1))) ≤ ((65536)) then (a ^^^ ((-1))) &&& (a - (nI 1)) else (((a ^^^ ((-1))) &&& (a - (nI 1))).toUInt32 >>> ((nI 16).toUInt32 &&& Int32.toUInt32 31)).toInt32)) ≤ (nI 256) then (if ((a ^^^ ((-1))) &&& (a - (nI 1))) ≤ ((65536)) then (a ^^^ ((-1))) &&& (a - (nI 1)) else (((a ^^^ ((-1))) &&& (a - (nI 1))).toUInt32 >>> ((nI 16).toUInt32 &&& Int32.toUInt32 31)).toInt32) else (((if ((a ^^^ ((-1))) &&& (a - (nI 1))) ≤ ((65536)) then (a ^^^ ((-1))) &&& (a - (nI 1)) else (((a ^^^ ((-1))) &&& (a - (nI 1))).toUInt32 >>> ((nI 16).toUInt32 &&& Int32.toUInt32 31)).toInt32)).toUInt32 >>> ((nI 8).toUInt32 &&& Int32.toUInt32 31)).toInt32)).toUInt32 >>> ((nI 4).toUInt32 &&& Int32.toUInt32 31)).toInt32)).toUInt32 >>> ((nI 2).toUInt32 &&& Int32.toUInt32 31)).toInt32) → X G F R Q 2 74 [(1, .int y7), (0, .int y8)] [] Ω 0 0 := by
            intro y7 y8 e20 e21
            subst e20; subst e21
            refine x_iload_n O 0 dJ13_numberOfTrailingZeros_74 rfl rfl ?_
            refine x_iload_n O 1 dJ13_numberOfTrailingZeros_75 rfl rfl ?_
            refine x_iconst O (nI 1) dJ13_numberOfTrailingZeros_76 (by decide) ?_
            refine x_iushr O dJ13_numberOfTrailingZeros_77 ?_
            refine x_iadd O dJ13_numberOfTrailingZeros_78 ?_
            exact x_iretQ O hQ rfl dJ13_numberOfTrailingZeros_79 (fun h m => ⟨by rw [hr9], m⟩)
          refine x_icmple O 74 dJ13_numberOfTrailingZeros_64 (by decide) (fun c64 => ?_) (fun c64 => ?_)
          · exact J19 ((if ((if ((if ((a ^^^ ((-1))) &&& (a - (nI 1))) ≤ ((65536)) then (a ^^^ ((-1))) &&& (a - (nI 1)) else (((a ^^^ ((-1))) &&& (a - (nI 1))).toUInt32 >>> ((nI 16).toUInt32 &&& Int32.toUInt32 31)).toInt32)) ≤ (nI 256) then (if ((a ^^^ ((-1))) &&& (a - (nI 1))) ≤ ((65536)) then (a ^^^ ((-1))) &&& (a - (nI 1)) else (((a ^^^ ((-1))) &&& (a - (nI 1))).toUInt32 >>> ((nI 16).toUInt32 &&& Int32.toUInt32 31)).toInt32) else (((if ((a ^^^ ((-1))) &&& (a - (nI 1))) ≤ ((65536)) then (a ^^^ ((-1))) &&& (a - (nI 1)) else (((a ^^^ ((-1))) &&& (a - (nI 1))).toUInt32 >>> ((nI 16).toUInt32 &&& Int32.toUInt32 31)).toInt32)).toUInt32 >>> ((nI 8).toUInt32 &&& Int32.toUInt32 31)).toInt32)) ≤ (nI 16) then (if ((if ((a ^^^ ((-1))) &&& (a - (nI 1))) ≤ ((65536)) then (a ^^^ ((-1))) &&& (a - (nI 1)) else (((a ^^^ ((-1))) &&& (a - (nI 1))).toUInt32 >>> ((nI 16).toUInt32 &&& Int32.toUInt32 31)).toInt32)) ≤ (nI 256) then (if ((a ^^^ ((-1))) &&& (a - (nI 1))) ≤ ((65536)) then nI 1 else (nI 1) + (16)) else ((if ((a ^^^ ((-1))) &&& (a - (nI 1))) ≤ ((65536)) then nI 1 else (nI 1) + (16))) + (8)) else ((if ((if ((a ^^^ ((-1))) &&& (a - (nI 1))) ≤ ((65536)) then (a ^^^ ((-1))) &&& (a - (nI 1)) else (((a ^^^ ((-1))) &&& (a - (nI 1))).toUInt32 >>> ((nI 16).toUInt32 &&& Int32.toUInt32 31)).toInt32)) ≤ (nI 256) then (if ((a ^^^ ((-1))) &&& (a - (nI 1))) ≤ ((65536)) then nI 1 else (nI 1) + (16)) else ((if ((a ^^^ ((-1))) &&& (a - (nI 1))) ≤ ((65536)) then nI 1 else (nI 1) + (16))) + (8))) + (4))) ((if ((if ((if ((a ^^^ ((-1))) &&& (a - (nI 1))) ≤ ((65536)) then (a ^^^ ((-1))) &&& (a - (nI 1)) else (((a ^^^ ((-1))) &&& (a - (nI 1))).toUInt32 >>> ((nI 16).toUInt32 &&& Int32.toUInt32 31)).toInt32)) ≤ (nI 256) then (if ((a ^^^ ((-1))) &&& (a - (nI 1))) ≤ ((65536)) then (a ^^^ ((-1))) &&& (a - (nI 1)) else (((a ^^^ ((-1))) &&& (a - (nI 1))).toUInt32 >>> ((nI 16).toUInt32 &&& Int32.toUInt32 31)).toInt32) else (((if ((a ^^^ ((-1))) &&& (a - (nI 1))) ≤ ((65536)) then (a ^^^ ((-1))) &&& (a - (nI 1)) else (((a ^^^ ((-1))) &&& (a - (nI 1))).toUInt32 >>> ((nI 16).toUInt32 &&& Int32.toUInt32 31)).toInt32)).toUInt32 >>> ((nI 8).toUInt32 &&& Int32.toUInt32 31)).toInt32)) ≤ (nI 16) then (if ((if ((a ^^^ ((-1))) &&& (a - (nI 1))) ≤ ((65536)) then (a ^^^ ((-1))) &&& (a - (nI 1)) else (((a ^^^ ((-1))) &&& (a - (nI 1))).toUInt32 >>> ((nI 16).toUInt32 &&& Int32.toUInt32 31)).toInt32)) ≤ (nI 256) then (if ((a ^^^ ((-1))) &&& (a - (nI 1))) ≤ ((65536)) then (a ^^^ ((-1))) &&& (a - (nI 1)) else (((a ^^^ ((-1))) &&& (a - (nI 1))).toUInt32 >>> ((nI 16).toUInt32 &&& Int32.toUInt32 31)).toInt32) else (((if ((a ^^^ ((-1))) &&& (a - (nI 1))) ≤ ((65536)) then (a ^^^ ((-1))) &&& (a - (nI 1)) else (((a ^^^ ((-1))) &&& (a - (nI 1))).toUInt32 >>> ((nI 16).toUInt32 &&& Int32.toUInt32 31)).toInt32)).toUInt32 >>> ((nI 8).toUInt32 &&& Int32.toUInt32 31)).toInt32) else (((if ((if ((a ^^^ ((-1))) &&& (a - (nI 1))) ≤ ((65536)) then (a ^^^ ((-1))) &&& (a - (nI 1)) else (((a ^^^ ((-1))) &&& (a - (nI 1))).toUInt32 >>> ((nI 16).toUInt32 &&& Int32.toUInt32 31)).toInt32)) ≤ (nI 256) then (if ((a ^^^ ((-1))) &&& (a - (nI 1))) ≤ ((65536)) then (a ^^^ ((-1))) &&& (a - (nI 1)) else (((a ^^^ ((-1))) &&& (a - (nI 1))).toUInt32 >>> ((nI 16).toUInt32 &&& Int32.toUInt32 31)).toInt32) else (((if ((a ^^^ ((-1))) &&& (a - (nI 1))) ≤ ((65536)) then (a ^^^ ((-1))) &&& (a - (nI 1)) else (((a ^^^ ((-1))) &&& (a - (nI 1))).toUInt32 >>> ((nI 16).toUInt32 &&& Int32.toUInt32 31)).toInt32)).toUInt32 >>> ((nI 8).toUInt32 &&& Int32.toUInt32 31)).toInt32)).toUInt32 >>> ((nI 4).toUInt32 &&& Int32.toUInt32 31)).toInt32)) (by rw [if_pos c64]) (by rw [if_pos c64])
          · refine x_iinc O 0 (((if ((if ((if ((a ^^^ ((-1))) &&& (a - (nI 1))) ≤ ((65536)) then (a ^^^ ((-1))) &&& (a - (nI 1)) else (((a ^^^ ((-1))) &&& (a - (nI 1))).toUInt32 >>> ((nI 16).toUInt32 &&& Int32.toUInt32 31)).toInt32)) ≤ (nI 256) then (if ((a ^^^ ((-1))) &&& (a - (nI 1))) ≤ ((65536)) then (a ^^^ ((-1))) &&& (a - (nI 1)) else (((a ^^^ ((-1))) &&& (a - (nI 1))).toUInt32 >>> ((nI 16).toUInt32 &&& Int32.toUInt32 31)).toInt32) else (((if ((a ^^^ ((-1))) &&& (a - (nI 1))) ≤ ((65536)) then (a ^^^ ((-1))) &&& (a - (nI 1)) else (((a ^^^ ((-1))) &&& (a - (nI 1))).toUInt32 >>> ((nI 16).toUInt32 &&& Int32.toUInt32 31)).toInt32)).toUInt32 >>> ((nI 8).toUInt32 &&& Int32.toUInt32 31)).toInt32)) ≤ (nI 16) then (if ((if ((a ^^^ ((-1))) &&& (a - (nI 1))) ≤ ((65536)) then (a ^^^ ((-1))) &&& (a - (nI 1)) else (((a ^^^ ((-1))) &&& (a - (nI 1))).toUInt32 >>> ((nI 16).toUInt32 &&& Int32.toUInt32 31)).toInt32)) ≤ (nI 256) then (if ((a ^^^ ((-1))) &&& (a - (nI 1))) ≤ ((65536)) then nI 1 else (nI 1) + (16)) else ((if ((a ^^^ ((-1))) &&& (a - (nI 1))) ≤ ((65536)) then nI 1 else (nI 1) + (16))) + (8)) else ((if ((if ((a ^^^ ((-1))) &&& (a - (nI 1))) ≤ ((65536)) then (a ^^^ ((-1))) &&& (a - (nI 1)) else (((a ^^^ ((-1))) &&& (a - (nI 1))).toUInt32 >>> ((nI 16).toUInt32 &&& Int32.toUInt32 31)).toInt32)) ≤ (nI 256) then (if ((a ^^^ ((-1))) &&& (a - (nI 1))) ≤ ((65536)) then nI 1 else (nI 1) + (16)) else ((if ((a ^^^ ((-1))) &&& (a - (nI 1))) ≤ ((65536)) then nI 1 else (nI 1) + (16))) + (8))) + (4))) + (2)) [(1, .int (((if ((if ((if ((a ^^^ ((-1))) &&& (a - (nI 1))) ≤ ((65536)) then (a ^^^ ((-1))) &&& (a - (nI 1)) else (((a ^^^ ((-1))) &&& (a - (nI 1))).toUInt32 >>> ((nI 16).toUInt32 &&& Int32.toUInt32 31)).toInt32)) ≤ (nI 256) then (if ((a ^^^ ((-1))) &&& (a - (nI 1))) ≤ ((65536)) then (a ^^^ ((-1))) &&& (a - (nI 1)) else (((a ^^^ ((-1))) &&& (a - (nI 1))).toUInt32 >>> ((nI 16).toUInt32 &&& Int32.toUInt32 31)).toInt32) else (((if ((a ^^^ ((-1))) &&& (a - (nI 1))) ≤ ((65536)) then (a ^^^ ((-1))) &&& (a - (nI 1)) else (((a ^^^ ((-1))) &&& (a - (nI 1))).toUInt32 >>> ((nI 16).toUInt32 &&& Int32.toUInt32 31)).toInt32)).toUInt32 >>> ((nI 8).toUInt32 &&& Int32.toUInt32 31)).toInt32)) ≤ (nI 16) then (if ((if ((a ^^^ ((-1))) &&& (a - (nI 1))) ≤ ((65536)) then (a ^^^ ((-1))) &&& (a - (nI 1)) else (((a ^^^ ((-1))) &&& (a - (nI 1))).toUInt32 >>> ((nI 16).toUInt32 &&& Int32.toUInt32 31)).toInt32)) ≤ (nI 256) then (if ((a ^^^ ((-1))) &&& (a - (nI 1))) ≤ ((65536)) then nI 1 else (nI 1) + (16)) else ((if ((a ^^^ ((-1))) &&& (a - (nI 1))) ≤ ((65536)) then nI 1 else (nI 1) + (16))) + (8)) else ((if ((if ((a ^^^ ((-1))) &&& (a - (nI 1))) ≤ ((65536)) then (a ^^^ ((-1))) &&& (a - (nI 1)) else (((a ^^^ ((-1))) &&& (a - (nI 1))).toUInt32 >>> ((nI 16).toUInt32 &&& Int32.toUInt32 31)).toInt32)) ≤ (nI 256) then (if ((a ^^^ ((-1))) &&& (a - (nI 1))) ≤ ((65536)) then nI 1 else (nI 1) + (16)) else ((if ((a ^^^ ((-1))) &&& (a - (nI 1))) ≤ ((65536)) then nI 1 else (nI 1) + (16))) + (8))) + (4))) + (2))), (0, .int ((if ((if ((if ((a ^^^ ((-1))) &&& (a - (nI 1))) ≤ ((65536)) then (a ^^^ ((-1))) &&& (a - (nI 1)) else (((a ^^^ ((-1))) &&& (a - (nI 1))).toUInt32 >>> ((nI 16).toUInt32 &&& Int32.toUInt32 31)).toInt32)) ≤ (nI 256) then (if ((a ^^^ ((-1))) &&& (a - (nI 1))) ≤ ((65536)) then (a ^^^ ((-1))) &&& (a - (nI 1)) else (((a ^^^ ((-1))) &&& (a - (nI 1))).toUInt32 >>> ((nI 16).toUInt32 &&& Int32.toUInt32 31)).toInt32) else (((if ((a ^^^ ((-1))) &&& (a - (nI 1))) ≤ ((65536)) then (a ^^^ ((-1))) &&& (a - (nI 1)) else (((a ^^^ ((-1))) &&& (a - (nI 1))).toUInt32 >>> ((nI 16).toUInt32 &&& Int32.toUInt32 31)).toInt32)).toUInt32 >>> ((nI 8).toUInt32 &&& Int32.toUInt32 31)).toInt32)) ≤ (nI 16) then (if ((if ((a ^^^ ((-1))) &&& (a - (nI 1))) ≤ ((65536)) then (a ^^^ ((-1))) &&& (a - (nI 1)) else (((a ^^^ ((-1))) &&& (a - (nI 1))).toUInt32 >>> ((nI 16).toUInt32 &&& Int32.toUInt32 31)).toInt32)) ≤ (nI 256) then (if ((a ^^^ ((-1))) &&& (a - (nI 1))) ≤ ((65536)) then (a ^^^ ((-1))) &&& (a - (nI 1)) else (((a ^^^ ((-1))) &&& (a - (nI 1))).toUInt32 >>> ((nI 16).toUInt32 &&& Int32.toUInt32 31)).toInt32) else (((if ((a ^^^ ((-1))) &&& (a - (nI 1))) ≤ ((65536)) then (a ^^^ ((-1))) &&& (a - (nI 1)) else (((a ^^^ ((-1))) &&& (a - (nI 1))).toUInt32 >>> ((nI 16).toUInt32 &&& Int32.toUInt32 31)).toInt32)).toUInt32 >>> ((nI 8).toUInt32 &&& Int32.toUInt32 31)).toInt32) else (((if ((if ((a ^^^ ((-1))) &&& (a - (nI 1))) ≤ ((65536)) then (a ^^^ ((-1))) &&& (a - (nI 1)) else (((a ^^^ ((-1))) &&& (a - (nI 1))).toUInt32 >>> ((nI 16).toUInt32 &&& Int32.toUInt32 31)).toInt32)) ≤ (nI 256) then (if ((a ^^^ ((-1))) &&& (a - (nI 1))) ≤ ((65536)) then (a ^^^ ((-1))) &&& (a - (nI 1)) else (((a ^^^ ((-1))) &&& (a - (nI 1))).toUInt32 >>> ((nI 16).toUInt32 &&& Int32.toUInt32 31)).toInt32) else (((if ((a ^^^ ((-1))) &&& (a - (nI 1))) ≤ ((65536)) then (a ^^^ ((-1))) &&& (a - (nI 1)) else (((a ^^^ ((-1))) &&& (a - (nI 1))).toUInt32 >>> ((nI 16).toUInt32 &&& Int32.toUInt32 31)).toInt32)).toUInt32 >>> ((nI 8).toUInt32 &&& Int32.toUInt32 31)).toInt32)).toUInt32 >>> ((nI 4).toUInt32 &&& Int32.toUInt32 31)).toInt32)))] dJ13_numberOfTrailingZeros_67 rfl rfl rfl rfl ?_
            refine x_iload_n O 1 dJ13_numberOfTrailingZeros_70 rfl rfl ?_
            refine x_iconst O (nI 2) dJ13_numberOfTrailingZeros_71 (by decide) ?_
            refine x_iushr O dJ13_numberOfTrailingZeros_72 ?_
            refine x_istore_n O [(0, .int ((((if ((if ((if ((a ^^^ ((-1))) &&& (a - (nI 1))) ≤ ((65536)) then (a ^^^ ((-1))) &&& (a - (nI 1)) else (((a ^^^ ((-1))) &&& (a - (nI 1))).toUInt32 >>> ((nI 16).toUInt32 &&& Int32.toUInt32 31)).toInt32)) ≤ (nI 256) then (if ((a ^^^ ((-1))) &&& (a - (nI 1))) ≤ ((65536)) then (a ^^^ ((-1))) &&& (a - (nI 1)) else (((a ^^^ ((-1))) &&& (a - (nI 1))).toUInt32 >>> ((nI 16).toUInt32 &&& Int32.toUInt32 31)).toInt32) else (((if ((a ^^^ ((-1))) &&& (a - (nI 1))) ≤ ((65536)) then (a ^^^ ((-1))) &&& (a - (nI 1)) else (((a ^^^ ((-1))) &&& (a - (nI 1))).toUInt32 >>> ((nI 16).toUInt32 &&& Int32.toUInt32 31)).toInt32)).toUInt32 >>> ((nI 8).toUInt32 &&& Int32.toUInt32 31)).toInt32)) ≤ (nI 16) then (if ((if ((a ^^^ ((-1))) &&& (a - (nI 1))) ≤ ((65536)) then (a ^^^ ((-1))) &&& (a - (nI 1)) else (((a ^^^ ((-1))) &&& (a - (nI 1))).toUInt32 >>> ((nI 16).toUInt32 &&& Int32.toUInt32 31)).toInt32)) ≤ (nI 256) then (if ((a ^^^ ((-1))) &&& (a - (nI 1))) ≤ ((65536)) then (a ^^^ ((-1))) &&& (a - (nI 1)) else (((a ^^^ ((-1))) &&& (a - (nI 1))).toUInt32 >>> ((nI 16).toUInt32 &&& Int32.toUInt32 31)).toInt32) else (((if ((a ^^^ ((-1))) &&& (a - (nI 1))) ≤ ((65536)) then (a ^^^ ((-1))) &&& (a - (nI 1)) else (((a ^^^ ((-1))) &&& (a - (nI 1))).toUInt32 >>> ((nI 16).toUInt32 &&& Int32.toUInt32 31)).toInt32)).toUInt32 >>> ((nI 8).toUInt32 &&& Int32.toUInt32 31)).toInt32) else (((if ((if ((a ^^^ ((-1))) &&& (a - (nI 1))) ≤ ((65536)) then (a ^^^ ((-1))) &&& (a - (nI 1)) else (((a ^^^ ((-1))) &&& (a - (nI 1))).toUInt32 >>> ((nI 16).toUInt32 &&& Int32.toUInt32 31)).toInt32)) ≤ (nI 256) then (if ((a ^^^ ((-1))) &&& (a - (nI 1))) ≤ ((65536)) then (a ^^^ ((-1))) &&& (a - (nI 1)) else (((a ^^^ ((-1))) &&& (a - (nI 1))).toUInt32 >>> ((nI 16).toUInt32 &&& Int32.toUInt32 31)).toInt32) else (((if ((a ^^^ ((-1))) &&& (a - (nI 1))) ≤ ((65536)) then (a ^^^ ((-1))) &&& (a - (nI 1)) else (((a ^^^ ((-1))) &&& (a - (nI 1))).toUInt32 >>> ((nI 16).toUInt32 &&& Int32.toUInt32 31)).toInt32)).toUInt32 >>> ((nI 8).toUInt32 &&& Int32.toUInt32 31)).toInt32)).toUInt32 >>> ((nI 4).toUInt32 &&& Int32.toUInt32 31)).toInt32)).toUInt32 >>> ((nI 2).toUInt32 &&& Int32.toUInt32 31)).toInt32)), (1, .int (((if ((if ((if ((a ^^^ ((-1))) &&& (a - (nI 1))) ≤ ((65536)) then (a ^^^ ((-1))) &&& (a - (nI 1)) else (((a ^^^ ((-1))) &&& (a - (nI 1))).toUInt32 >>> ((nI 16).toUInt32 &&& Int32.toUInt32 31)).toInt32)) ≤ (nI 256) then (if ((a ^^^ ((-1))) &&& (a - (nI 1))) ≤ ((65536)) then (a ^^^ ((-1))) &&& (a - (nI 1)) else (((a ^^^ ((-1))) &&& (a - (nI 1))).toUInt32 >>> ((nI 16).toUInt32 &&& Int32.toUInt32 31)).toInt32) else (((if ((a ^^^ ((-1))) &&& (a - (nI 1))) ≤ ((65536)) then (a ^^^ ((-1))) &&& (a - (nI 1)) else (((a ^^^ ((-1))) &&& (a - (nI 1))).toUInt32 >>> ((nI 16).toUInt32 &&& Int32.toUInt32 31)).toInt32)).toUInt32 >>> ((nI 8).toUInt32 &&& Int32.toUInt32 31)).toInt32)) ≤ (nI 16) then (if ((if ((a ^^^ ((-1))) &&& (a - (nI 1))) ≤ ((65536)) then (a ^^^ ((-1))) &&& (a - (nI 1)) else (((a ^^^ ((-1))) &&& (a - (nI 1))).toUInt32 >>> ((nI 16).toUInt32 &&& Int32.toUInt32 31)).toInt32)) ≤ (nI 256) then (if ((a ^^^ ((-1))) &&& (a - (nI 1))) ≤ ((65536)) then nI 1 else (nI 1) + (16)) else ((if ((a ^^^ ((-1))) &&& (a - (nI 1))) ≤ ((65536)) then nI 1 else (nI 1) + (16))) + (8)) else ((if ((if ((a ^^^ ((-1))) &&& (a - (nI 1))) ≤ ((65536)) then (a ^^^ ((-1))) &&& (a - (nI 1)) else (((a ^^^ ((-1))) &&& (a - (nI 1))).toUInt32 >>> ((nI 16).toUInt32 &&& Int32.toUInt32 31)).toInt32)) ≤ (nI 256) then (if ((a ^^^ ((-1))) &&& (a - (nI 1))) ≤ ((65536)) then nI 1 else (nI 1) + (16)) else ((if ((a ^^^ ((-1))) &&& (a - (nI 1))) ≤ ((65536)) then nI 1 else (nI 1) + (16))) + (8))) + (4))) + (2)))] dJ13_numberOfTrailingZeros_73 rfl rfl rfl ?_
            refine x_sub [1, 0] rfl ?_
            exact J19 (((if ((if ((if ((a ^^^ ((-1))) &&& (a - (nI 1))) ≤ ((65536)) then (a ^^^ ((-1))) &&& (a - (nI 1)) else (((a ^^^ ((-1))) &&& (a - (nI 1))).toUInt32 >>> ((nI 16).toUInt32 &&& Int32.toUInt32 31)).toInt32)) ≤ (nI 256) then (if ((a ^^^ ((-1))) &&& (a - (nI 1))) ≤ ((65536)) then (a ^^^ ((-1))) &&& (a - (nI 1)) else (((a ^^^ ((-1))) &&& (a - (nI 1))).toUInt32 >>> ((nI 16).toUInt32 &&& Int32.toUInt32 31)).toInt32) else (((if ((a ^^^ ((-1))) &&& (a - (nI 1))) ≤ ((65536)) then (a ^^^ ((-1))) &&& (a - (nI 1)) else (((a ^^^ ((-1))) &&& (a - (nI 1))).toUInt32 >>> ((nI 16).toUInt32 &&& Int32.toUInt32 31)).toInt32)).toUInt32 >>> ((nI 8).toUInt32 &&& Int32.toUInt32 31)).toInt32)) ≤ (nI 16) then (if ((if ((a ^^^ ((-1))) &&& (a - (nI 1))) ≤ ((65536)) then (a ^^^ ((-1))) &&& (a - (nI 1)) else (((a ^^^ ((-1))) &&& (a - (nI 1))).toUInt32 >>> ((nI 16).toUInt32 &&& Int32.toUInt32 31)).toInt32)) ≤ (nI 256) then (if ((a ^^^ ((-1))) &&& (a - (nI 1))) ≤ ((65536)) then nI 1 else (nI 1) + (16)) else ((if ((a ^^^ ((-1))) &&& (a - (nI 1))) ≤ ((65536)) then nI 1 else (nI 1) + (16))) + (8)) else ((if ((if ((a ^^^ ((-1))) &&& (a - (nI 1))) ≤ ((65536)) then (a ^^^ ((-1))) &&& (a - (nI 1)) else (((a ^^^ ((-1))) &&& (a - (nI 1))).toUInt32 >>> ((nI 16).toUInt32 &&& Int32.toUInt32 31)).toInt32)) ≤ (nI 256) then (if ((a ^^^ ((-1))) &&& (a - (nI 1))) ≤ ((65536)) then nI 1 else (nI 1) + (16)) else ((if ((a ^^^ ((-1))) &&& (a - (nI 1))) ≤ ((65536)) then nI 1 else (nI 1) + (16))) + (8))) + (4))) + (2)) ((((if ((if ((if ((a ^^^ ((-1))) &&& (a - (nI 1))) ≤ ((65536)) then (a ^^^ ((-1))) &&& (a - (nI 1)) else (((a ^^^ ((-1))) &&& (a - (nI 1))).toUInt32 >>> ((nI 16).toUInt32 &&& Int32.toUInt32 31)).toInt32)) ≤ (nI 256) then (if ((a ^^^ ((-1))) &&& (a - (nI 1))) ≤ ((65536)) then (a ^^^ ((-1))) &&& (a - (nI 1)) else (((a ^^^ ((-1))) &&& (a - (nI 1))).toUInt32 >>> ((nI 16).toUInt32 &&& Int32.toUInt32 31)).toInt32) else (((if ((a ^^^ ((-1))) &&& (a - (nI 1))) ≤ ((65536)) then (a ^^^ ((-1))) &&& (a - (nI 1)) else (((a ^^^ ((-1))) &&& (a - (nI 1))).toUInt32 >>> ((nI 16).toUInt32 &&& Int32.toUInt32 31)).toInt32)).toUInt32 >>> ((nI 8).toUInt32 &&& Int32.toUInt32 31)).toInt32)) ≤ (nI 16) then (if ((if ((a ^^^ ((-1))) &&& (a - (nI 1))) ≤ ((65536)) then (a ^^^ ((-1))) &&& (a - (nI 1)) else (((a ^^^ ((-1))) &&& (a - (nI 1))).toUInt32 >>> ((nI 16).toUInt32 &&& Int32.toUInt32 31)).toInt32)) ≤ (nI 256) then (if ((a ^^^ ((-1))) &&& (a - (nI 1))) ≤ ((65536)) then (a ^^^ ((-1))) &&& (a - (nI 1)) else (((a ^^^ ((-1))) &&& (a - (nI 1))).toUInt32 >>> ((nI 16).toUInt32 &&& Int32.toUInt32 31)).toInt32) else (((if ((a ^^^ ((-1))) &&& (a - (nI 1))) ≤ ((65536)) then (a ^^^ ((-1))) &&& (a - (nI 1)) else (((a ^^^ ((-1))) &&& (a - (nI 1))).toUInt32 >>> ((nI 16).toUInt32 &&& Int32.toUInt32 31)).toInt32)).toUInt32 >>> ((nI 8).toUInt32 &&& Int32.toUInt32 31)).toInt32) else (((if ((if ((a ^^^ ((-1))) &&& (a - (nI 1))) ≤ ((65536)) then (a ^^^ ((-1))) &&& (a - (nI 1)) else (((a ^^^ ((-1))) &&& (a - (nI 1))).toUInt32 >>> ((nI 16).toUInt32 &&& Int32.toUInt32 31)).toInt32)) ≤ (nI 256) then (if ((a ^^^ ((-1))) &&& (a - (nI 1))) ≤ ((65536)) then (a ^^^ ((-1))) &&& (a - (nI 1)) else (((a ^^^ ((-1))) &&& (a - (nI 1))).toUInt32 >>> ((nI 16).toUInt32 &&& Int32.toUInt32 31)).toInt32) else (((if ((a ^^^ ((-1))) &&& (a - (nI 1))) ≤ ((65536)) then (a ^^^ ((-1))) &&& (a - (nI 1)) else (((a ^^^ ((-1))) &&& (a - (nI 1))).toUInt32 >>> ((nI 16).toUInt32 &&& Int32.toUInt32 31)).toInt32)).toUInt32 >>> ((nI 8).toUInt32 &&& Int32.toUInt32 31)).toInt32)).toUInt32 >>> ((nI 4).toUInt32 &&& Int32.toUInt32 31)).toInt32)).toUInt32 >>> ((nI 2).toUInt32 &&& Int32.toUInt32 31)).toInt32) (by rw [if_neg c64]) (by rw [if_neg c64])
        refine x_icmple O 62 dJ13_numberOfTrailingZeros_52 (by decide) (fun c52 => ?_) (fun c52 => ?_)
        · exact J16 ((if ((if ((a ^^^ ((-1))) &&& (a - (nI 1))) ≤ ((65536)) then (a ^^^ ((-1))) &&& (a - (nI 1)) else (((a ^^^ ((-1))) &&& (a - (nI 1))).toUInt32 >>> ((nI 16).toUInt32 &&& Int32.toUInt32 31)).toInt32)) ≤ (nI 256) then (if ((a ^^^ ((-1))) &&& (a - (nI 1))) ≤ ((65536)) then nI 1 else (nI 1) + (16)) else ((if ((a ^^^ ((-1))) &&& (a - (nI 1))) ≤ ((65536)) then nI 1 else (nI 1) + (16))) + (8))) ((if ((if ((a ^^^ ((-1))) &&& (a - (nI 1))) ≤ ((65536)) then (a ^^^ ((-1))) &&& (a - (nI 1)) else (((a ^^^ ((-1))) &&& (a - (nI 1))).toUInt32 >>> ((nI 16).toUInt32 &&& Int32.toUInt32 31)).toInt32)) ≤ (nI 256) then (if ((a ^^^ ((-1))) &&& (a - (nI 1))) ≤ ((65536)) then (a ^^^ ((-1))) &&& (a - (nI 1)) else (((a ^^^ ((-1))) &&& (a - (nI 1))).toUInt32 >>> ((nI 16).toUInt32 &&& Int32.toUInt32 31)).toInt32) else (((if ((a ^^^ ((-1))) &&& (a - (nI 1))) ≤ ((65536)) then (a ^^^ ((-1))) &&& (a - (nI 1)) else (((a ^^^ ((-1))) &&& (a - (nI 1))).toUInt32 >>> ((nI 16).toUInt32 &&& Int32.toUInt32 31)).toInt32)).toUInt32 >>> ((nI 8).toUInt32 &&& Int32.toUInt32 31)).toInt32)) (by rw [if_pos c52]) (by rw [if_pos c52])
        · refine x_iinc O 0 (((if ((if ((a ^^^ ((-1))) &&& (a - (nI 1))) ≤ ((65536)) then (a ^^^ ((-1))) &&& (a - (nI 1)) else (((a ^^^ ((-1))) &&& (a - (nI 1))).toUInt32 >>> ((nI 16).toUInt32 &&& Int32.toUInt32 31)).toInt32)) ≤ (nI 256) then (if ((a ^^^ ((-1))) &&& (a - (nI 1))) ≤ ((65536)) then nI 1 else (nI 1) + (16)) else ((if ((a ^^^ ((-1))) &&& (a - (nI 1))) ≤ ((65536)) then nI 1 else (nI 1) + (16))) + (8))) + (4)) [(1, .int (((if ((if ((a ^^^ ((-1))) &&& (a - (nI 1))) ≤ ((65536)) then (a ^^^ ((-1))) &&& (a - (nI 1)) else (((a ^^^ ((-1))) &&& (a - (nI 1))).toUInt32 >>> ((nI 16).toUInt32 &&& Int32.toUInt32 31)).toInt32)) ≤ (nI 256) then (if ((a ^^^ ((-1))) &&& (a - (nI 1))) ≤ ((65536)) then nI 1 else (nI 1) + (16)) else ((if ((a ^^^ ((-1))) &&& (a - (nI 1))) ≤ ((65536)) then nI 1 else (nI 1) + (16))) + (8))) + (4))), (0, .int ((if ((if ((a ^^^ ((-1))) &&& (a - (nI 1))) ≤ ((65536)) then (a ^^^ ((-1))) &&& (a - (nI 1)) else (((a ^^^ ((-1))) &&& (a - (nI 1))).toUInt32 >>> ((nI 16).toUInt32 &&& Int32.toUInt32 31)).toInt32)) ≤ (nI 256) then (if ((a ^^^ ((-1))) &&& (a - (nI 1))) ≤ ((65536)) then (a ^^^ ((-1))) &&& (a - (nI 1)) else (((a ^^^ ((-1))) &&& (a - (nI 1))).toUInt32 >>> ((nI 16).toUInt32 &&& Int32.toUInt32 31)).toInt32) else (((if ((a ^^^ ((-1))) &&& (a - (nI 1))) ≤ ((65536)) then (a ^^^ ((-1))) &&& (a - (nI 1)) else (((a ^^^ ((-1))) &&& (a - (nI 1))).toUInt32 >>> ((nI 16).toUInt32 &&& Int32.toUInt32 31)).toInt32)).toUInt32 >>> ((nI 8).toUInt32 &&& Int32.toUInt32 31)).toInt32)))] dJ13_numberOfTrailingZeros_55 rfl rfl rfl rfl ?_
          refine x_iload_n O 1 dJ13_numberOfTrailingZeros_58 rfl rfl ?_
          refine x_iconst O (nI 4) dJ13_numberOfTrailingZeros_59 (by decide) ?_
          refine x_iushr O dJ13_numberOfTrailingZeros_60 ?_
          refine x_istore_n O [(0, .int ((((if ((if ((a ^^^ ((-1))) &&& (a - (nI 1))) ≤ ((65536)) then (a ^^^ ((-1))) &&& (a - (nI 1)) else (((a ^^^ ((-1))) &&& (a - (nI 1))).toUInt32 >>> ((nI 16).toUInt32 &&& Int32.toUInt32 31)).toInt32)) ≤ (nI 256) then (if ((a ^^^ ((-1))) &&& (a - (nI 1))) ≤ ((65536)) then (a ^^^ ((-1))) &&& (a - (nI 1)) else (((a ^^^ ((-1))) &&& (a - (nI 1))).toUInt32 >>> ((nI 16).toUInt32 &&& Int32.toUInt32 31)).toInt32) else (((if ((a ^^^ ((-1))) &&& (a - (nI 1))) ≤ ((65536)) then (a ^^^ ((-1))) &&& (a - (nI 1)) else (((a ^^^ ((-1))) &&& (a - (nI 1))).toUInt32 >>> ((nI 16).toUInt32 &&& Int32.toUInt32 31)).toInt32)).toUInt32 >>> ((nI 8).toUInt32 &&& Int32.toUInt32 31)).toInt32)).toUInt32 >>> ((nI 4).toUInt32 &&& Int32.toUInt32 31)).toInt32)), (1, .int (((if ((if ((a ^^^ ((-1))) &&& (a - (nI 1))) ≤ ((65536)) then (a ^^^ ((-1))) &&& (a - (nI 1)) else (((a ^^^ ((-1))) &&& (a - (nI 1))).toUInt32 >>> ((nI 16).toUInt32 &&& Int32.toUInt32 31)).toInt32)) ≤ (nI 256) then (if ((a ^^^ ((-1))) &&& (a - (nI 1))) ≤ ((65536)) then nI 1 else (nI 1) + (16)) else ((if ((a ^^^ ((-1))) &&& (a - (nI 1))) ≤ ((65536)) then nI 1 else (nI 1) + (16))) + (8))) + (4)))] dJ13_numberOfTrailingZeros_61 rfl rfl rfl ?_
          refine x_sub [1, 0] rfl ?_
          exact J16 (((if ((if ((a ^^^ ((-1))) &&& (a - (nI 1))) ≤ ((65536)) then (a ^^^ ((-1))) &&& (a - (nI 1)) else (((a ^^^ ((-1))) &&& (a - (nI 1))).toUInt32 >>> ((nI 16).toUInt32 &&& Int32.toUInt32 31)).toInt32)) ≤ (nI 256) then (if ((a ^^^ ((-1))) &&& (a - (nI 1))) ≤ ((65536)) then nI 1 else (nI 1) + (16)) else ((if ((a ^^^ ((-1))) &&& (a - (nI 1))) ≤ ((65536)) then nI 1 else (nI 1) + (16))) + (8))) + (4)) ((((if ((if ((a ^^^ ((-1))) &&& (a - (nI 1))) ≤ ((65536)) then (a ^^^ ((-1))) &&& (a - (nI 1)) else (((a ^^^ ((-1))) &&& (a - (nI 1))).toUInt32 >>> ((nI 16).toUInt32 &&& Int32.toUInt32 31)).toInt32)) ≤ (nI 256) then (if ((a ^^^ ((-1))) &&& (a - (nI 1))) ≤ ((65536)) then (a ^^^ ((-1))) &&& (a - (nI 1)) else (((a ^^^ ((-1))) &&& (a - (nI 1))).toUInt32 >>> ((nI 16).toUInt32 &&& Int32.toUInt32 31)).toInt32) else (((if ((a ^^^ ((-1))) &&& (a - (nI 1))) ≤ ((65536)) then (a ^^^ ((-1))) &&& (a - (nI 1)) else (((a ^^^ ((-1))) &&& (a - (nI 1))).toUInt32 >>> ((nI 16).toUInt32 &&& Int32.toUInt32 31)).toInt32)).toUInt32 >>> ((nI 8).toUInt32 &&& Int32.toUInt32 31)).toInt32)).toUInt32 >>> ((nI 4).toUInt32 &&& Int32.toUInt32 31)).toInt32) (by rw [if_neg c52]) (by rw [if_neg c52])
      refine x_icmple O 49 dJ13_numberOfTrailingZeros_38 (by decide) (fun c38 => ?_) (fun c38 => ?_)
      · exact J13 ((if ((a ^^^ ((-1))) &&& (a - (nI 1))) ≤ ((65536)) then nI 1 else (nI 1) + (16))) ((if ((a ^^^ ((-1))) &&& (a - (nI 1))) ≤ ((65536)) then (a ^^^ ((-1))) &&& (a - (nI 1)) else (((a ^^^ ((-1))) &&& (a - (nI 1))).toUInt32 >>> ((nI 16).toUInt32 &&& Int32.toUInt32 31)).toInt32)) (by rw [if_pos c38]) (by rw [if_pos c38])
      · refine x_iinc O 0 (((if ((a ^^^ ((-1))) &&& (a - (nI 1))) ≤ ((65536)) then nI 1 else (nI 1) + (16))) + (8)) [(1, .int (((if ((a ^^^ ((-1))) &&& (a - (nI 1))) ≤ ((65536)) then nI 1 else (nI 1) + (16))) + (8))), (0, .int ((if ((a ^^^ ((-1))) &&& (a - (nI 1))) ≤ ((65536)) then (a ^^^ ((-1))) &&& (a - (nI 1)) else (((a ^^^ ((-1))) &&& (a - (nI 1))).toUInt32 >>> ((nI 16).toUInt32 &&& Int32.toUInt32 31)).toInt32)))] dJ13_numberOfTrailingZeros_41 rfl rfl rfl rfl ?_
        refine x_iload_n O 1 dJ13_numberOfTrailingZeros_44 rfl rfl ?_
        refine x_bipush O (nI 8) dJ13_numberOfTrailingZeros_45 (by decide) ?_
        refine x_iushr O dJ13_numberOfTrailingZeros_47 ?_
        refine x_istore_n O [(0, .int ((((if ((a ^^^ ((-1))) &&& (a - (nI 1))) ≤ ((65536)) then (a ^^^ ((-1))) &&& (a - (nI 1)) else (((a ^^^ ((-1))) &&& (a - (nI 1))).toUInt32 >>> ((nI 16).toUInt32 &&& Int32.toUInt32 31)).toInt32)).toUInt32 >>> ((nI 8).toUInt32 &&& Int32.toUInt32 31)).toInt32)), (1, .int (((if ((a ^^^ ((-1))) &&& (a - (nI 1))) ≤ ((65536)) then nI 1 else (nI 1) + (16))) + (8)))] dJ13_numberOfTrailingZeros_48 rfl rfl rfl ?_
        refine x_sub [1, 0] rfl ?_
        exact J13 (((if ((a ^^^ ((-1))) &&& (a - (nI 1))) ≤ ((65536)) then nI 1 else (nI 1) + (16))) + (8)) ((((if ((a ^^^ ((-1))) &&& (a - (nI 1))) ≤ ((65536)) then (a ^^^ ((-1))) &&& (a - (nI 1)) else (((a ^^^ ((-1))) &&& (a - (nI 1))).toUInt32 >>> ((nI 16).toUInt32 &&& Int32.toUInt32 31)).toInt32)).toUInt32 >>> ((nI 8).toUInt32 &&& Int32.toUInt32 31)).toInt32) (by rw [if_neg c38]) (by rw [if_neg c38])
    refine x_icmple O 34 dJ13_numberOfTrailingZeros_23 (by decide) (fun c23 => ?_) (fun c23 => ?_)
    · exact J10 (nI 1) ((a ^^^ ((-1))) &&& (a - (nI 1))) (by rw [if_pos c23]) (by rw [if_pos c23])
    · refine x_iinc O 0 ((nI 1) + (16)) [(1, .int ((nI 1) + (16))), (0, .int ((a ^^^ ((-1))) &&& (a - (nI 1))))] dJ13_numberOfTrailingZeros_26 rfl rfl rfl rfl ?_
      refine x_iload_n O 1 dJ13_numberOfTrailingZeros_29 rfl rfl ?_
      refine x_bipush O (nI 16) dJ13_numberOfTrailingZeros_30 (by decide) ?_
      refine x_iushr O dJ13_numberOfTrailingZeros_32 ?_
      refine x_istore_n O [(0, .int ((((a ^^^ ((-1))) &&& (a - (nI 1))).toUInt32 >>> ((nI 16).toUInt32 &&& Int32.toUInt32 31)).toInt32)), (1, .int ((nI 1) + (16)))] dJ13_numberOfTrailingZeros_33 rfl rfl rfl ?_
      refine x_sub [1, 0] rfl ?_
      exact J10 ((nI 1) + (16)) ((((a ^^^ ((-1))) &&& (a - (nI 1))).toUInt32 >>> ((nI 16).toUInt32 &&& Int32.toUInt32 31)).toInt32) (by rw [if_neg c23]) (by rw [if_neg c23])
  · have hr22 := hres.trans (if_neg c9)
    refine x_iload_n O 0 dJ13_numberOfTrailingZeros_12 rfl rfl ?_
    refine x_bipush O (nI 32) dJ13_numberOfTrailingZeros_13 (by decide) ?_
    refine x_iand O dJ13_numberOfTrailingZeros_15 ?_
    exact x_iretQ O hQ rfl dJ13_numberOfTrailingZeros_16 (fun h m => ⟨by rw [hr22], m⟩)

def m_sureOf (W : Nat → Int32) (f : Nat) : Int32 :=
  (if (j_bits ((if m_isSeenCase W f = true then m_mayBe W f else nI 0))) = (nI 1) then j_ntz ((if m_isSeenCase W f = true then m_mayBe W f else nI 0)) else (-1))
set_option maxHeartbeats 4000000 in
set_option maxRecDepth 100000 in
theorem c_m_sureOf {G : UG} {adr : Nat → Nat} {h0 : Hp} {μ : Mu} (hI : MI (μ 1)) (f : Nat) (hf : f < 120) : Con G yX6_sureOf cX6_sureOf 3 (some .int) 4 85 0 0 [.ref (adr 0), .int (nI f)] (MS G adr h0 μ) (fun vr_ h' => vr_ = some (.int (m_sureOf (μ 1) f)) ∧ MS G adr h0 μ h') nX := by
  refine con_of2 (plainFor_of_name (by decide)) rfl ?_
  intro F R Q RF RL RC RS hQ O hnh hnm
  obtain ⟨res, hres⟩ : ∃ z, z = (m_sureOf (μ 1) f) := ⟨_, rfl⟩
  rw [← hres] at hQ
  unfold m_sureOf at hres
  refine x_eq (L' := [(0, .ref (adr 0)), (1, .int (nI f))]) ?_ rfl rfl rfl
  refine x_aload_n O 0 dX6_sureOf_0 rfl rfl ?_
  refine x_iload_n O 1 dX6_sureOf_1 rfl rfl ?_
  refine x_cV O 1 (c_m_isSeenCase (μ := μ) f (by omega)) MS.obj uc6 (lw_V q2106 q2108 qs82 q111 q2109) rfl hd_X6_isSeenCase rfl (by rw [RF]; rfl) (by rw [RL]; rfl) ⟨Nat.zero_le _, Nat.zero_le _⟩ rfl rfl dX6_sureOf_2 ?_
  have J3 : ∀ (y1 : Int32), y1 = (if m_isSeenCase (μ 1) f = true then m_mayBe (μ 1) f else nI 0) → X G F R Q 3 17 [(0, .ref (adr 0))] [.int y1] (MS G adr h0 μ) 0 0 := by
    intro y1 e4
    subst e4
    refine x_istore_n O [(2, .int ((if m_isSeenCase (μ 1) f = true then m_mayBe (μ 1) f else nI 0))), (0, .ref (adr 0))] dX6_sureOf_17 rfl rfl rfl ?_
    refine x_iload_n O 0 dX6_sureOf_18 rfl rfl ?_
    refine x_cS O 1 (c_j_bits ((if m_isSeenCase (μ 1) f = true then m_mayBe (μ 1) f else nI 0))) (lw_S q2105 q572 q142 q573) hd_J13_bitCount rfl (by rw [RF]; rfl) (by rw [RL]; rfl) ⟨Nat.zero_le _, Nat.zero_le _⟩ rfl rfl dX6_sureOf_19 ?_
    refine x_iconst O (nI 1) dX6_sureOf_22 (by decide) ?_
    have J5 : ∀ (y2 : Int32), y2 = (if (j_bits ((if m_isSeenCase (μ 1) f = true then m_mayBe (μ 1) f else nI 0))) = (nI 1) then j_ntz ((if m_isSeenCase (μ 1) f = true then m_mayBe (μ 1) f else nI 0)) else (-1)) → X G F R Q 3 34 [(0, .ref (adr 0))] [.int y2] (MS G adr h0 μ) 0 0 := by
      intro y2 e6
      subst e6
      exact x_iretQ O hQ rfl dX6_sureOf_34 (fun h m => ⟨by rw [hres], m⟩)
    refine x_icmpne O 33 dX6_sureOf_23 (by decide) (fun c23 => ?_) (fun c23 => ?_)
    · refine x_sub [1] (L' := [(0, .ref (adr 0))]) rfl ?_
      refine x_iconst O ((-1)) dX6_sureOf_33 (by decide) ?_
      exact J5 ((-1)) (by rw [if_neg c23])
    · refine x_iload_n O 0 dX6_sureOf_26 rfl rfl ?_
      refine x_cS O 1 (c_j_ntz ((if m_isSeenCase (μ 1) f = true then m_mayBe (μ 1) f else nI 0))) (lw_S q2134 q1417 q142 q1418) hd_J13_numberOfTrailingZeros rfl (by rw [RF]; rfl) (by rw [RL]; rfl) ⟨Nat.zero_le _, Nat.zero_le _⟩ rfl rfl dX6_sureOf_27 ?_
      refine x_goto O 34 dX6_sureOf_30 (by decide) ?_
      refine x_sub [1] (L' := [(0, .ref (adr 0))]) rfl ?_
      exact J5 (j_ntz ((if m_isSeenCase (μ 1) f = true then m_mayBe (μ 1) f else nI 0))) (by rw [if_pos c23])
  refine x_ifeqB O 16 dX6_sureOf_5 (by decide) (fun c5 => ?_) (fun c5 => ?_)
  · refine x_sub [0] (L' := [(0, .ref (adr 0))]) rfl ?_
    refine x_iconst O (nI 0) dX6_sureOf_16 (by decide) ?_
    exact J3 (nI 0) (by rw [if_neg c5])
  · refine x_aload_n O 0 dX6_sureOf_8 rfl rfl ?_
    refine x_iload_n O 1 dX6_sureOf_9 rfl rfl ?_
    refine x_cV O 1 (c_m_mayBe (μ := μ) hI f (by omega)) MS.obj uc6 (lw_V q2066 q2068 qs78 q111 q2069) rfl hd_X6_mayBe rfl (by rw [RF]; rfl) (by rw [RL]; rfl) ⟨Nat.zero_le _, Nat.zero_le _⟩ rfl rfl dX6_sureOf_10 ?_
    refine x_goto O 17 dX6_sureOf_13 (by decide) ?_
    refine x_sub [0] (L' := [(0, .ref (adr 0))]) rfl ?_
    exact J3 (m_mayBe (μ 1) f) (by rw [if_pos c5])

def m_person_b58 (W : Nat → Int32) (gun : Int32) (i6_58 : Nat) (v5_58 : Bool) : Bool :=
  (if v5_58 = true then true else (if (m_of W i6_58 0) = gun then true else false))
def m_person (W : Nat → Int32) (gun : Int32) (cell : Int32) (fear : Int32) (law : Int32) : Int32 :=
  (if (if m_none W gun 0 = true then true else (if m_noCell cell = true then true else (if law = ((-1)) then false else (if m_none W law 2 = true then true else false)))) = true then nI 0 else (if (if m_in fear (nI 0) (nI 9) = true then (if (fr (fun i s => m_person_b58 W gun i s) (tn (W 1)) 0 false) = true then true else false) else true) = true then nI 0 else (if (if tn (W 1) = 8 then true else false) = true then nI 0 else nI (tn (W 1)))))
def m_person_s (μ : Mu) (gun : Int32) (cell : Int32) (fear : Int32) (law : Int32) : Mu :=
  (if (if m_none (μ 1) gun 0 = true then true else (if m_noCell cell = true then true else (if law = ((-1)) then false else (if m_none (μ 1) law 2 = true then true else false)))) = true then (mset (mset μ 0 0 (nI 0)) 0 0 (nI 1)) else (if (if m_in fear (nI 0) (nI 9) = true then (if (fr (fun i s => m_person_b58 (μ 1) gun i s) (tn (μ 1 1)) 0 false) = true then true else false) else true) = true then (mset (mset μ 0 0 (nI 0)) 0 0 (nI 2)) else (if (if tn (μ 1 1) = 8 then true else false) = true then (mset (mset μ 0 0 (nI 0)) 0 0 (nI 3)) else (mset (mset (mset (mset (mset (mset (mset (mset μ 0 0 (nI 0)) 1 (301 + 6 * (tn (μ 1 1)) + 0) gun) 1 (301 + 6 * (tn (μ 1 1)) + 1) cell) 1 (301 + 6 * (tn (μ 1 1)) + 2) fear) 1 (301 + 6 * (tn (μ 1 1)) + 3) (nI 1)) 1 (301 + 6 * (tn (μ 1 1)) + 4) (μ 1 (269 + 4 * tn gun))) 1 (301 + 6 * (tn (μ 1 1)) + 5) law) 1 1 (nI (tn (μ 1 1) + 1))))))
set_option maxHeartbeats 4000000 in
set_option maxRecDepth 100000 in
theorem c_m_person {G : UG} {adr : Nat → Nat} {h0 : Hp} {μ : Mu} (hI : MI (μ 1)) (gun : Int32) (cell : Int32) (fear : Int32) (law : Int32)  : Con G yX6_person cX6_person 7 (some .int) 2 44 0 0 [.ref (adr 0), .int gun, .int cell, .int fear, .int law] (MS G adr h0 μ) (fun vr_ h' => vr_ = some (.int (m_person (μ 1) gun cell fear law)) ∧ MS G adr h0 (m_person_s μ gun cell fear law) h') nX := by
  refine con_of2 (plainFor_of_name (by decide)) rfl ?_
  intro F R Q RF RL RC RS hQ O hnh hnm
  obtain ⟨res, hres⟩ : ∃ z, z = (m_person (μ 1) gun cell fear law) := ⟨_, rfl⟩
  rw [← hres] at hQ
  unfold m_person at hres
  obtain ⟨resm, hresm⟩ : ∃ z, z = m_person_s μ gun cell fear law := ⟨_, rfl⟩
  rw [← hresm] at hQ
  unfold m_person_s at hresm
  have hb0 : tn (μ 1 0) ≤ 8 := (hI 0 (by decide)).2
  have hb1 : tn (μ 1 1) ≤ 8 := (hI 1 (by decide)).2
  have hb2 : tn (μ 1 2) ≤ 4 := (hI 2 (by decide)).2
  refine x_eq (L' := [(0, .ref (adr 0)), (1, .int gun), (2, .int cell), (3, .int fear), (4, .int law)]) ?_ rfl rfl rfl
  refine x_aload_n O 0 dX6_person_0 rfl rfl ?_
  refine x_iconst O (nI 0) dX6_person_1 (by decide) ?_
  refine x_mput O p_X6_3_6 (mp_0 _ _ _) rfl dX6_person_2 ?_
  refine x_aload_n O 0 dX6_person_5 rfl rfl ?_
  refine x_aload_n O 0 dX6_person_6 rfl rfl ?_
  refine x_iload_n O 1 dX6_person_7 rfl rfl ?_
  refine x_iconst O (nI 0) dX6_person_8 (by decide) ?_
  refine x_cV O 2 (c_m_none (μ := (mset μ 0 0 (nI 0))) gun 0 (by omega)) MS.obj uc6 (lw_V q1964 q1966 qs59 q111 q1967) rfl hd_X6_none rfl (by rw [RF]; rfl) (by rw [RL]; rfl) ⟨Nat.zero_le _, Nat.zero_le _⟩ rfl rfl dX6_person_9 ?_
  refine x_top (v' := b2i (m_none (μ 1) gun 0)) rfl ?_
  have J5 : ∀ (y1 : Bool), y1 = (if m_none (μ 1) gun 0 = true then true else (if m_noCell cell = true then true else (if law = ((-1)) then false else (if m_none (μ 1) law 2 = true then true else false)))) → X G F R Q 7 43 [(0, .ref (adr 0)), (1, .int gun), (2, .int cell), (3, .int fear), (4, .int law)] [.int (b2i y1), .ref (adr 0)] (MS G adr h0 ((mset μ 0 0 (nI 0)))) 0 0 := by
    intro y1 e6
    subst e6
    refine x_iconst O (nI 1) dX6_person_43 (by decide) ?_
    refine x_bc ((if m_none (μ 1) gun 0 = true then true else (if m_noCell cell = true then true else (if law = ((-1)) then false else (if m_none (μ 1) law 2 = true then true else false))))) (fun c44 => ?_) (fun c44 => ?_)
    · have hr7 := hres.trans (if_pos c44)
      have hr8 := hresm.trans (if_pos c44)
      refine x_eq (st' := [.int (nI 1), .int (b2i true), .ref (adr 0)]) ?_ rfl rfl (by rw [c44] <;> rfl)
      refine x_cV O 2 (c_m_throwsIf_t (μ := (mset μ 0 0 (nI 0))) 1) MS.obj uc6 (lw_V q1774 q1776 qs34 q111 q1777) rfl hd_X6_throwsIf rfl (by rw [RF]; rfl) (by rw [RL]; rfl) ⟨Nat.zero_le _, Nat.zero_le _⟩ rfl rfl dX6_person_44 ?_
      refine x_top (v' := b2i true) rfl ?_
      refine x_ifeqB O 52 dX6_person_47 (by decide) (fun c => absurd rfl c) (fun _ => ?_)
      refine x_sub [0] (L' := [(0, .ref (adr 0))]) rfl ?_
      refine x_iconst O (nI 0) dX6_person_50 (by decide) ?_
      exact x_iretQ O hQ rfl dX6_person_51 (fun h m => ⟨by rw [hr7], by rw [hr8]; exact m⟩)
    · have hr9 := hres.trans (if_neg c44)
      have hr10 := hresm.trans (if_neg c44)
      refine x_eq (st' := [.int (nI 1), .int (b2i false), .ref (adr 0)]) ?_ rfl rfl (by rw [bfalse c44] <;> rfl)
      refine x_cV O 2 (c_m_throwsIf_f (μ := (mset μ 0 0 (nI 0))) 1) MS.obj uc6 (lw_V q1774 q1776 qs34 q111 q1777) rfl hd_X6_throwsIf rfl (by rw [RF]; rfl) (by rw [RL]; rfl) ⟨Nat.zero_le _, Nat.zero_le _⟩ rfl rfl dX6_person_44 ?_
      refine x_top (v' := b2i false) rfl ?_
      refine x_ifeqB O 52 dX6_person_47 (by decide) (fun _ => ?_) (fun c => absurd c (by decide))
      refine x_iconst O (nI 0) dX6_person_52 (by decide) ?_
      refine x_top (v' := b2i false) (by decide) ?_
      refine x_istore O [(5, .int (b2i false)), (0, .ref (adr 0)), (1, .int gun), (2, .int cell), (3, .int fear), (4, .int law)] dX6_person_53 rfl rfl ?_
      refine x_iconst O (nI 0) dX6_person_55 (by decide) ?_
      refine x_istore O [(6, .int (nI 0)), (5, .int (b2i false)), (0, .ref (adr 0)), (1, .int gun), (2, .int cell), (3, .int fear), (4, .int law)] dX6_person_56 rfl rfl ?_
      have LOOP58 : ∀ (cc_ : Nat) (i6_58 : Nat) (v5_58 : Bool), cc_ = tn (μ 1 1) - i6_58 → i6_58 < 2147483648 → (∀ (y0 : Bool), y0 = fr (fun i s => m_person_b58 (μ 1) gun i s) cc_ i6_58 v5_58 → X G F R Q 7 98 [(5, .int (b2i y0)), (0, .ref (adr 0)), (1, .int gun), (2, .int cell), (3, .int fear), (4, .int law)] [] (MS G adr h0 ((mset μ 0 0 (nI 0)))) 0 0) → X G F R Q 7 58 [(6, .int (nI i6_58)), (5, .int (b2i v5_58)), (0, .ref (adr 0)), (1, .int gun), (2, .int cell), (3, .int fear), (4, .int law)] [] (MS G adr h0 ((mset μ 0 0 (nI 0)))) 0 0 := by
        intro cc_
        induction cc_ using Nat.strongRecOn with
        | ind cc_ IH_ =>
          intro i6_58 v5_58 hc_ hb_  K_
          refine x_iload O 0 dX6_person_58 rfl ?_
          refine x_aload_n O 2 dX6_person_60 rfl rfl ?_
          refine x_mget O k_X6_13_6 (mg_1 _ _) dX6_person_61 ?_
          refine x_iconst O (nI 1) dX6_person_64 (by decide) ?_
          refine x_ialdN O MS.c1 (by omega) rfl dX6_person_65 ?_
          refine x_top (v' := μ 1 1) (rd_oth (by decide)) ?_
          refine x_top (v' := nI (tn (μ 1 1))) ((hI 1 (by decide)).1) ?_
          refine x_icmpgeN O 98 (by omega) (by omega) dX6_person_66 (by decide) (fun c66 => ?_) (fun c66 => ?_)
          · refine x_sub [1, 2, 3, 4, 5, 6] (L' := [(5, .int (b2i v5_58)), (0, .ref (adr 0)), (1, .int gun), (2, .int cell), (3, .int fear), (4, .int law)]) rfl ?_
            obtain rfl : cc_ = 0 := by omega
            exact K_ _ rfl
          · refine x_iload O 1 dX6_person_69 rfl ?_
            have J11 : ∀ (y2 : Bool), y2 = (if v5_58 = true then true else (if (m_of (μ 1) i6_58 0) = gun then true else false)) → X G F R Q 7 90 [(6, .int (nI i6_58)), (0, .ref (adr 0)), (1, .int gun), (2, .int cell), (3, .int fear), (4, .int law)] [.int (b2i y2)] (MS G adr h0 ((mset μ 0 0 (nI 0)))) 0 0 := by
              intro y2 e12
              subst e12
              refine x_istore O [(5, .int (b2i ((if v5_58 = true then true else (if (m_of (μ 1) i6_58 0) = gun then true else false))))), (6, .int (nI i6_58)), (0, .ref (adr 0)), (1, .int gun), (2, .int cell), (3, .int fear), (4, .int law)] dX6_person_90 rfl rfl ?_
              refine x_iincN O 1 [(6, .int (nI (i6_58 + 1))), (5, .int (b2i ((if v5_58 = true then true else (if (m_of (μ 1) i6_58 0) = gun then true else false))))), (0, .ref (adr 0)), (1, .int gun), (2, .int cell), (3, .int fear), (4, .int law)] dX6_person_92 rfl rfl rfl ?_
              refine x_goto O 58 dX6_person_95 (by decide) ?_
              obtain ⟨c2_, rfl⟩ : ∃ z, cc_ = z + 1 := ⟨cc_ - 1, by omega⟩
              have hs_ : (fun i s => m_person_b58 (μ 1) gun i s) i6_58 v5_58 = (if v5_58 = true then true else (if (m_of (μ 1) i6_58 0) = gun then true else false)) := by show m_person_b58 (μ 1) gun i6_58 v5_58 = _; unfold m_person_b58; rfl
              exact IH_ c2_ (by omega) _ _ (by omega) (by omega) (fun y0 hy_ => K_ y0 (hy_.trans (fr_step hs_).symm))
            refine x_ifneB O 85 dX6_person_71 (by decide) (fun c71 => ?_) (fun c71 => ?_)
            · refine x_sub [0, 2, 3, 4, 5, 6] (L' := [(6, .int (nI i6_58)), (0, .ref (adr 0)), (1, .int gun), (2, .int cell), (3, .int fear), (4, .int law)]) rfl ?_
              refine x_iconst O (nI 1) dX6_person_85 (by decide) ?_
              refine x_goto O 90 dX6_person_86 (by decide) ?_
              refine x_top (v' := b2i true) (by decide) ?_
              exact J11 true (by rw [if_pos c71])
            · refine x_sub [0, 2, 3, 4, 5, 6] (L' := [(6, .int (nI i6_58)), (0, .ref (adr 0)), (1, .int gun), (2, .int cell), (3, .int fear), (4, .int law)]) rfl ?_
              refine x_aload_n O 1 dX6_person_74 rfl rfl ?_
              refine x_iload O 0 dX6_person_75 rfl ?_
              refine x_iconst O (nI 0) dX6_person_77 (by decide) ?_
              refine x_cV O 2 (c_m_of (μ := (mset μ 0 0 (nI 0))) i6_58 0 (by omega) (by omega)) MS.obj uc6 (lw_V q1968 q1970 qs60 q111 q1971) rfl hd_X6_of rfl (by rw [RF]; rfl) (by rw [RL]; rfl) ⟨Nat.zero_le _, Nat.zero_le _⟩ rfl rfl dX6_person_78 ?_
              refine x_top (v' := m_of (μ 1) i6_58 0) rfl ?_
              refine x_iload_n O 2 dX6_person_81 rfl rfl ?_
              refine x_icmpne O 89 dX6_person_82 (by decide) (fun c82 => ?_) (fun c82 => ?_)
              · refine x_iconst O (nI 0) dX6_person_89 (by decide) ?_
                refine x_top (v' := b2i false) (by decide) ?_
                exact J11 false (by rw [if_neg c71, if_neg c82])
              · refine x_iconst O (nI 1) dX6_person_85 (by decide) ?_
                refine x_goto O 90 dX6_person_86 (by decide) ?_
                refine x_top (v' := b2i true) (by decide) ?_
                exact J11 true (by rw [if_neg c71, if_pos c82])
      refine LOOP58 (tn (μ 1 1)) 0 false rfl (by omega) (fun y0 hy_58 => ?_)
      subst hy_58
      refine x_aload_n O 1 dX6_person_98 rfl rfl ?_
      refine x_iload_n O 4 dX6_person_99 rfl rfl ?_
      refine x_iconst O (nI 0) dX6_person_100 (by decide) ?_
      refine x_bipush O (nI 9) dX6_person_101 (by decide) ?_
      refine x_cS O 3 (c_m_in fear (nI 0) (nI 9)) (lw_S q1771 q1772 q111 q1773) hd_X6_in rfl (by rw [RF]; rfl) (by rw [RL]; rfl) ⟨Nat.zero_le _, Nat.zero_le _⟩ rfl rfl dX6_person_103 ?_
      have J13 : ∀ (y3 : Bool), y3 = (if m_in fear (nI 0) (nI 9) = true then (if (fr (fun i s => m_person_b58 (μ 1) gun i s) (tn (μ 1 1)) 0 false) = true then true else false) else true) → X G F R Q 7 119 [(0, .ref (adr 0)), (1, .int gun), (2, .int cell), (3, .int fear), (4, .int law)] [.int (b2i y3), .ref (adr 0)] (MS G adr h0 ((mset μ 0 0 (nI 0)))) 0 0 := by
        intro y3 e14
        subst e14
        refine x_iconst O (nI 2) dX6_person_119 (by decide) ?_
        refine x_bc ((if m_in fear (nI 0) (nI 9) = true then (if (fr (fun i s => m_person_b58 (μ 1) gun i s) (tn (μ 1 1)) 0 false) = true then true else false) else true)) (fun c120 => ?_) (fun c120 => ?_)
        · have hr15 := hr9.trans (if_pos c120)
          have hr16 := hr10.trans (if_pos c120)
          refine x_eq (st' := [.int (nI 2), .int (b2i true), .ref (adr 0)]) ?_ rfl rfl (by rw [c120] <;> rfl)
          refine x_cV O 2 (c_m_throwsIf_t (μ := (mset μ 0 0 (nI 0))) 2) MS.obj uc6 (lw_V q1774 q1776 qs34 q111 q1777) rfl hd_X6_throwsIf rfl (by rw [RF]; rfl) (by rw [RL]; rfl) ⟨Nat.zero_le _, Nat.zero_le _⟩ rfl rfl dX6_person_120 ?_
          refine x_top (v' := b2i true) rfl ?_
          refine x_ifneB O 150 dX6_person_123 (by decide) (fun _ => ?_) (fun c => absurd rfl c)
          refine x_sub [0] (L' := [(0, .ref (adr 0))]) rfl ?_
          refine x_iconst O (nI 0) dX6_person_150 (by decide) ?_
          exact x_iretQ O hQ rfl dX6_person_151 (fun h m => ⟨by rw [hr15], by rw [hr16]; exact m⟩)
        · have hr17 := hr9.trans (if_neg c120)
          have hr18 := hr10.trans (if_neg c120)
          refine x_eq (st' := [.int (nI 2), .int (b2i false), .ref (adr 0)]) ?_ rfl rfl (by rw [bfalse c120] <;> rfl)
          refine x_cV O 2 (c_m_throwsIf_f (μ := (mset μ 0 0 (nI 0))) 2) MS.obj uc6 (lw_V q1774 q1776 qs34 q111 q1777) rfl hd_X6_throwsIf rfl (by rw [RF]; rfl) (by rw [RL]; rfl) ⟨Nat.zero_le _, Nat.zero_le _⟩ rfl rfl dX6_person_120 ?_
          refine x_top (v' := b2i false) rfl ?_
          refine x_ifneB O 150 dX6_person_123 (by decide) (fun c => absurd c (by decide)) (fun _ => ?_)
          refine x_aload_n O 0 dX6_person_126 rfl rfl ?_
          refine x_aload_n O 0 dX6_person_127 rfl rfl ?_
          refine x_mget O k_X6_13_6 (mg_1 _ _) dX6_person_128 ?_
          refine x_iconst O (nI 1) dX6_person_131 (by decide) ?_
          refine x_ialdN O MS.c1 (by omega) rfl dX6_person_132 ?_
          refine x_top (v' := μ 1 1) (rd_oth (by decide)) ?_
          refine x_top (v' := nI (tn (μ 1 1))) ((hI 1 (by decide)).1) ?_
          refine x_bipush O (nI 8) dX6_person_133 (by decide) ?_
          have J19 : ∀ (y4 : Bool), y4 = (if tn (μ 1 1) = 8 then true else false) → X G F R Q 7 143 [(0, .ref (adr 0)), (1, .int gun), (2, .int cell), (3, .int fear), (4, .int law)] [.int (b2i y4), .ref (adr 0)] (MS G adr h0 ((mset μ 0 0 (nI 0)))) 0 0 := by
            intro y4 e20
            subst e20
            refine x_iconst O (nI 3) dX6_person_143 (by decide) ?_
            refine x_bc ((if tn (μ 1 1) = 8 then true else false)) (fun c144 => ?_) (fun c144 => ?_)
            · have hr21 := hr17.trans (if_pos c144)
              have hr22 := hr18.trans (if_pos c144)
              refine x_eq (st' := [.int (nI 3), .int (b2i true), .ref (adr 0)]) ?_ rfl rfl (by rw [c144] <;> rfl)
              refine x_cV O 2 (c_m_throwsIf_t (μ := (mset μ 0 0 (nI 0))) 3) MS.obj uc6 (lw_V q1774 q1776 qs34 q111 q1777) rfl hd_X6_throwsIf rfl (by rw [RF]; rfl) (by rw [RL]; rfl) ⟨Nat.zero_le _, Nat.zero_le _⟩ rfl rfl dX6_person_144 ?_
              refine x_top (v' := b2i true) rfl ?_
              refine x_ifeqB O 152 dX6_person_147 (by decide) (fun c => absurd rfl c) (fun _ => ?_)
              refine x_sub [0] (L' := [(0, .ref (adr 0))]) rfl ?_
              refine x_iconst O (nI 0) dX6_person_150 (by decide) ?_
              exact x_iretQ O hQ rfl dX6_person_151 (fun h m => ⟨by rw [hr21], by rw [hr22]; exact m⟩)
            · have hr23 := hr17.trans (if_neg c144)
              have hr24 := hr18.trans (if_neg c144)
              refine x_eq (st' := [.int (nI 3), .int (b2i false), .ref (adr 0)]) ?_ rfl rfl (by rw [bfalse c144] <;> rfl)
              refine x_cV O 2 (c_m_throwsIf_f (μ := (mset μ 0 0 (nI 0))) 3) MS.obj uc6 (lw_V q1774 q1776 qs34 q111 q1777) rfl hd_X6_throwsIf rfl (by rw [RF]; rfl) (by rw [RL]; rfl) ⟨Nat.zero_le _, Nat.zero_le _⟩ rfl rfl dX6_person_144 ?_
              refine x_top (v' := b2i false) rfl ?_
              refine x_ifeqB O 152 dX6_person_147 (by decide) (fun _ => ?_) (fun c => absurd c (by decide))
              refine x_aload_n O 0 dX6_person_152 rfl rfl ?_
              refine x_mget O k_X6_13_6 (mg_1 _ _) dX6_person_153 ?_
              refine x_iconst O (nI 1) dX6_person_156 (by decide) ?_
              refine x_ialdN O MS.c1 (by omega) rfl dX6_person_157 ?_
              refine x_top (v' := μ 1 1) (rd_oth (by decide)) ?_
              refine x_top (v' := nI (tn (μ 1 1))) ((hI 1 (by decide)).1) ?_
              refine x_istore O [(6, .int (nI (tn (μ 1 1)))), (0, .ref (adr 0)), (1, .int gun), (2, .int cell), (3, .int fear), (4, .int law)] dX6_person_158 rfl rfl ?_
              refine x_aload_n O 1 dX6_person_160 rfl rfl ?_
              refine x_iload O 0 dX6_person_161 rfl ?_
              refine x_iconst O (nI 0) dX6_person_163 (by decide) ?_
              refine x_iload_n O 2 dX6_person_164 rfl rfl ?_
              refine x_cV O 3 (c_m_sets (μ := (mset μ 0 0 (nI 0))) (tn (μ 1 1)) 0 gun (by have := ntd c144; omega) (by omega)) MS.obj uc6 (lw_V q1972 q1974 qs61 q111 q1975) rfl hd_X6_sets rfl (by rw [RF]; rfl) (by rw [RL]; rfl) ⟨Nat.zero_le _, Nat.zero_le _⟩ rfl rfl dX6_person_165 ?_
              refine x_aload_n O 1 dX6_person_168 rfl rfl ?_
              refine x_iload O 0 dX6_person_169 rfl ?_
              refine x_iconst O (nI 1) dX6_person_171 (by decide) ?_
              refine x_iload_n O 3 dX6_person_172 rfl rfl ?_
              refine x_cV O 3 (c_m_sets (μ := (mset (mset μ 0 0 (nI 0)) 1 (301 + 6 * (tn (μ 1 1)) + 0) gun)) (tn (μ 1 1)) 1 cell (by have := ntd c144; omega) (by omega)) MS.obj uc6 (lw_V q1972 q1974 qs61 q111 q1975) rfl hd_X6_sets rfl (by rw [RF]; rfl) (by rw [RL]; rfl) ⟨Nat.zero_le _, Nat.zero_le _⟩ rfl rfl dX6_person_173 ?_
              refine x_aload_n O 1 dX6_person_176 rfl rfl ?_
              refine x_iload O 0 dX6_person_177 rfl ?_
              refine x_iconst O (nI 2) dX6_person_179 (by decide) ?_
              refine x_iload_n O 4 dX6_person_180 rfl rfl ?_
              refine x_cV O 3 (c_m_sets (μ := (mset (mset (mset μ 0 0 (nI 0)) 1 (301 + 6 * (tn (μ 1 1)) + 0) gun) 1 (301 + 6 * (tn (μ 1 1)) + 1) cell)) (tn (μ 1 1)) 2 fear (by have := ntd c144; omega) (by omega)) MS.obj uc6 (lw_V q1972 q1974 qs61 q111 q1975) rfl hd_X6_sets rfl (by rw [RF]; rfl) (by rw [RL]; rfl) ⟨Nat.zero_le _, Nat.zero_le _⟩ rfl rfl dX6_person_181 ?_
              refine x_aload_n O 1 dX6_person_184 rfl rfl ?_
              refine x_iload O 0 dX6_person_185 rfl ?_
              refine x_iconst O (nI 3) dX6_person_187 (by decide) ?_
              refine x_iconst O (nI 1) dX6_person_188 (by decide) ?_
              refine x_cV O 3 (c_m_sets (μ := (mset (mset (mset (mset μ 0 0 (nI 0)) 1 (301 + 6 * (tn (μ 1 1)) + 0) gun) 1 (301 + 6 * (tn (μ 1 1)) + 1) cell) 1 (301 + 6 * (tn (μ 1 1)) + 2) fear)) (tn (μ 1 1)) 3 (nI 1) (by have := ntd c144; omega) (by omega)) MS.obj uc6 (lw_V q1972 q1974 qs61 q111 q1975) rfl hd_X6_sets rfl (by rw [RF]; rfl) (by rw [RL]; rfl) ⟨Nat.zero_le _, Nat.zero_le _⟩ rfl rfl dX6_person_189 ?_
              refine x_aload_n O 1 dX6_person_192 rfl rfl ?_
              refine x_iload O 0 dX6_person_193 rfl ?_
              refine x_iconst O (nI 4) dX6_person_195 (by decide) ?_
              refine x_aload_n O 1 dX6_person_196 rfl rfl ?_
              refine x_mget O k_X6_13_6 (mg_1 _ _) dX6_person_197 ?_
              refine x_sipush O (nI 269) dX6_person_200 (by decide) ?_
              refine x_iconst O (nI 4) dX6_person_203 (by decide) ?_
              refine x_iload_n O 2 dX6_person_204 rfl rfl ?_
              refine x_top (v' := nI (tn gun)) ((none_nn (w := 0) (by decide) hI (por1 c44)).1) ?_
              refine x_imulN O dX6_person_205 ?_
              refine x_iaddN O dX6_person_206 ?_
              have hgun := (none_nn (w := 0) (by decide) hI (por1 c44)).2
              refine x_ialdN O MS.c1 (by have := (none_nn (w := 0) (by decide) hI (por1 c44)).2; omega) rfl dX6_person_207 ?_
              refine x_top (v' := μ 1 (269 + 4 * tn gun)) ((rd_skip (by omega)).trans ((rd_skip (by omega)).trans ((rd_skip (by omega)).trans ((rd_skip (by omega)).trans (rd_oth (by decide)))))) ?_
              refine x_cV O 3 (c_m_sets (μ := (mset (mset (mset (mset (mset μ 0 0 (nI 0)) 1 (301 + 6 * (tn (μ 1 1)) + 0) gun) 1 (301 + 6 * (tn (μ 1 1)) + 1) cell) 1 (301 + 6 * (tn (μ 1 1)) + 2) fear) 1 (301 + 6 * (tn (μ 1 1)) + 3) (nI 1))) (tn (μ 1 1)) 4 (μ 1 (269 + 4 * tn gun)) (by have := ntd c144; omega) (by omega)) MS.obj uc6 (lw_V q1972 q1974 qs61 q111 q1975) rfl hd_X6_sets rfl (by rw [RF]; rfl) (by rw [RL]; rfl) ⟨Nat.zero_le _, Nat.zero_le _⟩ rfl rfl dX6_person_208 ?_
              refine x_aload_n O 1 dX6_person_211 rfl rfl ?_
              refine x_iload O 0 dX6_person_212 rfl ?_
              refine x_iconst O (nI 5) dX6_person_214 (by decide) ?_
              refine x_iload O 5 dX6_person_215 rfl ?_
              refine x_cV O 3 (c_m_sets (μ := (mset (mset (mset (mset (mset (mset μ 0 0 (nI 0)) 1 (301 + 6 * (tn (μ 1 1)) + 0) gun) 1 (301 + 6 * (tn (μ 1 1)) + 1) cell) 1 (301 + 6 * (tn (μ 1 1)) + 2) fear) 1 (301 + 6 * (tn (μ 1 1)) + 3) (nI 1)) 1 (301 + 6 * (tn (μ 1 1)) + 4) (μ 1 (269 + 4 * tn gun)))) (tn (μ 1 1)) 5 law (by have := ntd c144; omega) (by omega)) MS.obj uc6 (lw_V q1972 q1974 qs61 q111 q1975) rfl hd_X6_sets rfl (by rw [RF]; rfl) (by rw [RL]; rfl) ⟨Nat.zero_le _, Nat.zero_le _⟩ rfl rfl dX6_person_217 ?_
              refine x_aload_n O 1 dX6_person_220 rfl rfl ?_
              refine x_mget O k_X6_13_6 (mg_1 _ _) dX6_person_221 ?_
              refine x_iconst O (nI 1) dX6_person_224 (by decide) ?_
              refine x_dup2 O dX6_person_225 rfl rfl ?_
              refine x_ialdN O MS.c1 (by omega) rfl dX6_person_226 ?_
              refine x_top (v' := μ 1 1) ((rd_skip (by omega)).trans ((rd_skip (by omega)).trans ((rd_skip (by omega)).trans ((rd_skip (by omega)).trans ((rd_skip (by omega)).trans ((rd_skip (by omega)).trans (rd_oth (by decide)))))))) ?_
              refine x_top (v' := nI (tn (μ 1 1))) ((hI 1 (by decide)).1) ?_
              refine x_iconst O (nI 1) dX6_person_227 (by decide) ?_
              refine x_iaddN O dX6_person_228 ?_
              refine x_mast O 0 MS.c1 rfl rfl rfl (by omega) rfl dX6_person_229 ?_
              refine x_iload O 0 dX6_person_230 rfl ?_
              exact x_iretQ O hQ rfl dX6_person_232 (fun h m => ⟨by rw [hr23], by rw [hr24]; exact m⟩)
          refine x_icmpneN O 142 (by omega) (by omega) dX6_person_135 (by decide) (fun c135 => ?_) (fun c135 => ?_)
          · refine x_iconst O (nI 0) dX6_person_142 (by decide) ?_
            refine x_top (v' := b2i false) (by decide) ?_
            exact J19 false (by rw [if_neg c135])
          · refine x_iconst O (nI 1) dX6_person_138 (by decide) ?_
            refine x_goto O 143 dX6_person_139 (by decide) ?_
            refine x_top (v' := b2i true) (by decide) ?_
            exact J19 true (by rw [if_pos c135])
      refine x_ifeqB O 114 dX6_person_106 (by decide) (fun c106 => ?_) (fun c106 => ?_)
      · refine x_sub [1, 2, 3, 4, 5] (L' := [(0, .ref (adr 0)), (1, .int gun), (2, .int cell), (3, .int fear), (4, .int law)]) rfl ?_
        refine x_iconst O (nI 1) dX6_person_114 (by decide) ?_
        refine x_goto O 119 dX6_person_115 (by decide) ?_
        refine x_top (v' := b2i true) (by decide) ?_
        exact J13 true (by rw [if_neg c106])
      · refine x_iload O 0 dX6_person_109 rfl ?_
        refine x_ifeqB O 118 dX6_person_111 (by decide) (fun c111 => ?_) (fun c111 => ?_)
        · refine x_sub [1, 2, 3, 4, 5] (L' := [(0, .ref (adr 0)), (1, .int gun), (2, .int cell), (3, .int fear), (4, .int law)]) rfl ?_
          refine x_iconst O (nI 0) dX6_person_118 (by decide) ?_
          refine x_top (v' := b2i false) (by decide) ?_
          exact J13 false (by rw [if_pos c106, if_neg c111])
        · refine x_sub [1, 2, 3, 4, 5] (L' := [(0, .ref (adr 0)), (1, .int gun), (2, .int cell), (3, .int fear), (4, .int law)]) rfl ?_
          refine x_iconst O (nI 1) dX6_person_114 (by decide) ?_
          refine x_goto O 119 dX6_person_115 (by decide) ?_
          refine x_top (v' := b2i true) (by decide) ?_
          exact J13 true (by rw [if_pos c106, if_pos c111])
  refine x_ifneB O 38 dX6_person_12 (by decide) (fun c12 => ?_) (fun c12 => ?_)
  · refine x_iconst O (nI 1) dX6_person_38 (by decide) ?_
    refine x_goto O 43 dX6_person_39 (by decide) ?_
    refine x_top (v' := b2i true) (by decide) ?_
    exact J5 true (by rw [if_pos c12])
  · refine x_iload_n O 2 dX6_person_15 rfl rfl ?_
    refine x_cS O 1 (c_m_noCell cell) (lw_S q1768 q1769 q111 q1770) hd_X6_noCell rfl (by rw [RF]; rfl) (by rw [RL]; rfl) ⟨Nat.zero_le _, Nat.zero_le _⟩ rfl rfl dX6_person_16 ?_
    refine x_ifneB O 38 dX6_person_19 (by decide) (fun c19 => ?_) (fun c19 => ?_)
    · refine x_iconst O (nI 1) dX6_person_38 (by decide) ?_
      refine x_goto O 43 dX6_person_39 (by decide) ?_
      refine x_top (v' := b2i true) (by decide) ?_
      exact J5 true (by rw [if_neg c12, if_pos c19])
    · refine x_iload O 4 dX6_person_22 rfl ?_
      refine x_iconst O ((-1)) dX6_person_24 (by decide) ?_
      refine x_icmpeq O 42 dX6_person_25 (by decide) (fun c25 => ?_) (fun c25 => ?_)
      · refine x_iconst O (nI 0) dX6_person_42 (by decide) ?_
        refine x_top (v' := b2i false) (by decide) ?_
        exact J5 false (by rw [if_neg c12, if_neg c19, if_pos c25])
      · refine x_aload_n O 0 dX6_person_28 rfl rfl ?_
        refine x_iload O 4 dX6_person_29 rfl ?_
        refine x_iconst O (nI 2) dX6_person_31 (by decide) ?_
        refine x_cV O 2 (c_m_none (μ := (mset μ 0 0 (nI 0))) law 2 (by omega)) MS.obj uc6 (lw_V q1964 q1966 qs59 q111 q1967) rfl hd_X6_none rfl (by rw [RF]; rfl) (by rw [RL]; rfl) ⟨Nat.zero_le _, Nat.zero_le _⟩ rfl rfl dX6_person_32 ?_
        refine x_top (v' := b2i (m_none (μ 1) law 2)) rfl ?_
        refine x_ifeqB O 42 dX6_person_35 (by decide) (fun c35 => ?_) (fun c35 => ?_)
        · refine x_iconst O (nI 0) dX6_person_42 (by decide) ?_
          refine x_top (v' := b2i false) (by decide) ?_
          exact J5 false (by rw [if_neg c12, if_neg c19, if_neg c25, if_neg c35])
        · refine x_iconst O (nI 1) dX6_person_38 (by decide) ?_
          refine x_goto O 43 dX6_person_39 (by decide) ?_
          refine x_top (v' := b2i true) (by decide) ?_
          exact J5 true (by rw [if_neg c12, if_neg c19, if_neg c25, if_pos c35])
