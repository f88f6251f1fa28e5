/-! the house's queries -/
def h_isNear_b4  (w : Nat → Int32) (r : Int32) (i3_4 : Nat) (v2_4 : Bool) : Bool :=
  (if v2_4 = true then true else (if (((w 12) >>> ((nI i3_4) &&& 31)) &&& (nI 1)) = (nI 1) then (if (w 11) < (j_abs ((nI i3_4) - r)) then false else true) else false))
def h_isNear  (w : Nat → Int32) (r : Int32) : Bool :=
  (fr (fun i s => h_isNear_b4 w r i s) 16 0 false)
set_option maxHeartbeats 1000000 in
set_option maxRecDepth 100000 in
theorem c_h_isNear {G : UG} {Ω : Hp → Prop} {κ : Hp} {adr : Nat → Nat} {pl ps : Nat → Nat → Prop} {B : Nat} {w : Nat → Int32} (H : HR G κ adr pl ps B w Ω) (r : Int32)  : Con G yX4_isNear cX4_isNear 4 (some .boolean) 1 20 0 0 [.ref (adr B), .int r] Ω (fun vr_ h' => vr_ = some (.int (b2i (h_isNear w r))) ∧ Ω h') nX := by
  refine con_of2 (plainFor_of_name (by decide)) rfl ?_
  intro F R Q RF RL RC RS hQ O hnh hnm
  obtain ⟨res, hres⟩ : ∃ z, z = (h_isNear w r) := ⟨_, rfl⟩
  rw [← hres] at hQ
  unfold h_isNear at hres
  refine x_eq (L' := [(0, .ref (adr B)), (1, .int r)]) ?_ rfl rfl rfl
  refine x_iconst O (nI 0) dX4_isNear_0 (by decide) ?_
  refine x_top (v' := b2i false) (by decide) ?_
  refine x_istore_n O [(2, .int (b2i false)), (0, .ref (adr B)), (1, .int r)] dX4_isNear_1 rfl rfl rfl ?_
  refine x_iconst O (nI 0) dX4_isNear_2 (by decide) ?_
  refine x_istore_n O [(3, .int (nI 0)), (2, .int (b2i false)), (0, .ref (adr B)), (1, .int r)] dX4_isNear_3 rfl rfl rfl ?_
  have LOOP4 : ∀ (cc_ : Nat) (i3_4 : Nat) (v2_4 : Bool), cc_ = 16 - i3_4 → i3_4 < 2147483648 → (∀ (y0 : Bool), y0 = fr (fun i s => h_isNear_b4 w r i s) cc_ i3_4 v2_4 → X G F R Q 4 51 [(2, .int (b2i y0)), (0, .ref (adr B))] [] Ω 0 0) → X G F R Q 4 4 [(3, .int (nI i3_4)), (2, .int (b2i v2_4)), (0, .ref (adr B)), (1, .int r)] [] Ω 0 0 := by
    intro cc_
    induction cc_ using Nat.strongRecOn with
    | ind cc_ IH_ =>
      intro i3_4 v2_4 hc_ hb_  K_
      refine x_iload_n O 0 dX4_isNear_4 rfl rfl ?_
      refine x_bipush O (nI 16) dX4_isNear_5 (by decide) ?_
      refine x_icmpgeN O 51 (by omega) (by omega) dX4_isNear_7 (by decide) (fun c7 => ?_) (fun c7 => ?_)
      · refine x_sub [1, 2] (L' := [(2, .int (b2i v2_4)), (0, .ref (adr B))]) rfl ?_
        obtain rfl : cc_ = 0 := by omega
        exact K_ _ rfl
      · refine x_iload_n O 1 dX4_isNear_10 rfl rfl ?_
        have J2 : ∀ (y1 : Bool), y1 = (if v2_4 = true then true else (if (((w 12) >>> ((nI i3_4) &&& 31)) &&& (nI 1)) = (nI 1) then (if (w 11) < (j_abs ((nI i3_4) - r)) then false else true) else false)) → X G F R Q 4 44 [(3, .int (nI i3_4)), (0, .ref (adr B)), (1, .int r)] [.int (b2i y1)] Ω 0 0 := by
          intro y1 e3
          subst e3
          refine x_istore_n O [(2, .int (b2i ((if v2_4 = true then true else (if (((w 12) >>> ((nI i3_4) &&& 31)) &&& (nI 1)) = (nI 1) then (if (w 11) < (j_abs ((nI i3_4) - r)) then false else true) else false))))), (3, .int (nI i3_4)), (0, .ref (adr B)), (1, .int r)] dX4_isNear_44 rfl rfl rfl ?_
          refine x_iincN O 1 [(3, .int (nI (i3_4 + 1))), (2, .int (b2i ((if v2_4 = true then true else (if (((w 12) >>> ((nI i3_4) &&& 31)) &&& (nI 1)) = (nI 1) then (if (w 11) < (j_abs ((nI i3_4) - r)) then false else true) else false))))), (0, .ref (adr B)), (1, .int r)] dX4_isNear_45 rfl rfl rfl ?_
          refine x_goto O 4 dX4_isNear_48 (by decide) ?_
          obtain ⟨c2_, rfl⟩ : ∃ z, cc_ = z + 1 := ⟨cc_ - 1, by omega⟩
          have hs_ : (fun i s => h_isNear_b4 w r i s) i3_4 v2_4 = (if v2_4 = true then true else (if (((w 12) >>> ((nI i3_4) &&& 31)) &&& (nI 1)) = (nI 1) then (if (w 11) < (j_abs ((nI i3_4) - r)) then false else true) else false)) := by show h_isNear_b4 w r i3_4 v2_4 = _; unfold h_isNear_b4; rfl
          exact IH_ c2_ (by omega) _ _ (by omega) (by omega) (fun y0 hy_ => K_ y0 (hy_.trans (fr_step hs_).symm))
        refine x_ifneB O 39 dX4_isNear_11 (by decide) (fun c11 => ?_) (fun c11 => ?_)
        · refine x_sub [0, 2, 3] (L' := [(3, .int (nI i3_4)), (0, .ref (adr B)), (1, .int r)]) rfl ?_
          refine x_iconst O (nI 1) dX4_isNear_39 (by decide) ?_
          refine x_goto O 44 dX4_isNear_40 (by decide) ?_
          refine x_top (v' := b2i true) (by decide) ?_
          exact J2 true (by rw [if_pos c11])
        · refine x_sub [0, 2, 3] (L' := [(3, .int (nI i3_4)), (0, .ref (adr B)), (1, .int r)]) rfl ?_
          refine x_aload_n O 1 dX4_isNear_14 rfl rfl ?_
          refine x_hget O H k_X4_121_4 rfl dX4_isNear_15 ?_
          refine x_iload_n O 0 dX4_isNear_18 rfl rfl ?_
          refine x_ishr O dX4_isNear_19 ?_
          refine x_iconst O (nI 1) dX4_isNear_20 (by decide) ?_
          refine x_iand O dX4_isNear_21 ?_
          refine x_iconst O (nI 1) dX4_isNear_22 (by decide) ?_
          refine x_icmpne O 43 dX4_isNear_23 (by decide) (fun c23 => ?_) (fun c23 => ?_)
          · refine x_iconst O (nI 0) dX4_isNear_43 (by decide) ?_
            refine x_top (v' := b2i false) (by decide) ?_
            exact J2 false (by first | (rw [if_neg c11, if_neg c23]; done) | simp only [if_neg c11, if_neg c23])
          · refine x_iload_n O 0 dX4_isNear_26 rfl rfl ?_
            refine x_iload_n O 2 dX4_isNear_27 rfl rfl ?_
            refine x_isub O dX4_isNear_28 ?_
            refine x_cS O 1 (c_j_abs ((nI i3_4) - r)) (lw_S q519 q520 q116 q521) hd_J7_abs rfl (by rw [RF]; rfl) (by rw [RL]; rfl) ⟨Nat.zero_le _, Nat.zero_le _⟩ rfl rfl dX4_isNear_29 ?_
            refine x_top (v' := j_abs ((nI i3_4) - r)) rfl ?_
            refine x_aload_n O 1 dX4_isNear_32 rfl rfl ?_
            refine x_hget O H k_X4_118_4 rfl dX4_isNear_33 ?_
            refine x_icmpgt O 43 dX4_isNear_36 (by decide) (fun c36 => ?_) (fun c36 => ?_)
            · refine x_iconst O (nI 0) dX4_isNear_43 (by decide) ?_
              refine x_top (v' := b2i false) (by decide) ?_
              exact J2 false (by first | (rw [if_neg c11, if_pos c23, if_pos c36]; done) | simp only [if_neg c11, if_pos c23, if_pos c36])
            · refine x_iconst O (nI 1) dX4_isNear_39 (by decide) ?_
              refine x_goto O 44 dX4_isNear_40 (by decide) ?_
              refine x_top (v' := b2i true) (by decide) ?_
              exact J2 true (by first | (rw [if_neg c11, if_pos c23, if_neg c36]; done) | simp only [if_neg c11, if_pos c23, if_neg c36])
  refine LOOP4 16 0 false rfl (by omega) (fun y0 hy_4 => ?_)
  subst hy_4
  refine x_iload_n O 0 dX4_isNear_51 rfl rfl ?_
  exact x_zretQ O hQ rfl dX4_isNear_52 (fun h m => ⟨by rw [hres], m⟩)

def h_isSeen  (w : Nat → Int32) (i : Nat) : Bool :=
  (if (w 10) < (w (351 + 6 * i)) then false else (if h_isNear w (w (350 + 6 * i) / nI 16) = true then true else false))
set_option maxHeartbeats 1000000 in
set_option maxRecDepth 100000 in
theorem c_h_isSeen {G : UG} {Ω : Hp → Prop} {κ : Hp} {adr : Nat → Nat} {pl ps : Nat → Nat → Prop} {B : Nat} {w : Nat → Int32} (H : HR G κ adr pl ps B w Ω) (i : Nat) (hi : i < tn (w 3)) : Con G yX4_isSeen cX4_isSeen 2 (some .boolean) 2 43 0 0 [.ref (adr B), .int (nI i)] Ω (fun vr_ h' => vr_ = some (.int (b2i (h_isSeen w i))) ∧ Ω h') nX := by
  refine con_of2 (plainFor_of_name (by decide)) rfl ?_
  intro F R Q RF RL RC RS hQ O hnh hnm
  obtain ⟨res, hres⟩ : ∃ z, z = (h_isSeen w i) := ⟨_, rfl⟩
  rw [← hres] at hQ
  unfold h_isSeen at hres
  have h120 := H.1.2.2.2.1
  refine x_eq (L' := [(0, .ref (adr B)), (1, .int (nI i))]) ?_ rfl rfl rfl
  refine x_aload_n O 0 dX4_isSeen_0 rfl rfl ?_
  refine x_hget O H k_X4_35_4 rfl dX4_isSeen_1 ?_
  refine x_iload_n O 1 dX4_isSeen_4 rfl rfl ?_
  refine x_hfind O H (by omega) dX4_isSeen_5 (fun q1 hq2 => ?_)
  refine x_fdepth O (f := i) (w := w) q499 (H.fr hq2) (by rw [RF]; rfl) (by rw [RL]; rfl) ⟨Nat.zero_le _, Nat.zero_le _⟩ rfl dX4_isSeen_6 ?_
  refine x_aload_n O 0 dX4_isSeen_9 rfl rfl ?_
  refine x_hget O H k_X4_64_4 rfl dX4_isSeen_10 ?_
  have J6 : ∀ (y5 : Bool), y5 = (if (w 10) < (w (351 + 6 * i)) then false else (if h_isNear w (w (350 + 6 * i) / nI 16) = true then true else false)) → X G F R Q 2 37 [(0, .ref (adr B))] [.int (b2i y5)] Ω 0 0 := by
    intro y5 e7
    subst e7
    exact x_zretQ O hQ rfl dX4_isSeen_37 (fun h m => ⟨by rw [hres], m⟩)
  refine x_icmpgt O 36 dX4_isSeen_13 (by decide) (fun c13 => ?_) (fun c13 => ?_)
  · refine x_sub [0] (L' := [(0, .ref (adr B))]) rfl ?_
    refine x_iconst O (nI 0) dX4_isSeen_36 (by decide) ?_
    refine x_top (v' := b2i false) (by decide) ?_
    exact J6 false (by rw [if_pos c13])
  · refine x_aload_n O 0 dX4_isSeen_16 rfl rfl ?_
    refine x_aload_n O 0 dX4_isSeen_17 rfl rfl ?_
    refine x_hget O H k_X4_35_4 rfl dX4_isSeen_18 ?_
    refine x_iload_n O 1 dX4_isSeen_21 rfl rfl ?_
    refine x_hfind O H (by omega) dX4_isSeen_22 (fun q3 hq4 => ?_)
    refine x_frow O (f := i) (w := w) q507 (H.fr hq4) (by rw [RF]; rfl) (by rw [RL]; rfl) ⟨Nat.zero_le _, Nat.zero_le _⟩ rfl dX4_isSeen_23 ?_
    refine x_cV O 1 (c_h_isNear H (w (350 + 6 * i) / nI 16)) H.obj rfl (lw_V q515 q516 q517 q109 q518) rfl hd_X4_isNear rfl (by rw [RF]; rfl) (by rw [RL]; rfl) ⟨Nat.zero_le _, Nat.zero_le _⟩ rfl rfl dX4_isSeen_26 ?_
    refine x_top (v' := b2i (h_isNear w (w (350 + 6 * i) / nI 16))) rfl ?_
    refine x_ifeqB O 36 dX4_isSeen_29 (by decide) (fun c29 => ?_) (fun c29 => ?_)
    · refine x_sub [0] (L' := [(0, .ref (adr B))]) rfl ?_
      refine x_iconst O (nI 0) dX4_isSeen_36 (by decide) ?_
      refine x_top (v' := b2i false) (by decide) ?_
      exact J6 false (by first | (rw [if_neg c13, if_neg c29]; done) | simp only [if_neg c13, if_neg c29])
    · refine x_sub [0] (L' := [(0, .ref (adr B))]) rfl ?_
      refine x_iconst O (nI 1) dX4_isSeen_32 (by decide) ?_
      refine x_goto O 37 dX4_isSeen_33 (by decide) ?_
      refine x_top (v' := b2i true) (by decide) ?_
      exact J6 true (by first | (rw [if_neg c13, if_pos c29]; done) | simp only [if_neg c13, if_pos c29])

def h_isCase  (w : Nat → Int32) (i : Nat) : Bool :=
  (if (w (349 + 6 * i)) = 0 then (if h_isSeen w i = true then true else false) else false)
set_option maxHeartbeats 1000000 in
set_option maxRecDepth 100000 in
theorem c_h_isCase {G : UG} {Ω : Hp → Prop} {κ : Hp} {adr : Nat → Nat} {pl ps : Nat → Nat → Prop} {B : Nat} {w : Nat → Int32} (H : HR G κ adr pl ps B w Ω) (hkind : ∀ f : Nat, f < tn (w 3) → w (349 + 6 * f) = 0 ∨ w (349 + 6 * f) = 1 ∨ w (349 + 6 * f) = 2 ∨ w (349 + 6 * f) = 3) (i : Nat) (hi : i < tn (w 3)) : Con G yX4_isCase cX4_isCase 2 (some .boolean) 3 64 0 0 [.ref (adr B), .int (nI i)] Ω (fun vr_ h' => vr_ = some (.int (b2i (h_isCase w i))) ∧ Ω h') nX := by
  refine con_of2 (plainFor_of_name (by decide)) rfl ?_
  intro F R Q RF RL RC RS hQ O hnh hnm
  obtain ⟨res, hres⟩ : ∃ z, z = (h_isCase w i) := ⟨_, rfl⟩
  rw [← hres] at hQ
  unfold h_isCase at hres
  have h120 := H.1.2.2.2.1
  refine x_eq (L' := [(0, .ref (adr B)), (1, .int (nI i))]) ?_ rfl rfl rfl
  refine x_aload_n O 0 dX4_isCase_0 rfl rfl ?_
  refine x_hget O H k_X4_35_4 rfl dX4_isCase_1 ?_
  refine x_iload_n O 1 dX4_isCase_4 rfl rfl ?_
  refine x_hfind O H (by omega) dX4_isCase_5 (fun q1 hq2 => ?_)
  refine x_fkind O (f := i) (w := w) q530 (H.fr hq2) (hkind i (by omega)) (by rw [RF]; rfl) (by rw [RL]; rfl) ⟨Nat.zero_le _, Nat.zero_le _⟩ rfl dX4_isCase_6 ?_
  have J4 : ∀ (y3 : Bool), y3 = (if (w (349 + 6 * i)) = 0 then (if h_isSeen w i = true then true else false) else false) → X G F R Q 2 25 [(0, .ref (adr B))] [.int (b2i y3)] Ω 0 0 := by
    intro y3 e5
    subst e5
    exact x_zretQ O hQ rfl dX4_isCase_25 (fun h m => ⟨by rw [hres], m⟩)
  refine x_ifne O 24 dX4_isCase_9 (by decide) (fun c9 => ?_) (fun c9 => ?_)
  · refine x_sub [0] (L' := [(0, .ref (adr B))]) rfl ?_
    refine x_iconst O (nI 0) dX4_isCase_24 (by decide) ?_
    refine x_top (v' := b2i false) (by decide) ?_
    exact J4 false (by rw [if_neg c9])
  · refine x_aload_n O 0 dX4_isCase_12 rfl rfl ?_
    refine x_iload_n O 1 dX4_isCase_13 rfl rfl ?_
    refine x_cV O 1 (c_h_isSeen H i (by omega)) H.obj rfl (lw_V q495 q496 q497 q109 q498) rfl hd_X4_isSeen rfl (by rw [RF]; rfl) (by rw [RL]; rfl) ⟨Nat.zero_le _, Nat.zero_le _⟩ rfl rfl dX4_isCase_14 ?_
    refine x_top (v' := b2i (h_isSeen w i)) rfl ?_
    refine x_ifeqB O 24 dX4_isCase_17 (by decide) (fun c17 => ?_) (fun c17 => ?_)
    · refine x_sub [0] (L' := [(0, .ref (adr B))]) rfl ?_
      refine x_iconst O (nI 0) dX4_isCase_24 (by decide) ?_
      refine x_top (v' := b2i false) (by decide) ?_
      exact J4 false (by first | (rw [if_pos c9, if_neg c17]; done) | simp only [if_pos c9, if_neg c17])
    · refine x_sub [0] (L' := [(0, .ref (adr B))]) rfl ?_
      refine x_iconst O (nI 1) dX4_isCase_20 (by decide) ?_
      refine x_goto O 25 dX4_isCase_21 (by decide) ?_
      refine x_top (v' := b2i true) (by decide) ?_
      exact J4 true (by first | (rw [if_pos c9, if_pos c17]; done) | simp only [if_pos c9, if_pos c17])

def h_seen_b4  (w : Nat → Int32) (i2_4 : Nat) (v1_4 : Nat) : Nat :=
  v1_4 + ((if h_isSeen w i2_4 = true then 1 else 0))
def h_seen  (w : Nat → Int32) : Nat :=
  (fr (fun i s => h_seen_b4 w i s) (tn (w 3)) 0 0)
set_option maxHeartbeats 1000000 in
set_option maxRecDepth 100000 in
theorem c_h_seen {G : UG} {Ω : Hp → Prop} {κ : Hp} {adr : Nat → Nat} {pl ps : Nat → Nat → Prop} {B : Nat} {w : Nat → Int32} (H : HR G κ adr pl ps B w Ω) (hI : MI w)   : Con G yX4_seen cX4_seen 3 (some .int) 3 64 0 0 [.ref (adr B)] Ω (fun vr_ h' => vr_ = some (.int (nI (h_seen w))) ∧ Ω h') nX := by
  refine con_of2 (plainFor_of_name (by decide)) rfl ?_
  intro F R Q RF RL RC RS hQ O hnh hnm
  obtain ⟨res, hres⟩ : ∃ z, z = (h_seen w) := ⟨_, rfl⟩
  rw [← hres] at hQ
  unfold h_seen at hres
  have h120 := H.1.2.2.2.1
  refine x_eq (L' := [(0, .ref (adr B))]) ?_ rfl rfl rfl
  refine x_iconst O (nI 0) dX4_seen_0 (by decide) ?_
  refine x_istore_n O [(1, .int (nI 0)), (0, .ref (adr B))] dX4_seen_1 rfl rfl rfl ?_
  refine x_iconst O (nI 0) dX4_seen_2 (by decide) ?_
  refine x_istore_n O [(2, .int (nI 0)), (1, .int (nI 0)), (0, .ref (adr B))] dX4_seen_3 rfl rfl rfl ?_
  have LOOP4 : ∀ (cc_ : Nat) (i2_4 : Nat) (v1_4 : Nat), cc_ = tn (w 3) - i2_4 → i2_4 < 2147483648 → (∀ (y0 : Nat), y0 = fr (fun i s => h_seen_b4 w i s) cc_ i2_4 v1_4 → X G F R Q 3 34 [(1, .int (nI y0)), (0, .ref (adr B))] [] Ω 0 0) → X G F R Q 3 4 [(2, .int (nI i2_4)), (1, .int (nI v1_4)), (0, .ref (adr B))] [] Ω 0 0 := by
    intro cc_
    induction cc_ using Nat.strongRecOn with
    | ind cc_ IH_ =>
      intro i2_4 v1_4 hc_ hb_  K_
      refine x_iload_n O 0 dX4_seen_4 rfl rfl ?_
      refine x_aload_n O 2 dX4_seen_5 rfl rfl ?_
      refine x_hget O H k_X4_100_4 rfl dX4_seen_6 ?_
      refine x_top (v' := nI (tn (w 3))) (hI 3 (by decide)).1 ?_
      refine x_icmpgeN O 34 (by omega) (by omega) dX4_seen_9 (by decide) (fun c9 => ?_) (fun c9 => ?_)
      · refine x_sub [1, 2] (L' := [(1, .int (nI v1_4)), (0, .ref (adr B))]) rfl ?_
        obtain rfl : cc_ = 0 := by omega
        exact K_ _ rfl
      · refine x_iload_n O 1 dX4_seen_12 rfl rfl ?_
        refine x_aload_n O 2 dX4_seen_13 rfl rfl ?_
        refine x_iload_n O 0 dX4_seen_14 rfl rfl ?_
        refine x_cV O 1 (c_h_isSeen H i2_4 (by omega)) H.obj rfl (lw_V q495 q496 q497 q109 q498) rfl hd_X4_isSeen rfl (by rw [RF]; rfl) (by rw [RL]; rfl) ⟨Nat.zero_le _, Nat.zero_le _⟩ rfl rfl dX4_seen_15 ?_
        refine x_top (v' := b2i (h_isSeen w i2_4)) rfl ?_
        have J2 : ∀ (y1 : Nat), y1 = (if h_isSeen w i2_4 = true then 1 else 0) → X G F R Q 3 26 [(2, .int (nI i2_4)), (0, .ref (adr B))] [.int (nI y1), .int (nI v1_4)] Ω 0 0 := by
          intro y1 e3
          subst e3
          refine x_iaddN O dX4_seen_26 ?_
          refine x_istore_n O [(1, .int (nI (v1_4 + ((if h_isSeen w i2_4 = true then 1 else 0))))), (2, .int (nI i2_4)), (0, .ref (adr B))] dX4_seen_27 rfl rfl rfl ?_
          refine x_iincN O 1 [(2, .int (nI (i2_4 + 1))), (1, .int (nI (v1_4 + ((if h_isSeen w i2_4 = true then 1 else 0))))), (0, .ref (adr B))] dX4_seen_28 rfl rfl rfl ?_
          refine x_goto O 4 dX4_seen_31 (by decide) ?_
          obtain ⟨c2_, rfl⟩ : ∃ z, cc_ = z + 1 := ⟨cc_ - 1, by omega⟩
          have hs_ : (fun i s => h_seen_b4 w i s) i2_4 v1_4 = v1_4 + ((if h_isSeen w i2_4 = true then 1 else 0)) := by show h_seen_b4 w i2_4 v1_4 = _; unfold h_seen_b4; rfl
          exact IH_ c2_ (by omega) _ _ (by omega) (by omega) (fun y0 hy_ => K_ y0 (hy_.trans (fr_step hs_).symm))
        refine x_ifeqB O 25 dX4_seen_18 (by decide) (fun c18 => ?_) (fun c18 => ?_)
        · refine x_sub [0, 2] (L' := [(2, .int (nI i2_4)), (0, .ref (adr B))]) rfl ?_
          refine x_iconst O (nI 0) dX4_seen_25 (by decide) ?_
          exact J2 0 (by rw [if_neg c18])
        · refine x_sub [0, 2] (L' := [(2, .int (nI i2_4)), (0, .ref (adr B))]) rfl ?_
          refine x_iconst O (nI 1) dX4_seen_21 (by decide) ?_
          refine x_goto O 26 dX4_seen_22 (by decide) ?_
          exact J2 1 (by rw [if_pos c18])
  refine LOOP4 (tn (w 3)) 0 0 rfl (by omega) (fun y0 hy_4 => ?_)
  subst hy_4
  refine x_iload_n O 0 dX4_seen_34 rfl rfl ?_
  exact x_iretQ O hQ rfl dX4_seen_35 (fun h m => ⟨by rw [hres], m⟩)

def h_heap_b4  (w : Nat → Int32) (c : Int32) (i3_4 : Nat) (v2_4 : Nat) : Nat :=
  v2_4 + ((if h_isCase w i3_4 = true then (if (w (350 + 6 * i3_4)) = c then 1 else 0) else 0))
def h_heap  (w : Nat → Int32) (c : Int32) : Nat :=
  (fr (fun i s => h_heap_b4 w c i s) (tn (w 3)) 0 0)
set_option maxHeartbeats 1000000 in
set_option maxRecDepth 100000 in
theorem c_h_heap {G : UG} {Ω : Hp → Prop} {κ : Hp} {adr : Nat → Nat} {pl ps : Nat → Nat → Prop} {B : Nat} {w : Nat → Int32} (H : HR G κ adr pl ps B w Ω) (hI : MI w) (hkind : ∀ f : Nat, f < tn (w 3) → w (349 + 6 * f) = 0 ∨ w (349 + 6 * f) = 1 ∨ w (349 + 6 * f) = 2 ∨ w (349 + 6 * f) = 3) (c : Int32)  : Con G yX4_heap cX4_heap 4 (some .int) 4 85 0 0 [.ref (adr B), .int c] Ω (fun vr_ h' => vr_ = some (.int (nI (h_heap w c))) ∧ Ω h') nX := by
  refine con_of2 (plainFor_of_name (by decide)) rfl ?_
  intro F R Q RF RL RC RS hQ O hnh hnm
  obtain ⟨res, hres⟩ : ∃ z, z = (h_heap w c) := ⟨_, rfl⟩
  rw [← hres] at hQ
  unfold h_heap at hres
  have h120 := H.1.2.2.2.1
  refine x_eq (L' := [(0, .ref (adr B)), (1, .int c)]) ?_ rfl rfl rfl
  refine x_iconst O (nI 0) dX4_heap_0 (by decide) ?_
  refine x_istore_n O [(2, .int (nI 0)), (0, .ref (adr B)), (1, .int c)] dX4_heap_1 rfl rfl rfl ?_
  refine x_iconst O (nI 0) dX4_heap_2 (by decide) ?_
  refine x_istore_n O [(3, .int (nI 0)), (2, .int (nI 0)), (0, .ref (adr B)), (1, .int c)] dX4_heap_3 rfl rfl rfl ?_
  have LOOP4 : ∀ (cc_ : Nat) (i3_4 : Nat) (v2_4 : Nat), cc_ = tn (w 3) - i3_4 → i3_4 < 2147483648 → (∀ (y0 : Nat), y0 = fr (fun i s => h_heap_b4 w c i s) cc_ i3_4 v2_4 → X G F R Q 4 47 [(2, .int (nI y0)), (0, .ref (adr B))] [] Ω 0 0) → X G F R Q 4 4 [(3, .int (nI i3_4)), (2, .int (nI v2_4)), (0, .ref (adr B)), (1, .int c)] [] Ω 0 0 := by
    intro cc_
    induction cc_ using Nat.strongRecOn with
    | ind cc_ IH_ =>
      intro i3_4 v2_4 hc_ hb_  K_
      refine x_iload_n O 0 dX4_heap_4 rfl rfl ?_
      refine x_aload_n O 2 dX4_heap_5 rfl rfl ?_
      refine x_hget O H k_X4_100_4 rfl dX4_heap_6 ?_
      refine x_top (v' := nI (tn (w 3))) (hI 3 (by decide)).1 ?_
      refine x_icmpgeN O 47 (by omega) (by omega) dX4_heap_9 (by decide) (fun c9 => ?_) (fun c9 => ?_)
      · refine x_sub [1, 2] (L' := [(2, .int (nI v2_4)), (0, .ref (adr B))]) rfl ?_
        obtain rfl : cc_ = 0 := by omega
        exact K_ _ rfl
      · refine x_iload_n O 1 dX4_heap_12 rfl rfl ?_
        refine x_aload_n O 2 dX4_heap_13 rfl rfl ?_
        refine x_iload_n O 0 dX4_heap_14 rfl rfl ?_
        refine x_cV O 1 (c_h_isCase H hkind i3_4 (by omega)) H.obj rfl (lw_V q1377 q1378 q1379 q109 q1380) rfl hd_X4_isCase rfl (by rw [RF]; rfl) (by rw [RL]; rfl) ⟨Nat.zero_le _, Nat.zero_le _⟩ rfl rfl dX4_heap_15 ?_
        refine x_top (v' := b2i (h_isCase w i3_4)) rfl ?_
        have J4 : ∀ (y3 : Nat), y3 = (if h_isCase w i3_4 = true then (if (w (350 + 6 * i3_4)) = c then 1 else 0) else 0) → X G F R Q 4 39 [(3, .int (nI i3_4)), (0, .ref (adr B)), (1, .int c)] [.int (nI y3), .int (nI v2_4)] Ω 0 0 := by
          intro y3 e5
          subst e5
          refine x_iaddN O dX4_heap_39 ?_
          refine x_istore_n O [(2, .int (nI (v2_4 + ((if h_isCase w i3_4 = true then (if (w (350 + 6 * i3_4)) = c then 1 else 0) else 0))))), (3, .int (nI i3_4)), (0, .ref (adr B)), (1, .int c)] dX4_heap_40 rfl rfl rfl ?_
          refine x_iincN O 1 [(3, .int (nI (i3_4 + 1))), (2, .int (nI (v2_4 + ((if h_isCase w i3_4 = true then (if (w (350 + 6 * i3_4)) = c then 1 else 0) else 0))))), (0, .ref (adr B)), (1, .int c)] dX4_heap_41 rfl rfl rfl ?_
          refine x_goto O 4 dX4_heap_44 (by decide) ?_
          obtain ⟨c2_, rfl⟩ : ∃ z, cc_ = z + 1 := ⟨cc_ - 1, by omega⟩
          have hs_ : (fun i s => h_heap_b4 w c i s) i3_4 v2_4 = v2_4 + ((if h_isCase w i3_4 = true then (if (w (350 + 6 * i3_4)) = c then 1 else 0) else 0)) := by show h_heap_b4 w c i3_4 v2_4 = _; unfold h_heap_b4; rfl
          exact IH_ c2_ (by omega) _ _ (by omega) (by omega) (fun y0 hy_ => K_ y0 (hy_.trans (fr_step hs_).symm))
        refine x_ifeqB O 38 dX4_heap_18 (by decide) (fun c18 => ?_) (fun c18 => ?_)
        · refine x_sub [0, 2, 3] (L' := [(3, .int (nI i3_4)), (0, .ref (adr B)), (1, .int c)]) rfl ?_
          refine x_iconst O (nI 0) dX4_heap_38 (by decide) ?_
          exact J4 0 (by rw [if_neg c18])
        · refine x_sub [0, 2, 3] (L' := [(3, .int (nI i3_4)), (0, .ref (adr B)), (1, .int c)]) rfl ?_
          refine x_aload_n O 1 dX4_heap_21 rfl rfl ?_
          refine x_hget O H k_X4_35_4 rfl dX4_heap_22 ?_
          refine x_iload_n O 0 dX4_heap_25 rfl rfl ?_
          refine x_hfind O H (by omega) dX4_heap_26 (fun q1 hq2 => ?_)
          refine x_fcell O (f := i3_4) (w := w) q545 (H.fr hq2) (by rw [RF]; rfl) (by rw [RL]; rfl) ⟨Nat.zero_le _, Nat.zero_le _⟩ rfl dX4_heap_27 ?_
          refine x_iload_n O 2 dX4_heap_30 rfl rfl ?_
          refine x_icmpne O 38 dX4_heap_31 (by decide) (fun c31 => ?_) (fun c31 => ?_)
          · refine x_iconst O (nI 0) dX4_heap_38 (by decide) ?_
            exact J4 0 (by first | (rw [if_pos c18, if_neg c31]; done) | simp only [if_pos c18, if_neg c31])
          · refine x_iconst O (nI 1) dX4_heap_34 (by decide) ?_
            refine x_goto O 39 dX4_heap_35 (by decide) ?_
            exact J4 1 (by first | (rw [if_pos c18, if_pos c31]; done) | simp only [if_pos c18, if_pos c31])
  refine LOOP4 (tn (w 3)) 0 0 rfl (by omega) (fun y0 hy_4 => ?_)
  subst hy_4
  refine x_iload_n O 0 dX4_heap_47 rfl rfl ?_
  exact x_iretQ O hQ rfl dX4_heap_48 (fun h m => ⟨by rw [hres], m⟩)

def h_talked_b17  (w : Nat → Int32) (a : Nat) (b : Nat) (i4_5 : Nat) (i5_17 : Nat) (v3_17 : Bool) : Bool :=
  (if v3_17 = true then true else (if (w (1101 + 3 * i4_5)) = (nI a) then (if (w (1101 + 3 * i5_17)) = (nI b) then (if (w (1102 + 3 * i4_5)) = (w (1102 + 3 * i5_17)) then true else false) else false) else false))
def h_talked_b5  (w : Nat → Int32) (a : Nat) (b : Nat) (i4_5 : Nat) (v3_5 : Bool) : Bool :=
  (fr (fun i s => h_talked_b17 w a b i4_5 i s) (tn (w 5)) 0 v3_5)
def h_talked  (w : Nat → Int32) (a : Nat) (b : Nat) : Bool :=
  (if a = b then false else (if (fr (fun i s => h_talked_b5 w a b i s) (tn (w 5)) 0 false) = true then (if (w (1072 + 4 * a)) = (w (1072 + 4 * b)) then true else false) else false))
set_option maxHeartbeats 1000000 in
set_option maxRecDepth 100000 in
theorem c_h_talked {G : UG} {Ω : Hp → Prop} {κ : Hp} {adr : Nat → Nat} {pl ps : Nat → Nat → Prop} {B : Nat} {w : Nat → Int32} (H : HR G κ adr pl ps B w Ω) (hI : MI w) (a : Nat) (b : Nat) (hs : a < tn (w 4)) (ht : b < tn (w 4)) : Con G yX4_talked cX4_talked 6 (some .boolean) 0 0 0 0 [.ref (adr B), .int (nI a), .int (nI b)] Ω (fun vr_ h' => vr_ = some (.int (b2i (h_talked w a b))) ∧ Ω h') nX := by
  refine con_of2 (plainFor_of_name (by decide)) rfl ?_
  intro F R Q RF RL RC RS hQ O hnh hnm
  obtain ⟨res, hres⟩ : ∃ z, z = (h_talked w a b) := ⟨_, rfl⟩
  rw [← hres] at hQ
  unfold h_talked at hres
  have h20 := H.1.2.2.2.2.2.1
  have h8 := H.1.2.2.2.2.1
  have h8p := H.1.2.1
  refine x_eq (L' := [(0, .ref (adr B)), (1, .int (nI a)), (2, .int (nI b))]) ?_ rfl rfl rfl
  refine x_iconst O (nI 0) dX4_talked_0 (by decide) ?_
  refine x_top (v' := b2i false) (by decide) ?_
  refine x_istore_n O [(3, .int (b2i false)), (0, .ref (adr B)), (1, .int (nI a)), (2, .int (nI b))] dX4_talked_1 rfl rfl rfl ?_
  refine x_iconst O (nI 0) dX4_talked_2 (by decide) ?_
  refine x_istore O [(4, .int (nI 0)), (3, .int (b2i false)), (0, .ref (adr B)), (1, .int (nI a)), (2, .int (nI b))] dX4_talked_3 rfl rfl ?_
  have LOOP5 : ∀ (cc_ : Nat) (i4_5 : Nat) (v3_5 : Bool), cc_ = tn (w 5) - i4_5 → i4_5 < 2147483648 → (∀ (y0 : Bool), y0 = fr (fun i s => h_talked_b5 w a b i s) cc_ i4_5 v3_5 → X G F R Q 6 99 [(3, .int (b2i y0)), (0, .ref (adr B)), (1, .int (nI a)), (2, .int (nI b))] [] Ω 0 0) → X G F R Q 6 5 [(4, .int (nI i4_5)), (3, .int (b2i v3_5)), (0, .ref (adr B)), (1, .int (nI a)), (2, .int (nI b))] [] Ω 0 0 := by
    intro cc_
    induction cc_ using Nat.strongRecOn with
    | ind cc_ IH_ =>
      intro i4_5 v3_5 hc_ hb_  K_
      refine x_iload O 0 dX4_talked_5 rfl ?_
      refine x_aload_n O 2 dX4_talked_7 rfl rfl ?_
      refine x_hget O H k_X4_106_4 rfl dX4_talked_8 ?_
      refine x_top (v' := nI (tn (w 5))) (hI 5 (by decide)).1 ?_
      refine x_icmpgeN O 99 (by omega) (by omega) dX4_talked_11 (by decide) (fun c11 => ?_) (fun c11 => ?_)
      · refine x_sub [1, 2, 3, 4] (L' := [(3, .int (b2i v3_5)), (0, .ref (adr B)), (1, .int (nI a)), (2, .int (nI b))]) rfl ?_
        obtain rfl : cc_ = 0 := by omega
        exact K_ _ rfl
      · refine x_iconst O (nI 0) dX4_talked_14 (by decide) ?_
        refine x_istore O [(5, .int (nI 0)), (4, .int (nI i4_5)), (3, .int (b2i v3_5)), (0, .ref (adr B)), (1, .int (nI a)), (2, .int (nI b))] dX4_talked_15 rfl rfl ?_
        have LOOP17 : ∀ (cc_ : Nat) (i5_17 : Nat) (v3_17 : Bool), cc_ = tn (w 5) - i5_17 → i5_17 < 2147483648 → (∀ (y0 : Bool), y0 = fr (fun i s => h_talked_b17 w a b i4_5 i s) cc_ i5_17 v3_17 → X G F R Q 6 93 [(4, .int (nI i4_5)), (3, .int (b2i y0)), (0, .ref (adr B)), (1, .int (nI a)), (2, .int (nI b))] [] Ω 0 0) → X G F R Q 6 17 [(5, .int (nI i5_17)), (4, .int (nI i4_5)), (3, .int (b2i v3_17)), (0, .ref (adr B)), (1, .int (nI a)), (2, .int (nI b))] [] Ω 0 0 := by
          intro cc_
          induction cc_ using Nat.strongRecOn with
          | ind cc_ IH_ =>
            intro i5_17 v3_17 hc_ hb_  K_
            refine x_iload O 0 dX4_talked_17 rfl ?_
            refine x_aload_n O 3 dX4_talked_19 rfl rfl ?_
            refine x_hget O H k_X4_106_4 rfl dX4_talked_20 ?_
            refine x_top (v' := nI (tn (w 5))) (hI 5 (by decide)).1 ?_
            refine x_icmpgeN O 93 (by omega) (by omega) dX4_talked_23 (by decide) (fun c23 => ?_) (fun c23 => ?_)
            · refine x_sub [1, 2, 3, 4, 5] (L' := [(4, .int (nI i4_5)), (3, .int (b2i v3_17)), (0, .ref (adr B)), (1, .int (nI a)), (2, .int (nI b))]) rfl ?_
              obtain rfl : cc_ = 0 := by omega
              exact K_ _ rfl
            · refine x_iload_n O 2 dX4_talked_26 rfl rfl ?_
              have J15 : ∀ (y9 : Bool), y9 = (if v3_17 = true then true else (if (w (1101 + 3 * i4_5)) = (nI a) then (if (w (1101 + 3 * i5_17)) = (nI b) then (if (w (1102 + 3 * i4_5)) = (w (1102 + 3 * i5_17)) then true else false) else false) else false)) → X G F R Q 6 86 [(5, .int (nI i5_17)), (4, .int (nI i4_5)), (0, .ref (adr B)), (1, .int (nI a)), (2, .int (nI b))] [.int (b2i y9)] Ω 0 0 := by
                intro y9 e16
                subst e16
                refine x_istore_n O [(3, .int (b2i ((if v3_17 = true then true else (if (w (1101 + 3 * i4_5)) = (nI a) then (if (w (1101 + 3 * i5_17)) = (nI b) then (if (w (1102 + 3 * i4_5)) = (w (1102 + 3 * i5_17)) then true else false) else false) else false))))), (5, .int (nI i5_17)), (4, .int (nI i4_5)), (0, .ref (adr B)), (1, .int (nI a)), (2, .int (nI b))] dX4_talked_86 rfl rfl rfl ?_
                refine x_iincN O 1 [(5, .int (nI (i5_17 + 1))), (3, .int (b2i ((if v3_17 = true then true else (if (w (1101 + 3 * i4_5)) = (nI a) then (if (w (1101 + 3 * i5_17)) = (nI b) then (if (w (1102 + 3 * i4_5)) = (w (1102 + 3 * i5_17)) then true else false) else false) else false))))), (4, .int (nI i4_5)), (0, .ref (adr B)), (1, .int (nI a)), (2, .int (nI b))] dX4_talked_87 rfl rfl rfl ?_
                refine x_goto O 17 dX4_talked_90 (by decide) ?_
                obtain ⟨c2_, rfl⟩ : ∃ z, cc_ = z + 1 := ⟨cc_ - 1, by omega⟩
                refine x_sub [0, 2, 1, 3, 4, 5] rfl ?_
                have hs_ : (fun i s => h_talked_b17 w a b i4_5 i s) i5_17 v3_17 = (if v3_17 = true then true else (if (w (1101 + 3 * i4_5)) = (nI a) then (if (w (1101 + 3 * i5_17)) = (nI b) then (if (w (1102 + 3 * i4_5)) = (w (1102 + 3 * i5_17)) then true else false) else false) else false)) := by show h_talked_b17 w a b i4_5 i5_17 v3_17 = _; unfold h_talked_b17; rfl
                exact IH_ c2_ (by omega) _ _ (by omega) (by omega) (fun y0 hy_ => K_ y0 (hy_.trans (fr_step hs_).symm))
              refine x_ifneB O 81 dX4_talked_27 (by decide) (fun c27 => ?_) (fun c27 => ?_)
              · refine x_sub [0, 1, 3, 4, 5] (L' := [(5, .int (nI i5_17)), (4, .int (nI i4_5)), (0, .ref (adr B)), (1, .int (nI a)), (2, .int (nI b))]) rfl ?_
                refine x_iconst O (nI 1) dX4_talked_81 (by decide) ?_
                refine x_goto O 86 dX4_talked_82 (by decide) ?_
                refine x_top (v' := b2i true) (by decide) ?_
                exact J15 true (by rw [if_pos c27])
              · refine x_sub [0, 1, 3, 4, 5] (L' := [(5, .int (nI i5_17)), (4, .int (nI i4_5)), (0, .ref (adr B)), (1, .int (nI a)), (2, .int (nI b))]) rfl ?_
                refine x_aload_n O 2 dX4_talked_30 rfl rfl ?_
                refine x_hget O H k_X4_47_4 rfl dX4_talked_31 ?_
                refine x_iload O 1 dX4_talked_34 rfl ?_
                refine x_htelling O H (by omega) dX4_talked_36 (fun q1 hq2 => ?_)
                refine x_get O k_X4_251_27 (H.fr hq2) (v := .int (w (1101 + 3 * i4_5))) rfl dX4_talked_37 ?_
                refine x_iload_n O 3 dX4_talked_40 rfl rfl ?_
                refine x_icmpne O 85 dX4_talked_41 (by decide) (fun c41 => ?_) (fun c41 => ?_)
                · refine x_iconst O (nI 0) dX4_talked_85 (by decide) ?_
                  refine x_top (v' := b2i false) (by decide) ?_
                  exact J15 false (by first | (rw [if_neg c27, if_neg c41]; done) | simp only [if_neg c27, if_neg c41])
                · refine x_aload_n O 2 dX4_talked_44 rfl rfl ?_
                  refine x_hget O H k_X4_47_4 rfl dX4_talked_45 ?_
                  refine x_iload O 0 dX4_talked_48 rfl ?_
                  refine x_htelling O H (by omega) dX4_talked_50 (fun q3 hq4 => ?_)
                  refine x_get O k_X4_251_27 (H.fr hq4) (v := .int (w (1101 + 3 * i5_17))) rfl dX4_talked_51 ?_
                  refine x_iload_n O 4 dX4_talked_54 rfl rfl ?_
                  refine x_icmpne O 85 dX4_talked_55 (by decide) (fun c55 => ?_) (fun c55 => ?_)
                  · refine x_iconst O (nI 0) dX4_talked_85 (by decide) ?_
                    refine x_top (v' := b2i false) (by decide) ?_
                    exact J15 false (by first | (rw [if_neg c27, if_pos c41, if_neg c55]; done) | simp only [if_neg c27, if_pos c41, if_neg c55])
                  · refine x_aload_n O 2 dX4_talked_58 rfl rfl ?_
                    refine x_hget O H k_X4_47_4 rfl dX4_talked_59 ?_
                    refine x_iload O 1 dX4_talked_62 rfl ?_
                    refine x_htelling O H (by omega) dX4_talked_64 (fun q5 hq6 => ?_)
                    refine x_get O k_X4_262_27 (H.fr hq6) (v := .int (w (1102 + 3 * i4_5))) rfl dX4_talked_65 ?_
                    refine x_aload_n O 2 dX4_talked_68 rfl rfl ?_
                    refine x_hget O H k_X4_47_4 rfl dX4_talked_69 ?_
                    refine x_iload O 0 dX4_talked_72 rfl ?_
                    refine x_htelling O H (by omega) dX4_talked_74 (fun q7 hq8 => ?_)
                    refine x_get O k_X4_262_27 (H.fr hq8) (v := .int (w (1102 + 3 * i5_17))) rfl dX4_talked_75 ?_
                    refine x_icmpne O 85 dX4_talked_78 (by decide) (fun c78 => ?_) (fun c78 => ?_)
                    · refine x_iconst O (nI 0) dX4_talked_85 (by decide) ?_
                      refine x_top (v' := b2i false) (by decide) ?_
                      exact J15 false (by first | (rw [if_neg c27, if_pos c41, if_pos c55, if_neg c78]; done) | simp only [if_neg c27, if_pos c41, if_pos c55, if_neg c78])
                    · refine x_iconst O (nI 1) dX4_talked_81 (by decide) ?_
                      refine x_goto O 86 dX4_talked_82 (by decide) ?_
                      refine x_top (v' := b2i true) (by decide) ?_
                      exact J15 true (by first | (rw [if_neg c27, if_pos c41, if_pos c55, if_pos c78]; done) | simp only [if_neg c27, if_pos c41, if_pos c55, if_pos c78])
        refine LOOP17 (tn (w 5)) 0 v3_5 rfl (by omega) (fun y0 hy_17 => ?_)
        subst hy_17
        refine x_iincN O 0 [(4, .int (nI (i4_5 + 1))), (3, .int (b2i ((fr (fun i s => h_talked_b17 w a b i4_5 i s) (tn (w 5)) 0 v3_5)))), (0, .ref (adr B)), (1, .int (nI a)), (2, .int (nI b))] dX4_talked_93 rfl rfl rfl ?_
        refine x_goto O 5 dX4_talked_96 (by decide) ?_
        obtain ⟨c2_, rfl⟩ : ∃ z, cc_ = z + 1 := ⟨cc_ - 1, by omega⟩
        have hs_ : (fun i s => h_talked_b5 w a b i s) i4_5 v3_5 = (fr (fun i s => h_talked_b17 w a b i4_5 i s) (tn (w 5)) 0 v3_5) := by show h_talked_b5 w a b i4_5 v3_5 = _; unfold h_talked_b5; rfl
        exact IH_ c2_ (by omega) _ _ (by omega) (by omega) (fun y0 hy_ => K_ y0 (hy_.trans (fr_step hs_).symm))
  refine LOOP5 (tn (w 5)) 0 false rfl (by omega) (fun y0 hy_5 => ?_)
  subst hy_5
  refine x_iload_n O 2 dX4_talked_99 rfl rfl ?_
  refine x_iload_n O 3 dX4_talked_100 rfl rfl ?_
  have J17 : ∀ (y14 : Bool), y14 = (if a = b then false else (if (fr (fun i s => h_talked_b5 w a b i s) (tn (w 5)) 0 false) = true then (if (w (1072 + 4 * a)) = (w (1072 + 4 * b)) then true else false) else false)) → X G F R Q 6 134 [(0, .ref (adr B))] [.int (b2i y14)] Ω 0 0 := by
    intro y14 e18
    subst e18
    exact x_zretQ O hQ rfl dX4_talked_134 (fun h m => ⟨by rw [hres], m⟩)
  refine x_icmpeqN O 133 (by omega) (by omega) dX4_talked_101 (by decide) (fun c101 => ?_) (fun c101 => ?_)
  · refine x_sub [1] (L' := [(0, .ref (adr B))]) rfl ?_
    refine x_iconst O (nI 0) dX4_talked_133 (by decide) ?_
    refine x_top (v' := b2i false) (by decide) ?_
    exact J17 false (by rw [if_pos c101])
  · refine x_iload_n O 0 dX4_talked_104 rfl rfl ?_
    refine x_ifeqB O 133 dX4_talked_105 (by decide) (fun c105 => ?_) (fun c105 => ?_)
    · refine x_sub [1] (L' := [(0, .ref (adr B))]) rfl ?_
      refine x_iconst O (nI 0) dX4_talked_133 (by decide) ?_
      refine x_top (v' := b2i false) (by decide) ?_
      exact J17 false (by first | (rw [if_neg c101, if_neg c105]; done) | simp only [if_neg c101, if_neg c105])
    · refine x_sub [1, 2, 3] (L' := [(0, .ref (adr B)), (1, .int (nI a)), (2, .int (nI b))]) rfl ?_
      refine x_aload_n O 0 dX4_talked_108 rfl rfl ?_
      refine x_hget O H k_X4_41_4 rfl dX4_talked_109 ?_
      refine x_iload_n O 1 dX4_talked_112 rfl rfl ?_
      refine x_hteller O H (by omega) dX4_talked_113 (fun q10 hq11 => ?_)
      refine x_get O k_X4_271_26 (H.fr hq11) (v := .int (w (1072 + 4 * a))) rfl dX4_talked_114 ?_
      refine x_aload_n O 0 dX4_talked_117 rfl rfl ?_
      refine x_hget O H k_X4_41_4 rfl dX4_talked_118 ?_
      refine x_iload_n O 2 dX4_talked_121 rfl rfl ?_
      refine x_hteller O H (by omega) dX4_talked_122 (fun q12 hq13 => ?_)
      refine x_get O k_X4_271_26 (H.fr hq13) (v := .int (w (1072 + 4 * b))) rfl dX4_talked_123 ?_
      refine x_icmpne O 133 dX4_talked_126 (by decide) (fun c126 => ?_) (fun c126 => ?_)
      · refine x_sub [0] (L' := [(0, .ref (adr B))]) rfl ?_
        refine x_iconst O (nI 0) dX4_talked_133 (by decide) ?_
        refine x_top (v' := b2i false) (by decide) ?_
        exact J17 false (by first | (rw [if_neg c101, if_pos c105, if_neg c126]; done) | simp only [if_neg c101, if_pos c105, if_neg c126])
      · refine x_sub [0] (L' := [(0, .ref (adr B))]) rfl ?_
        refine x_iconst O (nI 1) dX4_talked_129 (by decide) ?_
        refine x_goto O 134 dX4_talked_130 (by decide) ?_
        refine x_top (v' := b2i true) (by decide) ?_
        exact J17 true (by first | (rw [if_neg c101, if_pos c105, if_pos c126]; done) | simp only [if_neg c101, if_pos c105, if_pos c126])

def h_isFoe  (w : Nat → Int32) (p : Nat) (q : Nat) : Bool :=
  (if decide (w (304 + 6 * q) = 1) = true then (if (w (305 + 6 * q)) = (w (305 + 6 * p)) then false else true) else false)
set_option maxHeartbeats 1000000 in
set_option maxRecDepth 100000 in
theorem c_h_isFoe {G : UG} {Ω : Hp → Prop} {κ : Hp} {adr : Nat → Nat} {pl ps : Nat → Nat → Prop} {B : Nat} {w : Nat → Int32} (H : HR G κ adr pl ps B w Ω) (p : Nat) (q : Nat) (hp : p < tn (w 1)) (hq : q < tn (w 1)) : Con G yX4_isFoe cX4_isFoe 3 (some .boolean) 0 0 0 0 [.ref (adr B), .ref (adr (B + (200 + p))), .ref (adr (B + (200 + q)))] Ω (fun vr_ h' => vr_ = some (.int (b2i (h_isFoe w p q))) ∧ Ω h') nX := by
  refine con_of2 (plainFor_of_name (by decide)) rfl ?_
  intro F R Q RF RL RC RS hQ O hnh hnm
  obtain ⟨res, hres⟩ : ∃ z, z = (h_isFoe w p q) := ⟨_, rfl⟩
  rw [← hres] at hQ
  unfold h_isFoe at hres
  have h20 := H.1.2.2.2.2.2.1
  have h8 := H.1.2.2.2.2.1
  have h8p := H.1.2.1
  refine x_eq (L' := [(0, .ref (adr B)), (1, .ref (adr (B + (200 + p)))), (2, .ref (adr (B + (200 + q))))]) ?_ rfl rfl rfl
  refine x_aload_n O 2 dX4_isFoe_0 rfl rfl ?_
  refine x_get O k_X4_124_20 (H.per (by omega)) (v := .int (b2i (decide (w (304 + 6 * q) = 1)))) rfl dX4_isFoe_1 ?_
  have J2 : ∀ (y1 : Bool), y1 = (if decide (w (304 + 6 * q) = 1) = true then (if (w (305 + 6 * q)) = (w (305 + 6 * p)) then false else true) else false) → X G F R Q 3 23 [(0, .ref (adr B))] [.int (b2i y1)] Ω 0 0 := by
    intro y1 e3
    subst e3
    exact x_zretQ O hQ rfl dX4_isFoe_23 (fun h m => ⟨by rw [hres], m⟩)
  refine x_ifeqB O 22 dX4_isFoe_4 (by decide) (fun c4 => ?_) (fun c4 => ?_)
  · refine x_sub [0] (L' := [(0, .ref (adr B))]) rfl ?_
    refine x_iconst O (nI 0) dX4_isFoe_22 (by decide) ?_
    refine x_top (v' := b2i false) (by decide) ?_
    exact J2 false (by rw [if_neg c4])
  · refine x_aload_n O 2 dX4_isFoe_7 rfl rfl ?_
    refine x_get O k_X4_128_20 (H.per (by omega)) (v := .int (w (305 + 6 * q))) rfl dX4_isFoe_8 ?_
    refine x_aload_n O 1 dX4_isFoe_11 rfl rfl ?_
    refine x_get O k_X4_128_20 (H.per (by omega)) (v := .int (w (305 + 6 * p))) rfl dX4_isFoe_12 ?_
    refine x_icmpeq O 22 dX4_isFoe_15 (by decide) (fun c15 => ?_) (fun c15 => ?_)
    · refine x_sub [0] (L' := [(0, .ref (adr B))]) rfl ?_
      refine x_iconst O (nI 0) dX4_isFoe_22 (by decide) ?_
      refine x_top (v' := b2i false) (by decide) ?_
      exact J2 false (by first | (rw [if_pos c4, if_pos c15]; done) | simp only [if_pos c4, if_pos c15])
    · refine x_sub [0] (L' := [(0, .ref (adr B))]) rfl ?_
      refine x_iconst O (nI 1) dX4_isFoe_18 (by decide) ?_
      refine x_goto O 23 dX4_isFoe_19 (by decide) ?_
      refine x_top (v' := b2i true) (by decide) ?_
      exact J2 true (by first | (rw [if_pos c4, if_neg c15]; done) | simp only [if_pos c4, if_neg c15])

def h_isFriend  (w : Nat → Int32) (p : Nat) (q : Nat) : Bool :=
  (if q = p then false else (if decide (w (304 + 6 * q) = 1) = true then (if (w (305 + 6 * q)) = (w (305 + 6 * p)) then true else false) else false))
set_option maxHeartbeats 1000000 in
set_option maxRecDepth 100000 in
theorem c_h_isFriend {G : UG} {Ω : Hp → Prop} {κ : Hp} {adr : Nat → Nat} {pl ps : Nat → Nat → Prop} {B : Nat} {w : Nat → Int32} (H : HR G κ adr pl ps B w Ω) (p : Nat) (q : Nat) (hp : p < tn (w 1)) (hq : q < tn (w 1)) : Con G yX4_isFriend cX4_isFriend 3 (some .boolean) 0 0 0 0 [.ref (adr B), .ref (adr (B + (200 + p))), .ref (adr (B + (200 + q)))] Ω (fun vr_ h' => vr_ = some (.int (b2i (h_isFriend w p q))) ∧ Ω h') nX := by
  refine con_of2 (plainFor_of_name (by decide)) rfl ?_
  intro F R Q RF RL RC RS hQ O hnh hnm
  obtain ⟨res, hres⟩ : ∃ z, z = (h_isFriend w p q) := ⟨_, rfl⟩
  rw [← hres] at hQ
  unfold h_isFriend at hres
  have h20 := H.1.2.2.2.2.2.1
  have h8 := H.1.2.2.2.2.1
  have h8p := H.1.2.1
  refine x_eq (L' := [(0, .ref (adr B)), (1, .ref (adr (B + (200 + p)))), (2, .ref (adr (B + (200 + q))))]) ?_ rfl rfl rfl
  refine x_aload_n O 2 dX4_isFriend_0 rfl rfl ?_
  refine x_aload_n O 1 dX4_isFriend_1 rfl rfl ?_
  have J2 : ∀ (y1 : Bool), y1 = (if q = p then false else (if decide (w (304 + 6 * q) = 1) = true then (if (w (305 + 6 * q)) = (w (305 + 6 * p)) then true else false) else false)) → X G F R Q 3 28 [(0, .ref (adr B))] [.int (b2i y1)] Ω 0 0 := by
    intro y1 e3
    subst e3
    exact x_zretQ O hQ rfl dX4_isFriend_28 (fun h m => ⟨by rw [hres], m⟩)
  refine x_hpeq O H (by omega) (by omega) 27 dX4_isFriend_2 (by decide) (fun c2 => ?_) (fun c2 => ?_)
  · refine x_sub [0] (L' := [(0, .ref (adr B))]) rfl ?_
    refine x_iconst O (nI 0) dX4_isFriend_27 (by decide) ?_
    refine x_top (v' := b2i false) (by decide) ?_
    exact J2 false (by rw [if_pos c2])
  · refine x_aload_n O 2 dX4_isFriend_5 rfl rfl ?_
    refine x_get O k_X4_124_20 (H.per (by omega)) (v := .int (b2i (decide (w (304 + 6 * q) = 1)))) rfl dX4_isFriend_6 ?_
    refine x_ifeqB O 27 dX4_isFriend_9 (by decide) (fun c9 => ?_) (fun c9 => ?_)
    · refine x_sub [0] (L' := [(0, .ref (adr B))]) rfl ?_
      refine x_iconst O (nI 0) dX4_isFriend_27 (by decide) ?_
      refine x_top (v' := b2i false) (by decide) ?_
      exact J2 false (by first | (rw [if_neg c2, if_neg c9]; done) | simp only [if_neg c2, if_neg c9])
    · refine x_aload_n O 2 dX4_isFriend_12 rfl rfl ?_
      refine x_get O k_X4_128_20 (H.per (by omega)) (v := .int (w (305 + 6 * q))) rfl dX4_isFriend_13 ?_
      refine x_aload_n O 1 dX4_isFriend_16 rfl rfl ?_
      refine x_get O k_X4_128_20 (H.per (by omega)) (v := .int (w (305 + 6 * p))) rfl dX4_isFriend_17 ?_
      refine x_icmpne O 27 dX4_isFriend_20 (by decide) (fun c20 => ?_) (fun c20 => ?_)
      · refine x_sub [0] (L' := [(0, .ref (adr B))]) rfl ?_
        refine x_iconst O (nI 0) dX4_isFriend_27 (by decide) ?_
        refine x_top (v' := b2i false) (by decide) ?_
        exact J2 false (by first | (rw [if_neg c2, if_pos c9, if_neg c20]; done) | simp only [if_neg c2, if_pos c9, if_neg c20])
      · refine x_sub [0] (L' := [(0, .ref (adr B))]) rfl ?_
        refine x_iconst O (nI 1) dX4_isFriend_23 (by decide) ?_
        refine x_goto O 28 dX4_isFriend_24 (by decide) ?_
        refine x_top (v' := b2i true) (by decide) ?_
        exact J2 true (by first | (rw [if_neg c2, if_pos c9, if_pos c20]; done) | simp only [if_neg c2, if_pos c9, if_pos c20])

def h_within_b5  (w : Nat → Int32) (p : Nat) (foes : Bool) (i4_5 : Nat) (v3_5 : Nat) : Nat :=
  v3_5 + ((if foes = true then (if h_isFoe w p i4_5 = true then (if (nI ((if foes = true then 3 else 2))) < (z_far (w (302 + 6 * i4_5)) (w (302 + 6 * p))) then 0 else 1) else 0) else (if h_isFriend w p i4_5 = true then (if (nI ((if foes = true then 3 else 2))) < (z_far (w (302 + 6 * i4_5)) (w (302 + 6 * p))) then 0 else 1) else 0)))
def h_within  (w : Nat → Int32) (p : Nat) (foes : Bool) : Nat :=
  (fr (fun i s => h_within_b5 w p foes i s) (tn (w 1)) 0 0)
set_option maxHeartbeats 1000000 in
set_option maxRecDepth 100000 in
theorem c_h_within {G : UG} {Ω : Hp → Prop} {κ : Hp} {adr : Nat → Nat} {pl ps : Nat → Nat → Prop} {B : Nat} {w : Nat → Int32} (H : HR G κ adr pl ps B w Ω) (hI : MI w) (p : Nat) (foes : Bool) (hp : p < tn (w 1)) : Con G yX4_within cX4_within 6 (some .int) 2 42 0 0 [.ref (adr B), .ref (adr (B + (200 + p))), .int (b2i foes)] Ω (fun vr_ h' => vr_ = some (.int (nI (h_within w p foes))) ∧ Ω h') nX := by
  refine con_of2 (plainFor_of_name (by decide)) rfl ?_
  intro F R Q RF RL RC RS hQ O hnh hnm
  obtain ⟨res, hres⟩ : ∃ z, z = (h_within w p foes) := ⟨_, rfl⟩
  rw [← hres] at hQ
  unfold h_within at hres
  have h20 := H.1.2.2.2.2.2.1
  have h8 := H.1.2.2.2.2.1
  have h8p := H.1.2.1
  refine x_eq (L' := [(0, .ref (adr B)), (1, .ref (adr (B + (200 + p)))), (2, .int (b2i foes))]) ?_ rfl rfl rfl
  refine x_iconst O (nI 0) dX4_within_0 (by decide) ?_
  refine x_istore_n O [(3, .int (nI 0)), (0, .ref (adr B)), (1, .ref (adr (B + (200 + p)))), (2, .int (b2i foes))] dX4_within_1 rfl rfl rfl ?_
  refine x_iconst O (nI 0) dX4_within_2 (by decide) ?_
  refine x_istore O [(4, .int (nI 0)), (3, .int (nI 0)), (0, .ref (adr B)), (1, .ref (adr (B + (200 + p)))), (2, .int (b2i foes))] dX4_within_3 rfl rfl ?_
  have LOOP5 : ∀ (cc_ : Nat) (i4_5 : Nat) (v3_5 : Nat), cc_ = tn (w 1) - i4_5 → i4_5 < 2147483648 → (∀ (y0 : Nat), y0 = fr (fun i s => h_within_b5 w p foes i s) cc_ i4_5 v3_5 → X G F R Q 6 88 [(3, .int (nI y0)), (0, .ref (adr B))] [] Ω 0 0) → X G F R Q 6 5 [(4, .int (nI i4_5)), (3, .int (nI v3_5)), (0, .ref (adr B)), (1, .ref (adr (B + (200 + p)))), (2, .int (b2i foes))] [] Ω 0 0 := by
    intro cc_
    induction cc_ using Nat.strongRecOn with
    | ind cc_ IH_ =>
      intro i4_5 v3_5 hc_ hb_  K_
      refine x_iload O 0 dX4_within_5 rfl ?_
      refine x_aload_n O 2 dX4_within_7 rfl rfl ?_
      refine x_hget O H k_X4_91_4 rfl dX4_within_8 ?_
      refine x_top (v' := nI (tn (w 1))) (hI 1 (by decide)).1 ?_
      refine x_icmpgeN O 88 (by omega) (by omega) dX4_within_11 (by decide) (fun c11 => ?_) (fun c11 => ?_)
      · refine x_sub [1, 2] (L' := [(3, .int (nI v3_5)), (0, .ref (adr B))]) rfl ?_
        obtain rfl : cc_ = 0 := by omega
        exact K_ _ rfl
      · refine x_aload_n O 2 dX4_within_14 rfl rfl ?_
        refine x_hget O H k_X4_23_4 rfl dX4_within_15 ?_
        refine x_iload O 0 dX4_within_18 rfl ?_
        refine x_hper O H (by omega) dX4_within_20 ?_
        refine x_astore O [(5, .ref (adr (B + (200 + i4_5)))), (4, .int (nI i4_5)), (3, .int (nI v3_5)), (0, .ref (adr B)), (1, .ref (adr (B + (200 + p)))), (2, .int (b2i foes))] dX4_within_21 rfl rfl ?_
        refine x_iload_n O 2 dX4_within_23 rfl rfl ?_
        refine x_iload_n O 5 dX4_within_24 rfl rfl ?_
        have J4 : ∀ (y3 : Nat), y3 = (if foes = true then (if h_isFoe w p i4_5 = true then (if (nI ((if foes = true then 3 else 2))) < (z_far (w (302 + 6 * i4_5)) (w (302 + 6 * p))) then 0 else 1) else 0) else (if h_isFriend w p i4_5 = true then (if (nI ((if foes = true then 3 else 2))) < (z_far (w (302 + 6 * i4_5)) (w (302 + 6 * p))) then 0 else 1) else 0)) → X G F R Q 6 80 [(4, .int (nI i4_5)), (0, .ref (adr B)), (1, .ref (adr (B + (200 + p)))), (2, .int (b2i foes))] [.int (nI y3), .int (nI v3_5)] Ω 0 0 := by
          intro y3 e5
          subst e5
          refine x_iaddN O dX4_within_80 ?_
          refine x_istore_n O [(3, .int (nI (v3_5 + ((if foes = true then (if h_isFoe w p i4_5 = true then (if (nI ((if foes = true then 3 else 2))) < (z_far (w (302 + 6 * i4_5)) (w (302 + 6 * p))) then 0 else 1) else 0) else (if h_isFriend w p i4_5 = true then (if (nI ((if foes = true then 3 else 2))) < (z_far (w (302 + 6 * i4_5)) (w (302 + 6 * p))) then 0 else 1) else 0)))))), (4, .int (nI i4_5)), (0, .ref (adr B)), (1, .ref (adr (B + (200 + p)))), (2, .int (b2i foes))] dX4_within_81 rfl rfl rfl ?_
          refine x_iincN O 1 [(4, .int (nI (i4_5 + 1))), (3, .int (nI (v3_5 + ((if foes = true then (if h_isFoe w p i4_5 = true then (if (nI ((if foes = true then 3 else 2))) < (z_far (w (302 + 6 * i4_5)) (w (302 + 6 * p))) then 0 else 1) else 0) else (if h_isFriend w p i4_5 = true then (if (nI ((if foes = true then 3 else 2))) < (z_far (w (302 + 6 * i4_5)) (w (302 + 6 * p))) then 0 else 1) else 0)))))), (0, .ref (adr B)), (1, .ref (adr (B + (200 + p)))), (2, .int (b2i foes))] dX4_within_82 rfl rfl rfl ?_
          refine x_goto O 5 dX4_within_85 (by decide) ?_
          obtain ⟨c2_, rfl⟩ : ∃ z, cc_ = z + 1 := ⟨cc_ - 1, by omega⟩
          have hs_ : (fun i s => h_within_b5 w p foes i s) i4_5 v3_5 = v3_5 + ((if foes = true then (if h_isFoe w p i4_5 = true then (if (nI ((if foes = true then 3 else 2))) < (z_far (w (302 + 6 * i4_5)) (w (302 + 6 * p))) then 0 else 1) else 0) else (if h_isFriend w p i4_5 = true then (if (nI ((if foes = true then 3 else 2))) < (z_far (w (302 + 6 * i4_5)) (w (302 + 6 * p))) then 0 else 1) else 0))) := by show h_within_b5 w p foes i4_5 v3_5 = _; unfold h_within_b5; rfl
          exact IH_ c2_ (by omega) _ _ (by omega) (by omega) (fun y0 hy_ => K_ y0 (hy_.trans (fr_step hs_).symm))
        refine x_ifeqB O 41 dX4_within_25 (by decide) (fun c25 => ?_) (fun c25 => ?_)
        · refine x_sub [0, 1, 3, 4, 5] (L' := [(5, .ref (adr (B + (200 + i4_5)))), (4, .int (nI i4_5)), (0, .ref (adr B)), (1, .ref (adr (B + (200 + p)))), (2, .int (b2i foes))]) rfl ?_
          refine x_aload_n O 2 dX4_within_41 rfl rfl ?_
          refine x_aload_n O 3 dX4_within_42 rfl rfl ?_
          refine x_aload O 0 dX4_within_43 rfl ?_
          refine x_cV O 2 (c_h_isFriend H p i4_5 (by omega) (by omega)) H.obj rfl (lw_V q1089 q1091 qs17 q109 q1092) rfl hd_X4_isFriend rfl (by rw [RF]; rfl) (by rw [RL]; rfl) ⟨Nat.zero_le _, Nat.zero_le _⟩ rfl rfl dX4_within_45 ?_
          refine x_top (v' := b2i (h_isFriend w p i4_5)) rfl ?_
          refine x_ifeqB O 79 dX4_within_48 (by decide) (fun c48 => ?_) (fun c48 => ?_)
          · refine x_sub [1, 2, 3, 4] (L' := [(4, .int (nI i4_5)), (0, .ref (adr B)), (1, .ref (adr (B + (200 + p)))), (2, .int (b2i foes))]) rfl ?_
            refine x_iconst O (nI 0) dX4_within_79 (by decide) ?_
            exact J4 0 (by first | (rw [if_neg c25, if_neg c48]; done) | simp only [if_neg c25, if_neg c48])
          · refine x_aload O 0 dX4_within_51 rfl ?_
            refine x_get O k_X4_136_20 (H.per (by omega)) (v := .int (w (302 + 6 * i4_5))) rfl dX4_within_53 ?_
            refine x_aload_n O 3 dX4_within_56 rfl rfl ?_
            refine x_get O k_X4_136_20 (H.per (by omega)) (v := .int (w (302 + 6 * p))) rfl dX4_within_57 ?_
            refine x_cSN O 2 (c_z_far (w (302 + 6 * i4_5)) (w (302 + 6 * p))) q553 q554 q103 q555 hd_X1_far rfl (by rw [RF]; rfl) (by rw [RL]; rfl) ⟨Nat.zero_le _, Nat.zero_le _⟩ rfl rfl dX4_within_60 ?_
            refine x_top (v' := z_far (w (302 + 6 * i4_5)) (w (302 + 6 * p))) rfl ?_
            refine x_iload_n O 4 dX4_within_63 rfl rfl ?_
            have J6 : ∀ (y1 : Nat), y1 = (if foes = true then 3 else 2) → X G F R Q 6 72 [(4, .int (nI i4_5)), (0, .ref (adr B)), (1, .ref (adr (B + (200 + p)))), (2, .int (b2i foes))] [.int (nI y1), .int (z_far (w (302 + 6 * i4_5)) (w (302 + 6 * p))), .int (nI v3_5)] Ω 0 0 := by
              intro y1 e7
              subst e7
              refine x_icmpgt O 79 dX4_within_72 (by decide) (fun c72 => ?_) (fun c72 => ?_)
              · refine x_iconst O (nI 0) dX4_within_79 (by decide) ?_
                exact J4 0 (by first | (rw [if_neg c25, if_pos c48, if_pos c72]; done) | simp only [if_neg c25, if_pos c48, if_pos c72])
              · refine x_iconst O (nI 1) dX4_within_75 (by decide) ?_
                refine x_goto O 80 dX4_within_76 (by decide) ?_
                exact J4 1 (by first | (rw [if_neg c25, if_pos c48, if_neg c72]; done) | simp only [if_neg c25, if_pos c48, if_neg c72])
            refine x_ifeqB O 71 dX4_within_64 (by decide) (fun c64 => ?_) (fun c64 => ?_)
            · refine x_sub [1, 2, 3, 4] (L' := [(4, .int (nI i4_5)), (0, .ref (adr B)), (1, .ref (adr (B + (200 + p)))), (2, .int (b2i foes))]) rfl ?_
              refine x_iconst O (nI 2) dX4_within_71 (by decide) ?_
              exact J6 2 (by rw [if_neg c64])
            · refine x_sub [1, 2, 3, 4] (L' := [(4, .int (nI i4_5)), (0, .ref (adr B)), (1, .ref (adr (B + (200 + p)))), (2, .int (b2i foes))]) rfl ?_
              refine x_iconst O (nI 3) dX4_within_67 (by decide) ?_
              refine x_goto O 72 dX4_within_68 (by decide) ?_
              exact J6 3 (by rw [if_pos c64])
        · refine x_sub [0, 1, 3, 4, 5] (L' := [(5, .ref (adr (B + (200 + i4_5)))), (4, .int (nI i4_5)), (0, .ref (adr B)), (1, .ref (adr (B + (200 + p)))), (2, .int (b2i foes))]) rfl ?_
          refine x_aload_n O 2 dX4_within_28 rfl rfl ?_
          refine x_aload_n O 3 dX4_within_29 rfl rfl ?_
          refine x_aload O 0 dX4_within_30 rfl ?_
          refine x_cV O 2 (c_h_isFoe H p i4_5 (by omega) (by omega)) H.obj rfl (lw_V q1085 q1087 qs16 q109 q1088) rfl hd_X4_isFoe rfl (by rw [RF]; rfl) (by rw [RL]; rfl) ⟨Nat.zero_le _, Nat.zero_le _⟩ rfl rfl dX4_within_32 ?_
          refine x_top (v' := b2i (h_isFoe w p i4_5)) rfl ?_
          refine x_ifeqB O 79 dX4_within_35 (by decide) (fun c35 => ?_) (fun c35 => ?_)
          · refine x_sub [1, 2, 3, 4] (L' := [(4, .int (nI i4_5)), (0, .ref (adr B)), (1, .ref (adr (B + (200 + p)))), (2, .int (b2i foes))]) rfl ?_
            refine x_iconst O (nI 0) dX4_within_79 (by decide) ?_
            exact J4 0 (by first | (rw [if_pos c25, if_neg c35]; done) | simp only [if_pos c25, if_neg c35])
          · refine x_goto O 51 dX4_within_38 (by decide) ?_
            refine x_aload O 0 dX4_within_51 rfl ?_
            refine x_get O k_X4_136_20 (H.per (by omega)) (v := .int (w (302 + 6 * i4_5))) rfl dX4_within_53 ?_
            refine x_aload_n O 3 dX4_within_56 rfl rfl ?_
            refine x_get O k_X4_136_20 (H.per (by omega)) (v := .int (w (302 + 6 * p))) rfl dX4_within_57 ?_
            refine x_cSN O 2 (c_z_far (w (302 + 6 * i4_5)) (w (302 + 6 * p))) q553 q554 q103 q555 hd_X1_far rfl (by rw [RF]; rfl) (by rw [RL]; rfl) ⟨Nat.zero_le _, Nat.zero_le _⟩ rfl rfl dX4_within_60 ?_
            refine x_top (v' := z_far (w (302 + 6 * i4_5)) (w (302 + 6 * p))) rfl ?_
            refine x_iload_n O 4 dX4_within_63 rfl rfl ?_
            have J8 : ∀ (y2 : Nat), y2 = (if foes = true then 3 else 2) → X G F R Q 6 72 [(4, .int (nI i4_5)), (0, .ref (adr B)), (1, .ref (adr (B + (200 + p)))), (2, .int (b2i foes))] [.int (nI y2), .int (z_far (w (302 + 6 * i4_5)) (w (302 + 6 * p))), .int (nI v3_5)] Ω 0 0 := by
              intro y2 e9
              subst e9
              refine x_icmpgt O 79 dX4_within_72 (by decide) (fun c72 => ?_) (fun c72 => ?_)
              · refine x_iconst O (nI 0) dX4_within_79 (by decide) ?_
                exact J4 0 (by first | (rw [if_pos c25, if_pos c35, if_pos c72]; done) | simp only [if_pos c25, if_pos c35, if_pos c72])
              · refine x_iconst O (nI 1) dX4_within_75 (by decide) ?_
                refine x_goto O 80 dX4_within_76 (by decide) ?_
                exact J4 1 (by first | (rw [if_pos c25, if_pos c35, if_neg c72]; done) | simp only [if_pos c25, if_pos c35, if_neg c72])
            refine x_ifeqB O 71 dX4_within_64 (by decide) (fun c64 => ?_) (fun c64 => ?_)
            · refine x_sub [1, 2, 3, 4] (L' := [(4, .int (nI i4_5)), (0, .ref (adr B)), (1, .ref (adr (B + (200 + p)))), (2, .int (b2i foes))]) rfl ?_
              refine x_iconst O (nI 2) dX4_within_71 (by decide) ?_
              exact J8 2 (by rw [if_neg c64])
            · refine x_sub [1, 2, 3, 4] (L' := [(4, .int (nI i4_5)), (0, .ref (adr B)), (1, .ref (adr (B + (200 + p)))), (2, .int (b2i foes))]) rfl ?_
              refine x_iconst O (nI 3) dX4_within_67 (by decide) ?_
              refine x_goto O 72 dX4_within_68 (by decide) ?_
              exact J8 3 (by rw [if_pos c64])
  refine LOOP5 (tn (w 1)) 0 0 rfl (by omega) (fun y0 hy_5 => ?_)
  subst hy_5
  refine x_iload_n O 0 dX4_within_88 rfl rfl ?_
  exact x_iretQ O hQ rfl dX4_within_89 (fun h m => ⟨by rw [hres], m⟩)

def h_mayBe_b13  (w : Nat → Int32) (f : Nat) (i3_13 : Nat) (v2_13 : Int32) : Int32 :=
  v2_13 ||| ((if (((w (352 + 6 * f)) >>> ((w (270 + 4 * i3_13)) &&& 31)) &&& (nI 1)) = (nI 1) then (nI 1) <<< ((nI i3_13) &&& 31) else nI 0))
def h_mayBe  (w : Nat → Int32) (f : Nat) : Int32 :=
  (if (w (349 + 6 * f)) = 0 then (fr (fun i s => h_mayBe_b13 w f i s) (tn (w 0)) 0 (nI 0)) else nI 0)
set_option maxHeartbeats 1000000 in
set_option maxRecDepth 100000 in
theorem c_h_mayBe {G : UG} {Ω : Hp → Prop} {κ : Hp} {adr : Nat → Nat} {pl ps : Nat → Nat → Prop} {B : Nat} {w : Nat → Int32} (H : HR G κ adr pl ps B w Ω) (hI : MI w) (hkind : ∀ f : Nat, f < tn (w 3) → w (349 + 6 * f) = 0 ∨ w (349 + 6 * f) = 1 ∨ w (349 + 6 * f) = 2 ∨ w (349 + 6 * f) = 3) (f : Nat) (hf : f < tn (w 3)) (fq : Nat) (hfq : κ fq = some (fEnt w f)) : Con G yX4_mayBe cX4_mayBe 4 (some .int) 1 20 0 0 [.ref (adr B), .ref fq] Ω (fun vr_ h' => vr_ = some (.int (h_mayBe w f)) ∧ Ω h') nX := by
  refine con_of2 (plainFor_of_name (by decide)) rfl ?_
  intro F R Q RF RL RC RS hQ O hnh hnm
  obtain ⟨res, hres⟩ : ∃ z, z = (h_mayBe w f) := ⟨_, rfl⟩
  rw [← hres] at hQ
  unfold h_mayBe at hres
  have h120 := H.1.2.2.2.1
  have h8g := H.1.1
  refine x_eq (L' := [(0, .ref (adr B)), (1, .ref fq)]) ?_ rfl rfl rfl
  refine x_aload_n O 1 dX4_mayBe_0 rfl rfl ?_
  refine x_fkind O (f := f) (w := w) q530 (H.fr hfq) (hkind f (by omega)) (by rw [RF]; rfl) (by rw [RL]; rfl) ⟨Nat.zero_le _, Nat.zero_le _⟩ rfl dX4_mayBe_1 ?_
  refine x_ifeq O 9 dX4_mayBe_4 (by decide) (fun c4 => ?_) (fun c4 => ?_)
  · have hr2 := hres.trans (if_pos c4)
    refine x_iconst O (nI 0) dX4_mayBe_9 (by decide) ?_
    refine x_istore_n O [(2, .int (nI 0)), (0, .ref (adr B)), (1, .ref fq)] dX4_mayBe_10 rfl rfl rfl ?_
    refine x_iconst O (nI 0) dX4_mayBe_11 (by decide) ?_
    refine x_istore_n O [(3, .int (nI 0)), (2, .int (nI 0)), (0, .ref (adr B)), (1, .ref fq)] dX4_mayBe_12 rfl rfl rfl ?_
    have LOOP13 : ∀ (cc_ : Nat) (i3_13 : Nat) (v2_13 : Int32), cc_ = tn (w 0) - i3_13 → i3_13 < 2147483648 → (∀ (y0 : Int32), y0 = fr (fun i s => h_mayBe_b13 w f i s) cc_ i3_13 v2_13 → X G F R Q 4 57 [(2, .int y0), (0, .ref (adr B))] [] Ω 0 0) → X G F R Q 4 13 [(3, .int (nI i3_13)), (2, .int v2_13), (0, .ref (adr B)), (1, .ref fq)] [] Ω 0 0 := by
      intro cc_
      induction cc_ using Nat.strongRecOn with
      | ind cc_ IH_ =>
        intro i3_13 v2_13 hc_ hb_  K_
        refine x_iload_n O 0 dX4_mayBe_13 rfl rfl ?_
        refine x_aload_n O 2 dX4_mayBe_14 rfl rfl ?_
        refine x_hget O H k_X4_73_4 rfl dX4_mayBe_15 ?_
        refine x_top (v' := nI (tn (w 0))) (hI 0 (by decide)).1 ?_
        refine x_icmpgeN O 57 (by omega) (by omega) dX4_mayBe_18 (by decide) (fun c18 => ?_) (fun c18 => ?_)
        · refine x_sub [1, 2] (L' := [(2, .int v2_13), (0, .ref (adr B))]) rfl ?_
          obtain rfl : cc_ = 0 := by omega
          exact K_ _ rfl
        · refine x_iload_n O 1 dX4_mayBe_21 rfl rfl ?_
          refine x_aload_n O 3 dX4_mayBe_22 rfl rfl ?_
          refine x_ftells O (f := f) (w := w) q1340 (H.fr hfq) (by rw [RF]; rfl) (by rw [RL]; rfl) ⟨Nat.zero_le _, Nat.zero_le _⟩ rfl dX4_mayBe_23 ?_
          refine x_aload_n O 2 dX4_mayBe_26 rfl rfl ?_
          refine x_hget O H k_X4_17_4 rfl dX4_mayBe_27 ?_
          refine x_iload_n O 0 dX4_mayBe_30 rfl rfl ?_
          refine x_hgun O H (by omega) dX4_mayBe_31 ?_
          refine x_get O k_X4_79_7 (H.gun (by omega)) (v := .int (w (270 + 4 * i3_13))) rfl dX4_mayBe_32 ?_
          refine x_ishr O dX4_mayBe_35 ?_
          refine x_iconst O (nI 1) dX4_mayBe_36 (by decide) ?_
          refine x_iand O dX4_mayBe_37 ?_
          refine x_iconst O (nI 1) dX4_mayBe_38 (by decide) ?_
          have J3 : ∀ (y1 : Int32), y1 = (if (((w (352 + 6 * f)) >>> ((w (270 + 4 * i3_13)) &&& 31)) &&& (nI 1)) = (nI 1) then (nI 1) <<< ((nI i3_13) &&& 31) else nI 0) → X G F R Q 4 49 [(3, .int (nI i3_13)), (0, .ref (adr B)), (1, .ref fq)] [.int y1, .int v2_13] Ω 0 0 := by
            intro y1 e4
            subst e4
            refine x_ior O dX4_mayBe_49 ?_
            refine x_istore_n O [(2, .int (v2_13 ||| ((if (((w (352 + 6 * f)) >>> ((w (270 + 4 * i3_13)) &&& 31)) &&& (nI 1)) = (nI 1) then (nI 1) <<< ((nI i3_13) &&& 31) else nI 0)))), (3, .int (nI i3_13)), (0, .ref (adr B)), (1, .ref fq)] dX4_mayBe_50 rfl rfl rfl ?_
            refine x_iincN O 1 [(3, .int (nI (i3_13 + 1))), (2, .int (v2_13 ||| ((if (((w (352 + 6 * f)) >>> ((w (270 + 4 * i3_13)) &&& 31)) &&& (nI 1)) = (nI 1) then (nI 1) <<< ((nI i3_13) &&& 31) else nI 0)))), (0, .ref (adr B)), (1, .ref fq)] dX4_mayBe_51 rfl rfl rfl ?_
            refine x_goto O 13 dX4_mayBe_54 (by decide) ?_
            obtain ⟨c2_, rfl⟩ : ∃ z, cc_ = z + 1 := ⟨cc_ - 1, by omega⟩
            have hs_ : (fun i s => h_mayBe_b13 w f i s) i3_13 v2_13 = v2_13 ||| ((if (((w (352 + 6 * f)) >>> ((w (270 + 4 * i3_13)) &&& 31)) &&& (nI 1)) = (nI 1) then (nI 1) <<< ((nI i3_13) &&& 31) else nI 0)) := by show h_mayBe_b13 w f i3_13 v2_13 = _; unfold h_mayBe_b13; rfl
            exact IH_ c2_ (by omega) _ _ (by omega) (by omega) (fun y0 hy_ => K_ y0 (hy_.trans (fr_step hs_).symm))
          refine x_icmpne O 48 dX4_mayBe_39 (by decide) (fun c39 => ?_) (fun c39 => ?_)
          · refine x_sub [0, 2, 3] (L' := [(3, .int (nI i3_13)), (0, .ref (adr B)), (1, .ref fq)]) rfl ?_
            refine x_iconst O (nI 0) dX4_mayBe_48 (by decide) ?_
            exact J3 (nI 0) (by rw [if_neg c39])
          · refine x_sub [0, 2, 3] (L' := [(3, .int (nI i3_13)), (0, .ref (adr B)), (1, .ref fq)]) rfl ?_
            refine x_iconst O (nI 1) dX4_mayBe_42 (by decide) ?_
            refine x_iload_n O 0 dX4_mayBe_43 rfl rfl ?_
            refine x_ishl O dX4_mayBe_44 ?_
            refine x_goto O 49 dX4_mayBe_45 (by decide) ?_
            exact J3 ((nI 1) <<< ((nI i3_13) &&& 31)) (by rw [if_pos c39])
    refine LOOP13 (tn (w 0)) 0 (nI 0) rfl (by omega) (fun y0 hy_13 => ?_)
    subst hy_13
    refine x_iload_n O 0 dX4_mayBe_57 rfl rfl ?_
    exact x_iretQ O hQ rfl dX4_mayBe_58 (fun h m => ⟨by rw [hr2], m⟩)
  · have hr5 := hres.trans (if_neg c4)
    refine x_sub [0] (L' := [(0, .ref (adr B))]) rfl ?_
    refine x_iconst O (nI 0) dX4_mayBe_7 (by decide) ?_
    exact x_iretQ O hQ rfl dX4_mayBe_8 (fun h m => ⟨by rw [hr5], m⟩)

def h_sure  (w : Nat → Int32) (i : Nat) : Int32 :=
  (if h_isCase w i = true then (if (j_bits (h_mayBe w i)) = (nI 1) then j_ntz (h_mayBe w i) else (-1)) else (-1))
set_option maxHeartbeats 1000000 in
set_option maxRecDepth 100000 in
theorem c_h_sure {G : UG} {Ω : Hp → Prop} {κ : Hp} {adr : Nat → Nat} {pl ps : Nat → Nat → Prop} {B : Nat} {w : Nat → Int32} (H : HR G κ adr pl ps B w Ω) (hI : MI w) (hkind : ∀ f : Nat, f < tn (w 3) → w (349 + 6 * f) = 0 ∨ w (349 + 6 * f) = 1 ∨ w (349 + 6 * f) = 2 ∨ w (349 + 6 * f) = 3) (i : Nat) (hi : i < tn (w 3)) : Con G yX4_sure cX4_sure 3 (some .int) 4 85 0 0 [.ref (adr B), .int (nI i)] Ω (fun vr_ h' => vr_ = some (.int (h_sure w i)) ∧ Ω h') nX := by
  refine con_of2 (plainFor_of_name (by decide)) rfl ?_
  intro F R Q RF RL RC RS hQ O hnh hnm
  obtain ⟨res, hres⟩ : ∃ z, z = (h_sure w i) := ⟨_, rfl⟩
  rw [← hres] at hQ
  unfold h_sure at hres
  have h120 := H.1.2.2.2.1
  have h8g := H.1.1
  refine x_eq (L' := [(0, .ref (adr B)), (1, .int (nI i))]) ?_ rfl rfl rfl
  refine x_aload_n O 0 dX4_sure_0 rfl rfl ?_
  refine x_aload_n O 0 dX4_sure_1 rfl rfl ?_
  refine x_hget O H k_X4_35_4 rfl dX4_sure_2 ?_
  refine x_iload_n O 1 dX4_sure_5 rfl rfl ?_
  refine x_hfind O H (by omega) dX4_sure_6 (fun q1 hq2 => ?_)
  refine x_cV O 1 (c_h_mayBe H hI hkind i (by omega) _ hq2) H.obj rfl (lw_V q1382 q1337 q1338 q109 q1339) rfl hd_X4_mayBe rfl (by rw [RF]; rfl) (by rw [RL]; rfl) ⟨Nat.zero_le _, Nat.zero_le _⟩ rfl rfl dX4_sure_7 ?_
  refine x_top (v' := h_mayBe w i) rfl ?_
  refine x_istore_n O [(2, .int (h_mayBe w i)), (0, .ref (adr B)), (1, .int (nI i))] dX4_sure_10 rfl rfl rfl ?_
  refine x_aload_n O 1 dX4_sure_11 rfl rfl ?_
  refine x_iload_n O 2 dX4_sure_12 rfl rfl ?_
  refine x_cV O 1 (c_h_isCase H hkind i (by omega)) H.obj rfl (lw_V q1377 q1378 q1379 q109 q1380) rfl hd_X4_isCase rfl (by rw [RF]; rfl) (by rw [RL]; rfl) ⟨Nat.zero_le _, Nat.zero_le _⟩ rfl rfl dX4_sure_13 ?_
  refine x_top (v' := b2i (h_isCase w i)) rfl ?_
  have J4 : ∀ (y3 : Int32), y3 = (if h_isCase w i = true then (if (j_bits (h_mayBe w i)) = (nI 1) then j_ntz (h_mayBe w i) else (-1)) else (-1)) → X G F R Q 3 35 [(0, .ref (adr B))] [.int y3] Ω 0 0 := by
    intro y3 e5
    subst e5
    exact x_iretQ O hQ rfl dX4_sure_35 (fun h m => ⟨by rw [hres], m⟩)
  refine x_ifeqB O 34 dX4_sure_16 (by decide) (fun c16 => ?_) (fun c16 => ?_)
  · refine x_sub [1] (L' := [(0, .ref (adr B))]) rfl ?_
    refine x_iconst O ((-1)) dX4_sure_34 (by decide) ?_
    exact J4 ((-1)) (by rw [if_neg c16])
  · refine x_sub [0, 1] (L' := [(2, .int (h_mayBe w i)), (0, .ref (adr B))]) rfl ?_
    refine x_iload_n O 0 dX4_sure_19 rfl rfl ?_
    refine x_cS O 1 (c_j_bits (h_mayBe w i)) (lw_S q1376 q572 q142 q573) hd_J13_bitCount rfl (by rw [RF]; rfl) (by rw [RL]; rfl) ⟨Nat.zero_le _, Nat.zero_le _⟩ rfl rfl dX4_sure_20 ?_
    refine x_top (v' := j_bits (h_mayBe w i)) rfl ?_
    refine x_iconst O (nI 1) dX4_sure_23 (by decide) ?_
    refine x_icmpne O 34 dX4_sure_24 (by decide) (fun c24 => ?_) (fun c24 => ?_)
    · refine x_sub [1] (L' := [(0, .ref (adr B))]) rfl ?_
      refine x_iconst O ((-1)) dX4_sure_34 (by decide) ?_
      exact J4 ((-1)) (by first | (rw [if_pos c16, if_neg c24]; done) | simp only [if_pos c16, if_neg c24])
    · refine x_iload_n O 0 dX4_sure_27 rfl rfl ?_
      refine x_cS O 1 (c_j_ntz (h_mayBe w i)) (lw_S q1416 q1417 q142 q1418) hd_J13_numberOfTrailingZeros rfl (by rw [RF]; rfl) (by rw [RL]; rfl) ⟨Nat.zero_le _, Nat.zero_le _⟩ rfl rfl dX4_sure_28 ?_
      refine x_top (v' := j_ntz (h_mayBe w i)) rfl ?_
      refine x_goto O 35 dX4_sure_31 (by decide) ?_
      refine x_sub [1] (L' := [(0, .ref (adr B))]) rfl ?_
      exact J4 (j_ntz (h_mayBe w i)) (by first | (rw [if_pos c16, if_pos c24]; done) | simp only [if_pos c16, if_pos c24])

def h_nearest_b6  (w : Nat → Int32) (p : Nat) (cell : Int32) (foe : Bool) (i5_6 : Nat) (v4_6 : Int32) : Int32 :=
  (if foe = true then (if h_isFoe w p i5_6 = true then (if v4_6 = ((-1)) then nI i5_6 else (if (z_far (w (302 + 6 * (tn v4_6))) cell) ≤ (z_far (w (302 + 6 * i5_6)) cell) then v4_6 else nI i5_6)) else v4_6) else (if h_isFriend w p i5_6 = true then (if v4_6 = ((-1)) then nI i5_6 else (if (z_far (w (302 + 6 * (tn v4_6))) cell) ≤ (z_far (w (302 + 6 * i5_6)) cell) then v4_6 else nI i5_6)) else v4_6))
def h_nearest  (w : Nat → Int32) (p : Nat) (cell : Int32) (foe : Bool) : Int32 :=
  (fr (fun i s => h_nearest_b6 w p cell foe i s) (tn (w 1)) 0 (-1))
set_option maxHeartbeats 1000000 in
set_option maxRecDepth 100000 in
theorem c_h_nearest {G : UG} {Ω : Hp → Prop} {κ : Hp} {adr : Nat → Nat} {pl ps : Nat → Nat → Prop} {B : Nat} {w : Nat → Int32} (H : HR G κ adr pl ps B w Ω) (hI : MI w) (p : Nat) (cell : Int32) (foe : Bool) (hp : p < tn (w 1)) : Con G yX4_nearest cX4_nearest 7 (some .int) 2 42 0 0 [.ref (adr B), .ref (adr (B + (200 + p))), .int cell, .int (b2i foe)] Ω (fun vr_ h' => vr_ = some (.int (h_nearest w p cell foe)) ∧ Ω h') nX := by
  refine con_of2 (plainFor_of_name (by decide)) rfl ?_
  intro F R Q RF RL RC RS hQ O hnh hnm
  obtain ⟨res, hres⟩ : ∃ z, z = (h_nearest w p cell foe) := ⟨_, rfl⟩
  rw [← hres] at hQ
  unfold h_nearest at hres
  have h20 := H.1.2.2.2.2.2.1
  have h8 := H.1.2.2.2.2.1
  have h8p := H.1.2.1
  refine x_eq (L' := [(0, .ref (adr B)), (1, .ref (adr (B + (200 + p)))), (2, .int cell), (3, .int (b2i foe))]) ?_ rfl rfl rfl
  refine x_iconst O ((-1)) dX4_nearest_0 (by decide) ?_
  refine x_istore O [(4, .int ((-1))), (0, .ref (adr B)), (1, .ref (adr (B + (200 + p)))), (2, .int cell), (3, .int (b2i foe))] dX4_nearest_1 rfl rfl ?_
  refine x_iconst O (nI 0) dX4_nearest_3 (by decide) ?_
  refine x_istore O [(5, .int (nI 0)), (4, .int ((-1))), (0, .ref (adr B)), (1, .ref (adr (B + (200 + p)))), (2, .int cell), (3, .int (b2i foe))] dX4_nearest_4 rfl rfl ?_
  have LOOP6 : ∀ (cc_ : Nat) (i5_6 : Nat) (v4_6 : Int32), cc_ = tn (w 1) - i5_6 → i5_6 < 2147483648 → (v4_6 = -1 ∨ v4_6 = nI (tn v4_6) ∧ tn v4_6 < tn (w 1)) → (∀ (y0 : Int32), y0 = fr (fun i s => h_nearest_b6 w p cell foe i s) cc_ i5_6 v4_6 → X G F R Q 7 96 [(4, .int y0), (0, .ref (adr B))] [] Ω 0 0) → X G F R Q 7 6 [(5, .int (nI i5_6)), (4, .int v4_6), (0, .ref (adr B)), (1, .ref (adr (B + (200 + p)))), (2, .int cell), (3, .int (b2i foe))] [] Ω 0 0 := by
    intro cc_
    induction cc_ using Nat.strongRecOn with
    | ind cc_ IH_ =>
      intro i5_6 v4_6 hc_ hb_ hv_ K_
      refine x_iload O 0 dX4_nearest_6 rfl ?_
      refine x_aload_n O 2 dX4_nearest_8 rfl rfl ?_
      refine x_hget O H k_X4_91_4 rfl dX4_nearest_9 ?_
      refine x_top (v' := nI (tn (w 1))) (hI 1 (by decide)).1 ?_
      refine x_icmpgeN O 96 (by omega) (by omega) dX4_nearest_12 (by decide) (fun c12 => ?_) (fun c12 => ?_)
      · refine x_sub [1, 2] (L' := [(4, .int v4_6), (0, .ref (adr B))]) rfl ?_
        obtain rfl : cc_ = 0 := by omega
        exact K_ _ rfl
      · refine x_aload_n O 2 dX4_nearest_15 rfl rfl ?_
        refine x_hget O H k_X4_23_4 rfl dX4_nearest_16 ?_
        refine x_iload O 0 dX4_nearest_19 rfl ?_
        refine x_hper O H (by omega) dX4_nearest_21 ?_
        refine x_astore O [(6, .ref (adr (B + (200 + i5_6)))), (5, .int (nI i5_6)), (4, .int v4_6), (0, .ref (adr B)), (1, .ref (adr (B + (200 + p)))), (2, .int cell), (3, .int (b2i foe))] dX4_nearest_22 rfl rfl ?_
        refine x_iload_n O 6 dX4_nearest_24 rfl rfl ?_
        have J2 : ∀ (y1 : Int32), y1 = (if foe = true then (if h_isFoe w p i5_6 = true then (if v4_6 = ((-1)) then nI i5_6 else (if (z_far (w (302 + 6 * (tn v4_6))) cell) ≤ (z_far (w (302 + 6 * i5_6)) cell) then v4_6 else nI i5_6)) else v4_6) else (if h_isFriend w p i5_6 = true then (if v4_6 = ((-1)) then nI i5_6 else (if (z_far (w (302 + 6 * (tn v4_6))) cell) ≤ (z_far (w (302 + 6 * i5_6)) cell) then v4_6 else nI i5_6)) else v4_6)) → X G F R Q 7 90 [(4, .int y1), (5, .int (nI i5_6)), (0, .ref (adr B)), (1, .ref (adr (B + (200 + p)))), (2, .int cell), (3, .int (b2i foe))] [] Ω 0 0 := by
          intro y1 e3
          subst e3
          refine x_iincN O 1 [(5, .int (nI (i5_6 + 1))), (4, .int ((if foe = true then (if h_isFoe w p i5_6 = true then (if v4_6 = ((-1)) then nI i5_6 else (if (z_far (w (302 + 6 * (tn v4_6))) cell) ≤ (z_far (w (302 + 6 * i5_6)) cell) then v4_6 else nI i5_6)) else v4_6) else (if h_isFriend w p i5_6 = true then (if v4_6 = ((-1)) then nI i5_6 else (if (z_far (w (302 + 6 * (tn v4_6))) cell) ≤ (z_far (w (302 + 6 * i5_6)) cell) then v4_6 else nI i5_6)) else v4_6)))), (0, .ref (adr B)), (1, .ref (adr (B + (200 + p)))), (2, .int cell), (3, .int (b2i foe))] dX4_nearest_90 rfl rfl rfl ?_
          refine x_goto O 6 dX4_nearest_93 (by decide) ?_
          obtain ⟨c2_, rfl⟩ : ∃ z, cc_ = z + 1 := ⟨cc_ - 1, by omega⟩
          have hs_ : (fun i s => h_nearest_b6 w p cell foe i s) i5_6 v4_6 = (if foe = true then (if h_isFoe w p i5_6 = true then (if v4_6 = ((-1)) then nI i5_6 else (if (z_far (w (302 + 6 * (tn v4_6))) cell) ≤ (z_far (w (302 + 6 * i5_6)) cell) then v4_6 else nI i5_6)) else v4_6) else (if h_isFriend w p i5_6 = true then (if v4_6 = ((-1)) then nI i5_6 else (if (z_far (w (302 + 6 * (tn v4_6))) cell) ≤ (z_far (w (302 + 6 * i5_6)) cell) then v4_6 else nI i5_6)) else v4_6)) := by show h_nearest_b6 w p cell foe i5_6 v4_6 = _; unfold h_nearest_b6; rfl
          exact IH_ c2_ (by omega) _ _ (by omega) (by omega) (by (repeat' split) <;> first | exact hv_ | exact Or.inr ⟨by rw [tn_nI (by omega)], by rw [tn_nI (by omega)]; omega⟩) (fun y0 hy_ => K_ y0 (hy_.trans (fr_step hs_).symm))
        refine x_ifeqB O 41 dX4_nearest_25 (by decide) (fun c25 => ?_) (fun c25 => ?_)
        · refine x_aload_n O 3 dX4_nearest_41 rfl rfl ?_
          refine x_aload_n O 4 dX4_nearest_42 rfl rfl ?_
          refine x_aload O 0 dX4_nearest_43 rfl ?_
          refine x_cV O 2 (c_h_isFriend H p i5_6 (by omega) (by omega)) H.obj rfl (lw_V q1089 q1091 qs17 q109 q1092) rfl hd_X4_isFriend rfl (by rw [RF]; rfl) (by rw [RL]; rfl) ⟨Nat.zero_le _, Nat.zero_le _⟩ rfl rfl dX4_nearest_45 ?_
          refine x_top (v' := b2i (h_isFriend w p i5_6)) rfl ?_
          refine x_ifneB O 54 dX4_nearest_48 (by decide) (fun c48 => ?_) (fun c48 => ?_)
          · refine x_iload O 2 dX4_nearest_54 rfl ?_
            refine x_iconst O ((-1)) dX4_nearest_56 (by decide) ?_
            refine x_icmpeq O 86 dX4_nearest_57 (by decide) (fun c57 => ?_) (fun c57 => ?_)
            · refine x_sub [1, 3, 4, 5, 6] (L' := [(5, .int (nI i5_6)), (0, .ref (adr B)), (1, .ref (adr (B + (200 + p)))), (2, .int cell), (3, .int (b2i foe))]) rfl ?_
              refine x_iload O 0 dX4_nearest_86 rfl ?_
              refine x_istore O [(4, .int (nI i5_6)), (5, .int (nI i5_6)), (0, .ref (adr B)), (1, .ref (adr (B + (200 + p)))), (2, .int cell), (3, .int (b2i foe))] dX4_nearest_88 rfl rfl ?_
              exact J2 (nI i5_6) (by first | (rw [if_neg c25, if_pos c48, if_pos c57]; done) | simp only [if_neg c25, if_pos c48, if_pos c57])
            · refine x_aload O 0 dX4_nearest_60 rfl ?_
              refine x_get O k_X4_136_20 (H.per (by omega)) (v := .int (w (302 + 6 * i5_6))) rfl dX4_nearest_62 ?_
              refine x_iload_n O 5 dX4_nearest_65 rfl rfl ?_
              refine x_cSN O 2 (c_z_far (w (302 + 6 * i5_6)) cell) q553 q554 q103 q555 hd_X1_far rfl (by rw [RF]; rfl) (by rw [RL]; rfl) ⟨Nat.zero_le _, Nat.zero_le _⟩ rfl rfl dX4_nearest_66 ?_
              refine x_top (v' := z_far (w (302 + 6 * i5_6)) cell) rfl ?_
              refine x_aload_n O 3 dX4_nearest_69 rfl rfl ?_
              refine x_hget O H k_X4_23_4 rfl dX4_nearest_70 ?_
              refine x_iload O 2 dX4_nearest_73 rfl ?_
              refine x_top (v' := nI (tn v4_6)) ((hv_.resolve_left c57).1) ?_
              refine x_hper O H (hv_.resolve_left c57).2 dX4_nearest_75 ?_
              refine x_get O k_X4_136_20 (H.per (hv_.resolve_left c57).2) (v := .int (w (302 + 6 * (tn v4_6)))) rfl dX4_nearest_76 ?_
              refine x_iload_n O 5 dX4_nearest_79 rfl rfl ?_
              refine x_cSN O 2 (c_z_far (w (302 + 6 * (tn v4_6))) cell) q553 q554 q103 q555 hd_X1_far rfl (by rw [RF]; rfl) (by rw [RL]; rfl) ⟨Nat.zero_le _, Nat.zero_le _⟩ rfl rfl dX4_nearest_80 ?_
              refine x_top (v' := z_far (w (302 + 6 * (tn v4_6))) cell) rfl ?_
              refine x_icmpge O 90 dX4_nearest_83 (by decide) (fun c83 => ?_) (fun c83 => ?_)
              · refine x_sub [1, 2, 3, 4, 5, 6] (L' := [(5, .int (nI i5_6)), (4, .int v4_6), (0, .ref (adr B)), (1, .ref (adr (B + (200 + p)))), (2, .int cell), (3, .int (b2i foe))]) rfl ?_
                refine x_sub [1, 0, 2, 3, 4, 5] rfl ?_
                exact J2 v4_6 (by first | (rw [if_neg c25, if_pos c48, if_neg c57, if_pos c83]; done) | simp only [if_neg c25, if_pos c48, if_neg c57, if_pos c83])
              · refine x_sub [1, 3, 4, 5, 6] (L' := [(5, .int (nI i5_6)), (0, .ref (adr B)), (1, .ref (adr (B + (200 + p)))), (2, .int cell), (3, .int (b2i foe))]) rfl ?_
                refine x_iload O 0 dX4_nearest_86 rfl ?_
                refine x_istore O [(4, .int (nI i5_6)), (5, .int (nI i5_6)), (0, .ref (adr B)), (1, .ref (adr (B + (200 + p)))), (2, .int cell), (3, .int (b2i foe))] dX4_nearest_88 rfl rfl ?_
                exact J2 (nI i5_6) (by first | (rw [if_neg c25, if_pos c48, if_neg c57, if_neg c83]; done) | simp only [if_neg c25, if_pos c48, if_neg c57, if_neg c83])
          · refine x_sub [1, 2, 3, 4, 5, 6] (L' := [(5, .int (nI i5_6)), (4, .int v4_6), (0, .ref (adr B)), (1, .ref (adr (B + (200 + p)))), (2, .int cell), (3, .int (b2i foe))]) rfl ?_
            refine x_goto O 90 dX4_nearest_51 (by decide) ?_
            refine x_sub [1, 0, 2, 3, 4, 5] rfl ?_
            exact J2 v4_6 (by first | (rw [if_neg c25, if_neg c48]; done) | simp only [if_neg c25, if_neg c48])
        · refine x_aload_n O 3 dX4_nearest_28 rfl rfl ?_
          refine x_aload_n O 4 dX4_nearest_29 rfl rfl ?_
          refine x_aload O 0 dX4_nearest_30 rfl ?_
          refine x_cV O 2 (c_h_isFoe H p i5_6 (by omega) (by omega)) H.obj rfl (lw_V q1085 q1087 qs16 q109 q1088) rfl hd_X4_isFoe rfl (by rw [RF]; rfl) (by rw [RL]; rfl) ⟨Nat.zero_le _, Nat.zero_le _⟩ rfl rfl dX4_nearest_32 ?_
          refine x_top (v' := b2i (h_isFoe w p i5_6)) rfl ?_
          refine x_ifeqB O 90 dX4_nearest_35 (by decide) (fun c35 => ?_) (fun c35 => ?_)
          · refine x_sub [1, 2, 3, 4, 5, 6] (L' := [(5, .int (nI i5_6)), (4, .int v4_6), (0, .ref (adr B)), (1, .ref (adr (B + (200 + p)))), (2, .int cell), (3, .int (b2i foe))]) rfl ?_
            refine x_sub [1, 0, 2, 3, 4, 5] rfl ?_
            exact J2 v4_6 (by first | (rw [if_pos c25, if_neg c35]; done) | simp only [if_pos c25, if_neg c35])
          · refine x_goto O 54 dX4_nearest_38 (by decide) ?_
            refine x_iload O 2 dX4_nearest_54 rfl ?_
            refine x_iconst O ((-1)) dX4_nearest_56 (by decide) ?_
            refine x_icmpeq O 86 dX4_nearest_57 (by decide) (fun c57 => ?_) (fun c57 => ?_)
            · refine x_sub [1, 3, 4, 5, 6] (L' := [(5, .int (nI i5_6)), (0, .ref (adr B)), (1, .ref (adr (B + (200 + p)))), (2, .int cell), (3, .int (b2i foe))]) rfl ?_
              refine x_iload O 0 dX4_nearest_86 rfl ?_
              refine x_istore O [(4, .int (nI i5_6)), (5, .int (nI i5_6)), (0, .ref (adr B)), (1, .ref (adr (B + (200 + p)))), (2, .int cell), (3, .int (b2i foe))] dX4_nearest_88 rfl rfl ?_
              exact J2 (nI i5_6) (by first | (rw [if_pos c25, if_pos c35, if_pos c57]; done) | simp only [if_pos c25, if_pos c35, if_pos c57])
            · refine x_aload O 0 dX4_nearest_60 rfl ?_
              refine x_get O k_X4_136_20 (H.per (by omega)) (v := .int (w (302 + 6 * i5_6))) rfl dX4_nearest_62 ?_
              refine x_iload_n O 5 dX4_nearest_65 rfl rfl ?_
              refine x_cSN O 2 (c_z_far (w (302 + 6 * i5_6)) cell) q553 q554 q103 q555 hd_X1_far rfl (by rw [RF]; rfl) (by rw [RL]; rfl) ⟨Nat.zero_le _, Nat.zero_le _⟩ rfl rfl dX4_nearest_66 ?_
              refine x_top (v' := z_far (w (302 + 6 * i5_6)) cell) rfl ?_
              refine x_aload_n O 3 dX4_nearest_69 rfl rfl ?_
              refine x_hget O H k_X4_23_4 rfl dX4_nearest_70 ?_
              refine x_iload O 2 dX4_nearest_73 rfl ?_
              refine x_top (v' := nI (tn v4_6)) ((hv_.resolve_left c57).1) ?_
              refine x_hper O H (hv_.resolve_left c57).2 dX4_nearest_75 ?_
              refine x_get O k_X4_136_20 (H.per (hv_.resolve_left c57).2) (v := .int (w (302 + 6 * (tn v4_6)))) rfl dX4_nearest_76 ?_
              refine x_iload_n O 5 dX4_nearest_79 rfl rfl ?_
              refine x_cSN O 2 (c_z_far (w (302 + 6 * (tn v4_6))) cell) q553 q554 q103 q555 hd_X1_far rfl (by rw [RF]; rfl) (by rw [RL]; rfl) ⟨Nat.zero_le _, Nat.zero_le _⟩ rfl rfl dX4_nearest_80 ?_
              refine x_top (v' := z_far (w (302 + 6 * (tn v4_6))) cell) rfl ?_
              refine x_icmpge O 90 dX4_nearest_83 (by decide) (fun c83 => ?_) (fun c83 => ?_)
              · refine x_sub [1, 2, 3, 4, 5, 6] (L' := [(5, .int (nI i5_6)), (4, .int v4_6), (0, .ref (adr B)), (1, .ref (adr (B + (200 + p)))), (2, .int cell), (3, .int (b2i foe))]) rfl ?_
                refine x_sub [1, 0, 2, 3, 4, 5] rfl ?_
                exact J2 v4_6 (by first | (rw [if_pos c25, if_pos c35, if_neg c57, if_pos c83]; done) | simp only [if_pos c25, if_pos c35, if_neg c57, if_pos c83])
              · refine x_sub [1, 3, 4, 5, 6] (L' := [(5, .int (nI i5_6)), (0, .ref (adr B)), (1, .ref (adr (B + (200 + p)))), (2, .int cell), (3, .int (b2i foe))]) rfl ?_
                refine x_iload O 0 dX4_nearest_86 rfl ?_
                refine x_istore O [(4, .int (nI i5_6)), (5, .int (nI i5_6)), (0, .ref (adr B)), (1, .ref (adr (B + (200 + p)))), (2, .int cell), (3, .int (b2i foe))] dX4_nearest_88 rfl rfl ?_
                exact J2 (nI i5_6) (by first | (rw [if_pos c25, if_pos c35, if_neg c57, if_neg c83]; done) | simp only [if_pos c25, if_pos c35, if_neg c57, if_neg c83])
  refine LOOP6 (tn (w 1)) 0 ((-1)) rfl (by omega) (Or.inl rfl) (fun y0 hy_6 => ?_)
  subst hy_6
  refine x_iload O 0 dX4_nearest_96 rfl ?_
  exact x_iretQ O hQ rfl dX4_nearest_98 (fun h m => ⟨by rw [hres], m⟩)

theorem nX_dec : ∀ n, n < 16 → ∀ k, k < n → ∀ a, a < 16 → ∀ b, b < 16 → nI a + j_fdiv (nI (2 * k) * (nI b - nI a) + nI n) (nI (2 * n)) = nI (nV a b k n) := by decide +kernel
theorem nX_ok {a b k n : Nat} (ha : a ≤ 15) (hb : b ≤ 15) (hk : k < n) (hn : n ≤ 15) : nI a + j_fdiv (nI (2 * k) * (nI b - nI a) + nI n) (nI (2 * n)) = nI (nV a b k n) := nX_dec n (by omega) k hk a (by omega) b (by omega)
theorem zfar_N {f t : Nat} (hf : f < 256) (ht : t < 256) : z_far (nI f) (nI t) = nI (farN f t) := far_N hf ht

def h_sees_b34  (w : Nat → Int32) (f : Nat) (t : Nat) (i7_34 : Nat) (v6_34 : Bool) : (Bool) ⊕ (Bool) :=
  (if v6_34 = true then .inl (if (((w (13 + f)) * (nI (farN f t - i7_34))) + ((w (13 + t)) * (nI i7_34))) < ((w (13 + (16 * (nV (f / 16) (t / 16) i7_34 (farN f t)) + nV (f % 16) (t % 16) i7_34 (farN f t)))) * (nI (farN f t))) then false else true) else .inr v6_34)
def h_sees  (w : Nat → Int32) (f : Nat) (t : Nat) : Bool :=
  (frb (fun i s => h_sees_b34 w f t i s) (farN f t - 1) 1 true)
set_option maxHeartbeats 1000000 in
set_option maxRecDepth 100000 in
theorem c_h_sees {G : UG} {Ω : Hp → Prop} {κ : Hp} {adr : Nat → Nat} {pl ps : Nat → Nat → Prop} {B : Nat} {w : Nat → Int32} (H : HR G κ adr pl ps B w Ω) (f : Nat) (t : Nat) (hf : f < 256) (ht : t < 256) : Con G yX4_sees cX4_sees 10 (some .boolean) 2 42 0 0 [.ref (adr B), .int (nI f), .int (nI t)] Ω (fun vr_ h' => vr_ = some (.int (b2i (h_sees w f t))) ∧ Ω h') nX := by
  refine con_of2 (plainFor_of_name (by decide)) rfl ?_
  intro F R Q RF RL RC RS hQ O hnh hnm
  obtain ⟨res, hres⟩ : ∃ z, z = (h_sees w f t) := ⟨_, rfl⟩
  rw [← hres] at hQ
  unfold h_sees at hres
  have hn := farN_le hf ht
  refine x_eq (L' := [(0, .ref (adr B)), (1, .int (nI f)), (2, .int (nI t))]) ?_ rfl rfl rfl
  refine x_iload_n O 1 dX4_sees_0 rfl rfl ?_
  refine x_iload_n O 2 dX4_sees_1 rfl rfl ?_
  refine x_cSN O 2 (c_z_far (nI f) (nI t)) q553 q554 q103 q555 hd_X1_far rfl (by rw [RF]; rfl) (by rw [RL]; rfl) ⟨Nat.zero_le _, Nat.zero_le _⟩ rfl rfl dX4_sees_2 ?_
  refine x_top (v' := z_far (nI f) (nI t)) rfl ?_
  refine x_top (v' := nI (farN f t)) (zfar_N hf ht) ?_
  refine x_istore_n O [(3, .int (nI (farN f t))), (0, .ref (adr B)), (1, .int (nI f)), (2, .int (nI t))] dX4_sees_5 rfl rfl rfl ?_
  refine x_iload_n O 3 dX4_sees_6 rfl rfl ?_
  refine x_bipush O (nI 16) dX4_sees_7 (by decide) ?_
  refine x_iremN O (by omega) (by decide) (by decide) dX4_sees_9 ?_
  refine x_iload_n O 2 dX4_sees_10 rfl rfl ?_
  refine x_bipush O (nI 16) dX4_sees_11 (by decide) ?_
  refine x_iremN O (by omega) (by decide) (by decide) dX4_sees_13 ?_
  refine x_isub O dX4_sees_14 ?_
  refine x_istore O [(4, .int ((nI (t % 16)) - (nI (f % 16)))), (3, .int (nI (farN f t))), (0, .ref (adr B)), (1, .int (nI f)), (2, .int (nI t))] dX4_sees_15 rfl rfl ?_
  refine x_iload_n O 4 dX4_sees_17 rfl rfl ?_
  refine x_bipush O (nI 16) dX4_sees_18 (by decide) ?_
  refine x_idivN O (by omega) (by decide) (by decide) dX4_sees_20 ?_
  refine x_iload_n O 3 dX4_sees_21 rfl rfl ?_
  refine x_bipush O (nI 16) dX4_sees_22 (by decide) ?_
  refine x_idivN O (by omega) (by decide) (by decide) dX4_sees_24 ?_
  refine x_isub O dX4_sees_25 ?_
  refine x_istore O [(5, .int ((nI (t / 16)) - (nI (f / 16)))), (4, .int ((nI (t % 16)) - (nI (f % 16)))), (3, .int (nI (farN f t))), (0, .ref (adr B)), (1, .int (nI f)), (2, .int (nI t))] dX4_sees_26 rfl rfl ?_
  refine x_iconst O (nI 1) dX4_sees_28 (by decide) ?_
  refine x_top (v' := b2i true) (by decide) ?_
  refine x_istore O [(6, .int (b2i true)), (5, .int ((nI (t / 16)) - (nI (f / 16)))), (4, .int ((nI (t % 16)) - (nI (f % 16)))), (3, .int (nI (farN f t))), (0, .ref (adr B)), (1, .int (nI f)), (2, .int (nI t))] dX4_sees_29 rfl rfl ?_
  refine x_iconst O (nI 1) dX4_sees_31 (by decide) ?_
  refine x_istore O [(7, .int (nI 1)), (6, .int (b2i true)), (5, .int ((nI (t / 16)) - (nI (f / 16)))), (4, .int ((nI (t % 16)) - (nI (f % 16)))), (3, .int (nI (farN f t))), (0, .ref (adr B)), (1, .int (nI f)), (2, .int (nI t))] dX4_sees_32 rfl rfl ?_
  have LOOP34 : ∀ (cc_ : Nat) (i7_34 : Nat) (v6_34 : Bool), cc_ = farN f t - i7_34 → i7_34 < 2147483648 → (∀ (y0 : Bool), y0 = frb (fun i s => h_sees_b34 w f t i s) cc_ i7_34 v6_34 → X G F R Q 10 141 [(6, .int (b2i y0)), (0, .ref (adr B))] [] Ω 0 0) → X G F R Q 10 34 [(7, .int (nI i7_34)), (6, .int (b2i v6_34)), (5, .int ((nI (t / 16)) - (nI (f / 16)))), (4, .int ((nI (t % 16)) - (nI (f % 16)))), (3, .int (nI (farN f t))), (0, .ref (adr B)), (1, .int (nI f)), (2, .int (nI t))] [] Ω 0 0 := by
    intro cc_
    induction cc_ using Nat.strongRecOn with
    | ind cc_ IH_ =>
      intro i7_34 v6_34 hc_ hb_  K_
      refine x_iload O 0 dX4_sees_34 rfl ?_
      refine x_iload_n O 4 dX4_sees_36 rfl rfl ?_
      refine x_icmpgeN O 141 (by omega) (by omega) dX4_sees_37 (by decide) (fun c37 => ?_) (fun c37 => ?_)
      · refine x_sub [1, 5] (L' := [(6, .int (b2i v6_34)), (0, .ref (adr B))]) rfl ?_
        obtain rfl : cc_ = 0 := by omega
        exact K_ _ rfl
      · refine x_iload O 1 dX4_sees_40 rfl ?_
        refine x_ifeqB O 141 dX4_sees_42 (by decide) (fun c42 => ?_) (fun c42 => ?_)
        · refine x_sub [1, 5] (L' := [(6, .int (b2i v6_34)), (0, .ref (adr B))]) rfl ?_
          obtain ⟨c2_, rfl⟩ : ∃ z, cc_ = z + 1 := ⟨cc_ - 1, by omega⟩
          have hs_ : (fun i s => h_sees_b34 w f t i s) i7_34 v6_34 = .inr v6_34 := by show h_sees_b34 w f t i7_34 v6_34 = _; unfold h_sees_b34; rw [if_neg c42]
          exact K_ _ (frb_stop hs_).symm
        · refine x_sub [0, 2, 3, 4, 5, 6, 7] (L' := [(7, .int (nI i7_34)), (5, .int ((nI (t / 16)) - (nI (f / 16)))), (4, .int ((nI (t % 16)) - (nI (f % 16)))), (3, .int (nI (farN f t))), (0, .ref (adr B)), (1, .int (nI f)), (2, .int (nI t))]) rfl ?_
          refine x_iload_n O 5 dX4_sees_45 rfl rfl ?_
          refine x_bipush O (nI 16) dX4_sees_46 (by decide) ?_
          refine x_iremN O (by omega) (by decide) (by decide) dX4_sees_48 ?_
          refine x_iconst O (nI 2) dX4_sees_49 (by decide) ?_
          refine x_iload O 0 dX4_sees_50 rfl ?_
          refine x_imulN O dX4_sees_52 ?_
          refine x_iload O 2 dX4_sees_53 rfl ?_
          refine x_imul O dX4_sees_55 ?_
          refine x_iload_n O 3 dX4_sees_56 rfl rfl ?_
          refine x_iadd O dX4_sees_57 ?_
          refine x_iconst O (nI 2) dX4_sees_58 (by decide) ?_
          refine x_iload_n O 3 dX4_sees_59 rfl rfl ?_
          refine x_imulN O dX4_sees_60 ?_
          refine x_cS O 2 (c_j_fdiv (((nI (2 * i7_34)) * ((nI (t % 16)) - (nI (f % 16)))) + (nI (farN f t))) (nI (2 * farN f t)) (nI_ne0 (by omega) (by omega))) (lw_S q568 q569 q116 q570) hd_J7_floorDiv rfl (by rw [RF]; rfl) (by rw [RL]; rfl) ⟨Nat.zero_le _, Nat.zero_le _⟩ rfl rfl dX4_sees_61 ?_
          refine x_top (v' := j_fdiv (((nI (2 * i7_34)) * ((nI (t % 16)) - (nI (f % 16)))) + (nI (farN f t))) (nI (2 * farN f t))) rfl ?_
          refine x_iadd O dX4_sees_64 ?_
          refine x_top (v' := nI (nV (f % 16) (t % 16) i7_34 (farN f t))) (nX_ok (by omega) (by omega) (by omega) (by omega)) ?_
          refine x_istore O [(8, .int (nI (nV (f % 16) (t % 16) i7_34 (farN f t)))), (7, .int (nI i7_34)), (5, .int ((nI (t / 16)) - (nI (f / 16)))), (4, .int ((nI (t % 16)) - (nI (f % 16)))), (3, .int (nI (farN f t))), (0, .ref (adr B)), (1, .int (nI f)), (2, .int (nI t))] dX4_sees_65 rfl rfl ?_
          refine x_iload_n O 6 dX4_sees_67 rfl rfl ?_
          refine x_bipush O (nI 16) dX4_sees_68 (by decide) ?_
          refine x_idivN O (by omega) (by decide) (by decide) dX4_sees_70 ?_
          refine x_iconst O (nI 2) dX4_sees_71 (by decide) ?_
          refine x_iload O 1 dX4_sees_72 rfl ?_
          refine x_imulN O dX4_sees_74 ?_
          refine x_iload O 2 dX4_sees_75 rfl ?_
          refine x_imul O dX4_sees_77 ?_
          refine x_iload_n O 4 dX4_sees_78 rfl rfl ?_
          refine x_iadd O dX4_sees_79 ?_
          refine x_iconst O (nI 2) dX4_sees_80 (by decide) ?_
          refine x_iload_n O 4 dX4_sees_81 rfl rfl ?_
          refine x_imulN O dX4_sees_82 ?_
          refine x_cS O 2 (c_j_fdiv (((nI (2 * i7_34)) * ((nI (t / 16)) - (nI (f / 16)))) + (nI (farN f t))) (nI (2 * farN f t)) (nI_ne0 (by omega) (by omega))) (lw_S q568 q569 q116 q570) hd_J7_floorDiv rfl (by rw [RF]; rfl) (by rw [RL]; rfl) ⟨Nat.zero_le _, Nat.zero_le _⟩ rfl rfl dX4_sees_83 ?_
          refine x_top (v' := j_fdiv (((nI (2 * i7_34)) * ((nI (t / 16)) - (nI (f / 16)))) + (nI (farN f t))) (nI (2 * farN f t))) rfl ?_
          refine x_iadd O dX4_sees_86 ?_
          refine x_top (v' := nI (nV (f / 16) (t / 16) i7_34 (farN f t))) (nX_ok (by omega) (by omega) (by omega) (by omega)) ?_
          refine x_istore O [(9, .int (nI (nV (f / 16) (t / 16) i7_34 (farN f t)))), (8, .int (nI (nV (f % 16) (t % 16) i7_34 (farN f t)))), (7, .int (nI i7_34)), (5, .int ((nI (t / 16)) - (nI (f / 16)))), (4, .int ((nI (t % 16)) - (nI (f % 16)))), (3, .int (nI (farN f t))), (0, .ref (adr B)), (1, .int (nI f)), (2, .int (nI t))] dX4_sees_87 rfl rfl ?_
          refine x_aload_n O 6 dX4_sees_89 rfl rfl ?_
          refine x_hget O H k_X4_9_4 rfl dX4_sees_90 ?_
          refine x_bipush O (nI 16) dX4_sees_93 (by decide) ?_
          refine x_iload O 0 dX4_sees_95 rfl ?_
          refine x_imulN O dX4_sees_97 ?_
          refine x_iload O 1 dX4_sees_98 rfl ?_
          refine x_iaddN O dX4_sees_100 ?_
          refine x_hheight O H (by have := nV_le (a := f % 16) (b := t % 16) (k := i7_34) (n := farN f t) (by omega) (by omega) (by omega); have := nV_le (a := f / 16) (b := t / 16) (k := i7_34) (n := farN f t) (by omega) (by omega) (by omega); omega) dX4_sees_101 ?_
          refine x_iload_n O 5 dX4_sees_102 rfl rfl ?_
          refine x_imul O dX4_sees_103 ?_
          refine x_aload_n O 6 dX4_sees_104 rfl rfl ?_
          refine x_hget O H k_X4_9_4 rfl dX4_sees_105 ?_
          refine x_iload_n O 7 dX4_sees_108 rfl rfl ?_
          refine x_hheight O H (by omega) dX4_sees_109 ?_
          refine x_iload_n O 5 dX4_sees_110 rfl rfl ?_
          refine x_iload O 2 dX4_sees_111 rfl ?_
          refine x_isubN O (by omega) dX4_sees_113 ?_
          refine x_imul O dX4_sees_114 ?_
          refine x_aload_n O 6 dX4_sees_115 rfl rfl ?_
          refine x_hget O H k_X4_9_4 rfl dX4_sees_116 ?_
          refine x_iload_n O 8 dX4_sees_119 rfl rfl ?_
          refine x_hheight O H (by omega) dX4_sees_120 ?_
          refine x_iload O 2 dX4_sees_121 rfl ?_
          refine x_imul O dX4_sees_123 ?_
          refine x_iadd O dX4_sees_124 ?_
          have J2 : ∀ (y1 : Bool), y1 = (if (((w (13 + f)) * (nI (farN f t - i7_34))) + ((w (13 + t)) * (nI i7_34))) < ((w (13 + (16 * (nV (f / 16) (t / 16) i7_34 (farN f t)) + nV (f % 16) (t % 16) i7_34 (farN f t)))) * (nI (farN f t))) then false else true) → X G F R Q 10 133 [(7, .int (nI i7_34)), (5, .int ((nI (t / 16)) - (nI (f / 16)))), (4, .int ((nI (t % 16)) - (nI (f % 16)))), (3, .int (nI (farN f t))), (0, .ref (adr B)), (1, .int (nI f)), (2, .int (nI t))] [.int (b2i y1)] Ω 0 0 := by
            intro y1 e3
            subst e3
            refine x_istore O [(6, .int (b2i ((if (((w (13 + f)) * (nI (farN f t - i7_34))) + ((w (13 + t)) * (nI i7_34))) < ((w (13 + (16 * (nV (f / 16) (t / 16) i7_34 (farN f t)) + nV (f % 16) (t % 16) i7_34 (farN f t)))) * (nI (farN f t))) then false else true)))), (7, .int (nI i7_34)), (5, .int ((nI (t / 16)) - (nI (f / 16)))), (4, .int ((nI (t % 16)) - (nI (f % 16)))), (3, .int (nI (farN f t))), (0, .ref (adr B)), (1, .int (nI f)), (2, .int (nI t))] dX4_sees_133 rfl rfl ?_
            refine x_iincN O 1 [(7, .int (nI (i7_34 + 1))), (6, .int (b2i ((if (((w (13 + f)) * (nI (farN f t - i7_34))) + ((w (13 + t)) * (nI i7_34))) < ((w (13 + (16 * (nV (f / 16) (t / 16) i7_34 (farN f t)) + nV (f % 16) (t % 16) i7_34 (farN f t)))) * (nI (farN f t))) then false else true)))), (5, .int ((nI (t / 16)) - (nI (f / 16)))), (4, .int ((nI (t % 16)) - (nI (f % 16)))), (3, .int (nI (farN f t))), (0, .ref (adr B)), (1, .int (nI f)), (2, .int (nI t))] dX4_sees_135 rfl rfl rfl ?_
            refine x_goto O 34 dX4_sees_138 (by decide) ?_
            obtain ⟨c2_, rfl⟩ : ∃ z, cc_ = z + 1 := ⟨cc_ - 1, by omega⟩
            have hs_ : (fun i s => h_sees_b34 w f t i s) i7_34 v6_34 = .inl (if (((w (13 + f)) * (nI (farN f t - i7_34))) + ((w (13 + t)) * (nI i7_34))) < ((w (13 + (16 * (nV (f / 16) (t / 16) i7_34 (farN f t)) + nV (f % 16) (t % 16) i7_34 (farN f t)))) * (nI (farN f t))) then false else true) := by show h_sees_b34 w f t i7_34 v6_34 = _; unfold h_sees_b34; rw [if_pos c42]
            exact IH_ c2_ (by omega) _ _ (by omega) (by omega) (fun y0 hy_ => K_ y0 (hy_.trans (frb_step hs_).symm))
          refine x_icmpgt O 132 dX4_sees_125 (by decide) (fun c125 => ?_) (fun c125 => ?_)
          · refine x_sub [2, 3, 4, 5, 6, 7, 8] (L' := [(7, .int (nI i7_34)), (5, .int ((nI (t / 16)) - (nI (f / 16)))), (4, .int ((nI (t % 16)) - (nI (f % 16)))), (3, .int (nI (farN f t))), (0, .ref (adr B)), (1, .int (nI f)), (2, .int (nI t))]) rfl ?_
            refine x_iconst O (nI 0) dX4_sees_132 (by decide) ?_
            refine x_top (v' := b2i false) (by decide) ?_
            exact J2 false (by rw [if_pos c125])
          · refine x_sub [2, 3, 4, 5, 6, 7, 8] (L' := [(7, .int (nI i7_34)), (5, .int ((nI (t / 16)) - (nI (f / 16)))), (4, .int ((nI (t % 16)) - (nI (f % 16)))), (3, .int (nI (farN f t))), (0, .ref (adr B)), (1, .int (nI f)), (2, .int (nI t))]) rfl ?_
            refine x_iconst O (nI 1) dX4_sees_128 (by decide) ?_
            refine x_goto O 133 dX4_sees_129 (by decide) ?_
            refine x_top (v' := b2i true) (by decide) ?_
            exact J2 true (by rw [if_neg c125])
  refine LOOP34 (farN f t - 1) 1 true rfl (by omega) (fun y0 hy_34 => ?_)
  subst hy_34
  refine x_iload O 0 dX4_sees_141 rfl ?_
  exact x_zretQ O hQ rfl dX4_sees_143 (fun h m => ⟨by rw [hres], m⟩)

def h_could  (w : Nat → Int32) (t : Nat) : Bool :=
  (if (w (1103 + 3 * t)) < (w (1070 + 4 * (tn (w (1101 + 3 * t))))) then false else (if (w (1071 + 4 * (tn (w (1101 + 3 * t))))) < (w (1103 + 3 * t)) then false else (if h_sees w (tn (w (1069 + 4 * tn (w (1101 + 3 * t))))) (tn (w (1102 + 3 * t))) = true then true else false)))
set_option maxHeartbeats 1000000 in
set_option maxRecDepth 100000 in
theorem c_h_could {G : UG} {Ω : Hp → Prop} {κ : Hp} {adr : Nat → Nat} {pl ps : Nat → Nat → Prop} {B : Nat} {w : Nat → Int32} (H : HR G κ adr pl ps B w Ω) (hJ : MJ w) (hT : ∀ t, t < tn (w 5) → tn (w (1101 + 3 * t)) < tn (w 4)) (t : Nat) (ht : t < tn (w 5)) (tq : Nat) (htq : κ tq = some (nEnt w t)) : Con G yX4_could cX4_could 3 (some .boolean) 3 71 0 0 [.ref (adr B), .ref tq] Ω (fun vr_ h' => vr_ = some (.int (b2i (h_could w t))) ∧ Ω h') nX := by
  refine con_of2 (plainFor_of_name (by decide)) rfl ?_
  intro F R Q RF RL RC RS hQ O hnh hnm
  obtain ⟨res, hres⟩ : ∃ z, z = (h_could w t) := ⟨_, rfl⟩
  rw [← hres] at hQ
  unfold h_could at hres
  have h20 := H.1.2.2.2.2.2.1
  have h8 := H.1.2.2.2.2.1
  have a1 := (hJ.2.2.2.1 t (by omega)).1.1
  have a2 := hT t ht
  have a3 : nn (w (1102 + 3 * t)) 255 := by rw [show 1102 + 3 * t = 1101 + 3 * t + 1 by omega]; exact (hJ.2.2.2.1 t (by omega)).2
  have a4 : nn (w (1069 + 4 * tn (w (1101 + 3 * t)))) 255 := hJ.2.2.2.2 _ (by omega)
  have a3b := a3.2
  have a4b := a4.2
  refine x_eq (L' := [(0, .ref (adr B)), (1, .ref tq)]) ?_ rfl rfl rfl
  refine x_aload_n O 0 dX4_could_0 rfl rfl ?_
  refine x_hget O H k_X4_41_4 rfl dX4_could_1 ?_
  refine x_aload_n O 1 dX4_could_4 rfl rfl ?_
  refine x_get O k_X4_251_27 (H.fr htq) (v := .int (w (1101 + 3 * t))) rfl dX4_could_5 ?_
  refine x_top (v' := nI (tn (w (1101 + 3 * t)))) (a1) ?_
  refine x_hteller O H a2 dX4_could_8 (fun q1 hq2 => ?_)
  refine x_astore_n O [(2, .ref q1), (0, .ref (adr B)), (1, .ref tq)] dX4_could_9 rfl rfl rfl ?_
  refine x_aload_n O 2 dX4_could_10 rfl rfl ?_
  refine x_get O k_X4_254_27 (H.fr htq) (v := .int (w (1103 + 3 * t))) rfl dX4_could_11 ?_
  refine x_aload_n O 0 dX4_could_14 rfl rfl ?_
  refine x_get O k_X4_255_26 (H.fr hq2) (v := .int (w (1070 + 4 * (tn (w (1101 + 3 * t)))))) rfl dX4_could_15 ?_
  have J4 : ∀ (y3 : Bool), y3 = (if (w (1103 + 3 * t)) < (w (1070 + 4 * (tn (w (1101 + 3 * t))))) then false else (if (w (1071 + 4 * (tn (w (1101 + 3 * t))))) < (w (1103 + 3 * t)) then false else (if h_sees w (tn (w (1069 + 4 * tn (w (1101 + 3 * t))))) (tn (w (1102 + 3 * t))) = true then true else false))) → X G F R Q 3 52 [(0, .ref (adr B))] [.int (b2i y3)] Ω 0 0 := by
    intro y3 e5
    subst e5
    exact x_zretQ O hQ rfl dX4_could_52 (fun h m => ⟨by rw [hres], m⟩)
  refine x_icmplt O 51 dX4_could_18 (by decide) (fun c18 => ?_) (fun c18 => ?_)
  · refine x_sub [1] (L' := [(0, .ref (adr B))]) rfl ?_
    refine x_iconst O (nI 0) dX4_could_51 (by decide) ?_
    refine x_top (v' := b2i false) (by decide) ?_
    exact J4 false (by rw [if_pos c18])
  · refine x_aload_n O 2 dX4_could_21 rfl rfl ?_
    refine x_get O k_X4_254_27 (H.fr htq) (v := .int (w (1103 + 3 * t))) rfl dX4_could_22 ?_
    refine x_aload_n O 0 dX4_could_25 rfl rfl ?_
    refine x_get O k_X4_258_26 (H.fr hq2) (v := .int (w (1071 + 4 * (tn (w (1101 + 3 * t)))))) rfl dX4_could_26 ?_
    refine x_icmpgt O 51 dX4_could_29 (by decide) (fun c29 => ?_) (fun c29 => ?_)
    · refine x_sub [1] (L' := [(0, .ref (adr B))]) rfl ?_
      refine x_iconst O (nI 0) dX4_could_51 (by decide) ?_
      refine x_top (v' := b2i false) (by decide) ?_
      exact J4 false (by first | (rw [if_neg c18, if_pos c29]; done) | simp only [if_neg c18, if_pos c29])
    · refine x_aload_n O 1 dX4_could_32 rfl rfl ?_
      refine x_aload_n O 0 dX4_could_33 rfl rfl ?_
      refine x_get O k_X4_261_26 (H.fr hq2) (v := .int (w (1069 + 4 * (tn (w (1101 + 3 * t)))))) rfl dX4_could_34 ?_
      refine x_top (v' := nI (tn (w (1069 + 4 * tn (w (1101 + 3 * t)))))) (a4.1) ?_
      refine x_aload_n O 2 dX4_could_37 rfl rfl ?_
      refine x_get O k_X4_262_27 (H.fr htq) (v := .int (w (1102 + 3 * t))) rfl dX4_could_38 ?_
      refine x_top (v' := nI (tn (w (1102 + 3 * t)))) (a3.1) ?_
      refine x_cV O 2 (c_h_sees H (tn (w (1069 + 4 * tn (w (1101 + 3 * t))))) (tn (w (1102 + 3 * t))) (by omega) (by omega)) H.obj rfl (lw_V q564 q565 q566 q109 q567) rfl hd_X4_sees rfl (by rw [RF]; rfl) (by rw [RL]; rfl) ⟨Nat.zero_le _, Nat.zero_le _⟩ rfl rfl dX4_could_41 ?_
      refine x_top (v' := b2i (h_sees w (tn (w (1069 + 4 * tn (w (1101 + 3 * t))))) (tn (w (1102 + 3 * t))))) rfl ?_
      refine x_ifeqB O 51 dX4_could_44 (by decide) (fun c44 => ?_) (fun c44 => ?_)
      · refine x_sub [1] (L' := [(0, .ref (adr B))]) rfl ?_
        refine x_iconst O (nI 0) dX4_could_51 (by decide) ?_
        refine x_top (v' := b2i false) (by decide) ?_
        exact J4 false (by first | (rw [if_neg c18, if_neg c29, if_neg c44]; done) | simp only [if_neg c18, if_neg c29, if_neg c44])
      · refine x_sub [1] (L' := [(0, .ref (adr B))]) rfl ?_
        refine x_iconst O (nI 1) dX4_could_47 (by decide) ?_
        refine x_goto O 52 dX4_could_48 (by decide) ?_
        refine x_top (v' := b2i true) (by decide) ?_
        exact J4 true (by first | (rw [if_neg c18, if_neg c29, if_pos c44]; done) | simp only [if_neg c18, if_neg c29, if_pos c44])

def h_fits_b4  (w : Nat → Int32) (t : Nat) (i3_4 : Nat) (v2_4 : Bool) : Bool :=
  (if v2_4 = true then true else (if h_isSeen w i3_4 = true then (if (w (349 + 6 * i3_4)) = (nI 3) then false else (if (nI 1) < (z_far (w (350 + 6 * i3_4)) (w (1102 + 3 * t))) then false else true)) else false))
def h_fits  (w : Nat → Int32) (t : Nat) : Bool :=
  (if (fr (fun i s => h_fits_b4 w t i s) (tn (w 3)) 0 false) = true then (if h_could w t = true then true else false) else false)
set_option maxHeartbeats 1000000 in
set_option maxRecDepth 100000 in
theorem c_h_fits {G : UG} {Ω : Hp → Prop} {κ : Hp} {adr : Nat → Nat} {pl ps : Nat → Nat → Prop} {B : Nat} {w : Nat → Int32} (H : HR G κ adr pl ps B w Ω) (hI : MI w) (hkind : ∀ f : Nat, f < tn (w 3) → w (349 + 6 * f) = 0 ∨ w (349 + 6 * f) = 1 ∨ w (349 + 6 * f) = 2 ∨ w (349 + 6 * f) = 3) (hJ : MJ w) (hT : ∀ t, t < tn (w 5) → tn (w (1101 + 3 * t)) < tn (w 4)) (t : Nat) (ht : t < tn (w 5)) (tq : Nat) (htq : κ tq = some (nEnt w t)) : Con G yX4_fits cX4_fits 4 (some .boolean) 4 93 0 0 [.ref (adr B), .ref tq] Ω (fun vr_ h' => vr_ = some (.int (b2i (h_fits w t))) ∧ Ω h') nX := by
  refine con_of2 (plainFor_of_name (by decide)) rfl ?_
  intro F R Q RF RL RC RS hQ O hnh hnm
  obtain ⟨res, hres⟩ : ∃ z, z = (h_fits w t) := ⟨_, rfl⟩
  rw [← hres] at hQ
  unfold h_fits at hres
  have h20 := H.1.2.2.2.2.2.1
  have h8 := H.1.2.2.2.2.1
  have a1 := (hJ.2.2.2.1 t (by omega)).1.1
  have a2 := hT t ht
  have a3 : nn (w (1102 + 3 * t)) 255 := by rw [show 1102 + 3 * t = 1101 + 3 * t + 1 by omega]; exact (hJ.2.2.2.1 t (by omega)).2
  have a4 : nn (w (1069 + 4 * tn (w (1101 + 3 * t)))) 255 := hJ.2.2.2.2 _ (by omega)
  have a3b := a3.2
  have a4b := a4.2
  have h120 := H.1.2.2.2.1
  refine x_eq (L' := [(0, .ref (adr B)), (1, .ref tq)]) ?_ rfl rfl rfl
  refine x_iconst O (nI 0) dX4_fits_0 (by decide) ?_
  refine x_top (v' := b2i false) (by decide) ?_
  refine x_istore_n O [(2, .int (b2i false)), (0, .ref (adr B)), (1, .ref tq)] dX4_fits_1 rfl rfl rfl ?_
  refine x_iconst O (nI 0) dX4_fits_2 (by decide) ?_
  refine x_istore_n O [(3, .int (nI 0)), (2, .int (b2i false)), (0, .ref (adr B)), (1, .ref tq)] dX4_fits_3 rfl rfl rfl ?_
  have LOOP4 : ∀ (cc_ : Nat) (i3_4 : Nat) (v2_4 : Bool), cc_ = tn (w 3) - i3_4 → i3_4 < 2147483648 → (∀ (y0 : Bool), y0 = fr (fun i s => h_fits_b4 w t i s) cc_ i3_4 v2_4 → X G F R Q 4 69 [(2, .int (b2i y0)), (0, .ref (adr B)), (1, .ref tq)] [] Ω 0 0) → X G F R Q 4 4 [(3, .int (nI i3_4)), (2, .int (b2i v2_4)), (0, .ref (adr B)), (1, .ref tq)] [] Ω 0 0 := by
    intro cc_
    induction cc_ using Nat.strongRecOn with
    | ind cc_ IH_ =>
      intro i3_4 v2_4 hc_ hb_  K_
      refine x_iload_n O 0 dX4_fits_4 rfl rfl ?_
      refine x_aload_n O 2 dX4_fits_5 rfl rfl ?_
      refine x_hget O H k_X4_100_4 rfl dX4_fits_6 ?_
      refine x_top (v' := nI (tn (w 3))) (hI 3 (by decide)).1 ?_
      refine x_icmpgeN O 69 (by omega) (by omega) dX4_fits_9 (by decide) (fun c9 => ?_) (fun c9 => ?_)
      · refine x_sub [1, 2, 3] (L' := [(2, .int (b2i v2_4)), (0, .ref (adr B)), (1, .ref tq)]) rfl ?_
        obtain rfl : cc_ = 0 := by omega
        exact K_ _ rfl
      · refine x_iload_n O 1 dX4_fits_12 rfl rfl ?_
        have J7 : ∀ (y5 : Bool), y5 = (if v2_4 = true then true else (if h_isSeen w i3_4 = true then (if (w (349 + 6 * i3_4)) = (nI 3) then false else (if (nI 1) < (z_far (w (350 + 6 * i3_4)) (w (1102 + 3 * t))) then false else true)) else false)) → X G F R Q 4 62 [(3, .int (nI i3_4)), (0, .ref (adr B)), (1, .ref tq)] [.int (b2i y5)] Ω 0 0 := by
          intro y5 e8
          subst e8
          refine x_istore_n O [(2, .int (b2i ((if v2_4 = true then true else (if h_isSeen w i3_4 = true then (if (w (349 + 6 * i3_4)) = (nI 3) then false else (if (nI 1) < (z_far (w (350 + 6 * i3_4)) (w (1102 + 3 * t))) then false else true)) else false))))), (3, .int (nI i3_4)), (0, .ref (adr B)), (1, .ref tq)] dX4_fits_62 rfl rfl rfl ?_
          refine x_iincN O 1 [(3, .int (nI (i3_4 + 1))), (2, .int (b2i ((if v2_4 = true then true else (if h_isSeen w i3_4 = true then (if (w (349 + 6 * i3_4)) = (nI 3) then false else (if (nI 1) < (z_far (w (350 + 6 * i3_4)) (w (1102 + 3 * t))) then false else true)) else false))))), (0, .ref (adr B)), (1, .ref tq)] dX4_fits_63 rfl rfl rfl ?_
          refine x_goto O 4 dX4_fits_66 (by decide) ?_
          obtain ⟨c2_, rfl⟩ : ∃ z, cc_ = z + 1 := ⟨cc_ - 1, by omega⟩
          have hs_ : (fun i s => h_fits_b4 w t i s) i3_4 v2_4 = (if v2_4 = true then true else (if h_isSeen w i3_4 = true then (if (w (349 + 6 * i3_4)) = (nI 3) then false else (if (nI 1) < (z_far (w (350 + 6 * i3_4)) (w (1102 + 3 * t))) then false else true)) else false)) := by show h_fits_b4 w t i3_4 v2_4 = _; unfold h_fits_b4; rfl
          exact IH_ c2_ (by omega) _ _ (by omega) (by omega) (fun y0 hy_ => K_ y0 (hy_.trans (fr_step hs_).symm))
        refine x_ifneB O 57 dX4_fits_13 (by decide) (fun c13 => ?_) (fun c13 => ?_)
        · refine x_sub [0, 2, 3] (L' := [(3, .int (nI i3_4)), (0, .ref (adr B)), (1, .ref tq)]) rfl ?_
          refine x_iconst O (nI 1) dX4_fits_57 (by decide) ?_
          refine x_goto O 62 dX4_fits_58 (by decide) ?_
          refine x_top (v' := b2i true) (by decide) ?_
          exact J7 true (by rw [if_pos c13])
        · refine x_sub [0, 2, 3] (L' := [(3, .int (nI i3_4)), (0, .ref (adr B)), (1, .ref tq)]) rfl ?_
          refine x_aload_n O 1 dX4_fits_16 rfl rfl ?_
          refine x_iload_n O 0 dX4_fits_17 rfl rfl ?_
          refine x_cV O 1 (c_h_isSeen H i3_4 (by omega)) H.obj rfl (lw_V q495 q496 q497 q109 q498) rfl hd_X4_isSeen rfl (by rw [RF]; rfl) (by rw [RL]; rfl) ⟨Nat.zero_le _, Nat.zero_le _⟩ rfl rfl dX4_fits_18 ?_
          refine x_top (v' := b2i (h_isSeen w i3_4)) rfl ?_
          refine x_ifeqB O 61 dX4_fits_21 (by decide) (fun c21 => ?_) (fun c21 => ?_)
          · refine x_iconst O (nI 0) dX4_fits_61 (by decide) ?_
            refine x_top (v' := b2i false) (by decide) ?_
            exact J7 false (by first | (rw [if_neg c13, if_neg c21]; done) | simp only [if_neg c13, if_neg c21])
          · refine x_aload_n O 1 dX4_fits_24 rfl rfl ?_
            refine x_hget O H k_X4_35_4 rfl dX4_fits_25 ?_
            refine x_iload_n O 0 dX4_fits_28 rfl rfl ?_
            refine x_hfind O H (by omega) dX4_fits_29 (fun q1 hq2 => ?_)
            refine x_fkind O (f := i3_4) (w := w) q530 (H.fr hq2) (hkind i3_4 (by omega)) (by rw [RF]; rfl) (by rw [RL]; rfl) ⟨Nat.zero_le _, Nat.zero_le _⟩ rfl dX4_fits_30 ?_
            refine x_iconst O (nI 3) dX4_fits_33 (by decide) ?_
            refine x_icmpeq O 61 dX4_fits_34 (by decide) (fun c34 => ?_) (fun c34 => ?_)
            · refine x_iconst O (nI 0) dX4_fits_61 (by decide) ?_
              refine x_top (v' := b2i false) (by decide) ?_
              exact J7 false (by first | (rw [if_neg c13, if_pos c21, if_pos c34]; done) | simp only [if_neg c13, if_pos c21, if_pos c34])
            · refine x_aload_n O 1 dX4_fits_37 rfl rfl ?_
              refine x_hget O H k_X4_35_4 rfl dX4_fits_38 ?_
              refine x_iload_n O 0 dX4_fits_41 rfl rfl ?_
              refine x_hfind O H (by omega) dX4_fits_42 (fun q3 hq4 => ?_)
              refine x_fcell O (f := i3_4) (w := w) q545 (H.fr hq4) (by rw [RF]; rfl) (by rw [RL]; rfl) ⟨Nat.zero_le _, Nat.zero_le _⟩ rfl dX4_fits_43 ?_
              refine x_aload_n O 2 dX4_fits_46 rfl rfl ?_
              refine x_get O k_X4_262_27 (H.fr htq) (v := .int (w (1102 + 3 * t))) rfl dX4_fits_47 ?_
              refine x_cSN O 2 (c_z_far (w (350 + 6 * i3_4)) (w (1102 + 3 * t))) q553 q554 q103 q555 hd_X1_far rfl (by rw [RF]; rfl) (by rw [RL]; rfl) ⟨Nat.zero_le _, Nat.zero_le _⟩ rfl rfl dX4_fits_50 ?_
              refine x_top (v' := z_far (w (350 + 6 * i3_4)) (w (1102 + 3 * t))) rfl ?_
              refine x_iconst O (nI 1) dX4_fits_53 (by decide) ?_
              refine x_icmpgt O 61 dX4_fits_54 (by decide) (fun c54 => ?_) (fun c54 => ?_)
              · refine x_iconst O (nI 0) dX4_fits_61 (by decide) ?_
                refine x_top (v' := b2i false) (by decide) ?_
                exact J7 false (by first | (rw [if_neg c13, if_pos c21, if_neg c34, if_pos c54]; done) | simp only [if_neg c13, if_pos c21, if_neg c34, if_pos c54])
              · refine x_iconst O (nI 1) dX4_fits_57 (by decide) ?_
                refine x_goto O 62 dX4_fits_58 (by decide) ?_
                refine x_top (v' := b2i true) (by decide) ?_
                exact J7 true (by first | (rw [if_neg c13, if_pos c21, if_neg c34, if_neg c54]; done) | simp only [if_neg c13, if_pos c21, if_neg c34, if_neg c54])
  refine LOOP4 (tn (w 3)) 0 false rfl (by omega) (fun y0 hy_4 => ?_)
  subst hy_4
  refine x_iload_n O 0 dX4_fits_69 rfl rfl ?_
  have J9 : ∀ (y6 : Bool), y6 = (if (fr (fun i s => h_fits_b4 w t i s) (tn (w 3)) 0 false) = true then (if h_could w t = true then true else false) else false) → X G F R Q 4 86 [(0, .ref (adr B))] [.int (b2i y6)] Ω 0 0 := by
    intro y6 e10
    subst e10
    exact x_zretQ O hQ rfl dX4_fits_86 (fun h m => ⟨by rw [hres], m⟩)
  refine x_ifeqB O 85 dX4_fits_70 (by decide) (fun c70 => ?_) (fun c70 => ?_)
  · refine x_sub [1] (L' := [(0, .ref (adr B))]) rfl ?_
    refine x_iconst O (nI 0) dX4_fits_85 (by decide) ?_
    refine x_top (v' := b2i false) (by decide) ?_
    exact J9 false (by rw [if_neg c70])
  · refine x_sub [1, 2] (L' := [(0, .ref (adr B)), (1, .ref tq)]) rfl ?_
    refine x_aload_n O 0 dX4_fits_73 rfl rfl ?_
    refine x_aload_n O 1 dX4_fits_74 rfl rfl ?_
    refine x_cV O 1 (c_h_could H hJ hT t (by omega) _ htq) H.obj rfl (lw_V q560 q561 q562 q109 q563) rfl hd_X4_could rfl (by rw [RF]; rfl) (by rw [RL]; rfl) ⟨Nat.zero_le _, Nat.zero_le _⟩ rfl rfl dX4_fits_75 ?_
    refine x_top (v' := b2i (h_could w t)) rfl ?_
    refine x_ifeqB O 85 dX4_fits_78 (by decide) (fun c78 => ?_) (fun c78 => ?_)
    · refine x_sub [0] (L' := [(0, .ref (adr B))]) rfl ?_
      refine x_iconst O (nI 0) dX4_fits_85 (by decide) ?_
      refine x_top (v' := b2i false) (by decide) ?_
      exact J9 false (by first | (rw [if_pos c70, if_neg c78]; done) | simp only [if_pos c70, if_neg c78])
    · refine x_sub [0] (L' := [(0, .ref (adr B))]) rfl ?_
      refine x_iconst O (nI 1) dX4_fits_81 (by decide) ?_
      refine x_goto O 86 dX4_fits_82 (by decide) ?_
      refine x_top (v' := b2i true) (by decide) ?_
      exact J9 true (by first | (rw [if_pos c70, if_pos c78]; done) | simp only [if_pos c70, if_pos c78])

def h_needed_b42  (w : Nat → Int32) (a : Int32) (b : Int32) (i4_5 : Nat) (i6_42 : Nat) (v5_42 : Bool) : (Bool) ⊕ (Bool) :=
  (if v5_42 = true then .inl (if h_isCase w i6_42 = true then (if z_isInArea (w (350 + 6 * i6_42)) a b = true then (if (h_mayBe w i6_42) = 0 then true else (if ((h_mayBe w i6_42) &&& (nI i4_5)) = 0 then false else true)) else v5_42) else v5_42) else .inr v5_42)
def h_needed_b5  (w : Nat → Int32) (a : Int32) (b : Int32) (i4_5 : Nat) (v3_5 : Int32) : Int32 :=
  (if v3_5 = ((-1)) then (if (frb (fun i s => h_needed_b42 w a b i4_5 i s) (tn (w 3)) 0 true) = true then nI i4_5 else v3_5) else (if (j_bits (nI i4_5)) < (j_bits v3_5) then (if (frb (fun i s => h_needed_b42 w a b i4_5 i s) (tn (w 3)) 0 true) = true then nI i4_5 else v3_5) else v3_5))
def h_needed  (w : Nat → Int32) (a : Int32) (b : Int32) : Int32 :=
  (fr (fun i s => h_needed_b5 w a b i s) (2 ^ tn (w 0)) 0 (-1))
set_option maxHeartbeats 1000000 in
set_option maxRecDepth 100000 in
theorem c_h_needed {G : UG} {Ω : Hp → Prop} {κ : Hp} {adr : Nat → Nat} {pl ps : Nat → Nat → Prop} {B : Nat} {w : Nat → Int32} (H : HR G κ adr pl ps B w Ω) (hI : MI w) (hkind : ∀ f : Nat, f < tn (w 3) → w (349 + 6 * f) = 0 ∨ w (349 + 6 * f) = 1 ∨ w (349 + 6 * f) = 2 ∨ w (349 + 6 * f) = 3) (a : Int32) (b : Int32)  : Con G yX4_needed cX4_needed 8 (some .int) 4 85 0 0 [.ref (adr B), .int a, .int b] Ω (fun vr_ h' => vr_ = some (.int (h_needed w a b)) ∧ Ω h') nX := by
  refine con_of2 (plainFor_of_name (by decide)) rfl ?_
  intro F R Q RF RL RC RS hQ O hnh hnm
  obtain ⟨res, hres⟩ : ∃ z, z = (h_needed w a b) := ⟨_, rfl⟩
  rw [← hres] at hQ
  unfold h_needed at hres
  have h120 := H.1.2.2.2.1
  have h8g := H.1.1
  have hp0 := pow8 h8g
  refine x_eq (L' := [(0, .ref (adr B)), (1, .int a), (2, .int b)]) ?_ rfl rfl rfl
  refine x_iconst O ((-1)) dX4_needed_0 (by decide) ?_
  refine x_istore_n O [(3, .int ((-1))), (0, .ref (adr B)), (1, .int a), (2, .int b)] dX4_needed_1 rfl rfl rfl ?_
  refine x_iconst O (nI 0) dX4_needed_2 (by decide) ?_
  refine x_istore O [(4, .int (nI 0)), (3, .int ((-1))), (0, .ref (adr B)), (1, .int a), (2, .int b)] dX4_needed_3 rfl rfl ?_
  have LOOP5 : ∀ (cc_ : Nat) (i4_5 : Nat) (v3_5 : Int32), cc_ = 2 ^ tn (w 0) - i4_5 → i4_5 < 2147483648 → (∀ (y0 : Int32), y0 = fr (fun i s => h_needed_b5 w a b i s) cc_ i4_5 v3_5 → X G F R Q 8 139 [(3, .int y0), (0, .ref (adr B))] [] Ω 0 0) → X G F R Q 8 5 [(4, .int (nI i4_5)), (3, .int v3_5), (0, .ref (adr B)), (1, .int a), (2, .int b)] [] Ω 0 0 := by
    intro cc_
    induction cc_ using Nat.strongRecOn with
    | ind cc_ IH_ =>
      intro i4_5 v3_5 hc_ hb_  K_
      refine x_iload O 0 dX4_needed_5 rfl ?_
      refine x_iconst O (nI 1) dX4_needed_7 (by decide) ?_
      refine x_aload_n O 2 dX4_needed_8 rfl rfl ?_
      refine x_hget O H k_X4_73_4 rfl dX4_needed_9 ?_
      refine x_top (v' := nI (tn (w 0))) (hI 0 (by decide)).1 ?_
      refine x_ishl O dX4_needed_12 ?_
      refine x_top (v' := nI (2 ^ tn (w 0))) (shl1 h8g) ?_
      refine x_icmpgeN O 139 (by omega) (by omega) dX4_needed_13 (by decide) (fun c13 => ?_) (fun c13 => ?_)
      · refine x_sub [1, 2] (L' := [(3, .int v3_5), (0, .ref (adr B))]) rfl ?_
        obtain rfl : cc_ = 0 := by omega
        exact K_ _ rfl
      · refine x_iload_n O 1 dX4_needed_16 rfl rfl ?_
        refine x_iconst O ((-1)) dX4_needed_17 (by decide) ?_
        refine x_icmpeq O 36 dX4_needed_18 (by decide) (fun c18 => ?_) (fun c18 => ?_)
        · refine x_iconst O (nI 1) dX4_needed_36 (by decide) ?_
          refine x_top (v' := b2i true) (by decide) ?_
          refine x_istore O [(5, .int (b2i true)), (4, .int (nI i4_5)), (3, .int v3_5), (0, .ref (adr B)), (1, .int a), (2, .int b)] dX4_needed_37 rfl rfl ?_
          refine x_iconst O (nI 0) dX4_needed_39 (by decide) ?_
          refine x_istore O [(6, .int (nI 0)), (5, .int (b2i true)), (4, .int (nI i4_5)), (3, .int v3_5), (0, .ref (adr B)), (1, .int a), (2, .int b)] dX4_needed_40 rfl rfl ?_
          have LOOP42 : ∀ (cc_ : Nat) (i6_42 : Nat) (v5_42 : Bool), cc_ = tn (w 3) - i6_42 → i6_42 < 2147483648 → (∀ (y0 : Bool), y0 = frb (fun i s => h_needed_b42 w a b i4_5 i s) cc_ i6_42 v5_42 → X G F R Q 8 125 [(5, .int (b2i y0)), (4, .int (nI i4_5)), (3, .int v3_5), (0, .ref (adr B)), (1, .int a), (2, .int b)] [] Ω 0 0) → X G F R Q 8 42 [(6, .int (nI i6_42)), (5, .int (b2i v5_42)), (4, .int (nI i4_5)), (3, .int v3_5), (0, .ref (adr B)), (1, .int a), (2, .int b)] [] Ω 0 0 := by
            intro cc_
            induction cc_ using Nat.strongRecOn with
            | ind cc_ IH_ =>
              intro i6_42 v5_42 hc_ hb_  K_
              refine x_iload O 0 dX4_needed_42 rfl ?_
              refine x_aload_n O 4 dX4_needed_44 rfl rfl ?_
              refine x_hget O H k_X4_100_4 rfl dX4_needed_45 ?_
              refine x_top (v' := nI (tn (w 3))) (hI 3 (by decide)).1 ?_
              refine x_icmpgeN O 125 (by omega) (by omega) dX4_needed_48 (by decide) (fun c48 => ?_) (fun c48 => ?_)
              · refine x_sub [1, 2, 3, 4, 5, 6] (L' := [(5, .int (b2i v5_42)), (4, .int (nI i4_5)), (3, .int v3_5), (0, .ref (adr B)), (1, .int a), (2, .int b)]) rfl ?_
                obtain rfl : cc_ = 0 := by omega
                exact K_ _ rfl
              · refine x_iload O 1 dX4_needed_51 rfl ?_
                refine x_ifeqB O 125 dX4_needed_53 (by decide) (fun c53 => ?_) (fun c53 => ?_)
                · refine x_sub [1, 2, 3, 4, 5, 6] (L' := [(5, .int (b2i v5_42)), (4, .int (nI i4_5)), (3, .int v3_5), (0, .ref (adr B)), (1, .int a), (2, .int b)]) rfl ?_
                  obtain ⟨c2_, rfl⟩ : ∃ z, cc_ = z + 1 := ⟨cc_ - 1, by omega⟩
                  have hs_ : (fun i s => h_needed_b42 w a b i4_5 i s) i6_42 v5_42 = .inr v5_42 := by show h_needed_b42 w a b i4_5 i6_42 v5_42 = _; unfold h_needed_b42; rw [if_neg c53]
                  exact K_ _ (frb_stop hs_).symm
                · refine x_aload_n O 4 dX4_needed_56 rfl rfl ?_
                  refine x_iload O 0 dX4_needed_57 rfl ?_
                  refine x_cV O 1 (c_h_isCase H hkind i6_42 (by omega)) H.obj rfl (lw_V q1377 q1378 q1379 q109 q1380) rfl hd_X4_isCase rfl (by rw [RF]; rfl) (by rw [RL]; rfl) ⟨Nat.zero_le _, Nat.zero_le _⟩ rfl rfl dX4_needed_59 ?_
                  refine x_top (v' := b2i (h_isCase w i6_42)) rfl ?_
                  have J15 : ∀ (y6 : Bool), y6 = (if h_isCase w i6_42 = true then (if z_isInArea (w (350 + 6 * i6_42)) a b = true then (if (h_mayBe w i6_42) = 0 then true else (if ((h_mayBe w i6_42) &&& (nI i4_5)) = 0 then false else true)) else v5_42) else v5_42) → X G F R Q 8 119 [(6, .int (nI i6_42)), (5, .int (b2i y6)), (4, .int (nI i4_5)), (3, .int v3_5), (0, .ref (adr B)), (1, .int a), (2, .int b)] [] Ω 0 0 := by
                    intro y6 e16
                    subst e16
                    refine x_iincN O 0 [(6, .int (nI (i6_42 + 1))), (5, .int (b2i ((if h_isCase w i6_42 = true then (if z_isInArea (w (350 + 6 * i6_42)) a b = true then (if (h_mayBe w i6_42) = 0 then true else (if ((h_mayBe w i6_42) &&& (nI i4_5)) = 0 then false else true)) else v5_42) else v5_42)))), (4, .int (nI i4_5)), (3, .int v3_5), (0, .ref (adr B)), (1, .int a), (2, .int b)] dX4_needed_119 rfl rfl rfl ?_
                    refine x_goto O 42 dX4_needed_122 (by decide) ?_
                    obtain ⟨c2_, rfl⟩ : ∃ z, cc_ = z + 1 := ⟨cc_ - 1, by omega⟩
                    have hs_ : (fun i s => h_needed_b42 w a b i4_5 i s) i6_42 v5_42 = .inl (if h_isCase w i6_42 = true then (if z_isInArea (w (350 + 6 * i6_42)) a b = true then (if (h_mayBe w i6_42) = 0 then true else (if ((h_mayBe w i6_42) &&& (nI i4_5)) = 0 then false else true)) else v5_42) else v5_42) := by show h_needed_b42 w a b i4_5 i6_42 v5_42 = _; unfold h_needed_b42; rw [if_pos c53]
                    exact IH_ c2_ (by omega) _ _ (by omega) (by omega) (fun y0 hy_ => K_ y0 (hy_.trans (frb_step hs_).symm))
                  refine x_ifeqB O 119 dX4_needed_62 (by decide) (fun c62 => ?_) (fun c62 => ?_)
                  · exact J15 v5_42 (by rw [if_neg c62])
                  · refine x_aload_n O 4 dX4_needed_65 rfl rfl ?_
                    refine x_hget O H k_X4_35_4 rfl dX4_needed_66 ?_
                    refine x_iload O 0 dX4_needed_69 rfl ?_
                    refine x_hfind O H (by omega) dX4_needed_71 (fun q1 hq2 => ?_)
                    refine x_fcell O (f := i6_42) (w := w) q545 (H.fr hq2) (by rw [RF]; rfl) (by rw [RL]; rfl) ⟨Nat.zero_le _, Nat.zero_le _⟩ rfl dX4_needed_72 ?_
                    refine x_iload_n O 5 dX4_needed_75 rfl rfl ?_
                    refine x_iload_n O 6 dX4_needed_76 rfl rfl ?_
                    refine x_cS O 3 (c_z_isInArea (w (350 + 6 * i6_42)) a b) (lw_S q1381 q757 q109 q758) hd_X4_isIn rfl (by rw [RF]; rfl) (by rw [RL]; rfl) ⟨Nat.zero_le _, Nat.zero_le _⟩ rfl rfl dX4_needed_77 ?_
                    refine x_top (v' := b2i (z_isInArea (w (350 + 6 * i6_42)) a b)) rfl ?_
                    refine x_ifneB O 86 dX4_needed_80 (by decide) (fun c80 => ?_) (fun c80 => ?_)
                    · refine x_sub [0, 2, 3, 4, 5, 6] (L' := [(6, .int (nI i6_42)), (4, .int (nI i4_5)), (3, .int v3_5), (0, .ref (adr B)), (1, .int a), (2, .int b)]) rfl ?_
                      refine x_aload_n O 3 dX4_needed_86 rfl rfl ?_
                      refine x_aload_n O 3 dX4_needed_87 rfl rfl ?_
                      refine x_hget O H k_X4_35_4 rfl dX4_needed_88 ?_
                      refine x_iload O 0 dX4_needed_91 rfl ?_
                      refine x_hfind O H (by omega) dX4_needed_93 (fun q3 hq4 => ?_)
                      refine x_cV O 1 (c_h_mayBe H hI hkind i6_42 (by omega) _ hq4) H.obj rfl (lw_V q1382 q1337 q1338 q109 q1339) rfl hd_X4_mayBe rfl (by rw [RF]; rfl) (by rw [RL]; rfl) ⟨Nat.zero_le _, Nat.zero_le _⟩ rfl rfl dX4_needed_94 ?_
                      refine x_top (v' := h_mayBe w i6_42) rfl ?_
                      refine x_istore O [(7, .int (h_mayBe w i6_42)), (6, .int (nI i6_42)), (4, .int (nI i4_5)), (3, .int v3_5), (0, .ref (adr B)), (1, .int a), (2, .int b)] dX4_needed_97 rfl rfl ?_
                      refine x_iload O 0 dX4_needed_99 rfl ?_
                      have J17 : ∀ (y5 : Bool), y5 = (if (h_mayBe w i6_42) = 0 then true else (if ((h_mayBe w i6_42) &&& (nI i4_5)) = 0 then false else true)) → X G F R Q 8 117 [(6, .int (nI i6_42)), (4, .int (nI i4_5)), (3, .int v3_5), (0, .ref (adr B)), (1, .int a), (2, .int b)] [.int (b2i y5)] Ω 0 0 := by
                        intro y5 e18
                        subst e18
                        refine x_istore O [(5, .int (b2i ((if (h_mayBe w i6_42) = 0 then true else (if ((h_mayBe w i6_42) &&& (nI i4_5)) = 0 then false else true))))), (6, .int (nI i6_42)), (4, .int (nI i4_5)), (3, .int v3_5), (0, .ref (adr B)), (1, .int a), (2, .int b)] dX4_needed_117 rfl rfl ?_
                        refine x_sub [1, 0, 2, 3, 4, 5, 6] rfl ?_
                        exact J15 ((if (h_mayBe w i6_42) = 0 then true else (if ((h_mayBe w i6_42) &&& (nI i4_5)) = 0 then false else true))) (by first | (rw [if_pos c62, if_pos c80]; done) | simp only [if_pos c62, if_pos c80])
                      refine x_ifeq O 112 dX4_needed_101 (by decide) (fun c101 => ?_) (fun c101 => ?_)
                      · refine x_sub [1, 2, 3, 4, 5, 6] (L' := [(6, .int (nI i6_42)), (4, .int (nI i4_5)), (3, .int v3_5), (0, .ref (adr B)), (1, .int a), (2, .int b)]) rfl ?_
                        refine x_iconst O (nI 1) dX4_needed_112 (by decide) ?_
                        refine x_goto O 117 dX4_needed_113 (by decide) ?_
                        refine x_top (v' := b2i true) (by decide) ?_
                        exact J17 true (by rw [if_pos c101])
                      · refine x_iload O 0 dX4_needed_104 rfl ?_
                        refine x_iload O 2 dX4_needed_106 rfl ?_
                        refine x_iand O dX4_needed_108 ?_
                        refine x_ifeq O 116 dX4_needed_109 (by decide) (fun c109 => ?_) (fun c109 => ?_)
                        · refine x_sub [1, 2, 3, 4, 5, 6] (L' := [(6, .int (nI i6_42)), (4, .int (nI i4_5)), (3, .int v3_5), (0, .ref (adr B)), (1, .int a), (2, .int b)]) rfl ?_
                          refine x_iconst O (nI 0) dX4_needed_116 (by decide) ?_
                          refine x_top (v' := b2i false) (by decide) ?_
                          exact J17 false (by first | (rw [if_neg c101, if_pos c109]; done) | simp only [if_neg c101, if_pos c109])
                        · refine x_sub [1, 2, 3, 4, 5, 6] (L' := [(6, .int (nI i6_42)), (4, .int (nI i4_5)), (3, .int v3_5), (0, .ref (adr B)), (1, .int a), (2, .int b)]) rfl ?_
                          refine x_iconst O (nI 1) dX4_needed_112 (by decide) ?_
                          refine x_goto O 117 dX4_needed_113 (by decide) ?_
                          refine x_top (v' := b2i true) (by decide) ?_
                          exact J17 true (by first | (rw [if_neg c101, if_neg c109]; done) | simp only [if_neg c101, if_neg c109])
                    · refine x_goto O 119 dX4_needed_83 (by decide) ?_
                      exact J15 v5_42 (by first | (rw [if_pos c62, if_neg c80]; done) | simp only [if_pos c62, if_neg c80])
          refine LOOP42 (tn (w 3)) 0 true rfl (by omega) (fun y0 hy_42 => ?_)
          subst hy_42
          refine x_iload O 0 dX4_needed_125 rfl ?_
          have J19 : ∀ (y7 : Int32), y7 = (if (frb (fun i s => h_needed_b42 w a b i4_5 i s) (tn (w 3)) 0 true) = true then nI i4_5 else v3_5) → X G F R Q 8 133 [(4, .int (nI i4_5)), (3, .int y7), (0, .ref (adr B)), (1, .int a), (2, .int b)] [] Ω 0 0 := by
            intro y7 e20
            subst e20
            refine x_iincN O 0 [(4, .int (nI (i4_5 + 1))), (3, .int ((if (frb (fun i s => h_needed_b42 w a b i4_5 i s) (tn (w 3)) 0 true) = true then nI i4_5 else v3_5))), (0, .ref (adr B)), (1, .int a), (2, .int b)] dX4_needed_133 rfl rfl rfl ?_
            refine x_goto O 5 dX4_needed_136 (by decide) ?_
            obtain ⟨c2_, rfl⟩ : ∃ z, cc_ = z + 1 := ⟨cc_ - 1, by omega⟩
            have hs_ : (fun i s => h_needed_b5 w a b i s) i4_5 v3_5 = (if (frb (fun i s => h_needed_b42 w a b i4_5 i s) (tn (w 3)) 0 true) = true then nI i4_5 else v3_5) := by show h_needed_b5 w a b i4_5 v3_5 = _; unfold h_needed_b5; rw [if_pos c18]
            exact IH_ c2_ (by omega) _ _ (by omega) (by omega) (fun y0 hy_ => K_ y0 (hy_.trans (fr_step hs_).symm))
          refine x_ifeqB O 133 dX4_needed_127 (by decide) (fun c127 => ?_) (fun c127 => ?_)
          · refine x_sub [1, 2, 3, 4, 5] (L' := [(4, .int (nI i4_5)), (3, .int v3_5), (0, .ref (adr B)), (1, .int a), (2, .int b)]) rfl ?_
            exact J19 v3_5 (by rw [if_neg c127])
          · refine x_sub [1, 3, 4, 5] (L' := [(4, .int (nI i4_5)), (0, .ref (adr B)), (1, .int a), (2, .int b)]) rfl ?_
            refine x_iload O 0 dX4_needed_130 rfl ?_
            refine x_istore_n O [(3, .int (nI i4_5)), (4, .int (nI i4_5)), (0, .ref (adr B)), (1, .int a), (2, .int b)] dX4_needed_132 rfl rfl rfl ?_
            refine x_sub [1, 0, 2, 3, 4] rfl ?_
            exact J19 (nI i4_5) (by rw [if_pos c127])
        · refine x_iload O 0 dX4_needed_21 rfl ?_
          refine x_cS O 1 (c_j_bits (nI i4_5)) (lw_S q1376 q572 q142 q573) hd_J13_bitCount rfl (by rw [RF]; rfl) (by rw [RL]; rfl) ⟨Nat.zero_le _, Nat.zero_le _⟩ rfl rfl dX4_needed_23 ?_
          refine x_top (v' := j_bits (nI i4_5)) rfl ?_
          refine x_iload_n O 1 dX4_needed_26 rfl rfl ?_
          refine x_cS O 1 (c_j_bits v3_5) (lw_S q1376 q572 q142 q573) hd_J13_bitCount rfl (by rw [RF]; rfl) (by rw [RL]; rfl) ⟨Nat.zero_le _, Nat.zero_le _⟩ rfl rfl dX4_needed_27 ?_
          refine x_top (v' := j_bits v3_5) rfl ?_
          refine x_icmplt O 36 dX4_needed_30 (by decide) (fun c30 => ?_) (fun c30 => ?_)
          · refine x_iconst O (nI 1) dX4_needed_36 (by decide) ?_
            refine x_top (v' := b2i true) (by decide) ?_
            refine x_istore O [(5, .int (b2i true)), (4, .int (nI i4_5)), (3, .int v3_5), (0, .ref (adr B)), (1, .int a), (2, .int b)] dX4_needed_37 rfl rfl ?_
            refine x_iconst O (nI 0) dX4_needed_39 (by decide) ?_
            refine x_istore O [(6, .int (nI 0)), (5, .int (b2i true)), (4, .int (nI i4_5)), (3, .int v3_5), (0, .ref (adr B)), (1, .int a), (2, .int b)] dX4_needed_40 rfl rfl ?_
            have LOOP42 : ∀ (cc_ : Nat) (i6_42 : Nat) (v5_42 : Bool), cc_ = tn (w 3) - i6_42 → i6_42 < 2147483648 → (∀ (y0 : Bool), y0 = frb (fun i s => h_needed_b42 w a b i4_5 i s) cc_ i6_42 v5_42 → X G F R Q 8 125 [(5, .int (b2i y0)), (4, .int (nI i4_5)), (3, .int v3_5), (0, .ref (adr B)), (1, .int a), (2, .int b)] [] Ω 0 0) → X G F R Q 8 42 [(6, .int (nI i6_42)), (5, .int (b2i v5_42)), (4, .int (nI i4_5)), (3, .int v3_5), (0, .ref (adr B)), (1, .int a), (2, .int b)] [] Ω 0 0 := by
              intro cc_
              induction cc_ using Nat.strongRecOn with
              | ind cc_ IH_ =>
                intro i6_42 v5_42 hc_ hb_  K_
                refine x_iload O 0 dX4_needed_42 rfl ?_
                refine x_aload_n O 4 dX4_needed_44 rfl rfl ?_
                refine x_hget O H k_X4_100_4 rfl dX4_needed_45 ?_
                refine x_top (v' := nI (tn (w 3))) (hI 3 (by decide)).1 ?_
                refine x_icmpgeN O 125 (by omega) (by omega) dX4_needed_48 (by decide) (fun c48 => ?_) (fun c48 => ?_)
                · refine x_sub [1, 2, 3, 4, 5, 6] (L' := [(5, .int (b2i v5_42)), (4, .int (nI i4_5)), (3, .int v3_5), (0, .ref (adr B)), (1, .int a), (2, .int b)]) rfl ?_
                  obtain rfl : cc_ = 0 := by omega
                  exact K_ _ rfl
                · refine x_iload O 1 dX4_needed_51 rfl ?_
                  refine x_ifeqB O 125 dX4_needed_53 (by decide) (fun c53 => ?_) (fun c53 => ?_)
                  · refine x_sub [1, 2, 3, 4, 5, 6] (L' := [(5, .int (b2i v5_42)), (4, .int (nI i4_5)), (3, .int v3_5), (0, .ref (adr B)), (1, .int a), (2, .int b)]) rfl ?_
                    obtain ⟨c2_, rfl⟩ : ∃ z, cc_ = z + 1 := ⟨cc_ - 1, by omega⟩
                    have hs_ : (fun i s => h_needed_b42 w a b i4_5 i s) i6_42 v5_42 = .inr v5_42 := by show h_needed_b42 w a b i4_5 i6_42 v5_42 = _; unfold h_needed_b42; rw [if_neg c53]
                    exact K_ _ (frb_stop hs_).symm
                  · refine x_aload_n O 4 dX4_needed_56 rfl rfl ?_
                    refine x_iload O 0 dX4_needed_57 rfl ?_
                    refine x_cV O 1 (c_h_isCase H hkind i6_42 (by omega)) H.obj rfl (lw_V q1377 q1378 q1379 q109 q1380) rfl hd_X4_isCase rfl (by rw [RF]; rfl) (by rw [RL]; rfl) ⟨Nat.zero_le _, Nat.zero_le _⟩ rfl rfl dX4_needed_59 ?_
                    refine x_top (v' := b2i (h_isCase w i6_42)) rfl ?_
                    have J21 : ∀ (y13 : Bool), y13 = (if h_isCase w i6_42 = true then (if z_isInArea (w (350 + 6 * i6_42)) a b = true then (if (h_mayBe w i6_42) = 0 then true else (if ((h_mayBe w i6_42) &&& (nI i4_5)) = 0 then false else true)) else v5_42) else v5_42) → X G F R Q 8 119 [(6, .int (nI i6_42)), (5, .int (b2i y13)), (4, .int (nI i4_5)), (3, .int v3_5), (0, .ref (adr B)), (1, .int a), (2, .int b)] [] Ω 0 0 := by
                      intro y13 e22
                      subst e22
                      refine x_iincN O 0 [(6, .int (nI (i6_42 + 1))), (5, .int (b2i ((if h_isCase w i6_42 = true then (if z_isInArea (w (350 + 6 * i6_42)) a b = true then (if (h_mayBe w i6_42) = 0 then true else (if ((h_mayBe w i6_42) &&& (nI i4_5)) = 0 then false else true)) else v5_42) else v5_42)))), (4, .int (nI i4_5)), (3, .int v3_5), (0, .ref (adr B)), (1, .int a), (2, .int b)] dX4_needed_119 rfl rfl rfl ?_
                      refine x_goto O 42 dX4_needed_122 (by decide) ?_
                      obtain ⟨c2_, rfl⟩ : ∃ z, cc_ = z + 1 := ⟨cc_ - 1, by omega⟩
                      have hs_ : (fun i s => h_needed_b42 w a b i4_5 i s) i6_42 v5_42 = .inl (if h_isCase w i6_42 = true then (if z_isInArea (w (350 + 6 * i6_42)) a b = true then (if (h_mayBe w i6_42) = 0 then true else (if ((h_mayBe w i6_42) &&& (nI i4_5)) = 0 then false else true)) else v5_42) else v5_42) := by show h_needed_b42 w a b i4_5 i6_42 v5_42 = _; unfold h_needed_b42; rw [if_pos c53]
                      exact IH_ c2_ (by omega) _ _ (by omega) (by omega) (fun y0 hy_ => K_ y0 (hy_.trans (frb_step hs_).symm))
                    refine x_ifeqB O 119 dX4_needed_62 (by decide) (fun c62 => ?_) (fun c62 => ?_)
                    · exact J21 v5_42 (by rw [if_neg c62])
                    · refine x_aload_n O 4 dX4_needed_65 rfl rfl ?_
                      refine x_hget O H k_X4_35_4 rfl dX4_needed_66 ?_
                      refine x_iload O 0 dX4_needed_69 rfl ?_
                      refine x_hfind O H (by omega) dX4_needed_71 (fun q8 hq9 => ?_)
                      refine x_fcell O (f := i6_42) (w := w) q545 (H.fr hq9) (by rw [RF]; rfl) (by rw [RL]; rfl) ⟨Nat.zero_le _, Nat.zero_le _⟩ rfl dX4_needed_72 ?_
                      refine x_iload_n O 5 dX4_needed_75 rfl rfl ?_
                      refine x_iload_n O 6 dX4_needed_76 rfl rfl ?_
                      refine x_cS O 3 (c_z_isInArea (w (350 + 6 * i6_42)) a b) (lw_S q1381 q757 q109 q758) hd_X4_isIn rfl (by rw [RF]; rfl) (by rw [RL]; rfl) ⟨Nat.zero_le _, Nat.zero_le _⟩ rfl rfl dX4_needed_77 ?_
                      refine x_top (v' := b2i (z_isInArea (w (350 + 6 * i6_42)) a b)) rfl ?_
                      refine x_ifneB O 86 dX4_needed_80 (by decide) (fun c80 => ?_) (fun c80 => ?_)
                      · refine x_sub [0, 2, 3, 4, 5, 6] (L' := [(6, .int (nI i6_42)), (4, .int (nI i4_5)), (3, .int v3_5), (0, .ref (adr B)), (1, .int a), (2, .int b)]) rfl ?_
                        refine x_aload_n O 3 dX4_needed_86 rfl rfl ?_
                        refine x_aload_n O 3 dX4_needed_87 rfl rfl ?_
                        refine x_hget O H k_X4_35_4 rfl dX4_needed_88 ?_
                        refine x_iload O 0 dX4_needed_91 rfl ?_
                        refine x_hfind O H (by omega) dX4_needed_93 (fun q10 hq11 => ?_)
                        refine x_cV O 1 (c_h_mayBe H hI hkind i6_42 (by omega) _ hq11) H.obj rfl (lw_V q1382 q1337 q1338 q109 q1339) rfl hd_X4_mayBe rfl (by rw [RF]; rfl) (by rw [RL]; rfl) ⟨Nat.zero_le _, Nat.zero_le _⟩ rfl rfl dX4_needed_94 ?_
                        refine x_top (v' := h_mayBe w i6_42) rfl ?_
                        refine x_istore O [(7, .int (h_mayBe w i6_42)), (6, .int (nI i6_42)), (4, .int (nI i4_5)), (3, .int v3_5), (0, .ref (adr B)), (1, .int a), (2, .int b)] dX4_needed_97 rfl rfl ?_
                        refine x_iload O 0 dX4_needed_99 rfl ?_
                        have J23 : ∀ (y12 : Bool), y12 = (if (h_mayBe w i6_42) = 0 then true else (if ((h_mayBe w i6_42) &&& (nI i4_5)) = 0 then false else true)) → X G F R Q 8 117 [(6, .int (nI i6_42)), (4, .int (nI i4_5)), (3, .int v3_5), (0, .ref (adr B)), (1, .int a), (2, .int b)] [.int (b2i y12)] Ω 0 0 := by
                          intro y12 e24
                          subst e24
                          refine x_istore O [(5, .int (b2i ((if (h_mayBe w i6_42) = 0 then true else (if ((h_mayBe w i6_42) &&& (nI i4_5)) = 0 then false else true))))), (6, .int (nI i6_42)), (4, .int (nI i4_5)), (3, .int v3_5), (0, .ref (adr B)), (1, .int a), (2, .int b)] dX4_needed_117 rfl rfl ?_
                          refine x_sub [1, 0, 2, 3, 4, 5, 6] rfl ?_
                          exact J21 ((if (h_mayBe w i6_42) = 0 then true else (if ((h_mayBe w i6_42) &&& (nI i4_5)) = 0 then false else true))) (by first | (rw [if_pos c62, if_pos c80]; done) | simp only [if_pos c62, if_pos c80])
                        refine x_ifeq O 112 dX4_needed_101 (by decide) (fun c101 => ?_) (fun c101 => ?_)
                        · refine x_sub [1, 2, 3, 4, 5, 6] (L' := [(6, .int (nI i6_42)), (4, .int (nI i4_5)), (3, .int v3_5), (0, .ref (adr B)), (1, .int a), (2, .int b)]) rfl ?_
                          refine x_iconst O (nI 1) dX4_needed_112 (by decide) ?_
                          refine x_goto O 117 dX4_needed_113 (by decide) ?_
                          refine x_top (v' := b2i true) (by decide) ?_
                          exact J23 true (by rw [if_pos c101])
                        · refine x_iload O 0 dX4_needed_104 rfl ?_
                          refine x_iload O 2 dX4_needed_106 rfl ?_
                          refine x_iand O dX4_needed_108 ?_
                          refine x_ifeq O 116 dX4_needed_109 (by decide) (fun c109 => ?_) (fun c109 => ?_)
                          · refine x_sub [1, 2, 3, 4, 5, 6] (L' := [(6, .int (nI i6_42)), (4, .int (nI i4_5)), (3, .int v3_5), (0, .ref (adr B)), (1, .int a), (2, .int b)]) rfl ?_
                            refine x_iconst O (nI 0) dX4_needed_116 (by decide) ?_
                            refine x_top (v' := b2i false) (by decide) ?_
                            exact J23 false (by first | (rw [if_neg c101, if_pos c109]; done) | simp only [if_neg c101, if_pos c109])
                          · refine x_sub [1, 2, 3, 4, 5, 6] (L' := [(6, .int (nI i6_42)), (4, .int (nI i4_5)), (3, .int v3_5), (0, .ref (adr B)), (1, .int a), (2, .int b)]) rfl ?_
                            refine x_iconst O (nI 1) dX4_needed_112 (by decide) ?_
                            refine x_goto O 117 dX4_needed_113 (by decide) ?_
                            refine x_top (v' := b2i true) (by decide) ?_
                            exact J23 true (by first | (rw [if_neg c101, if_neg c109]; done) | simp only [if_neg c101, if_neg c109])
                      · refine x_goto O 119 dX4_needed_83 (by decide) ?_
                        exact J21 v5_42 (by first | (rw [if_pos c62, if_neg c80]; done) | simp only [if_pos c62, if_neg c80])
            refine LOOP42 (tn (w 3)) 0 true rfl (by omega) (fun y0 hy_42 => ?_)
            subst hy_42
            refine x_iload O 0 dX4_needed_125 rfl ?_
            have J25 : ∀ (y14 : Int32), y14 = (if (frb (fun i s => h_needed_b42 w a b i4_5 i s) (tn (w 3)) 0 true) = true then nI i4_5 else v3_5) → X G F R Q 8 133 [(4, .int (nI i4_5)), (3, .int y14), (0, .ref (adr B)), (1, .int a), (2, .int b)] [] Ω 0 0 := by
              intro y14 e26
              subst e26
              refine x_iincN O 0 [(4, .int (nI (i4_5 + 1))), (3, .int ((if (frb (fun i s => h_needed_b42 w a b i4_5 i s) (tn (w 3)) 0 true) = true then nI i4_5 else v3_5))), (0, .ref (adr B)), (1, .int a), (2, .int b)] dX4_needed_133 rfl rfl rfl ?_
              refine x_goto O 5 dX4_needed_136 (by decide) ?_
              obtain ⟨c2_, rfl⟩ : ∃ z, cc_ = z + 1 := ⟨cc_ - 1, by omega⟩
              have hs_ : (fun i s => h_needed_b5 w a b i s) i4_5 v3_5 = (if (frb (fun i s => h_needed_b42 w a b i4_5 i s) (tn (w 3)) 0 true) = true then nI i4_5 else v3_5) := by show h_needed_b5 w a b i4_5 v3_5 = _; unfold h_needed_b5; rw [if_neg c18, if_pos c30]
              exact IH_ c2_ (by omega) _ _ (by omega) (by omega) (fun y0 hy_ => K_ y0 (hy_.trans (fr_step hs_).symm))
            refine x_ifeqB O 133 dX4_needed_127 (by decide) (fun c127 => ?_) (fun c127 => ?_)
            · refine x_sub [1, 2, 3, 4, 5] (L' := [(4, .int (nI i4_5)), (3, .int v3_5), (0, .ref (adr B)), (1, .int a), (2, .int b)]) rfl ?_
              exact J25 v3_5 (by rw [if_neg c127])
            · refine x_sub [1, 3, 4, 5] (L' := [(4, .int (nI i4_5)), (0, .ref (adr B)), (1, .int a), (2, .int b)]) rfl ?_
              refine x_iload O 0 dX4_needed_130 rfl ?_
              refine x_istore_n O [(3, .int (nI i4_5)), (4, .int (nI i4_5)), (0, .ref (adr B)), (1, .int a), (2, .int b)] dX4_needed_132 rfl rfl rfl ?_
              refine x_sub [1, 0, 2, 3, 4] rfl ?_
              exact J25 (nI i4_5) (by rw [if_pos c127])
          · refine x_goto O 133 dX4_needed_33 (by decide) ?_
            refine x_iincN O 0 [(4, .int (nI (i4_5 + 1))), (3, .int v3_5), (0, .ref (adr B)), (1, .int a), (2, .int b)] dX4_needed_133 rfl rfl rfl ?_
            refine x_goto O 5 dX4_needed_136 (by decide) ?_
            obtain ⟨c2_, rfl⟩ : ∃ z, cc_ = z + 1 := ⟨cc_ - 1, by omega⟩
            have hs_ : (fun i s => h_needed_b5 w a b i s) i4_5 v3_5 = v3_5 := by show h_needed_b5 w a b i4_5 v3_5 = _; unfold h_needed_b5; rw [if_neg c18, if_neg c30]
            exact IH_ c2_ (by omega) _ _ (by omega) (by omega) (fun y0 hy_ => K_ y0 (hy_.trans (fr_step hs_).symm))
  refine LOOP5 (2 ^ tn (w 0)) 0 ((-1)) rfl (by omega) (fun y0 hy_5 => ?_)
  subst hy_5
  refine x_iload_n O 0 dX4_needed_139 rfl rfl ?_
  exact x_iretQ O hQ rfl dX4_needed_140 (fun h m => ⟨by rw [hres], m⟩)

/-- a person's number -/
theorem c_h_numberOf {G : UG} {Ω : Hp → Prop} {κ : Hp} {adr : Nat → Nat} {pl ps : Nat → Nat → Prop} {B : Nat} {w : Nat → Int32} (H : HR G κ adr pl ps B w Ω) (p : Nat) (hp : p < tn (w 1)) : Con G yX4_numberOf cX4_numberOf 3 (some .int) 0 0 0 0 [.ref (adr B), .ref (adr (B + (200 + p)))] Ω (fun vr_ h' => vr_ = some (.int (nI p)) ∧ Ω h') nX := by
  refine con_of2 (plainFor_of_name (by decide)) rfl ?_
  intro F R Q RF RL RC RS hQ O hnh hnm
  have h8 := H.1.2.1
  refine x_eq (L' := [(0, .ref (adr B)), (1, .ref (adr (B + (200 + p))))]) ?_ rfl rfl rfl
  refine x_iconst O (nI 0) dX4_numberOf_0 (by decide) ?_
  refine x_istore_n O [(2, .int (nI 0)), (0, .ref (adr B)), (1, .ref (adr (B + (200 + p))))] dX4_numberOf_1 rfl rfl rfl ?_
  have LP : ∀ c i : Nat, i + c = p → X G F R Q 3 2 [(2, .int (nI i)), (0, .ref (adr B)), (1, .ref (adr (B + (200 + p))))] [] Ω 0 0 := by
    intro c
    induction c with
    | zero =>
      intro i hi
      refine x_aload_n O 1 dX4_numberOf_2 rfl rfl ?_
      refine x_hget O H k_X4_23_4 rfl dX4_numberOf_3 ?_
      refine x_iload_n O 0 dX4_numberOf_6 rfl rfl ?_
      refine x_hper O H (by omega) dX4_numberOf_7 ?_
      refine x_aload_n O 2 dX4_numberOf_8 rfl rfl ?_
      refine x_hpeq O H (by omega) hp 18 dX4_numberOf_9 (by decide) (fun e => ?_) (fun e => absurd (by omega) e)
      refine x_iload_n O 0 dX4_numberOf_18 rfl rfl ?_
      exact x_iretQ O hQ rfl dX4_numberOf_19 (fun h m => ⟨by rw [e], m⟩)
    | succ c ih =>
      intro i hi
      refine x_aload_n O 1 dX4_numberOf_2 rfl rfl ?_
      refine x_hget O H k_X4_23_4 rfl dX4_numberOf_3 ?_
      refine x_iload_n O 0 dX4_numberOf_6 rfl rfl ?_
      refine x_hper O H (by omega) dX4_numberOf_7 ?_
      refine x_aload_n O 2 dX4_numberOf_8 rfl rfl ?_
      refine x_hpeq O H (by omega) hp 18 dX4_numberOf_9 (by decide) (fun e => absurd e (by omega)) (fun _ => ?_)
      refine x_iincN O 0 [(2, .int (nI (i + 1))), (0, .ref (adr B)), (1, .ref (adr (B + (200 + p))))] dX4_numberOf_12 rfl rfl rfl ?_
      refine x_goto O 2 dX4_numberOf_15 (by decide) ?_
      exact ih (i + 1) (by omega)
  exact LP p 0 (by omega)

