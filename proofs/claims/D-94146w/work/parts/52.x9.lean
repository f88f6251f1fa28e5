/-! calls that write numbers of the house, or the tape -/
theorem HK_u {w : Nat → Int32} {i : Nat} {v : Int32} (hi : i < 349 ∨ 1069 ≤ i) (h3 : i ≠ 3) (h120 : tn (w 3) ≤ 120) (h : ∀ f : Nat, f < tn (w 3) → w (349 + 6 * f) = 0 ∨ w (349 + 6 * f) = 1 ∨ w (349 + 6 * f) = 2 ∨ w (349 + 6 * f) = 3) : ∀ f : Nat, f < tn (ups w i v 3) → ups w i v (349 + 6 * f) = 0 ∨ ups w i v (349 + 6 * f) = 1 ∨ ups w i v (349 + 6 * f) = 2 ∨ ups w i v (349 + 6 * f) = 3 := by
  intro f hf
  rw [ups_n (by omega)] at hf
  rw [ups_n (by omega)]
  exact h f hf
theorem zyr {v : Int32} : z_isYear v = z_isIn v (nI 1800) (nI 1999) := rfl

def x_ground_b21 (W : Nat → Int32) (a : Int32) (b : Int32) (h : Int32) (i4_21 : Nat) (a1_21 : (Nat → Int32)) : (Nat → Int32) :=
  (if z_isInArea (nI i4_21) a b = true then ups a1_21 (13 + i4_21) h else a1_21)
def x_ground_e (W : Nat → Int32) (a : Int32) (b : Int32) (h : Int32) : Nat :=
  (if eIf (z_isIn a (nI 0) (nI 255)) 1 = 0 then (if eIf (z_isIn b (nI 0) (nI 255)) 1 = 0 then (if eIf (z_isIn h (nI 0) (nI 9)) 2 = 0 then 0 else eIf (z_isIn h (nI 0) (nI 9)) 2) else eIf (z_isIn b (nI 0) (nI 255)) 1) else eIf (z_isIn a (nI 0) (nI 255)) 1)
def x_ground_c1 (W : Nat → Int32) (a : Int32) (b : Int32) (h : Int32) : Nat → Int32 :=
  (if eIf (z_isIn a (nI 0) (nI 255)) 1 = 0 then (if eIf (z_isIn b (nI 0) (nI 255)) 1 = 0 then (if eIf (z_isIn h (nI 0) (nI 9)) 2 = 0 then (fr (fun i s => x_ground_b21 W a b h i s) 256 0 W) else W) else W) else W)
set_option maxHeartbeats 1000000 in
set_option maxRecDepth 100000 in
theorem c_x_ground {G : UG} {κe κ : Hp} {adr : Nat → Nat} {μ : Mu} {ρ : List Nat} (hI : MI (μ 1)) (a : Int32) (b : Int32) (h : Int32)  : Con G yX1_ground cX1_ground 5 none 8 121 3 18 [.ref (adr 0), .int a, .int b, .int h] (XR G κe κ adr μ ρ) (fun vr_ h' => vr_ = none ∧ (x_ground_e (μ 1) a b h) = 0 ∧ XR G κe κ adr (mc μ 1 (x_ground_c1 (μ 1) a b h)) ρ h') (fun E_ _ h' => ¬ (x_ground_e (μ 1) a b h) = 0 ∧ E_ = exN (x_ground_e (μ 1) a b h) ∧ XR G κe κ adr (mc μ 1 (x_ground_c1 (μ 1) a b h)) ρ h') := by
  refine con_of2 (plainFor_of_name (by decide)) rfl ?_
  intro F R Q RF RL RC RS hQ O hnh hnm
  obtain ⟨rcd, hrcd⟩ : ∃ z, z = (x_ground_e (μ 1) a b h) := ⟨_, rfl⟩
  rw [← hrcd] at hQ
  unfold x_ground_e at hrcd
  obtain ⟨rs0, hrs0⟩ : ∃ z, z = (x_ground_c1 (μ 1) a b h) := ⟨_, rfl⟩
  rw [← hrs0] at hQ
  unfold x_ground_c1 at hrs0
  refine x_eq (L' := [(0, .ref (adr 0)), (1, .int a), (2, .int b), (3, .int h)]) ?_ rfl rfl rfl
  refine x_iload_n O 1 dX1_ground_0 rfl rfl ?_
  refine x_runE O hQ hnh (r_S O 1 (c_e_isCell a) (lw_S q711 q712 q103 q713) hd_X1_isCell rfl (by rw [RF]; rfl) (by rw [RL]; rfl) (by rw [RC, RS]; decide) rfl rfl dX1_ground_1) (by decide) (by decide) (fun c1 => ?_) (fun c1 => ?_)
  · have hr2 := hrcd.trans (if_neg c1)
    have hr3 := hrs0.trans (if_neg c1)
    exact fun q h m => ⟨by rw [hr2]; exact c1, by rw [hr2], by rw [hr3]; exact m.eq (mc_id (c := 1) (f := μ 1) (by rfl)).symm⟩
  · have hr4 := hrcd.trans (if_pos c1)
    have hr5 := hrs0.trans (if_pos c1)
    have hxc1 := (isC_nn c1 (by decide)).2
    refine x_iload_n O 2 dX1_ground_4 rfl rfl ?_
    refine x_runE O hQ hnh (r_S O 1 (c_e_isCell b) (lw_S q711 q712 q103 q713) hd_X1_isCell rfl (by rw [RF]; rfl) (by rw [RL]; rfl) (by rw [RC, RS]; decide) rfl rfl dX1_ground_5) (by decide) (by decide) (fun c5 => ?_) (fun c5 => ?_)
    · have hr6 := hr4.trans (if_neg c5)
      have hr7 := hr5.trans (if_neg c5)
      exact fun q h m => ⟨by rw [hr6]; exact c5, by rw [hr6], by rw [hr7]; exact m.eq (mc_id (c := 1) (f := μ 1) (by rfl)).symm⟩
    · have hr8 := hr4.trans (if_pos c5)
      have hr9 := hr5.trans (if_pos c5)
      have hxc5 := (isC_nn c5 (by decide)).2
      refine x_iload_n O 3 dX1_ground_8 rfl rfl ?_
      refine x_iconst O (nI 0) dX1_ground_9 (by decide) ?_
      refine x_bipush O (nI 9) dX1_ground_10 (by decide) ?_
      refine x_cS O 3 (c_z_isIn h (nI 0) (nI 9)) (lw_S q476 q477 q103 q478) hd_X1_isIn rfl (by rw [RF]; rfl) (by rw [RL]; rfl) (by rw [RC, RS]; decide) rfl rfl dX1_ground_12 ?_
      refine x_top (v' := b2i (z_isIn h (nI 0) (nI 9))) rfl ?_
      refine x_runE O hQ hnh (r_S O 1 (c_e_must (z_isIn h (nI 0) (nI 9))) (lw_S q738 q739 q103 q740) hd_X1_must rfl (by rw [RF]; rfl) (by rw [RL]; rfl) (by rw [RC, RS]; decide) rfl rfl dX1_ground_15) (by decide) (by decide) (fun c15 => ?_) (fun c15 => ?_)
      · have hr10 := hr8.trans (if_neg c15)
        have hr11 := hr9.trans (if_neg c15)
        exact fun q h m => ⟨by rw [hr10]; exact c15, by rw [hr10], by rw [hr11]; exact m.eq (mc_id (c := 1) (f := μ 1) (by rfl)).symm⟩
      · have hr12 := hr8.trans (if_pos c15)
        have hr13 := hr9.trans (if_pos c15)
        refine x_iconst O (nI 0) dX1_ground_18 (by decide) ?_
        refine x_istore O [(4, .int (nI 0)), (0, .ref (adr 0)), (1, .int a), (2, .int b), (3, .int h)] dX1_ground_19 rfl rfl ?_
        have LOOP21 : ∀ (cc_ : Nat) (i4_21 : Nat) (a1_21 : (Nat → Int32)), cc_ = 256 - i4_21 → i4_21 < 2147483648 → (MI a1_21) → (∀ (y0 : (Nat → Int32)), y0 = fr (fun i s => x_ground_b21 (μ 1) a b h i s) cc_ i4_21 a1_21 → X G F R Q 5 56 [(0, .ref (adr 0))] [] (XR G κe κ adr (mc μ 1 y0) ρ) 3 18) → X G F R Q 5 21 [(4, .int (nI i4_21)), (0, .ref (adr 0)), (1, .int a), (2, .int b), (3, .int h)] [] (XR G κe κ adr (mc μ 1 a1_21) ρ) 3 18 := by
          intro cc_
          induction cc_ using Nat.strongRecOn with
          | ind cc_ IH_ =>
            intro i4_21 a1_21 hc_ hb_ hm_ K_
            refine x_iload O 0 dX1_ground_21 rfl ?_
            refine x_sipush O (nI 256) dX1_ground_23 (by decide) ?_
            refine x_icmpgeN O 56 (by omega) (by omega) dX1_ground_26 (by decide) (fun c26 => ?_) (fun c26 => ?_)
            · refine x_sub [1] (L' := [(0, .ref (adr 0))]) rfl ?_
              obtain rfl : cc_ = 0 := by omega
              exact K_ _ rfl
            · refine x_iload O 0 dX1_ground_29 rfl ?_
              refine x_iload_n O 2 dX1_ground_31 rfl rfl ?_
              refine x_iload_n O 3 dX1_ground_32 rfl rfl ?_
              refine x_cS O 3 (c_z_isInArea (nI i4_21) a b) (lw_S q756 q757 q109 q758) hd_X4_isIn rfl (by rw [RF]; rfl) (by rw [RL]; rfl) (by rw [RC, RS]; decide) rfl rfl dX1_ground_33 ?_
              refine x_top (v' := b2i (z_isInArea (nI i4_21) a b)) rfl ?_
              have J14 : ∀ (y1 : Nat → Int32), y1 = (if z_isInArea (nI i4_21) a b = true then ups a1_21 (13 + i4_21) h else a1_21) → X G F R Q 5 50 [(4, .int (nI i4_21)), (0, .ref (adr 0)), (1, .int a), (2, .int b), (3, .int h)] [] (XR G κe κ adr (mc μ 1 y1) ρ) 3 18 := by
                intro y1 e15
                subst e15
                refine x_iincN O 0 [(4, .int (nI (i4_21 + 1))), (0, .ref (adr 0)), (1, .int a), (2, .int b), (3, .int h)] dX1_ground_50 rfl rfl rfl ?_
                refine x_goto O 21 dX1_ground_53 (by decide) ?_
                obtain ⟨c2_, rfl⟩ : ∃ z, cc_ = z + 1 := ⟨cc_ - 1, by omega⟩
                have hs_ : (fun i s => x_ground_b21 (μ 1) a b h i s) i4_21 a1_21 = (if z_isInArea (nI i4_21) a b = true then ups a1_21 (13 + i4_21) h else a1_21) := by show x_ground_b21 (μ 1) a b h i4_21 a1_21 = _; unfold x_ground_b21; rfl
                exact IH_ c2_ (by omega) _ _ (by omega) (by omega) (by (repeat' split) <;> first | exact hm_ | exact MI_u (by omega) hm_) (fun y0 hy_ => K_ y0 (hy_.trans (fr_step hs_).symm))
              refine x_ifeqB O 50 dX1_ground_36 (by decide) (fun c36 => ?_) (fun c36 => ?_)
              · exact J14 a1_21 (by rw [if_neg c36])
              · refine x_aload_n O 1 dX1_ground_39 rfl rfl ?_
                refine x_get O k_X1_29_1 XR.o0 (v := .ref (adr 1000)) rfl dX1_ground_40 ?_
                refine x_hget O (XR.hr (μ := (mc μ 1 a1_21)) hm_ mc_s : HR G κe adr _ _ 1000 a1_21 (XR G κe κ adr (mc μ 1 a1_21) ρ)) k_X1_107_4 rfl dX1_ground_43 ?_
                refine x_iload O 0 dX1_ground_46 rfl ?_
                refine x_iload_n O 4 dX1_ground_48 rfl rfl ?_
                refine x_hst O hm_ (by omega) dX1_ground_49 (μ' := (mc μ 1 (ups a1_21 (13 + i4_21) h))) wc_s ?_
                exact J14 (ups a1_21 (13 + i4_21) h) (by rw [if_pos c36])
        refine x_weak (Ω' := XR G κe κ adr (mc μ 1 (μ 1)) ρ) (fun _ m => m.eq (mc_id (c := 1) (f := μ 1) (by rfl)).symm) ?_
        refine LOOP21 256 0 (μ 1) rfl (by omega) hI (fun y0 hy_21 => ?_)
        subst hy_21
        refine x_widen (k' := 3) (n' := 18) (by decide) (by decide) ?_
        exact x_vretQ O hQ rfl dX1_ground_56 (fun h m => ⟨rfl, by rw [hr12], by rw [hr13]; exact m.eq rfl⟩)

def x_day_e (W : Nat → Int32) (y : Int32) : Nat :=
  (if eIf (z_isYear y) 2 = 0 then 0 else eIf (z_isYear y) 2)
def x_day_c1 (W : Nat → Int32) (y : Int32) : Nat → Int32 :=
  (if eIf (z_isYear y) 2 = 0 then ups W 8 y else W)
set_option maxHeartbeats 1000000 in
set_option maxRecDepth 100000 in
theorem c_x_day {G : UG} {κe κ : Hp} {adr : Nat → Nat} {μ : Mu} {ρ : List Nat} (hI : MI (μ 1)) (y : Int32)  : Con G yX1_day cX1_day 2 none 7 101 1 6 [.ref (adr 0), .int y] (XR G κe κ adr μ ρ) (fun vr_ h' => vr_ = none ∧ (x_day_e (μ 1) y) = 0 ∧ XR G κe κ adr (mc μ 1 (x_day_c1 (μ 1) y)) ρ h') (fun E_ _ h' => ¬ (x_day_e (μ 1) y) = 0 ∧ E_ = exN (x_day_e (μ 1) y) ∧ XR G κe κ adr (mc μ 1 (x_day_c1 (μ 1) y)) ρ h') := by
  refine con_of2 (plainFor_of_name (by decide)) rfl ?_
  intro F R Q RF RL RC RS hQ O hnh hnm
  obtain ⟨rcd, hrcd⟩ : ∃ z, z = (x_day_e (μ 1) y) := ⟨_, rfl⟩
  rw [← hrcd] at hQ
  unfold x_day_e at hrcd
  obtain ⟨rs0, hrs0⟩ : ∃ z, z = (x_day_c1 (μ 1) y) := ⟨_, rfl⟩
  rw [← hrs0] at hQ
  unfold x_day_c1 at hrs0
  refine x_eq (L' := [(0, .ref (adr 0)), (1, .int y)]) ?_ rfl rfl rfl
  refine x_iload_n O 1 dX1_day_0 rfl rfl ?_
  refine x_cS O 1 (c_z_isYear y) (lw_S q786 q787 q103 q788) hd_X1_isYear rfl (by rw [RF]; rfl) (by rw [RL]; rfl) ⟨Nat.zero_le _, Nat.zero_le _⟩ rfl rfl dX1_day_1 ?_
  refine x_top (v' := b2i (z_isYear y)) rfl ?_
  refine x_runE O hQ hnh (r_S O 1 (c_e_must (z_isYear y)) (lw_S q738 q739 q103 q740) hd_X1_must rfl (by rw [RF]; rfl) (by rw [RL]; rfl) (by rw [RC, RS]; decide) rfl rfl dX1_day_4) (by decide) (by decide) (fun c4 => ?_) (fun c4 => ?_)
  · have hr1 := hrcd.trans (if_neg c4)
    have hr2 := hrs0.trans (if_neg c4)
    exact fun q h m => ⟨by rw [hr1]; exact c4, by rw [hr1], by rw [hr2]; exact m.eq (mc_id (c := 1) (f := μ 1) (by rfl)).symm⟩
  · have hr3 := hrcd.trans (if_pos c4)
    have hr4 := hrs0.trans (if_pos c4)
    refine x_aload_n O 0 dX1_day_7 rfl rfl ?_
    refine x_get O k_X1_29_1 XR.o0 (v := .ref (adr 1000)) rfl dX1_day_8 ?_
    refine x_iload_n O 1 dX1_day_11 rfl rfl ?_
    refine x_put O p_X1_130_4 (XR.hr (μ := μ) hI rfl : HR G κe adr _ _ 1000 (μ 1) (XR G κe κ adr μ ρ)).obj rfl rfl rfl dX1_day_12 (XR G κe κ adr (mc μ 1 (ups (μ 1) 8 y)) ρ) (fun _ m => XR.eq (XR.wF8 m hI) (w_new (f := μ 1) (by rfl))) ?_
    refine x_widen (k' := 1) (n' := 6) (by decide) (by decide) ?_
    exact x_vretQ O hQ rfl dX1_day_15 (fun h m => ⟨rfl, by rw [hr3], by rw [hr4]; exact m.eq rfl⟩)

def x_seed_c1 (W : Nat → Int32) (n : Int32) : Nat → Int32 :=
  ups W 9 n
set_option maxHeartbeats 1000000 in
set_option maxRecDepth 100000 in
theorem c_x_seed {G : UG} {κe κ : Hp} {adr : Nat → Nat} {μ : Mu} {ρ : List Nat} (hI : MI (μ 1)) (n : Int32)  : Con G yX1_seed cX1_seed 2 none 0 0 0 0 [.ref (adr 0), .int n] (XR G κe κ adr μ ρ) (fun vr_ h' => vr_ = none ∧ XR G κe κ adr (mc μ 1 (x_seed_c1 (μ 1) n)) ρ h') nX := by
  refine con_of2 (plainFor_of_name (by decide)) rfl ?_
  intro F R Q RF RL RC RS hQ O hnh hnm
  obtain ⟨rs0, hrs0⟩ : ∃ z, z = (x_seed_c1 (μ 1) n) := ⟨_, rfl⟩
  rw [← hrs0] at hQ
  unfold x_seed_c1 at hrs0
  refine x_eq (L' := [(0, .ref (adr 0)), (1, .int n)]) ?_ rfl rfl rfl
  refine x_aload_n O 0 dX1_seed_0 rfl rfl ?_
  refine x_get O k_X1_29_1 XR.o0 (v := .ref (adr 1000)) rfl dX1_seed_1 ?_
  refine x_iload_n O 1 dX1_seed_4 rfl rfl ?_
  refine x_put O p_X1_191_4 (XR.hr (μ := μ) hI rfl : HR G κe adr _ _ 1000 (μ 1) (XR G κe κ adr μ ρ)).obj rfl rfl rfl dX1_seed_5 (XR G κe κ adr (mc μ 1 (ups (μ 1) 9 n)) ρ) (fun _ m => XR.eq (XR.wF9 m hI) (w_new (f := μ 1) (by rfl))) ?_
  exact x_vretQ O hQ rfl dX1_seed_8 (fun h m => ⟨rfl, by rw [hrs0]; exact m.eq rfl⟩)

def x_machine_e (W : Nat → Int32) (d : Int32) (w : Int32) : Nat :=
  (if eIf ((if z_isIn d (nI 0) (nI 9) = true then (if z_isIn w (nI 0) (nI 3) = true then true else false) else false)) 2 = 0 then 0 else eIf ((if z_isIn d (nI 0) (nI 9) = true then (if z_isIn w (nI 0) (nI 3) = true then true else false) else false)) 2)
def x_machine_c1 (W : Nat → Int32) (d : Int32) (w : Int32) : Nat → Int32 :=
  (if eIf ((if z_isIn d (nI 0) (nI 9) = true then (if z_isIn w (nI 0) (nI 3) = true then true else false) else false)) 2 = 0 then ups (ups W 10 d) 11 w else W)
set_option maxHeartbeats 1000000 in
set_option maxRecDepth 100000 in
theorem c_x_machine {G : UG} {κe κ : Hp} {adr : Nat → Nat} {μ : Mu} {ρ : List Nat} (hI : MI (μ 1)) (d : Int32) (w : Int32)  : Con G yX1_machine cX1_machine 3 none 7 101 1 6 [.ref (adr 0), .int d, .int w] (XR G κe κ adr μ ρ) (fun vr_ h' => vr_ = none ∧ (x_machine_e (μ 1) d w) = 0 ∧ XR G κe κ adr (mc μ 1 (x_machine_c1 (μ 1) d w)) ρ h') (fun E_ _ h' => ¬ (x_machine_e (μ 1) d w) = 0 ∧ E_ = exN (x_machine_e (μ 1) d w) ∧ XR G κe κ adr (mc μ 1 (x_machine_c1 (μ 1) d w)) ρ h') := by
  refine con_of2 (plainFor_of_name (by decide)) rfl ?_
  intro F R Q RF RL RC RS hQ O hnh hnm
  obtain ⟨rcd, hrcd⟩ : ∃ z, z = (x_machine_e (μ 1) d w) := ⟨_, rfl⟩
  rw [← hrcd] at hQ
  unfold x_machine_e at hrcd
  obtain ⟨rs0, hrs0⟩ : ∃ z, z = (x_machine_c1 (μ 1) d w) := ⟨_, rfl⟩
  rw [← hrs0] at hQ
  unfold x_machine_c1 at hrs0
  refine x_eq (L' := [(0, .ref (adr 0)), (1, .int d), (2, .int w)]) ?_ rfl rfl rfl
  refine x_iload_n O 1 dX1_machine_0 rfl rfl ?_
  refine x_iconst O (nI 0) dX1_machine_1 (by decide) ?_
  refine x_bipush O (nI 9) dX1_machine_2 (by decide) ?_
  refine x_cS O 3 (c_z_isIn d (nI 0) (nI 9)) (lw_S q476 q477 q103 q478) hd_X1_isIn rfl (by rw [RF]; rfl) (by rw [RL]; rfl) ⟨Nat.zero_le _, Nat.zero_le _⟩ rfl rfl dX1_machine_4 ?_
  refine x_top (v' := b2i (z_isIn d (nI 0) (nI 9))) rfl ?_
  have J2 : ∀ (y1 : Bool), y1 = (if z_isIn d (nI 0) (nI 9) = true then (if z_isIn w (nI 0) (nI 3) = true then true else false) else false) → X G F R Q 3 24 [(0, .ref (adr 0)), (1, .int d), (2, .int w)] [.int (b2i y1)] (XR G κe κ adr μ ρ) 0 0 := by
    intro y1 e3
    subst e3
    refine x_runE O hQ hnh (r_S O 1 (c_e_must ((if z_isIn d (nI 0) (nI 9) = true then (if z_isIn w (nI 0) (nI 3) = true then true else false) else false))) (lw_S q738 q739 q103 q740) hd_X1_must rfl (by rw [RF]; rfl) (by rw [RL]; rfl) (by rw [RC, RS]; decide) rfl rfl dX1_machine_24) (by decide) (by decide) (fun c24 => ?_) (fun c24 => ?_)
    · have hr4 := hrcd.trans (if_neg c24)
      have hr5 := hrs0.trans (if_neg c24)
      exact fun q h m => ⟨by rw [hr4]; exact c24, by rw [hr4], by rw [hr5]; exact m.eq (mc_id (c := 1) (f := μ 1) (by rfl)).symm⟩
    · have hr6 := hrcd.trans (if_pos c24)
      have hr7 := hrs0.trans (if_pos c24)
      refine x_aload_n O 0 dX1_machine_27 rfl rfl ?_
      refine x_get O k_X1_29_1 XR.o0 (v := .ref (adr 1000)) rfl dX1_machine_28 ?_
      refine x_iload_n O 1 dX1_machine_31 rfl rfl ?_
      refine x_put O p_X1_247_4 (XR.hr (μ := μ) hI rfl : HR G κe adr _ _ 1000 (μ 1) (XR G κe κ adr μ ρ)).obj rfl rfl rfl dX1_machine_32 (XR G κe κ adr (mc μ 1 (ups (μ 1) 10 d)) ρ) (fun _ m => XR.eq (XR.wF10 m hI) (w_new (f := μ 1) (by rfl))) ?_
      refine x_aload_n O 0 dX1_machine_35 rfl rfl ?_
      refine x_get O k_X1_29_1 XR.o0 (v := .ref (adr 1000)) rfl dX1_machine_36 ?_
      refine x_iload_n O 2 dX1_machine_39 rfl rfl ?_
      refine x_put O p_X1_250_4 (XR.hr (μ := (mc μ 1 (ups (μ 1) 10 d))) (MI_u (by omega) hI) mc_s : HR G κe adr _ _ 1000 (ups (μ 1) 10 d) (XR G κe κ adr (mc μ 1 (ups (μ 1) 10 d)) ρ)).obj rfl rfl rfl dX1_machine_40 (XR G κe κ adr (mc μ 1 (ups (ups (μ 1) 10 d) 11 w)) ρ) (fun _ m => XR.eq (XR.wF11 m (MI_u (by omega) hI)) wc_s) ?_
      refine x_widen (k' := 1) (n' := 6) (by decide) (by decide) ?_
      exact x_vretQ O hQ rfl dX1_machine_43 (fun h m => ⟨rfl, by rw [hr6], by rw [hr7]; exact m.eq rfl⟩)
  refine x_ifeqB O 23 dX1_machine_7 (by decide) (fun c7 => ?_) (fun c7 => ?_)
  · refine x_iconst O (nI 0) dX1_machine_23 (by decide) ?_
    refine x_top (v' := b2i false) (by decide) ?_
    exact J2 false (by rw [if_neg c7])
  · refine x_iload_n O 2 dX1_machine_10 rfl rfl ?_
    refine x_iconst O (nI 0) dX1_machine_11 (by decide) ?_
    refine x_iconst O (nI 3) dX1_machine_12 (by decide) ?_
    refine x_cS O 3 (c_z_isIn w (nI 0) (nI 3)) (lw_S q476 q477 q103 q478) hd_X1_isIn rfl (by rw [RF]; rfl) (by rw [RL]; rfl) ⟨Nat.zero_le _, Nat.zero_le _⟩ rfl rfl dX1_machine_13 ?_
    refine x_top (v' := b2i (z_isIn w (nI 0) (nI 3))) rfl ?_
    refine x_ifeqB O 23 dX1_machine_16 (by decide) (fun c16 => ?_) (fun c16 => ?_)
    · refine x_iconst O (nI 0) dX1_machine_23 (by decide) ?_
      refine x_top (v' := b2i false) (by decide) ?_
      exact J2 false (by first | (rw [if_pos c7, if_neg c16]; done) | simp only [if_pos c7, if_neg c16])
    · refine x_iconst O (nI 1) dX1_machine_19 (by decide) ?_
      refine x_goto O 24 dX1_machine_20 (by decide) ?_
      refine x_top (v' := b2i true) (by decide) ?_
      exact J2 true (by first | (rw [if_pos c7, if_pos c16]; done) | simp only [if_pos c7, if_pos c16])

def x_walk (W : Nat → Int32) (row : Int32) : Int32 :=
  (nI (h_seen (ups W 12 ((W 12) ||| ((nI 1) <<< (row &&& 31)))))) - (nI (h_seen W))
def x_walk_e (W : Nat → Int32) (row : Int32) : Nat :=
  (if eIf (z_isIn row (nI 0) (nI 15)) 1 = 0 then 0 else eIf (z_isIn row (nI 0) (nI 15)) 1)
def x_walk_c1 (W : Nat → Int32) (row : Int32) : Nat → Int32 :=
  (if eIf (z_isIn row (nI 0) (nI 15)) 1 = 0 then ups W 12 ((W 12) ||| ((nI 1) <<< (row &&& 31))) else W)
set_option maxHeartbeats 1000000 in
set_option maxRecDepth 100000 in
theorem c_x_walk {G : UG} {κe κ : Hp} {adr : Nat → Nat} {μ : Mu} {ρ : List Nat} (hI : MI (μ 1)) (row : Int32)  : Con G yX1_walk cX1_walk 3 (some .int) 8 121 1 6 [.ref (adr 0), .int row] (XR G κe κ adr μ ρ) (fun vr_ h' => vr_ = some (.int (x_walk (μ 1) row)) ∧ (x_walk_e (μ 1) row) = 0 ∧ XR G κe κ adr (mc μ 1 (x_walk_c1 (μ 1) row)) ρ h') (fun E_ _ h' => ¬ (x_walk_e (μ 1) row) = 0 ∧ E_ = exN (x_walk_e (μ 1) row) ∧ XR G κe κ adr (mc μ 1 (x_walk_c1 (μ 1) row)) ρ h') := by
  refine con_of2 (plainFor_of_name (by decide)) rfl ?_
  intro F R Q RF RL RC RS hQ O hnh hnm
  obtain ⟨res, hres⟩ : ∃ z, z = (x_walk (μ 1) row) := ⟨_, rfl⟩
  rw [← hres] at hQ
  unfold x_walk at hres
  obtain ⟨rcd, hrcd⟩ : ∃ z, z = (x_walk_e (μ 1) row) := ⟨_, rfl⟩
  rw [← hrcd] at hQ
  unfold x_walk_e at hrcd
  obtain ⟨rs0, hrs0⟩ : ∃ z, z = (x_walk_c1 (μ 1) row) := ⟨_, rfl⟩
  rw [← hrs0] at hQ
  unfold x_walk_c1 at hrs0
  refine x_eq (L' := [(0, .ref (adr 0)), (1, .int row)]) ?_ rfl rfl rfl
  refine x_iload_n O 1 dX1_walk_0 rfl rfl ?_
  refine x_runE O hQ hnh (r_S O 1 (c_e_isRow row) (lw_S q1362 q1363 q103 q1364) hd_X1_isRow rfl (by rw [RF]; rfl) (by rw [RL]; rfl) (by rw [RC, RS]; decide) rfl rfl dX1_walk_1) (by decide) (by decide) (fun c1 => ?_) (fun c1 => ?_)
  · have hr1 := hrcd.trans (if_neg c1)
    have hr2 := hrs0.trans (if_neg c1)
    exact fun q h m => ⟨by rw [hr1]; exact c1, by rw [hr1], by rw [hr2]; exact m.eq (mc_id (c := 1) (f := μ 1) (by rfl)).symm⟩
  · have hr3 := hrcd.trans (if_pos c1)
    have hr4 := hrs0.trans (if_pos c1)
    have hxc1 := (isC_nn c1 (by decide)).2
    refine x_aload_n O 0 dX1_walk_4 rfl rfl ?_
    refine x_get O k_X1_29_1 XR.o0 (v := .ref (adr 1000)) rfl dX1_walk_5 ?_
    refine x_cV O 0 (c_h_seen (XR.hr (μ := μ) hI rfl : HR G κe adr _ _ 1000 (μ 1) (XR G κe κ adr μ ρ)) hI) (XR.hr (μ := μ) hI rfl : HR G κe adr _ _ 1000 (μ 1) (XR G κe κ adr μ ρ)).obj rfl (lw_V q491 q492 q493 q109 q494) rfl hd_X4_seen rfl (by rw [RF]; rfl) (by rw [RL]; rfl) (by rw [RC, RS]; decide) rfl rfl dX1_walk_8 ?_
    refine x_top (v' := nI (h_seen (μ 1))) rfl ?_
    refine x_istore_n O [(2, .int (nI (h_seen (μ 1)))), (0, .ref (adr 0)), (1, .int row)] dX1_walk_11 rfl rfl rfl ?_
    refine x_aload_n O 1 dX1_walk_12 rfl rfl ?_
    refine x_get O k_X1_29_1 XR.o0 (v := .ref (adr 1000)) rfl dX1_walk_13 ?_
    refine x_dup O dX1_walk_16 rfl ?_
    refine x_hget O (XR.hr (μ := μ) hI rfl : HR G κe adr _ _ 1000 (μ 1) (XR G κe κ adr μ ρ)) k_X1_259_4 rfl dX1_walk_17 ?_
    refine x_iconst O (nI 1) dX1_walk_20 (by decide) ?_
    refine x_iload_n O 2 dX1_walk_21 rfl rfl ?_
    refine x_ishl O dX1_walk_22 ?_
    refine x_ior O dX1_walk_23 ?_
    refine x_put O p_X1_259_4 (XR.hr (μ := μ) hI rfl : HR G κe adr _ _ 1000 (μ 1) (XR G κe κ adr μ ρ)).obj rfl rfl rfl dX1_walk_24 (XR G κe κ adr (mc μ 1 (ups (μ 1) 12 ((μ 1 12) ||| ((nI 1) <<< (row &&& 31))))) ρ) (fun _ m => XR.eq (XR.wF12 m hI) (w_new (f := μ 1) (by rfl))) ?_
    refine x_aload_n O 1 dX1_walk_27 rfl rfl ?_
    refine x_get O k_X1_29_1 XR.o0 (v := .ref (adr 1000)) rfl dX1_walk_28 ?_
    refine x_cV O 0 (c_h_seen (XR.hr (μ := (mc μ 1 (ups (μ 1) 12 ((μ 1 12) ||| ((nI 1) <<< (row &&& 31)))))) (MI_u (by omega) hI) mc_s : HR G κe adr _ _ 1000 (ups (μ 1) 12 ((μ 1 12) ||| ((nI 1) <<< (row &&& 31)))) (XR G κe κ adr (mc μ 1 (ups (μ 1) 12 ((μ 1 12) ||| ((nI 1) <<< (row &&& 31))))) ρ)) (MI_u (by omega) hI)) (XR.hr (μ := (mc μ 1 (ups (μ 1) 12 ((μ 1 12) ||| ((nI 1) <<< (row &&& 31)))))) (MI_u (by omega) hI) mc_s : HR G κe adr _ _ 1000 (ups (μ 1) 12 ((μ 1 12) ||| ((nI 1) <<< (row &&& 31)))) (XR G κe κ adr (mc μ 1 (ups (μ 1) 12 ((μ 1 12) ||| ((nI 1) <<< (row &&& 31))))) ρ)).obj rfl (lw_V q491 q492 q493 q109 q494) rfl hd_X4_seen rfl (by rw [RF]; rfl) (by rw [RL]; rfl) (by rw [RC, RS]; decide) rfl rfl dX1_walk_31 ?_
    refine x_top (v' := nI (h_seen (ups (μ 1) 12 ((μ 1 12) ||| ((nI 1) <<< (row &&& 31)))))) rfl ?_
    refine x_iload_n O 0 dX1_walk_34 rfl rfl ?_
    refine x_isub O dX1_walk_35 ?_
    refine x_widen (k' := 1) (n' := 6) (by decide) (by decide) ?_
    exact x_iretQ O hQ rfl dX1_walk_36 (fun h m => ⟨by rw [hres], by rw [hr3], by rw [hr4]; exact m.eq rfl⟩)

def x_next_b15 (W : Nat → Int32)  (i4_15 : Nat) (v2_15 : Int32) (v1_15 : Int32) (a1_15 : (Nat → Int32)) : Int32 × Int32 × (Nat → Int32) :=
  ((if (((W 12) >>> ((nI i4_15) &&& 31)) &&& (nI 1)) = (nI 1) then v2_15 else (if v2_15 < (nI (h_seen (ups a1_15 12 ((W 12) ||| ((nI 1) <<< ((nI i4_15) &&& 31)))))) then nI (h_seen (ups a1_15 12 ((W 12) ||| ((nI 1) <<< ((nI i4_15) &&& 31))))) else v2_15)), (if (((W 12) >>> ((nI i4_15) &&& 31)) &&& (nI 1)) = (nI 1) then v1_15 else (if v2_15 < (nI (h_seen (ups a1_15 12 ((W 12) ||| ((nI 1) <<< ((nI i4_15) &&& 31)))))) then nI i4_15 else v1_15)), (if (((W 12) >>> ((nI i4_15) &&& 31)) &&& (nI 1)) = (nI 1) then a1_15 else ups (ups a1_15 12 ((W 12) ||| ((nI 1) <<< ((nI i4_15) &&& 31)))) 12 (W 12)))
def x_next (W : Nat → Int32)  : Int32 :=
  (fr (fun i s => x_next_b15 W i s.1 s.2.1 s.2.2) 16 0 ((-1), (-1), W)).2.1
def x_next_c1 (W : Nat → Int32)  : Nat → Int32 :=
  (fr (fun i s => x_next_b15 W i s.1 s.2.1 s.2.2) 16 0 ((-1), (-1), W)).2.2
set_option maxHeartbeats 1000000 in
set_option maxRecDepth 100000 in
theorem c_x_next {G : UG} {κe κ : Hp} {adr : Nat → Nat} {μ : Mu} {ρ : List Nat} (hI : MI (μ 1))   : Con G yX1_next cX1_next 6 (some .int) 4 86 0 0 [.ref (adr 0)] (XR G κe κ adr μ ρ) (fun vr_ h' => vr_ = some (.int (x_next (μ 1))) ∧ XR G κe κ adr (mc μ 1 (x_next_c1 (μ 1))) ρ h') nX := by
  refine con_of2 (plainFor_of_name (by decide)) rfl ?_
  intro F R Q RF RL RC RS hQ O hnh hnm
  obtain ⟨res, hres⟩ : ∃ z, z = (x_next (μ 1)) := ⟨_, rfl⟩
  rw [← hres] at hQ
  unfold x_next at hres
  obtain ⟨rs0, hrs0⟩ : ∃ z, z = (x_next_c1 (μ 1)) := ⟨_, rfl⟩
  rw [← hrs0] at hQ
  unfold x_next_c1 at hrs0
  refine x_eq (L' := [(0, .ref (adr 0))]) ?_ rfl rfl rfl
  refine x_iconst O ((-1)) dX1_next_0 (by decide) ?_
  refine x_istore_n O [(1, .int ((-1))), (0, .ref (adr 0))] dX1_next_1 rfl rfl rfl ?_
  refine x_iconst O ((-1)) dX1_next_2 (by decide) ?_
  refine x_istore_n O [(2, .int ((-1))), (1, .int ((-1))), (0, .ref (adr 0))] dX1_next_3 rfl rfl rfl ?_
  refine x_aload_n O 2 dX1_next_4 rfl rfl ?_
  refine x_get O k_X1_29_1 XR.o0 (v := .ref (adr 1000)) rfl dX1_next_5 ?_
  refine x_hget O (XR.hr (μ := μ) hI rfl : HR G κe adr _ _ 1000 (μ 1) (XR G κe κ adr μ ρ)) k_X1_259_4 rfl dX1_next_8 ?_
  refine x_istore_n O [(3, .int (μ 1 12)), (2, .int ((-1))), (1, .int ((-1))), (0, .ref (adr 0))] dX1_next_11 rfl rfl rfl ?_
  refine x_iconst O (nI 0) dX1_next_12 (by decide) ?_
  refine x_istore O [(4, .int (nI 0)), (3, .int (μ 1 12)), (2, .int ((-1))), (1, .int ((-1))), (0, .ref (adr 0))] dX1_next_13 rfl rfl ?_
  have LOOP15 : ∀ (cc_ : Nat) (i4_15 : Nat) (v2_15 : Int32) (v1_15 : Int32) (a1_15 : (Nat → Int32)), cc_ = 16 - i4_15 → i4_15 < 2147483648 → (MI a1_15) → (∀ (y0 : Int32) (y1 : Int32) (y2 : (Nat → Int32)), (y0, y1, y2) = fr (fun i s => x_next_b15 (μ 1) i s.1 s.2.1 s.2.2) cc_ i4_15 (v2_15, v1_15, a1_15) → X G F R Q 6 86 [(1, .int y1), (0, .ref (adr 0))] [] (XR G κe κ adr (mc μ 1 y2) ρ) 0 0) → X G F R Q 6 15 [(4, .int (nI i4_15)), (3, .int (μ 1 12)), (2, .int v2_15), (1, .int v1_15), (0, .ref (adr 0))] [] (XR G κe κ adr (mc μ 1 a1_15) ρ) 0 0 := by
    intro cc_
    induction cc_ using Nat.strongRecOn with
    | ind cc_ IH_ =>
      intro i4_15 v2_15 v1_15 a1_15 hc_ hb_ hm_ K_
      refine x_iload O 0 dX1_next_15 rfl ?_
      refine x_bipush O (nI 16) dX1_next_17 (by decide) ?_
      refine x_icmpgeN O 86 (by omega) (by omega) dX1_next_19 (by decide) (fun c19 => ?_) (fun c19 => ?_)
      · refine x_sub [3, 4] (L' := [(1, .int v1_15), (0, .ref (adr 0))]) rfl ?_
        obtain rfl : cc_ = 0 := by omega
        exact K_ _ _ _ rfl
      · refine x_iload_n O 1 dX1_next_22 rfl rfl ?_
        refine x_iload O 0 dX1_next_23 rfl ?_
        refine x_ishr O dX1_next_25 ?_
        refine x_iconst O (nI 1) dX1_next_26 (by decide) ?_
        refine x_iand O dX1_next_27 ?_
        refine x_iconst O (nI 1) dX1_next_28 (by decide) ?_
        have J4 : ∀ (y1 : Int32) (y2 : Int32) (y3 : Nat → Int32), y1 = (if (((μ 1 12) >>> ((nI i4_15) &&& 31)) &&& (nI 1)) = (nI 1) then v2_15 else (if v2_15 < (nI (h_seen (ups a1_15 12 ((μ 1 12) ||| ((nI 1) <<< ((nI i4_15) &&& 31)))))) then nI (h_seen (ups a1_15 12 ((μ 1 12) ||| ((nI 1) <<< ((nI i4_15) &&& 31))))) else v2_15)) → y2 = (if (((μ 1 12) >>> ((nI i4_15) &&& 31)) &&& (nI 1)) = (nI 1) then v1_15 else (if v2_15 < (nI (h_seen (ups a1_15 12 ((μ 1 12) ||| ((nI 1) <<< ((nI i4_15) &&& 31)))))) then nI i4_15 else v1_15)) → y3 = (if (((μ 1 12) >>> ((nI i4_15) &&& 31)) &&& (nI 1)) = (nI 1) then a1_15 else ups (ups a1_15 12 ((μ 1 12) ||| ((nI 1) <<< ((nI i4_15) &&& 31)))) 12 (μ 1 12)) → X G F R Q 6 80 [(2, .int y1), (1, .int y2), (4, .int (nI i4_15)), (3, .int (μ 1 12)), (0, .ref (adr 0))] [] (XR G κe κ adr (mc μ 1 y3) ρ) 0 0 := by
          intro y1 y2 y3 e5 e6 e7
          subst e5; subst e6; subst e7
          refine x_iincN O 2 [(4, .int (nI (i4_15 + 1))), (2, .int ((if (((μ 1 12) >>> ((nI i4_15) &&& 31)) &&& (nI 1)) = (nI 1) then v2_15 else (if v2_15 < (nI (h_seen (ups a1_15 12 ((μ 1 12) ||| ((nI 1) <<< ((nI i4_15) &&& 31)))))) then nI (h_seen (ups a1_15 12 ((μ 1 12) ||| ((nI 1) <<< ((nI i4_15) &&& 31))))) else v2_15)))), (1, .int ((if (((μ 1 12) >>> ((nI i4_15) &&& 31)) &&& (nI 1)) = (nI 1) then v1_15 else (if v2_15 < (nI (h_seen (ups a1_15 12 ((μ 1 12) ||| ((nI 1) <<< ((nI i4_15) &&& 31)))))) then nI i4_15 else v1_15)))), (3, .int (μ 1 12)), (0, .ref (adr 0))] dX1_next_80 rfl rfl rfl ?_
          refine x_goto O 15 dX1_next_83 (by decide) ?_
          obtain ⟨c2_, rfl⟩ : ∃ z, cc_ = z + 1 := ⟨cc_ - 1, by omega⟩
          refine x_sub [0, 3, 1, 2, 4] rfl ?_
          have hs_ : (fun i s => x_next_b15 (μ 1) i s.1 s.2.1 s.2.2) i4_15 (v2_15, v1_15, a1_15) = ((if (((μ 1 12) >>> ((nI i4_15) &&& 31)) &&& (nI 1)) = (nI 1) then v2_15 else (if v2_15 < (nI (h_seen (ups a1_15 12 ((μ 1 12) ||| ((nI 1) <<< ((nI i4_15) &&& 31)))))) then nI (h_seen (ups a1_15 12 ((μ 1 12) ||| ((nI 1) <<< ((nI i4_15) &&& 31))))) else v2_15)), (if (((μ 1 12) >>> ((nI i4_15) &&& 31)) &&& (nI 1)) = (nI 1) then v1_15 else (if v2_15 < (nI (h_seen (ups a1_15 12 ((μ 1 12) ||| ((nI 1) <<< ((nI i4_15) &&& 31)))))) then nI i4_15 else v1_15)), (if (((μ 1 12) >>> ((nI i4_15) &&& 31)) &&& (nI 1)) = (nI 1) then a1_15 else ups (ups a1_15 12 ((μ 1 12) ||| ((nI 1) <<< ((nI i4_15) &&& 31)))) 12 (μ 1 12))) := by show x_next_b15 (μ 1) i4_15 v2_15 v1_15 a1_15 = _; unfold x_next_b15; rfl
          exact IH_ c2_ (by omega) _ _ _ _ (by omega) (by omega) (by (repeat' split) <;> first | exact hm_ | exact MI_u (by omega) (MI_u (by omega) hm_)) (fun y0 y1 y2 hy_ => K_ y0 y1 y2 (hy_.trans (fr_step hs_).symm))
        refine x_icmpne O 35 dX1_next_29 (by decide) (fun c29 => ?_) (fun c29 => ?_)
        · refine x_aload_n O 4 dX1_next_35 rfl rfl ?_
          refine x_get O k_X1_29_1 XR.o0 (v := .ref (adr 1000)) rfl dX1_next_36 ?_
          refine x_iload_n O 1 dX1_next_39 rfl rfl ?_
          refine x_iconst O (nI 1) dX1_next_40 (by decide) ?_
          refine x_iload O 0 dX1_next_41 rfl ?_
          refine x_ishl O dX1_next_43 ?_
          refine x_ior O dX1_next_44 ?_
          refine x_put O p_X1_259_4 (XR.hr (μ := (mc μ 1 a1_15)) hm_ mc_s : HR G κe adr _ _ 1000 a1_15 (XR G κe κ adr (mc μ 1 a1_15) ρ)).obj rfl rfl rfl dX1_next_45 (XR G κe κ adr (mc μ 1 (ups a1_15 12 ((μ 1 12) ||| ((nI 1) <<< ((nI i4_15) &&& 31))))) ρ) (fun _ m => XR.eq (XR.wF12 m hm_) wc_s) ?_
          refine x_aload_n O 4 dX1_next_48 rfl rfl ?_
          refine x_get O k_X1_29_1 XR.o0 (v := .ref (adr 1000)) rfl dX1_next_49 ?_
          refine x_cV O 0 (c_h_seen (XR.hr (μ := (mc μ 1 (ups a1_15 12 ((μ 1 12) ||| ((nI 1) <<< ((nI i4_15) &&& 31)))))) (MI_u (by omega) hm_) mc_s : HR G κe adr _ _ 1000 (ups a1_15 12 ((μ 1 12) ||| ((nI 1) <<< ((nI i4_15) &&& 31)))) (XR G κe κ adr (mc μ 1 (ups a1_15 12 ((μ 1 12) ||| ((nI 1) <<< ((nI i4_15) &&& 31))))) ρ)) (MI_u (by omega) hm_)) (XR.hr (μ := (mc μ 1 (ups a1_15 12 ((μ 1 12) ||| ((nI 1) <<< ((nI i4_15) &&& 31)))))) (MI_u (by omega) hm_) mc_s : HR G κe adr _ _ 1000 (ups a1_15 12 ((μ 1 12) ||| ((nI 1) <<< ((nI i4_15) &&& 31)))) (XR G κe κ adr (mc μ 1 (ups a1_15 12 ((μ 1 12) ||| ((nI 1) <<< ((nI i4_15) &&& 31))))) ρ)).obj rfl (lw_V q491 q492 q493 q109 q494) rfl hd_X4_seen rfl (by rw [RF]; rfl) (by rw [RL]; rfl) ⟨Nat.zero_le _, Nat.zero_le _⟩ rfl rfl dX1_next_52 ?_
          refine x_top (v' := nI (h_seen (ups a1_15 12 ((μ 1 12) ||| ((nI 1) <<< ((nI i4_15) &&& 31)))))) rfl ?_
          refine x_istore O [(5, .int (nI (h_seen (ups a1_15 12 ((μ 1 12) ||| ((nI 1) <<< ((nI i4_15) &&& 31))))))), (4, .int (nI i4_15)), (3, .int (μ 1 12)), (2, .int v2_15), (1, .int v1_15), (0, .ref (adr 0))] dX1_next_55 rfl rfl ?_
          refine x_aload_n O 5 dX1_next_57 rfl rfl ?_
          refine x_get O k_X1_29_1 XR.o0 (v := .ref (adr 1000)) rfl dX1_next_58 ?_
          refine x_iload_n O 2 dX1_next_61 rfl rfl ?_
          refine x_put O p_X1_259_4 (XR.hr (μ := (mc μ 1 (ups a1_15 12 ((μ 1 12) ||| ((nI 1) <<< ((nI i4_15) &&& 31)))))) (MI_u (by omega) hm_) mc_s : HR G κe adr _ _ 1000 (ups a1_15 12 ((μ 1 12) ||| ((nI 1) <<< ((nI i4_15) &&& 31)))) (XR G κe κ adr (mc μ 1 (ups a1_15 12 ((μ 1 12) ||| ((nI 1) <<< ((nI i4_15) &&& 31))))) ρ)).obj rfl rfl rfl dX1_next_62 (XR G κe κ adr (mc μ 1 (ups (ups a1_15 12 ((μ 1 12) ||| ((nI 1) <<< ((nI i4_15) &&& 31)))) 12 (μ 1 12))) ρ) (fun _ m => XR.eq (XR.wF12 m (MI_u (by omega) hm_)) wc_s) ?_
          refine x_iload O 0 dX1_next_65 rfl ?_
          refine x_iload_n O 3 dX1_next_67 rfl rfl ?_
          refine x_icmpgt O 74 dX1_next_68 (by decide) (fun c68 => ?_) (fun c68 => ?_)
          · refine x_sub [0, 1, 2, 5] (L' := [(5, .int (nI (h_seen (ups a1_15 12 ((μ 1 12) ||| ((nI 1) <<< ((nI i4_15) &&& 31))))))), (4, .int (nI i4_15)), (3, .int (μ 1 12)), (0, .ref (adr 0))]) rfl ?_
            refine x_iload O 1 dX1_next_74 rfl ?_
            refine x_istore_n O [(1, .int (nI i4_15)), (5, .int (nI (h_seen (ups a1_15 12 ((μ 1 12) ||| ((nI 1) <<< ((nI i4_15) &&& 31))))))), (4, .int (nI i4_15)), (3, .int (μ 1 12)), (0, .ref (adr 0))] dX1_next_76 rfl rfl rfl ?_
            refine x_iload O 1 dX1_next_77 rfl ?_
            refine x_istore_n O [(2, .int (nI (h_seen (ups a1_15 12 ((μ 1 12) ||| ((nI 1) <<< ((nI i4_15) &&& 31))))))), (1, .int (nI i4_15)), (5, .int (nI (h_seen (ups a1_15 12 ((μ 1 12) ||| ((nI 1) <<< ((nI i4_15) &&& 31))))))), (4, .int (nI i4_15)), (3, .int (μ 1 12)), (0, .ref (adr 0))] dX1_next_79 rfl rfl rfl ?_
            refine x_sub [0, 1, 3, 4, 5] (L' := [(2, .int (nI (h_seen (ups a1_15 12 ((μ 1 12) ||| ((nI 1) <<< ((nI i4_15) &&& 31))))))), (1, .int (nI i4_15)), (4, .int (nI i4_15)), (3, .int (μ 1 12)), (0, .ref (adr 0))]) rfl ?_
            exact J4 (nI (h_seen (ups a1_15 12 ((μ 1 12) ||| ((nI 1) <<< ((nI i4_15) &&& 31)))))) (nI i4_15) (ups (ups a1_15 12 ((μ 1 12) ||| ((nI 1) <<< ((nI i4_15) &&& 31)))) 12 (μ 1 12)) (by first | (rw [if_neg c29, if_pos c68]; done) | simp only [if_neg c29, if_pos c68]) (by first | (rw [if_neg c29, if_pos c68]; done) | simp only [if_neg c29, if_pos c68]) (by rw [if_neg c29])
          · refine x_sub [1, 2, 3, 4, 5] (L' := [(4, .int (nI i4_15)), (3, .int (μ 1 12)), (2, .int v2_15), (1, .int v1_15), (0, .ref (adr 0))]) rfl ?_
            refine x_goto O 80 dX1_next_71 (by decide) ?_
            refine x_sub [2, 3, 0, 1, 4] rfl ?_
            exact J4 v2_15 v1_15 (ups (ups a1_15 12 ((μ 1 12) ||| ((nI 1) <<< ((nI i4_15) &&& 31)))) 12 (μ 1 12)) (by first | (rw [if_neg c29, if_neg c68]; done) | simp only [if_neg c29, if_neg c68]) (by first | (rw [if_neg c29, if_neg c68]; done) | simp only [if_neg c29, if_neg c68]) (by rw [if_neg c29])
        · refine x_goto O 80 dX1_next_32 (by decide) ?_
          refine x_sub [2, 3, 0, 1, 4] rfl ?_
          exact J4 v2_15 v1_15 a1_15 (by rw [if_pos c29]) (by rw [if_pos c29]) (by rw [if_pos c29])
  refine x_weak (Ω' := XR G κe κ adr (mc μ 1 (μ 1)) ρ) (fun _ m => m.eq (mc_id (c := 1) (f := μ 1) (by rfl)).symm) ?_
  refine LOOP15 16 0 ((-1)) ((-1)) (μ 1) rfl (by omega) hI (fun y0 y1 y2 hy_15 => ?_)
  obtain rfl : y0 = (fr (fun i s => x_next_b15 (μ 1) i s.1 s.2.1 s.2.2) 16 0 ((-1), (-1), μ 1)).1 := congrArg (fun z => z.1) hy_15
  obtain rfl : y1 = (fr (fun i s => x_next_b15 (μ 1) i s.1 s.2.1 s.2.2) 16 0 ((-1), (-1), μ 1)).2.1 := congrArg (fun z => z.2.1) hy_15
  obtain rfl : y2 = (fr (fun i s => x_next_b15 (μ 1) i s.1 s.2.1 s.2.2) 16 0 ((-1), (-1), μ 1)).2.2 := congrArg (fun z => z.2.2) hy_15
  refine x_iload_n O 0 dX1_next_86 rfl rfl ?_
  exact x_iretQ O hQ rfl dX1_next_87 (fun h m => ⟨by rw [hres], by rw [hrs0]; exact m.eq rfl⟩)

def x_four_f5 (C3 : Nat → Int32) (F5 : Int32) (v : Int32) : Nat :=
  tn F5 + 1 + 1 + 1 + 1
def x_four_c3 (C3 : Nat → Int32) (F5 : Int32) (v : Int32) : Nat → Int32 :=
  ups (ups (ups (ups C3 (tn F5) ((v >>> ((nI 24) &&& 31)).toInt8.toInt32)) (tn F5 + 1) ((v >>> ((nI 16) &&& 31)).toInt8.toInt32)) (tn F5 + 1 + 1) ((v >>> ((nI 8) &&& 31)).toInt8.toInt32)) (tn F5 + 1 + 1 + 1) ((v >>> ((nI 0) &&& 31)).toInt8.toInt32)
set_option maxHeartbeats 1000000 in
set_option maxRecDepth 100000 in
theorem c_x_four {G : UG} {κe κ : Hp} {adr : Nat → Nat} {μ : Mu} {ρ : List Nat} (hs : nn (μ 0 5) 396) (v : Int32)  : Con G yX1_four cX1_four 3 none 0 0 0 0 [.ref (adr 0), .int v] (XR G κe κ adr μ ρ) (fun vr_ h' => vr_ = none ∧ XR G κe κ adr (mc (mset μ 0 5 (nI (x_four_f5 (μ 3) (μ 0 5) v))) 3 (x_four_c3 (μ 3) (μ 0 5) v)) ρ h') nX := by
  refine con_of2 (plainFor_of_name (by decide)) rfl ?_
  intro F R Q RF RL RC RS hQ O hnh hnm
  obtain ⟨rs0, hrs0⟩ : ∃ z, z = (x_four_f5 (μ 3) (μ 0 5) v) := ⟨_, rfl⟩
  rw [← hrs0] at hQ
  unfold x_four_f5 at hrs0
  obtain ⟨rs1, hrs1⟩ : ∃ z, z = (x_four_c3 (μ 3) (μ 0 5) v) := ⟨_, rfl⟩
  rw [← hrs1] at hQ
  unfold x_four_c3 at hrs1
  have hsb := hs.2
  refine x_eq (L' := [(0, .ref (adr 0)), (1, .int v)]) ?_ rfl rfl rfl
  refine x_bipush O (nI 24) dX1_four_0 (by decide) ?_
  refine x_istore_n O [(2, .int (nI 24)), (0, .ref (adr 0)), (1, .int v)] dX1_four_2 rfl rfl rfl ?_
  refine x_iload_n O 0 dX1_four_3 rfl rfl ?_
  refine x_iflt O 45 dX1_four_4 (by decide) (fun c => absurd c (by decide)) (fun _ => ?_)
  refine x_aload_n O 1 dX1_four_7 rfl rfl ?_
  refine x_get O k_X1_22_1 XR.o0 (v := .ref (adr 1)) rfl dX1_four_8 ?_
  refine x_get O k_X1_89_2 XR.o1 (v := .ref (adr 3)) rfl dX1_four_11 ?_
  refine x_aload_n O 1 dX1_four_14 rfl rfl ?_
  refine x_get O k_X1_22_1 XR.o0 (v := .ref (adr 1)) rfl dX1_four_15 ?_
  refine x_get O k_X1_93_2 XR.o1 (v := .int (μ 0 5)) rfl dX1_four_18 ?_
  refine x_top (v' := nI (tn (μ 0 5))) (hs.1) ?_
  refine x_iload_n O 2 dX1_four_21 rfl rfl ?_
  refine x_iload_n O 0 dX1_four_22 rfl rfl ?_
  refine x_ishr O dX1_four_23 ?_
  refine x_i2b O dX1_four_24 ?_
  refine x_xst3 O (by omega) (pk_vb _) dX1_four_25 (μ' := (mc μ 3 (ups (μ 3) (tn (μ 0 5)) ((v >>> ((nI 24) &&& 31)).toInt8.toInt32)))) (w_new (f := μ 3) (by rfl)) ?_
  refine x_aload_n O 1 dX1_four_26 rfl rfl ?_
  refine x_get O k_X1_22_1 XR.o0 (v := .ref (adr 1)) rfl dX1_four_27 ?_
  refine x_dup O dX1_four_30 rfl ?_
  refine x_get O k_X1_93_2 XR.o1 (v := .int ((mc μ 3 (ups (μ 3) (tn (μ 0 5)) ((v >>> ((nI 24) &&& 31)).toInt8.toInt32))) 0 5)) rfl dX1_four_31 ?_
  refine x_top (v' := nI (tn (μ 0 5))) ((congrFun (mc_n (by decide)) 5).trans (hs.1)) ?_
  refine x_iconst O (nI 1) dX1_four_34 (by decide) ?_
  refine x_iaddN O dX1_four_35 ?_
  refine x_put O p_X1_93_2 XR.o1 rfl rfl rfl dX1_four_36 (XR G κe κ adr (mc (mset μ 0 5 (nI (tn (μ 0 5) + 1))) 3 (ups (μ 3) (tn (μ 0 5)) ((v >>> ((nI 24) &&& 31)).toInt8.toInt32))) ρ) (fun _ m => XR.eq (XR.p5 m) (wc_n (by decide))) ?_
  refine x_iinc O 0 (nI 16) [(2, .int (nI 16)), (0, .ref (adr 0)), (1, .int v)] dX1_four_39 rfl (by decide) rfl rfl ?_
  refine x_goto O 3 dX1_four_42 (by decide) ?_
  refine x_iload_n O 0 dX1_four_3 rfl rfl ?_
  refine x_iflt O 45 dX1_four_4 (by decide) (fun c => absurd c (by decide)) (fun _ => ?_)
  refine x_aload_n O 1 dX1_four_7 rfl rfl ?_
  refine x_get O k_X1_22_1 XR.o0 (v := .ref (adr 1)) rfl dX1_four_8 ?_
  refine x_get O k_X1_89_2 XR.o1 (v := .ref (adr 3)) rfl dX1_four_11 ?_
  refine x_aload_n O 1 dX1_four_14 rfl rfl ?_
  refine x_get O k_X1_22_1 XR.o0 (v := .ref (adr 1)) rfl dX1_four_15 ?_
  refine x_get O k_X1_93_2 XR.o1 (v := .int ((mc (mset μ 0 5 (nI (tn (μ 0 5) + 1))) 3 (ups (μ 3) (tn (μ 0 5)) ((v >>> ((nI 24) &&& 31)).toInt8.toInt32))) 0 5)) rfl dX1_four_18 ?_
  refine x_top (v' := nI (tn (μ 0 5) + 1)) ((congrFun (mc_n (by decide)) 5).trans rd_hit) ?_
  refine x_iload_n O 2 dX1_four_21 rfl rfl ?_
  refine x_iload_n O 0 dX1_four_22 rfl rfl ?_
  refine x_ishr O dX1_four_23 ?_
  refine x_i2b O dX1_four_24 ?_
  refine x_xst3 O (by omega) (pk_vb _) dX1_four_25 (μ' := (mc (mset μ 0 5 (nI (tn (μ 0 5) + 1))) 3 (ups (ups (μ 3) (tn (μ 0 5)) ((v >>> ((nI 24) &&& 31)).toInt8.toInt32)) (tn (μ 0 5) + 1) ((v >>> ((nI 16) &&& 31)).toInt8.toInt32)))) wc_s ?_
  refine x_aload_n O 1 dX1_four_26 rfl rfl ?_
  refine x_get O k_X1_22_1 XR.o0 (v := .ref (adr 1)) rfl dX1_four_27 ?_
  refine x_dup O dX1_four_30 rfl ?_
  refine x_get O k_X1_93_2 XR.o1 (v := .int ((mc (mset μ 0 5 (nI (tn (μ 0 5) + 1))) 3 (ups (ups (μ 3) (tn (μ 0 5)) ((v >>> ((nI 24) &&& 31)).toInt8.toInt32)) (tn (μ 0 5) + 1) ((v >>> ((nI 16) &&& 31)).toInt8.toInt32))) 0 5)) rfl dX1_four_31 ?_
  refine x_top (v' := nI (tn (μ 0 5) + 1)) ((congrFun (mc_n (by decide)) 5).trans rd_hit) ?_
  refine x_iconst O (nI 1) dX1_four_34 (by decide) ?_
  refine x_iaddN O dX1_four_35 ?_
  refine x_put O p_X1_93_2 XR.o1 rfl rfl rfl dX1_four_36 (XR G κe κ adr (mc (mset μ 0 5 (nI (tn (μ 0 5) + 1 + 1))) 3 (ups (ups (μ 3) (tn (μ 0 5)) ((v >>> ((nI 24) &&& 31)).toInt8.toInt32)) (tn (μ 0 5) + 1) ((v >>> ((nI 16) &&& 31)).toInt8.toInt32))) ρ) (fun _ m => XR.eq (XR.p5 m) ((wc_n (by decide)).trans (congrArg (fun m_ => mc m_ 3 _) ff_s))) ?_
  refine x_iinc O 0 (nI 8) [(2, .int (nI 8)), (0, .ref (adr 0)), (1, .int v)] dX1_four_39 rfl (by decide) rfl rfl ?_
  refine x_goto O 3 dX1_four_42 (by decide) ?_
  refine x_iload_n O 0 dX1_four_3 rfl rfl ?_
  refine x_iflt O 45 dX1_four_4 (by decide) (fun c => absurd c (by decide)) (fun _ => ?_)
  refine x_aload_n O 1 dX1_four_7 rfl rfl ?_
  refine x_get O k_X1_22_1 XR.o0 (v := .ref (adr 1)) rfl dX1_four_8 ?_
  refine x_get O k_X1_89_2 XR.o1 (v := .ref (adr 3)) rfl dX1_four_11 ?_
  refine x_aload_n O 1 dX1_four_14 rfl rfl ?_
  refine x_get O k_X1_22_1 XR.o0 (v := .ref (adr 1)) rfl dX1_four_15 ?_
  refine x_get O k_X1_93_2 XR.o1 (v := .int ((mc (mset μ 0 5 (nI (tn (μ 0 5) + 1 + 1))) 3 (ups (ups (μ 3) (tn (μ 0 5)) ((v >>> ((nI 24) &&& 31)).toInt8.toInt32)) (tn (μ 0 5) + 1) ((v >>> ((nI 16) &&& 31)).toInt8.toInt32))) 0 5)) rfl dX1_four_18 ?_
  refine x_top (v' := nI (tn (μ 0 5) + 1 + 1)) ((congrFun (mc_n (by decide)) 5).trans rd_hit) ?_
  refine x_iload_n O 2 dX1_four_21 rfl rfl ?_
  refine x_iload_n O 0 dX1_four_22 rfl rfl ?_
  refine x_ishr O dX1_four_23 ?_
  refine x_i2b O dX1_four_24 ?_
  refine x_xst3 O (by omega) (pk_vb _) dX1_four_25 (μ' := (mc (mset μ 0 5 (nI (tn (μ 0 5) + 1 + 1))) 3 (ups (ups (ups (μ 3) (tn (μ 0 5)) ((v >>> ((nI 24) &&& 31)).toInt8.toInt32)) (tn (μ 0 5) + 1) ((v >>> ((nI 16) &&& 31)).toInt8.toInt32)) (tn (μ 0 5) + 1 + 1) ((v >>> ((nI 8) &&& 31)).toInt8.toInt32)))) wc_s ?_
  refine x_aload_n O 1 dX1_four_26 rfl rfl ?_
  refine x_get O k_X1_22_1 XR.o0 (v := .ref (adr 1)) rfl dX1_four_27 ?_
  refine x_dup O dX1_four_30 rfl ?_
  refine x_get O k_X1_93_2 XR.o1 (v := .int ((mc (mset μ 0 5 (nI (tn (μ 0 5) + 1 + 1))) 3 (ups (ups (ups (μ 3) (tn (μ 0 5)) ((v >>> ((nI 24) &&& 31)).toInt8.toInt32)) (tn (μ 0 5) + 1) ((v >>> ((nI 16) &&& 31)).toInt8.toInt32)) (tn (μ 0 5) + 1 + 1) ((v >>> ((nI 8) &&& 31)).toInt8.toInt32))) 0 5)) rfl dX1_four_31 ?_
  refine x_top (v' := nI (tn (μ 0 5) + 1 + 1)) ((congrFun (mc_n (by decide)) 5).trans rd_hit) ?_
  refine x_iconst O (nI 1) dX1_four_34 (by decide) ?_
  refine x_iaddN O dX1_four_35 ?_
  refine x_put O p_X1_93_2 XR.o1 rfl rfl rfl dX1_four_36 (XR G κe κ adr (mc (mset μ 0 5 (nI (tn (μ 0 5) + 1 + 1 + 1))) 3 (ups (ups (ups (μ 3) (tn (μ 0 5)) ((v >>> ((nI 24) &&& 31)).toInt8.toInt32)) (tn (μ 0 5) + 1) ((v >>> ((nI 16) &&& 31)).toInt8.toInt32)) (tn (μ 0 5) + 1 + 1) ((v >>> ((nI 8) &&& 31)).toInt8.toInt32))) ρ) (fun _ m => XR.eq (XR.p5 m) ((wc_n (by decide)).trans (congrArg (fun m_ => mc m_ 3 _) ff_s))) ?_
  refine x_iinc O 0 (nI 0) [(2, .int (nI 0)), (0, .ref (adr 0)), (1, .int v)] dX1_four_39 rfl (by decide) rfl rfl ?_
  refine x_goto O 3 dX1_four_42 (by decide) ?_
  refine x_iload_n O 0 dX1_four_3 rfl rfl ?_
  refine x_iflt O 45 dX1_four_4 (by decide) (fun c => absurd c (by decide)) (fun _ => ?_)
  refine x_aload_n O 1 dX1_four_7 rfl rfl ?_
  refine x_get O k_X1_22_1 XR.o0 (v := .ref (adr 1)) rfl dX1_four_8 ?_
  refine x_get O k_X1_89_2 XR.o1 (v := .ref (adr 3)) rfl dX1_four_11 ?_
  refine x_aload_n O 1 dX1_four_14 rfl rfl ?_
  refine x_get O k_X1_22_1 XR.o0 (v := .ref (adr 1)) rfl dX1_four_15 ?_
  refine x_get O k_X1_93_2 XR.o1 (v := .int ((mc (mset μ 0 5 (nI (tn (μ 0 5) + 1 + 1 + 1))) 3 (ups (ups (ups (μ 3) (tn (μ 0 5)) ((v >>> ((nI 24) &&& 31)).toInt8.toInt32)) (tn (μ 0 5) + 1) ((v >>> ((nI 16) &&& 31)).toInt8.toInt32)) (tn (μ 0 5) + 1 + 1) ((v >>> ((nI 8) &&& 31)).toInt8.toInt32))) 0 5)) rfl dX1_four_18 ?_
  refine x_top (v' := nI (tn (μ 0 5) + 1 + 1 + 1)) ((congrFun (mc_n (by decide)) 5).trans rd_hit) ?_
  refine x_iload_n O 2 dX1_four_21 rfl rfl ?_
  refine x_iload_n O 0 dX1_four_22 rfl rfl ?_
  refine x_ishr O dX1_four_23 ?_
  refine x_i2b O dX1_four_24 ?_
  refine x_xst3 O (by omega) (pk_vb _) dX1_four_25 (μ' := (mc (mset μ 0 5 (nI (tn (μ 0 5) + 1 + 1 + 1))) 3 (ups (ups (ups (ups (μ 3) (tn (μ 0 5)) ((v >>> ((nI 24) &&& 31)).toInt8.toInt32)) (tn (μ 0 5) + 1) ((v >>> ((nI 16) &&& 31)).toInt8.toInt32)) (tn (μ 0 5) + 1 + 1) ((v >>> ((nI 8) &&& 31)).toInt8.toInt32)) (tn (μ 0 5) + 1 + 1 + 1) ((v >>> ((nI 0) &&& 31)).toInt8.toInt32)))) wc_s ?_
  refine x_aload_n O 1 dX1_four_26 rfl rfl ?_
  refine x_get O k_X1_22_1 XR.o0 (v := .ref (adr 1)) rfl dX1_four_27 ?_
  refine x_dup O dX1_four_30 rfl ?_
  refine x_get O k_X1_93_2 XR.o1 (v := .int ((mc (mset μ 0 5 (nI (tn (μ 0 5) + 1 + 1 + 1))) 3 (ups (ups (ups (ups (μ 3) (tn (μ 0 5)) ((v >>> ((nI 24) &&& 31)).toInt8.toInt32)) (tn (μ 0 5) + 1) ((v >>> ((nI 16) &&& 31)).toInt8.toInt32)) (tn (μ 0 5) + 1 + 1) ((v >>> ((nI 8) &&& 31)).toInt8.toInt32)) (tn (μ 0 5) + 1 + 1 + 1) ((v >>> ((nI 0) &&& 31)).toInt8.toInt32))) 0 5)) rfl dX1_four_31 ?_
  refine x_top (v' := nI (tn (μ 0 5) + 1 + 1 + 1)) ((congrFun (mc_n (by decide)) 5).trans rd_hit) ?_
  refine x_iconst O (nI 1) dX1_four_34 (by decide) ?_
  refine x_iaddN O dX1_four_35 ?_
  refine x_put O p_X1_93_2 XR.o1 rfl rfl rfl dX1_four_36 (XR G κe κ adr (mc (mset μ 0 5 (nI (tn (μ 0 5) + 1 + 1 + 1 + 1))) 3 (ups (ups (ups (ups (μ 3) (tn (μ 0 5)) ((v >>> ((nI 24) &&& 31)).toInt8.toInt32)) (tn (μ 0 5) + 1) ((v >>> ((nI 16) &&& 31)).toInt8.toInt32)) (tn (μ 0 5) + 1 + 1) ((v >>> ((nI 8) &&& 31)).toInt8.toInt32)) (tn (μ 0 5) + 1 + 1 + 1) ((v >>> ((nI 0) &&& 31)).toInt8.toInt32))) ρ) (fun _ m => XR.eq (XR.p5 m) ((wc_n (by decide)).trans (congrArg (fun m_ => mc m_ 3 _) ff_s))) ?_
  refine x_iinc O 0 ((-8)) [(2, .int ((-8))), (0, .ref (adr 0)), (1, .int v)] dX1_four_39 rfl (by decide) rfl rfl ?_
  refine x_goto O 3 dX1_four_42 (by decide) ?_
  refine x_iload_n O 0 dX1_four_3 rfl rfl ?_
  refine x_iflt O 45 dX1_four_4 (by decide) (fun _ => ?_) (fun c => absurd c (by decide))
  refine x_sub [1] (L' := [(0, .ref (adr 0))]) rfl ?_
  exact x_vretQ O hQ rfl dX1_four_45 (fun h m => ⟨rfl, by rw [hrs0, hrs1]; exact m.eq rfl⟩)

theorem four_n (C3 : Nat → Int32) (v : Int32) {a : Nat} (ha : a ≤ 396) : x_four_f5 C3 (nI a) v = a + 4 := by
  unfold x_four_f5; rw [tn_nI (by omega)]

def x_feed (C3 : Nat → Int32) (F5 : Int32) (a : Int32) (b : Int32) (c : Int32) (d : Int32) (e : Int32) : Int32 :=
  (if tn F5 + 20 ≤ 400 then nI (x_four_f5 (x_four_c3 (x_four_c3 (x_four_c3 (x_four_c3 C3 F5 a) (nI (x_four_f5 C3 F5 a)) b) (nI (x_four_f5 (x_four_c3 C3 F5 a) (nI (x_four_f5 C3 F5 a)) b)) c) (nI (x_four_f5 (x_four_c3 (x_four_c3 C3 F5 a) (nI (x_four_f5 C3 F5 a)) b) (nI (x_four_f5 (x_four_c3 C3 F5 a) (nI (x_four_f5 C3 F5 a)) b)) c)) d) (nI (x_four_f5 (x_four_c3 (x_four_c3 (x_four_c3 C3 F5 a) (nI (x_four_f5 C3 F5 a)) b) (nI (x_four_f5 (x_four_c3 C3 F5 a) (nI (x_four_f5 C3 F5 a)) b)) c) (nI (x_four_f5 (x_four_c3 (x_four_c3 C3 F5 a) (nI (x_four_f5 C3 F5 a)) b) (nI (x_four_f5 (x_four_c3 C3 F5 a) (nI (x_four_f5 C3 F5 a)) b)) c)) d)) e) else (-1))
def x_feed_f5 (C3 : Nat → Int32) (F5 : Int32) (a : Int32) (b : Int32) (c : Int32) (d : Int32) (e : Int32) : Nat :=
  (if tn F5 + 20 ≤ 400 then x_four_f5 (x_four_c3 (x_four_c3 (x_four_c3 (x_four_c3 C3 F5 a) (nI (x_four_f5 C3 F5 a)) b) (nI (x_four_f5 (x_four_c3 C3 F5 a) (nI (x_four_f5 C3 F5 a)) b)) c) (nI (x_four_f5 (x_four_c3 (x_four_c3 C3 F5 a) (nI (x_four_f5 C3 F5 a)) b) (nI (x_four_f5 (x_four_c3 C3 F5 a) (nI (x_four_f5 C3 F5 a)) b)) c)) d) (nI (x_four_f5 (x_four_c3 (x_four_c3 (x_four_c3 C3 F5 a) (nI (x_four_f5 C3 F5 a)) b) (nI (x_four_f5 (x_four_c3 C3 F5 a) (nI (x_four_f5 C3 F5 a)) b)) c) (nI (x_four_f5 (x_four_c3 (x_four_c3 C3 F5 a) (nI (x_four_f5 C3 F5 a)) b) (nI (x_four_f5 (x_four_c3 C3 F5 a) (nI (x_four_f5 C3 F5 a)) b)) c)) d)) e else tn F5)
def x_feed_c3 (C3 : Nat → Int32) (F5 : Int32) (a : Int32) (b : Int32) (c : Int32) (d : Int32) (e : Int32) : Nat → Int32 :=
  (if tn F5 + 20 ≤ 400 then x_four_c3 (x_four_c3 (x_four_c3 (x_four_c3 (x_four_c3 C3 F5 a) (nI (x_four_f5 C3 F5 a)) b) (nI (x_four_f5 (x_four_c3 C3 F5 a) (nI (x_four_f5 C3 F5 a)) b)) c) (nI (x_four_f5 (x_four_c3 (x_four_c3 C3 F5 a) (nI (x_four_f5 C3 F5 a)) b) (nI (x_four_f5 (x_four_c3 C3 F5 a) (nI (x_four_f5 C3 F5 a)) b)) c)) d) (nI (x_four_f5 (x_four_c3 (x_four_c3 (x_four_c3 C3 F5 a) (nI (x_four_f5 C3 F5 a)) b) (nI (x_four_f5 (x_four_c3 C3 F5 a) (nI (x_four_f5 C3 F5 a)) b)) c) (nI (x_four_f5 (x_four_c3 (x_four_c3 C3 F5 a) (nI (x_four_f5 C3 F5 a)) b) (nI (x_four_f5 (x_four_c3 C3 F5 a) (nI (x_four_f5 C3 F5 a)) b)) c)) d)) e else C3)
set_option maxHeartbeats 1000000 in
set_option maxRecDepth 100000 in
theorem c_x_feed {G : UG} {κe κ : Hp} {adr : Nat → Nat} {μ : Mu} {ρ : List Nat} (hs : nn (μ 0 5) 400) (a : Int32) (b : Int32) (c : Int32) (d : Int32) (e : Int32)  : Con G yX1_feed cX1_feed 6 (some .int) 1 22 0 0 [.ref (adr 0), .int a, .int b, .int c, .int d, .int e] (XR G κe κ adr μ ρ) (fun vr_ h' => vr_ = some (.int (x_feed (μ 3) (μ 0 5) a b c d e)) ∧ XR G κe κ adr (mc (mset μ 0 5 (nI (x_feed_f5 (μ 3) (μ 0 5) a b c d e))) 3 (x_feed_c3 (μ 3) (μ 0 5) a b c d e)) ρ h') nX := by
  refine con_of2 (plainFor_of_name (by decide)) rfl ?_
  intro F R Q RF RL RC RS hQ O hnh hnm
  obtain ⟨res, hres⟩ : ∃ z, z = (x_feed (μ 3) (μ 0 5) a b c d e) := ⟨_, rfl⟩
  rw [← hres] at hQ
  unfold x_feed at hres
  obtain ⟨rs0, hrs0⟩ : ∃ z, z = (x_feed_f5 (μ 3) (μ 0 5) a b c d e) := ⟨_, rfl⟩
  rw [← hrs0] at hQ
  unfold x_feed_f5 at hrs0
  obtain ⟨rs1, hrs1⟩ : ∃ z, z = (x_feed_c3 (μ 3) (μ 0 5) a b c d e) := ⟨_, rfl⟩
  rw [← hrs1] at hQ
  unfold x_feed_c3 at hrs1
  have hsb := hs.2
  refine x_eq (L' := [(0, .ref (adr 0)), (1, .int a), (2, .int b), (3, .int c), (4, .int d), (5, .int e)]) ?_ rfl rfl rfl
  refine x_aload_n O 0 dX1_feed_0 rfl rfl ?_
  refine x_get O k_X1_22_1 XR.o0 (v := .ref (adr 1)) rfl dX1_feed_1 ?_
  refine x_get O k_X1_93_2 XR.o1 (v := .int (μ 0 5)) rfl dX1_feed_4 ?_
  refine x_top (v' := nI (tn (μ 0 5))) (hs.1) ?_
  refine x_bipush O (nI 20) dX1_feed_7 (by decide) ?_
  refine x_iaddN O dX1_feed_9 ?_
  refine x_sipush O (nI 400) dX1_feed_10 (by decide) ?_
  refine x_icmpleN O 18 (by omega) (by omega) dX1_feed_13 (by decide) (fun c13 => ?_) (fun c13 => ?_)
  · have hr1 := hres.trans (if_pos c13)
    have hr2 := hrs0.trans (if_pos c13)
    have hr3 := hrs1.trans (if_pos c13)
    have hF0 : μ 0 5 = nI (tn (μ 0 5)) := hs.1
    have hF1 : x_four_f5 (μ 3) (μ 0 5) a = tn (μ 0 5) + 4 := (congrArg (fun z => x_four_f5 (μ 3) z a) hF0).trans (four_n _ _ (by omega))
    have hF2 : x_four_f5 (x_four_c3 (μ 3) (μ 0 5) a) (nI (x_four_f5 (μ 3) (μ 0 5) a)) b = tn (μ 0 5) + 8 := by rw [hF1]; exact four_n _ _ (by omega)
    have hF3 : x_four_f5 (x_four_c3 (x_four_c3 (μ 3) (μ 0 5) a) (nI (x_four_f5 (μ 3) (μ 0 5) a)) b) (nI (x_four_f5 (x_four_c3 (μ 3) (μ 0 5) a) (nI (x_four_f5 (μ 3) (μ 0 5) a)) b)) c = tn (μ 0 5) + 12 := by rw [hF2]; exact four_n _ _ (by omega)
    have hF4 : x_four_f5 (x_four_c3 (x_four_c3 (x_four_c3 (μ 3) (μ 0 5) a) (nI (x_four_f5 (μ 3) (μ 0 5) a)) b) (nI (x_four_f5 (x_four_c3 (μ 3) (μ 0 5) a) (nI (x_four_f5 (μ 3) (μ 0 5) a)) b)) c) (nI (x_four_f5 (x_four_c3 (x_four_c3 (μ 3) (μ 0 5) a) (nI (x_four_f5 (μ 3) (μ 0 5) a)) b) (nI (x_four_f5 (x_four_c3 (μ 3) (μ 0 5) a) (nI (x_four_f5 (μ 3) (μ 0 5) a)) b)) c)) d = tn (μ 0 5) + 16 := by rw [hF3]; exact four_n _ _ (by omega)
    have hF5 : x_four_f5 (x_four_c3 (x_four_c3 (x_four_c3 (x_four_c3 (μ 3) (μ 0 5) a) (nI (x_four_f5 (μ 3) (μ 0 5) a)) b) (nI (x_four_f5 (x_four_c3 (μ 3) (μ 0 5) a) (nI (x_four_f5 (μ 3) (μ 0 5) a)) b)) c) (nI (x_four_f5 (x_four_c3 (x_four_c3 (μ 3) (μ 0 5) a) (nI (x_four_f5 (μ 3) (μ 0 5) a)) b) (nI (x_four_f5 (x_four_c3 (μ 3) (μ 0 5) a) (nI (x_four_f5 (μ 3) (μ 0 5) a)) b)) c)) d) (nI (x_four_f5 (x_four_c3 (x_four_c3 (x_four_c3 (μ 3) (μ 0 5) a) (nI (x_four_f5 (μ 3) (μ 0 5) a)) b) (nI (x_four_f5 (x_four_c3 (μ 3) (μ 0 5) a) (nI (x_four_f5 (μ 3) (μ 0 5) a)) b)) c) (nI (x_four_f5 (x_four_c3 (x_four_c3 (μ 3) (μ 0 5) a) (nI (x_four_f5 (μ 3) (μ 0 5) a)) b) (nI (x_four_f5 (x_four_c3 (μ 3) (μ 0 5) a) (nI (x_four_f5 (μ 3) (μ 0 5) a)) b)) c)) d)) e = tn (μ 0 5) + 20 := by rw [hF4]; exact four_n _ _ (by omega)
    refine x_aload_n O 0 dX1_feed_18 rfl rfl ?_
    refine x_iload_n O 1 dX1_feed_19 rfl rfl ?_
    refine x_cV O 1 (c_x_four (μ := μ) (by have := hs.2; exact ⟨hs.1, by omega⟩) a) XR.o0 rfl (lw_V q468 q470 qs1 q103 q471) rfl hd_X1_four rfl (by rw [RF]; rfl) (by rw [RL]; rfl) ⟨Nat.zero_le _, Nat.zero_le _⟩ rfl rfl dX1_feed_20 ?_
    refine x_weak (Ω' := XR G κe κ adr (mc (mset μ 0 5 (nI (x_four_f5 (μ 3) (μ 0 5) a))) 3 (x_four_c3 (μ 3) (μ 0 5) a)) ρ) (fun _ m => m.eq rfl) ?_
    refine x_aload_n O 0 dX1_feed_23 rfl rfl ?_
    refine x_iload_n O 2 dX1_feed_24 rfl rfl ?_
    refine x_cV O 1 (c_x_four (μ := (mc (mset μ 0 5 (nI (x_four_f5 (μ 3) (μ 0 5) a))) 3 (x_four_c3 (μ 3) (μ 0 5) a))) (show nn (nI _) 396 by rw [hF1]; exact nn_nI (by omega) (by decide)) b) XR.o0 rfl (lw_V q468 q470 qs1 q103 q471) rfl hd_X1_four rfl (by rw [RF]; rfl) (by rw [RL]; rfl) ⟨Nat.zero_le _, Nat.zero_le _⟩ rfl rfl dX1_feed_25 ?_
    refine x_weak (Ω' := XR G κe κ adr (mc (mset μ 0 5 (nI (x_four_f5 (x_four_c3 (μ 3) (μ 0 5) a) (nI (x_four_f5 (μ 3) (μ 0 5) a)) b))) 3 (x_four_c3 (x_four_c3 (μ 3) (μ 0 5) a) (nI (x_four_f5 (μ 3) (μ 0 5) a)) b)) ρ) (fun _ m => by rw [show (mc (mset μ 0 5 (nI (x_four_f5 (μ 3) (μ 0 5) a))) 3 (x_four_c3 (μ 3) (μ 0 5) a)) 3 = x_four_c3 (μ 3) (μ 0 5) a from mc_s, show (mc (mset μ 0 5 (nI (x_four_f5 (μ 3) (μ 0 5) a))) 3 (x_four_c3 (μ 3) (μ 0 5) a)) 0 5 = nI (x_four_f5 (μ 3) (μ 0 5) a) from ((congrFun (mc_n (by decide)) 5).trans rd_hit)] at m; exact m.eq ((congrArg (fun m_ => mc m_ 3 _) (wc_n (by decide))).trans ((congrArg (fun m_ => mc m_ 3 _) (congrArg (fun m_ => mc m_ 3 _) ff_s)).trans cc_s))) ?_
    refine x_aload_n O 0 dX1_feed_28 rfl rfl ?_
    refine x_iload_n O 3 dX1_feed_29 rfl rfl ?_
    refine x_cV O 1 (c_x_four (μ := (mc (mset μ 0 5 (nI (x_four_f5 (x_four_c3 (μ 3) (μ 0 5) a) (nI (x_four_f5 (μ 3) (μ 0 5) a)) b))) 3 (x_four_c3 (x_four_c3 (μ 3) (μ 0 5) a) (nI (x_four_f5 (μ 3) (μ 0 5) a)) b))) (show nn (nI _) 396 by rw [hF2]; exact nn_nI (by omega) (by decide)) c) XR.o0 rfl (lw_V q468 q470 qs1 q103 q471) rfl hd_X1_four rfl (by rw [RF]; rfl) (by rw [RL]; rfl) ⟨Nat.zero_le _, Nat.zero_le _⟩ rfl rfl dX1_feed_30 ?_
    refine x_weak (Ω' := XR G κe κ adr (mc (mset μ 0 5 (nI (x_four_f5 (x_four_c3 (x_four_c3 (μ 3) (μ 0 5) a) (nI (x_four_f5 (μ 3) (μ 0 5) a)) b) (nI (x_four_f5 (x_four_c3 (μ 3) (μ 0 5) a) (nI (x_four_f5 (μ 3) (μ 0 5) a)) b)) c))) 3 (x_four_c3 (x_four_c3 (x_four_c3 (μ 3) (μ 0 5) a) (nI (x_four_f5 (μ 3) (μ 0 5) a)) b) (nI (x_four_f5 (x_four_c3 (μ 3) (μ 0 5) a) (nI (x_four_f5 (μ 3) (μ 0 5) a)) b)) c)) ρ) (fun _ m => by rw [show (mc (mset μ 0 5 (nI (x_four_f5 (x_four_c3 (μ 3) (μ 0 5) a) (nI (x_four_f5 (μ 3) (μ 0 5) a)) b))) 3 (x_four_c3 (x_four_c3 (μ 3) (μ 0 5) a) (nI (x_four_f5 (μ 3) (μ 0 5) a)) b)) 3 = x_four_c3 (x_four_c3 (μ 3) (μ 0 5) a) (nI (x_four_f5 (μ 3) (μ 0 5) a)) b from mc_s, show (mc (mset μ 0 5 (nI (x_four_f5 (x_four_c3 (μ 3) (μ 0 5) a) (nI (x_four_f5 (μ 3) (μ 0 5) a)) b))) 3 (x_four_c3 (x_four_c3 (μ 3) (μ 0 5) a) (nI (x_four_f5 (μ 3) (μ 0 5) a)) b)) 0 5 = nI (x_four_f5 (x_four_c3 (μ 3) (μ 0 5) a) (nI (x_four_f5 (μ 3) (μ 0 5) a)) b) from ((congrFun (mc_n (by decide)) 5).trans rd_hit)] at m; exact m.eq ((congrArg (fun m_ => mc m_ 3 _) (wc_n (by decide))).trans ((congrArg (fun m_ => mc m_ 3 _) (congrArg (fun m_ => mc m_ 3 _) ff_s)).trans cc_s))) ?_
    refine x_aload_n O 0 dX1_feed_33 rfl rfl ?_
    refine x_iload O 4 dX1_feed_34 rfl ?_
    refine x_cV O 1 (c_x_four (μ := (mc (mset μ 0 5 (nI (x_four_f5 (x_four_c3 (x_four_c3 (μ 3) (μ 0 5) a) (nI (x_four_f5 (μ 3) (μ 0 5) a)) b) (nI (x_four_f5 (x_four_c3 (μ 3) (μ 0 5) a) (nI (x_four_f5 (μ 3) (μ 0 5) a)) b)) c))) 3 (x_four_c3 (x_four_c3 (x_four_c3 (μ 3) (μ 0 5) a) (nI (x_four_f5 (μ 3) (μ 0 5) a)) b) (nI (x_four_f5 (x_four_c3 (μ 3) (μ 0 5) a) (nI (x_four_f5 (μ 3) (μ 0 5) a)) b)) c))) (show nn (nI _) 396 by rw [hF3]; exact nn_nI (by omega) (by decide)) d) XR.o0 rfl (lw_V q468 q470 qs1 q103 q471) rfl hd_X1_four rfl (by rw [RF]; rfl) (by rw [RL]; rfl) ⟨Nat.zero_le _, Nat.zero_le _⟩ rfl rfl dX1_feed_36 ?_
    refine x_weak (Ω' := XR G κe κ adr (mc (mset μ 0 5 (nI (x_four_f5 (x_four_c3 (x_four_c3 (x_four_c3 (μ 3) (μ 0 5) a) (nI (x_four_f5 (μ 3) (μ 0 5) a)) b) (nI (x_four_f5 (x_four_c3 (μ 3) (μ 0 5) a) (nI (x_four_f5 (μ 3) (μ 0 5) a)) b)) c) (nI (x_four_f5 (x_four_c3 (x_four_c3 (μ 3) (μ 0 5) a) (nI (x_four_f5 (μ 3) (μ 0 5) a)) b) (nI (x_four_f5 (x_four_c3 (μ 3) (μ 0 5) a) (nI (x_four_f5 (μ 3) (μ 0 5) a)) b)) c)) d))) 3 (x_four_c3 (x_four_c3 (x_four_c3 (x_four_c3 (μ 3) (μ 0 5) a) (nI (x_four_f5 (μ 3) (μ 0 5) a)) b) (nI (x_four_f5 (x_four_c3 (μ 3) (μ 0 5) a) (nI (x_four_f5 (μ 3) (μ 0 5) a)) b)) c) (nI (x_four_f5 (x_four_c3 (x_four_c3 (μ 3) (μ 0 5) a) (nI (x_four_f5 (μ 3) (μ 0 5) a)) b) (nI (x_four_f5 (x_four_c3 (μ 3) (μ 0 5) a) (nI (x_four_f5 (μ 3) (μ 0 5) a)) b)) c)) d)) ρ) (fun _ m => by rw [show (mc (mset μ 0 5 (nI (x_four_f5 (x_four_c3 (x_four_c3 (μ 3) (μ 0 5) a) (nI (x_four_f5 (μ 3) (μ 0 5) a)) b) (nI (x_four_f5 (x_four_c3 (μ 3) (μ 0 5) a) (nI (x_four_f5 (μ 3) (μ 0 5) a)) b)) c))) 3 (x_four_c3 (x_four_c3 (x_four_c3 (μ 3) (μ 0 5) a) (nI (x_four_f5 (μ 3) (μ 0 5) a)) b) (nI (x_four_f5 (x_four_c3 (μ 3) (μ 0 5) a) (nI (x_four_f5 (μ 3) (μ 0 5) a)) b)) c)) 3 = x_four_c3 (x_four_c3 (x_four_c3 (μ 3) (μ 0 5) a) (nI (x_four_f5 (μ 3) (μ 0 5) a)) b) (nI (x_four_f5 (x_four_c3 (μ 3) (μ 0 5) a) (nI (x_four_f5 (μ 3) (μ 0 5) a)) b)) c from mc_s, show (mc (mset μ 0 5 (nI (x_four_f5 (x_four_c3 (x_four_c3 (μ 3) (μ 0 5) a) (nI (x_four_f5 (μ 3) (μ 0 5) a)) b) (nI (x_four_f5 (x_four_c3 (μ 3) (μ 0 5) a) (nI (x_four_f5 (μ 3) (μ 0 5) a)) b)) c))) 3 (x_four_c3 (x_four_c3 (x_four_c3 (μ 3) (μ 0 5) a) (nI (x_four_f5 (μ 3) (μ 0 5) a)) b) (nI (x_four_f5 (x_four_c3 (μ 3) (μ 0 5) a) (nI (x_four_f5 (μ 3) (μ 0 5) a)) b)) c)) 0 5 = nI (x_four_f5 (x_four_c3 (x_four_c3 (μ 3) (μ 0 5) a) (nI (x_four_f5 (μ 3) (μ 0 5) a)) b) (nI (x_four_f5 (x_four_c3 (μ 3) (μ 0 5) a) (nI (x_four_f5 (μ 3) (μ 0 5) a)) b)) c) from ((congrFun (mc_n (by decide)) 5).trans rd_hit)] at m; exact m.eq ((congrArg (fun m_ => mc m_ 3 _) (wc_n (by decide))).trans ((congrArg (fun m_ => mc m_ 3 _) (congrArg (fun m_ => mc m_ 3 _) ff_s)).trans cc_s))) ?_
    refine x_aload_n O 0 dX1_feed_39 rfl rfl ?_
    refine x_iload O 5 dX1_feed_40 rfl ?_
    refine x_cV O 1 (c_x_four (μ := (mc (mset μ 0 5 (nI (x_four_f5 (x_four_c3 (x_four_c3 (x_four_c3 (μ 3) (μ 0 5) a) (nI (x_four_f5 (μ 3) (μ 0 5) a)) b) (nI (x_four_f5 (x_four_c3 (μ 3) (μ 0 5) a) (nI (x_four_f5 (μ 3) (μ 0 5) a)) b)) c) (nI (x_four_f5 (x_four_c3 (x_four_c3 (μ 3) (μ 0 5) a) (nI (x_four_f5 (μ 3) (μ 0 5) a)) b) (nI (x_four_f5 (x_four_c3 (μ 3) (μ 0 5) a) (nI (x_four_f5 (μ 3) (μ 0 5) a)) b)) c)) d))) 3 (x_four_c3 (x_four_c3 (x_four_c3 (x_four_c3 (μ 3) (μ 0 5) a) (nI (x_four_f5 (μ 3) (μ 0 5) a)) b) (nI (x_four_f5 (x_four_c3 (μ 3) (μ 0 5) a) (nI (x_four_f5 (μ 3) (μ 0 5) a)) b)) c) (nI (x_four_f5 (x_four_c3 (x_four_c3 (μ 3) (μ 0 5) a) (nI (x_four_f5 (μ 3) (μ 0 5) a)) b) (nI (x_four_f5 (x_four_c3 (μ 3) (μ 0 5) a) (nI (x_four_f5 (μ 3) (μ 0 5) a)) b)) c)) d))) (show nn (nI _) 396 by rw [hF4]; exact nn_nI (by omega) (by decide)) e) XR.o0 rfl (lw_V q468 q470 qs1 q103 q471) rfl hd_X1_four rfl (by rw [RF]; rfl) (by rw [RL]; rfl) ⟨Nat.zero_le _, Nat.zero_le _⟩ rfl rfl dX1_feed_42 ?_
    refine x_weak (Ω' := XR G κe κ adr (mc (mset μ 0 5 (nI (x_four_f5 (x_four_c3 (x_four_c3 (x_four_c3 (x_four_c3 (μ 3) (μ 0 5) a) (nI (x_four_f5 (μ 3) (μ 0 5) a)) b) (nI (x_four_f5 (x_four_c3 (μ 3) (μ 0 5) a) (nI (x_four_f5 (μ 3) (μ 0 5) a)) b)) c) (nI (x_four_f5 (x_four_c3 (x_four_c3 (μ 3) (μ 0 5) a) (nI (x_four_f5 (μ 3) (μ 0 5) a)) b) (nI (x_four_f5 (x_four_c3 (μ 3) (μ 0 5) a) (nI (x_four_f5 (μ 3) (μ 0 5) a)) b)) c)) d) (nI (x_four_f5 (x_four_c3 (x_four_c3 (x_four_c3 (μ 3) (μ 0 5) a) (nI (x_four_f5 (μ 3) (μ 0 5) a)) b) (nI (x_four_f5 (x_four_c3 (μ 3) (μ 0 5) a) (nI (x_four_f5 (μ 3) (μ 0 5) a)) b)) c) (nI (x_four_f5 (x_four_c3 (x_four_c3 (μ 3) (μ 0 5) a) (nI (x_four_f5 (μ 3) (μ 0 5) a)) b) (nI (x_four_f5 (x_four_c3 (μ 3) (μ 0 5) a) (nI (x_four_f5 (μ 3) (μ 0 5) a)) b)) c)) d)) e))) 3 (x_four_c3 (x_four_c3 (x_four_c3 (x_four_c3 (x_four_c3 (μ 3) (μ 0 5) a) (nI (x_four_f5 (μ 3) (μ 0 5) a)) b) (nI (x_four_f5 (x_four_c3 (μ 3) (μ 0 5) a) (nI (x_four_f5 (μ 3) (μ 0 5) a)) b)) c) (nI (x_four_f5 (x_four_c3 (x_four_c3 (μ 3) (μ 0 5) a) (nI (x_four_f5 (μ 3) (μ 0 5) a)) b) (nI (x_four_f5 (x_four_c3 (μ 3) (μ 0 5) a) (nI (x_four_f5 (μ 3) (μ 0 5) a)) b)) c)) d) (nI (x_four_f5 (x_four_c3 (x_four_c3 (x_four_c3 (μ 3) (μ 0 5) a) (nI (x_four_f5 (μ 3) (μ 0 5) a)) b) (nI (x_four_f5 (x_four_c3 (μ 3) (μ 0 5) a) (nI (x_four_f5 (μ 3) (μ 0 5) a)) b)) c) (nI (x_four_f5 (x_four_c3 (x_four_c3 (μ 3) (μ 0 5) a) (nI (x_four_f5 (μ 3) (μ 0 5) a)) b) (nI (x_four_f5 (x_four_c3 (μ 3) (μ 0 5) a) (nI (x_four_f5 (μ 3) (μ 0 5) a)) b)) c)) d)) e)) ρ) (fun _ m => by rw [show (mc (mset μ 0 5 (nI (x_four_f5 (x_four_c3 (x_four_c3 (x_four_c3 (μ 3) (μ 0 5) a) (nI (x_four_f5 (μ 3) (μ 0 5) a)) b) (nI (x_four_f5 (x_four_c3 (μ 3) (μ 0 5) a) (nI (x_four_f5 (μ 3) (μ 0 5) a)) b)) c) (nI (x_four_f5 (x_four_c3 (x_four_c3 (μ 3) (μ 0 5) a) (nI (x_four_f5 (μ 3) (μ 0 5) a)) b) (nI (x_four_f5 (x_four_c3 (μ 3) (μ 0 5) a) (nI (x_four_f5 (μ 3) (μ 0 5) a)) b)) c)) d))) 3 (x_four_c3 (x_four_c3 (x_four_c3 (x_four_c3 (μ 3) (μ 0 5) a) (nI (x_four_f5 (μ 3) (μ 0 5) a)) b) (nI (x_four_f5 (x_four_c3 (μ 3) (μ 0 5) a) (nI (x_four_f5 (μ 3) (μ 0 5) a)) b)) c) (nI (x_four_f5 (x_four_c3 (x_four_c3 (μ 3) (μ 0 5) a) (nI (x_four_f5 (μ 3) (μ 0 5) a)) b) (nI (x_four_f5 (x_four_c3 (μ 3) (μ 0 5) a) (nI (x_four_f5 (μ 3) (μ 0 5) a)) b)) c)) d)) 3 = x_four_c3 (x_four_c3 (x_four_c3 (x_four_c3 (μ 3) (μ 0 5) a) (nI (x_four_f5 (μ 3) (μ 0 5) a)) b) (nI (x_four_f5 (x_four_c3 (μ 3) (μ 0 5) a) (nI (x_four_f5 (μ 3) (μ 0 5) a)) b)) c) (nI (x_four_f5 (x_four_c3 (x_four_c3 (μ 3) (μ 0 5) a) (nI (x_four_f5 (μ 3) (μ 0 5) a)) b) (nI (x_four_f5 (x_four_c3 (μ 3) (μ 0 5) a) (nI (x_four_f5 (μ 3) (μ 0 5) a)) b)) c)) d from mc_s, show (mc (mset μ 0 5 (nI (x_four_f5 (x_four_c3 (x_four_c3 (x_four_c3 (μ 3) (μ 0 5) a) (nI (x_four_f5 (μ 3) (μ 0 5) a)) b) (nI (x_four_f5 (x_four_c3 (μ 3) (μ 0 5) a) (nI (x_four_f5 (μ 3) (μ 0 5) a)) b)) c) (nI (x_four_f5 (x_four_c3 (x_four_c3 (μ 3) (μ 0 5) a) (nI (x_four_f5 (μ 3) (μ 0 5) a)) b) (nI (x_four_f5 (x_four_c3 (μ 3) (μ 0 5) a) (nI (x_four_f5 (μ 3) (μ 0 5) a)) b)) c)) d))) 3 (x_four_c3 (x_four_c3 (x_four_c3 (x_four_c3 (μ 3) (μ 0 5) a) (nI (x_four_f5 (μ 3) (μ 0 5) a)) b) (nI (x_four_f5 (x_four_c3 (μ 3) (μ 0 5) a) (nI (x_four_f5 (μ 3) (μ 0 5) a)) b)) c) (nI (x_four_f5 (x_four_c3 (x_four_c3 (μ 3) (μ 0 5) a) (nI (x_four_f5 (μ 3) (μ 0 5) a)) b) (nI (x_four_f5 (x_four_c3 (μ 3) (μ 0 5) a) (nI (x_four_f5 (μ 3) (μ 0 5) a)) b)) c)) d)) 0 5 = nI (x_four_f5 (x_four_c3 (x_four_c3 (x_four_c3 (μ 3) (μ 0 5) a) (nI (x_four_f5 (μ 3) (μ 0 5) a)) b) (nI (x_four_f5 (x_four_c3 (μ 3) (μ 0 5) a) (nI (x_four_f5 (μ 3) (μ 0 5) a)) b)) c) (nI (x_four_f5 (x_four_c3 (x_four_c3 (μ 3) (μ 0 5) a) (nI (x_four_f5 (μ 3) (μ 0 5) a)) b) (nI (x_four_f5 (x_four_c3 (μ 3) (μ 0 5) a) (nI (x_four_f5 (μ 3) (μ 0 5) a)) b)) c)) d) from ((congrFun (mc_n (by decide)) 5).trans rd_hit)] at m; exact m.eq ((congrArg (fun m_ => mc m_ 3 _) (wc_n (by decide))).trans ((congrArg (fun m_ => mc m_ 3 _) (congrArg (fun m_ => mc m_ 3 _) ff_s)).trans cc_s))) ?_
    refine x_aload_n O 0 dX1_feed_45 rfl rfl ?_
    refine x_get O k_X1_22_1 XR.o0 (v := .ref (adr 1)) rfl dX1_feed_46 ?_
    refine x_get O k_X1_93_2 XR.o1 (v := .int ((mc (mset μ 0 5 (nI (x_four_f5 (x_four_c3 (x_four_c3 (x_four_c3 (x_four_c3 (μ 3) (μ 0 5) a) (nI (x_four_f5 (μ 3) (μ 0 5) a)) b) (nI (x_four_f5 (x_four_c3 (μ 3) (μ 0 5) a) (nI (x_four_f5 (μ 3) (μ 0 5) a)) b)) c) (nI (x_four_f5 (x_four_c3 (x_four_c3 (μ 3) (μ 0 5) a) (nI (x_four_f5 (μ 3) (μ 0 5) a)) b) (nI (x_four_f5 (x_four_c3 (μ 3) (μ 0 5) a) (nI (x_four_f5 (μ 3) (μ 0 5) a)) b)) c)) d) (nI (x_four_f5 (x_four_c3 (x_four_c3 (x_four_c3 (μ 3) (μ 0 5) a) (nI (x_four_f5 (μ 3) (μ 0 5) a)) b) (nI (x_four_f5 (x_four_c3 (μ 3) (μ 0 5) a) (nI (x_four_f5 (μ 3) (μ 0 5) a)) b)) c) (nI (x_four_f5 (x_four_c3 (x_four_c3 (μ 3) (μ 0 5) a) (nI (x_four_f5 (μ 3) (μ 0 5) a)) b) (nI (x_four_f5 (x_four_c3 (μ 3) (μ 0 5) a) (nI (x_four_f5 (μ 3) (μ 0 5) a)) b)) c)) d)) e))) 3 (x_four_c3 (x_four_c3 (x_four_c3 (x_four_c3 (x_four_c3 (μ 3) (μ 0 5) a) (nI (x_four_f5 (μ 3) (μ 0 5) a)) b) (nI (x_four_f5 (x_four_c3 (μ 3) (μ 0 5) a) (nI (x_four_f5 (μ 3) (μ 0 5) a)) b)) c) (nI (x_four_f5 (x_four_c3 (x_four_c3 (μ 3) (μ 0 5) a) (nI (x_four_f5 (μ 3) (μ 0 5) a)) b) (nI (x_four_f5 (x_four_c3 (μ 3) (μ 0 5) a) (nI (x_four_f5 (μ 3) (μ 0 5) a)) b)) c)) d) (nI (x_four_f5 (x_four_c3 (x_four_c3 (x_four_c3 (μ 3) (μ 0 5) a) (nI (x_four_f5 (μ 3) (μ 0 5) a)) b) (nI (x_four_f5 (x_four_c3 (μ 3) (μ 0 5) a) (nI (x_four_f5 (μ 3) (μ 0 5) a)) b)) c) (nI (x_four_f5 (x_four_c3 (x_four_c3 (μ 3) (μ 0 5) a) (nI (x_four_f5 (μ 3) (μ 0 5) a)) b) (nI (x_four_f5 (x_four_c3 (μ 3) (μ 0 5) a) (nI (x_four_f5 (μ 3) (μ 0 5) a)) b)) c)) d)) e)) 0 5)) rfl dX1_feed_49 ?_
    refine x_top (v' := nI (x_four_f5 (x_four_c3 (x_four_c3 (x_four_c3 (x_four_c3 (μ 3) (μ 0 5) a) (nI (x_four_f5 (μ 3) (μ 0 5) a)) b) (nI (x_four_f5 (x_four_c3 (μ 3) (μ 0 5) a) (nI (x_four_f5 (μ 3) (μ 0 5) a)) b)) c) (nI (x_four_f5 (x_four_c3 (x_four_c3 (μ 3) (μ 0 5) a) (nI (x_four_f5 (μ 3) (μ 0 5) a)) b) (nI (x_four_f5 (x_four_c3 (μ 3) (μ 0 5) a) (nI (x_four_f5 (μ 3) (μ 0 5) a)) b)) c)) d) (nI (x_four_f5 (x_four_c3 (x_four_c3 (x_four_c3 (μ 3) (μ 0 5) a) (nI (x_four_f5 (μ 3) (μ 0 5) a)) b) (nI (x_four_f5 (x_four_c3 (μ 3) (μ 0 5) a) (nI (x_four_f5 (μ 3) (μ 0 5) a)) b)) c) (nI (x_four_f5 (x_four_c3 (x_four_c3 (μ 3) (μ 0 5) a) (nI (x_four_f5 (μ 3) (μ 0 5) a)) b) (nI (x_four_f5 (x_four_c3 (μ 3) (μ 0 5) a) (nI (x_four_f5 (μ 3) (μ 0 5) a)) b)) c)) d)) e)) ((congrFun (mc_n (by decide)) 5).trans rd_hit) ?_
    exact x_iretQ O hQ rfl dX1_feed_52 (fun h m => ⟨by rw [hr1], by rw [hr2, hr3]; exact m.eq rfl⟩)
  · have hr4 := hres.trans (if_neg c13)
    have hr5 := hrs0.trans (if_neg c13)
    have hr6 := hrs1.trans (if_neg c13)
    refine x_sub [0] (L' := [(0, .ref (adr 0))]) rfl ?_
    refine x_iconst O ((-1)) dX1_feed_16 (by decide) ?_
    exact x_iretQ O hQ rfl dX1_feed_17 (fun h m => ⟨by rw [hr4], by rw [hr5, hr6]; exact m.eq ((mf_id (k := 5) (v := nI (tn (μ 0 5))) (by exact (hs.1))).symm.trans (mc_id (c := 3) (f := μ 3) (by rfl)).symm)⟩)

def x_endT (F5 : Int32) (n : Int32) : Bool :=
  (if z_isIn n (nI 0) (nI (tn F5)) = true then true else false)
def x_endT_f5 (F5 : Int32) (n : Int32) : Int32 :=
  (if z_isIn n (nI 0) (nI (tn F5)) = true then n else nI (tn F5))
set_option maxHeartbeats 1000000 in
set_option maxRecDepth 100000 in
theorem c_x_endT {G : UG} {κe κ : Hp} {adr : Nat → Nat} {μ : Mu} {ρ : List Nat} (hs : nn (μ 0 5) 400) (n : Int32)  : Con G yX1_end cX1_end 2 (some .boolean) 1 22 0 0 [.ref (adr 0), .int n] (XR G κe κ adr μ ρ) (fun vr_ h' => vr_ = some (.int (b2i (x_endT (μ 0 5) n))) ∧ XR G κe κ adr (mset μ 0 5 (x_endT_f5 (μ 0 5) n)) ρ h') nX := by
  refine con_of2 (plainFor_of_name (by decide)) rfl ?_
  intro F R Q RF RL RC RS hQ O hnh hnm
  obtain ⟨res, hres⟩ : ∃ z, z = (x_endT (μ 0 5) n) := ⟨_, rfl⟩
  rw [← hres] at hQ
  unfold x_endT at hres
  obtain ⟨rs0, hrs0⟩ : ∃ z, z = (x_endT_f5 (μ 0 5) n) := ⟨_, rfl⟩
  rw [← hrs0] at hQ
  unfold x_endT_f5 at hrs0
  refine x_eq (L' := [(0, .ref (adr 0)), (1, .int n)]) ?_ rfl rfl rfl
  refine x_iload_n O 1 dX1_end_0 rfl rfl ?_
  refine x_iconst O (nI 0) dX1_end_1 (by decide) ?_
  refine x_aload_n O 0 dX1_end_2 rfl rfl ?_
  refine x_get O k_X1_22_1 XR.o0 (v := .ref (adr 1)) rfl dX1_end_3 ?_
  refine x_get O k_X1_93_2 XR.o1 (v := .int (μ 0 5)) rfl dX1_end_6 ?_
  refine x_top (v' := nI (tn (μ 0 5))) (hs.1) ?_
  refine x_cS O 3 (c_z_isIn n (nI 0) (nI (tn (μ 0 5)))) (lw_S q476 q477 q103 q478) hd_X1_isIn rfl (by rw [RF]; rfl) (by rw [RL]; rfl) ⟨Nat.zero_le _, Nat.zero_le _⟩ rfl rfl dX1_end_9 ?_
  refine x_top (v' := b2i (z_isIn n (nI 0) (nI (tn (μ 0 5))))) rfl ?_
  refine x_ifneB O 17 dX1_end_12 (by decide) (fun c12 => ?_) (fun c12 => ?_)
  · have hr1 := hres.trans (if_pos c12)
    have hr2 := hrs0.trans (if_pos c12)
    refine x_aload_n O 0 dX1_end_17 rfl rfl ?_
    refine x_get O k_X1_22_1 XR.o0 (v := .ref (adr 1)) rfl dX1_end_18 ?_
    refine x_iload_n O 1 dX1_end_21 rfl rfl ?_
    refine x_put O p_X1_93_2 XR.o1 rfl rfl rfl dX1_end_22 (XR G κe κ adr (mset μ 0 5 n) ρ) (fun _ m => XR.eq (XR.p5 m) rfl) ?_
    refine x_iconst O (nI 1) dX1_end_25 (by decide) ?_
    refine x_top (v' := b2i true) (by decide) ?_
    exact x_zretQ O hQ rfl dX1_end_26 (fun h m => ⟨by rw [hr1], by rw [hr2]; exact m.eq rfl⟩)
  · have hr3 := hres.trans (if_neg c12)
    have hr4 := hrs0.trans (if_neg c12)
    refine x_sub [0] (L' := [(0, .ref (adr 0))]) rfl ?_
    refine x_iconst O (nI 0) dX1_end_15 (by decide) ?_
    refine x_top (v' := b2i false) (by decide) ?_
    exact x_zretQ O hQ rfl dX1_end_16 (fun h m => ⟨by rw [hr3], by rw [hr4]; exact m.eq (mf_id (k := 5) (v := nI (tn (μ 0 5))) (by exact (hs.1))).symm⟩)

def x_use (F5 : Int32)  : Int32 :=
  F5
def x_use_f5 (F5 : Int32)  : Nat :=
  0
set_option maxHeartbeats 1000000 in
set_option maxRecDepth 100000 in
theorem c_x_use {G : UG} {κe κ : Hp} {adr : Nat → Nat} {μ : Mu} {ρ : List Nat} (hs : nn (μ 0 5) 400)   : Con G yX1_use cX1_use 2 (some .int) 0 0 0 0 [.ref (adr 0)] (XR G κe κ adr μ ρ) (fun vr_ h' => vr_ = some (.int (x_use (μ 0 5))) ∧ XR G κe κ adr (mset μ 0 5 (nI (x_use_f5 (μ 0 5)))) ρ h') nX := by
  refine con_of2 (plainFor_of_name (by decide)) rfl ?_
  intro F R Q RF RL RC RS hQ O hnh hnm
  obtain ⟨res, hres⟩ : ∃ z, z = (x_use (μ 0 5)) := ⟨_, rfl⟩
  rw [← hres] at hQ
  unfold x_use at hres
  obtain ⟨rs0, hrs0⟩ : ∃ z, z = (x_use_f5 (μ 0 5)) := ⟨_, rfl⟩
  rw [← hrs0] at hQ
  unfold x_use_f5 at hrs0
  refine x_eq (L' := [(0, .ref (adr 0))]) ?_ rfl rfl rfl
  refine x_aload_n O 0 dX1_use_0 rfl rfl ?_
  refine x_get O k_X1_22_1 XR.o0 (v := .ref (adr 1)) rfl dX1_use_1 ?_
  refine x_get O k_X1_93_2 XR.o1 (v := .int (μ 0 5)) rfl dX1_use_4 ?_
  refine x_top (v' := μ 0 5) rfl ?_
  refine x_istore_n O [(1, .int (μ 0 5)), (0, .ref (adr 0))] dX1_use_7 rfl rfl rfl ?_
  refine x_aload_n O 1 dX1_use_8 rfl rfl ?_
  refine x_get O k_X1_22_1 XR.o0 (v := .ref (adr 1)) rfl dX1_use_9 ?_
  refine x_iconst O (nI 0) dX1_use_12 (by decide) ?_
  refine x_put O p_X1_93_2 XR.o1 rfl rfl rfl dX1_use_13 (XR G κe κ adr (mset μ 0 5 (nI 0)) ρ) (fun _ m => XR.eq (XR.p5 m) rfl) ?_
  refine x_iload_n O 0 dX1_use_16 rfl rfl ?_
  exact x_iretQ O hQ rfl dX1_use_17 (fun h m => ⟨by rw [hres], by rw [hrs0]; exact m.eq rfl⟩)

