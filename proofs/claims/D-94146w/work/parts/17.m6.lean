theorem decI {v : Nat} (h : 1 ≤ v) : nI v + (-1) = nI (v - 1) := by
  obtain ⟨w, rfl⟩ : ∃ w, v = w + 1 := ⟨v - 1, by omega⟩
  exact pk_m1 w
theorem and_nn2 {x : Int32} (h : nn x 255) (y : Int32) : nn (x &&& y) 255 := by
  rw [h.1]; exact nn_mono (and_nn (by have := h.2; omega) y) h.2
theorem dn_g {v : Int32} (h : nn v 255) : gO (v + (-1)) 255 := by
  obtain ⟨w, hw, rfl⟩ : ∃ w, w ≤ 255 ∧ v = nI w := ⟨_, h.2, h.1⟩
  cases w with
  | zero => exact Or.inl (by decide)
  | succ w => rw [pk_m1]; exact Or.inr (nn_nI (by omega) (by decide))
theorem dn_t {v : Int32} (h : nn v 255) : tn (v + (-1) + 1) < tn (v + 1) := by
  obtain ⟨w, hw, rfl⟩ : ∃ w, w ≤ 255 ∧ v = nI w := ⟨_, h.2, h.1⟩
  have e : nI w + (-1) + 1 = nI w := by
    cases w with
    | zero => decide
    | succ w => rw [pk_m1, nI_1]
  rw [e, nI_1, tn_nI (by omega), tn_nI (by omega)]; omega
theorem ups_B {f : Nat → Int32} {j n : Nat} {v : Int32} (hf : ∀ k, k < n → isB (f k)) (hv : isB v) : ∀ k, k < n → isB (ups f j v k) := fun k hk => by
  by_cases c : k = j
  · subst c; rw [ups_s]; exact hv
  · rw [ups_n c]; exact hf k hk
theorem ups_all {P : Int32 → Prop} {f : Nat → Int32} {n : Nat} {v : Int32} (hf : ∀ k, k < n → P (f k)) (hv : P v) : ∀ k, k < n + 1 → P (ups f n v k) := fun k hk => by
  by_cases c : k = n
  · subst c; rw [ups_s]; exact hv
  · rw [ups_n c]; exact hf k (by omega)
theorem ups_B1 {f : Nat → Int32} {n : Nat} {v : Int32} (hf : ∀ k, k < n → isB (f k)) (hv : isB v) : ∀ k, k < n + 1 → isB (ups f n v k) := fun k hk => by
  by_cases c : k = n
  · subst c; rw [ups_s]; exact hv
  · rw [ups_n c]; exact hf k (by omega)

def m_gathers_b7 (W : Nat → Int32) (C7 : Nat → Int32) (gun : Int32) (i2_7 : Nat) (f20_7 : Nat) (a7_7 : (Nat → Int32)) : (Nat × (Nat → Int32)) ⊕ (Nat × (Nat → Int32)) :=
  (if 8 ≤ f20_7 then .inr (f20_7, a7_7) else .inl ((if (m_sureOf W i2_7) = gun then f20_7 + 1 else f20_7), (if (m_sureOf W i2_7) = gun then ups a7_7 f20_7 (nI i2_7) else a7_7)))
def m_gathers_f20 (W : Nat → Int32) (C7 : Nat → Int32) (gun : Int32) : Nat :=
  (frb (fun i s => m_gathers_b7 W C7 gun i s.1 s.2) (tn (W 3)) 0 (0, C7)).1
def m_gathers_c7 (W : Nat → Int32) (C7 : Nat → Int32) (gun : Int32) : Nat → Int32 :=
  (frb (fun i s => m_gathers_b7 W C7 gun i s.1 s.2) (tn (W 3)) 0 (0, C7)).2
set_option maxHeartbeats 1000000 in
set_option maxRecDepth 100000 in
theorem c_m_gathers {G : UG} {adr : Nat → Nat} {h0 : Hp} {μ : Mu} (hI : MI (μ 1)) (gun : Int32)  : Con G yX6_gathers cX6_gathers 3 none 5 107 0 0 [.ref (adr 0), .int gun] (MS G adr h0 μ) (fun vr_ h' => vr_ = none ∧ MS G adr h0 (mc (mset μ 0 20 (nI (m_gathers_f20 (μ 1) (μ 7) gun))) 7 (m_gathers_c7 (μ 1) (μ 7) gun)) h') nX := by
  refine con_of2 (plainFor_of_name (by decide)) rfl ?_
  intro F R Q RF RL RC RS hQ O hnh hnm
  obtain ⟨rs0, hrs0⟩ : ∃ z, z = m_gathers_f20 (μ 1) (μ 7) gun := ⟨_, rfl⟩
  rw [← hrs0] at hQ
  unfold m_gathers_f20 at hrs0
  obtain ⟨rs1, hrs1⟩ : ∃ z, z = m_gathers_c7 (μ 1) (μ 7) gun := ⟨_, rfl⟩
  rw [← hrs1] at hQ
  unfold m_gathers_c7 at hrs1
  have hb3 : tn (μ 1 3) ≤ 120 := (hI 3 (by decide)).2
  refine x_eq (L' := [(0, .ref (adr 0)), (1, .int gun)]) ?_ rfl rfl rfl
  refine x_aload_n O 0 dX6_gathers_0 rfl rfl ?_
  refine x_iconst O (nI 0) dX6_gathers_1 (by decide) ?_
  refine x_mputQ O p_X6_365_6 (mp_20 _ _ _) rfl dX6_gathers_2 (μ' := (mset μ 0 20 (nI 0))) rfl ?_
  refine x_iconst O (nI 0) dX6_gathers_5 (by decide) ?_
  refine x_istore_n O [(2, .int (nI 0)), (0, .ref (adr 0)), (1, .int gun)] dX6_gathers_6 rfl rfl rfl ?_
  have LOOP7 : ∀ (cc_ : Nat) (i2_7 : Nat) (f20_7 : Nat) (a7_7 : (Nat → Int32)), cc_ = tn (μ 1 3) - i2_7 → i2_7 < 2147483648 → (f20_7 ≤ 8) → (∀ (y0 : Nat) (y1 : (Nat → Int32)), (y0, y1) = frb (fun i s => m_gathers_b7 (μ 1) (μ 7) gun i s.1 s.2) cc_ i2_7 (f20_7, a7_7) → X G F R Q 3 62 [(0, .ref (adr 0))] [] (MS G adr h0 ((mc (mset μ 0 20 (nI y0)) 7 y1))) 0 0) → X G F R Q 3 7 [(2, .int (nI i2_7)), (0, .ref (adr 0)), (1, .int gun)] [] (MS G adr h0 ((mc (mset μ 0 20 (nI f20_7)) 7 a7_7))) 0 0 := by
    intro cc_
    induction cc_ using Nat.strongRecOn with
    | ind cc_ IH_ =>
      intro i2_7 f20_7 a7_7 hc_ hb_ hn_ K_
      refine x_iload_n O 0 dX6_gathers_7 rfl rfl ?_
      refine x_aload_n O 1 dX6_gathers_8 rfl rfl ?_
      refine x_cV O 0 (c_m_finds (μ := (mc (mset μ 0 20 (nI f20_7)) 7 a7_7))) MS.obj uc6 (lw_V q2042 q2044 qs74 q111 q2045) rfl hd_X6_finds rfl (by rw [RF]; rfl) (by rw [RL]; rfl) ⟨Nat.zero_le _, Nat.zero_le _⟩ rfl rfl dX6_gathers_9 ?_
      refine x_top (v' := μ 1 3) (m_finds_u _) ?_
      refine x_top (v' := nI (tn (μ 1 3))) ((hI 3 (by decide)).1) ?_
      refine x_icmpgeN O 62 (by omega) (by omega) dX6_gathers_12 (by decide) (fun c12 => ?_) (fun c12 => ?_)
      · refine x_sub [1] (L' := [(0, .ref (adr 0))]) rfl ?_
        obtain rfl : cc_ = 0 := by omega
        exact K_ _ _ rfl
      · refine x_aload_n O 1 dX6_gathers_15 rfl rfl ?_
        refine x_mget O k_X6_365_6 (mg_20 _ _) dX6_gathers_16 ?_
        refine x_top (v' := nI f20_7) ((congrFun (mc_n (by decide)) 20).trans rd_hit) ?_
        refine x_bipush O (nI 8) dX6_gathers_19 (by decide) ?_
        refine x_icmpgeN O 62 (by omega) (by omega) dX6_gathers_21 (by decide) (fun c21 => ?_) (fun c21 => ?_)
        · refine x_sub [1] (L' := [(0, .ref (adr 0))]) rfl ?_
          obtain ⟨c2_, rfl⟩ : ∃ z, cc_ = z + 1 := ⟨cc_ - 1, by omega⟩
          have hs_ : (fun i s => m_gathers_b7 (μ 1) (μ 7) gun i s.1 s.2) i2_7 (f20_7, a7_7) = .inr (f20_7, a7_7) := by show m_gathers_b7 (μ 1) (μ 7) gun i2_7 f20_7 a7_7 = _; unfold m_gathers_b7; rw [if_pos c21]
          exact K_ _ _ (frb_stop hs_).symm
        · refine x_aload_n O 1 dX6_gathers_24 rfl rfl ?_
          refine x_iload_n O 0 dX6_gathers_25 rfl rfl ?_
          refine x_cV O 1 (c_m_sureOf (μ := (mc (mset μ 0 20 (nI f20_7)) 7 a7_7)) hI i2_7 (by omega)) MS.obj uc6 (lw_V q2130 q2132 qs85 q111 q2133) rfl hd_X6_sureOf rfl (by rw [RF]; rfl) (by rw [RL]; rfl) ⟨Nat.zero_le _, Nat.zero_le _⟩ rfl rfl dX6_gathers_26 ?_
          refine x_top (v' := m_sureOf (μ 1) i2_7) (by rw [show (mc (mset μ 0 20 (nI f20_7)) 7 a7_7) 1 = μ 1 from ((mc_n (by decide)).trans (mset_n (by decide)))]) ?_
          refine x_iload_n O 2 dX6_gathers_29 rfl rfl ?_
          have J3 : ∀ (y1 : Nat) (y2 : Nat → Int32), y1 = (if (m_sureOf (μ 1) i2_7) = gun then f20_7 + 1 else f20_7) → y2 = (if (m_sureOf (μ 1) i2_7) = gun then ups a7_7 f20_7 (nI i2_7) else a7_7) → X G F R Q 3 56 [(2, .int (nI i2_7)), (0, .ref (adr 0)), (1, .int gun)] [] (MS G adr h0 ((mc (mset μ 0 20 (nI y1)) 7 y2))) 0 0 := by
            intro y1 y2 e4 e5
            subst e4; subst e5
            refine x_iincN O 0 [(2, .int (nI (i2_7 + 1))), (0, .ref (adr 0)), (1, .int gun)] dX6_gathers_56 rfl rfl rfl ?_
            refine x_goto O 7 dX6_gathers_59 (by decide) ?_
            obtain ⟨c2_, rfl⟩ : ∃ z, cc_ = z + 1 := ⟨cc_ - 1, by omega⟩
            have hs_ : (fun i s => m_gathers_b7 (μ 1) (μ 7) gun i s.1 s.2) i2_7 (f20_7, a7_7) = .inl ((if (m_sureOf (μ 1) i2_7) = gun then f20_7 + 1 else f20_7), (if (m_sureOf (μ 1) i2_7) = gun then ups a7_7 f20_7 (nI i2_7) else a7_7)) := by show m_gathers_b7 (μ 1) (μ 7) gun i2_7 f20_7 a7_7 = _; unfold m_gathers_b7; rw [if_neg c21]
            exact IH_ c2_ (by omega) _ _ _ (by omega) (by omega) (by (repeat' split) <;> omega) (fun y0 y1 hy_ => K_ y0 y1 (hy_.trans (frb_step hs_).symm))
          refine x_icmpeq O 36 dX6_gathers_30 (by decide) (fun c30 => ?_) (fun c30 => ?_)
          · refine x_aload_n O 1 dX6_gathers_36 rfl rfl ?_
            refine x_mget O k_X6_36_6 (mg_19 _ _) dX6_gathers_37 ?_
            refine x_aload_n O 1 dX6_gathers_40 rfl rfl ?_
            refine x_mget O k_X6_365_6 (mg_20 _ _) dX6_gathers_41 ?_
            refine x_top (v' := nI f20_7) ((congrFun (mc_n (by decide)) 20).trans rd_hit) ?_
            refine x_iload_n O 0 dX6_gathers_44 rfl rfl ?_
            refine x_mastQ O 6 MS.c7 rfl rfl rfl (by omega) rfl dX6_gathers_45 (μ' := (mc (mset μ 0 20 (nI f20_7)) 7 (ups a7_7 f20_7 (nI i2_7)))) wc_s ?_
            refine x_aload_n O 1 dX6_gathers_46 rfl rfl ?_
            refine x_dup O dX6_gathers_47 rfl ?_
            refine x_mget O k_X6_365_6 (mg_20 _ _) dX6_gathers_48 ?_
            refine x_top (v' := nI f20_7) ((congrFun (mc_n (by decide)) 20).trans rd_hit) ?_
            refine x_iconst O (nI 1) dX6_gathers_51 (by decide) ?_
            refine x_iaddN O dX6_gathers_52 ?_
            refine x_mputQ O p_X6_365_6 (mp_20 _ _ _) rfl dX6_gathers_53 (μ' := (mc (mset μ 0 20 (nI (f20_7 + 1))) 7 (ups a7_7 f20_7 (nI i2_7)))) ((wc_n (by decide)).trans (congrArg (fun m_ => mc m_ 7 _) ff_s)) ?_
            exact J3 (f20_7 + 1) (ups a7_7 f20_7 (nI i2_7)) (by rw [if_pos c30]) (by rw [if_pos c30])
          · refine x_goto O 56 dX6_gathers_33 (by decide) ?_
            exact J3 f20_7 a7_7 (by rw [if_neg c30]) (by rw [if_neg c30])
  refine x_weak (Ω' := MS G adr h0 ((mc (mset μ 0 20 (nI 0)) 7 (μ 7)))) (fun _ m => m.eq (mc_id (c := 7) (f := μ 7) (by rfl)).symm) ?_
  refine LOOP7 (tn (μ 1 3)) 0 0 (μ 7) rfl (by omega) (by omega) (fun y0 y1 hy_7 => ?_)
  obtain rfl : y0 = (frb (fun i s => m_gathers_b7 (μ 1) (μ 7) gun i s.1 s.2) (tn (μ 1 3)) 0 (0, μ 7)).1 := congrArg (fun z => z.1) hy_7
  obtain rfl : y1 = (frb (fun i s => m_gathers_b7 (μ 1) (μ 7) gun i s.1 s.2) (tn (μ 1 3)) 0 (0, μ 7)).2 := congrArg (fun z => z.2) hy_7
  exact x_vretQ O hQ rfl dX6_gathers_62 (fun h m => ⟨rfl, by rw [hrs0, hrs1]; exact m.eq rfl⟩)

theorem gat_n (W C7 : Nat → Int32) (gun : Int32) : m_gathers_f20 W C7 gun ≤ 8 := by
  unfold m_gathers_f20
  refine frb_inv (e := 0 + tn (W 3)) (fun (s : Nat × (Nat → Int32)) => s.1 ≤ 8) (fun i s s' hi hs h => ?_) (fun i s s' hi hs h => ?_) _ 0 _ (by omega) (by show (0 : Nat) ≤ 8; omega)
  all_goals
    replace h : m_gathers_b7 W C7 gun i s.1 s.2 = _ := h
    unfold m_gathers_b7 at h
    split at h <;> cases h <;> first | exact hs | (dsimp only; split <;> omega)
theorem gat_v {W C7 : Nat → Int32} {gun : Int32} (hI : MI W) : ∀ k, k < m_gathers_f20 W C7 gun → nn (m_gathers_c7 W C7 gun k) 119 := by
  have h3 : tn (W 3) ≤ 120 := (hI 3 (by decide)).2
  unfold m_gathers_f20 m_gathers_c7
  refine frb_inv (e := 120) (fun (s : Nat × (Nat → Int32)) => ∀ k, k < s.1 → nn (s.2 k) 119) (fun i s s' hi hs h => ?_) (fun i s s' hi hs h => ?_) _ 0 _ (by omega) (fun k hk => absurd hk (Nat.not_lt_zero k))
  all_goals
    replace h : m_gathers_b7 W C7 gun i s.1 s.2 = _ := h
    unfold m_gathers_b7 at h
    split at h <;> cases h <;> first | exact hs | skip
  by_cases c : m_sureOf W i = gun
  · simp only [if_pos c]
    intro k hk
    by_cases q : k = s.1
    · subst q; rw [ups_s]; exact nn_nI (by omega) (by decide)
    · rw [ups_n q]; exact hs k (by omega)
  · simp only [if_neg c]; exact hs
theorem gat_h {W C7 : Nat → Int32} {gun : Int32} (hI : MI W) : ∀ k, k < tn (nI (m_gathers_f20 W C7 gun)) → nn (m_gathers_c7 W C7 gun k) 119 := fun k hk => gat_v hI k (by rw [tn_nI (by have := gat_n W C7 gun; omega)] at hk; exact hk)
theorem fcell {W : Nat → Int32} (hJ : MJ W) {f : Nat} (h : f ≤ 119) : nn (m_ofFind W f 1) 255 := (hJ.2.2.1 f (by omega)).2.1

def m_leads_b2 (W : Nat → Int32) (C7 : Nat → Int32) (C8 : Nat → Int32) (F20 : Int32)  (i2_2 : Nat) (a8_2 : (Nat → Int32)) : (Nat → Int32) :=
  ups a8_2 i2_2 ((100000))
def m_leads_b30 (W : Nat → Int32) (C7 : Nat → Int32) (C8 : Nat → Int32) (F20 : Int32) (first : Int32) (i2_30 : Nat) (a8_30 : (Nat → Int32)) : (Nat → Int32) :=
  (if first < 0 then ups a8_30 (8 * 2 ^ i2_30 + i2_30) (m_ofFind W (tn (C7 i2_30)) 4) else (if (nI i2_30) = first then ups a8_30 (8 * 2 ^ i2_30 + i2_30) (m_ofFind W (tn (C7 i2_30)) 4) else a8_30))
def m_leads_b126 (W : Nat → Int32) (C7 : Nat → Int32) (C8 : Nat → Int32) (F20 : Int32) (i2_79 : Nat) (i3_91 : Nat) (a8_91 : (Nat → Int32)) (i5_126 : Nat) (a8_126 : (Nat → Int32)) : (Nat → Int32) :=
  (if (((nI i2_79) >>> ((nI i5_126) &&& 31)) &&& (nI 1)) = (nI 1) then a8_126 else (if (m_ofFind W (tn (C7 i5_126)) 5) < (j_max ((a8_91 (8 * i2_79 + i3_91)) + (m_goes W (tn (m_ofFind W (tn (C7 i3_91)) 1)) (tn (m_ofFind W (tn (C7 i5_126)) 1)))) (m_ofFind W (tn (C7 i5_126)) 4)) then a8_126 else ups a8_126 ((8 * (i2_79 ||| 2 ^ i5_126)) + i5_126) (j_min (a8_126 ((8 * (i2_79 ||| 2 ^ i5_126)) + i5_126)) (j_max ((a8_91 (8 * i2_79 + i3_91)) + (m_goes W (tn (m_ofFind W (tn (C7 i3_91)) 1)) (tn (m_ofFind W (tn (C7 i5_126)) 1)))) (m_ofFind W (tn (C7 i5_126)) 4)))))
def m_leads_b91 (W : Nat → Int32) (C7 : Nat → Int32) (C8 : Nat → Int32) (F20 : Int32) (i2_79 : Nat) (i3_91 : Nat) (a8_91 : (Nat → Int32)) : (Nat → Int32) :=
  (if (a8_91 (8 * i2_79 + i3_91)) = ((100000)) then a8_91 else (fr (fun i s => m_leads_b126 W C7 C8 F20 i2_79 i3_91 a8_91 i s) (tn F20) 0 a8_91))
def m_leads_b79 (W : Nat → Int32) (C7 : Nat → Int32) (C8 : Nat → Int32) (F20 : Int32)  (i2_79 : Nat) (a8_79 : (Nat → Int32)) : (Nat → Int32) :=
  (fr (fun i s => m_leads_b91 W C7 C8 F20 i2_79 i s) (tn F20) 0 a8_79)
def m_leads_c8 (W : Nat → Int32) (C7 : Nat → Int32) (C8 : Nat → Int32) (F20 : Int32) (first : Int32) : Nat → Int32 :=
  (fr (fun i s => m_leads_b79 W C7 C8 F20 i s) (2 ^ tn F20 - 1) 1 (fr (fun i s => m_leads_b30 W C7 C8 F20 first i s) (tn F20) 0 (fr (fun i s => m_leads_b2 W C7 C8 F20 i s) (8 * 2 ^ tn F20) 0 C8)))
set_option maxHeartbeats 1000000 in
set_option maxRecDepth 100000 in
theorem c_m_leads {G : UG} {adr : Nat → Nat} {h0 : Hp} {μ : Mu} (hJ : MJ (μ 1)) (hn : nn (μ 0 20) 8) (hit : ∀ k, k < tn (μ 0 20) → nn (μ 7 k) 119) (first : Int32)  : Con G yX6_leads cX6_leads 8 none 3 64 0 0 [.ref (adr 0), .int first] (MS G adr h0 μ) (fun vr_ h' => vr_ = none ∧ MS G adr h0 (mc μ 8 (m_leads_c8 (μ 1) (μ 7) (μ 8) (μ 0 20) first)) h') nX := by
  refine con_of2 (plainFor_of_name (by decide)) rfl ?_
  intro F R Q RF RL RC RS hQ O hnh hnm
  obtain ⟨rs0, hrs0⟩ : ∃ z, z = m_leads_c8 (μ 1) (μ 7) (μ 8) (μ 0 20) first := ⟨_, rfl⟩
  rw [← hrs0] at hQ
  unfold m_leads_c8 at hrs0
  have hnb := hn.2
  have hp := pow8 hnb
  refine x_eq (L' := [(0, .ref (adr 0)), (1, .int first)]) ?_ rfl rfl rfl
  refine x_iconst O (nI 0) dX6_leads_0 (by decide) ?_
  refine x_istore_n O [(2, .int (nI 0)), (0, .ref (adr 0)), (1, .int first)] dX6_leads_1 rfl rfl rfl ?_
  have LOOP2 : ∀ (cc_ : Nat) (i2_2 : Nat) (a8_2 : (Nat → Int32)), cc_ = 8 * 2 ^ tn (μ 0 20) - i2_2 → i2_2 < 2147483648 → (∀ (y0 : (Nat → Int32)), y0 = fr (fun i s => m_leads_b2 (μ 1) (μ 7) (μ 8) (μ 0 20) i s) cc_ i2_2 a8_2 → X G F R Q 8 28 [(0, .ref (adr 0)), (1, .int first)] [] (MS G adr h0 ((mc μ 8 y0))) 0 0) → X G F R Q 8 2 [(2, .int (nI i2_2)), (0, .ref (adr 0)), (1, .int first)] [] (MS G adr h0 ((mc μ 8 a8_2))) 0 0 := by
    intro cc_
    induction cc_ using Nat.strongRecOn with
    | ind cc_ IH_ =>
      intro i2_2 a8_2 hc_ hb_  K_
      refine x_iload_n O 0 dX6_leads_2 rfl rfl ?_
      refine x_bipush O (nI 8) dX6_leads_3 (by decide) ?_
      refine x_aload_n O 1 dX6_leads_5 rfl rfl ?_
      refine x_mget O k_X6_365_6 (mg_20 _ _) dX6_leads_6 ?_
      refine x_top (v' := nI (tn (μ 0 20))) ((congrFun (mc_n (by decide)) 20).trans (hn.1)) ?_
      refine x_ishl O dX6_leads_9 ?_
      refine x_top (v' := nI (8 * 2 ^ tn (μ 0 20))) (shl8 hnb) ?_
      refine x_icmpgeN O 28 (by omega) (by omega) dX6_leads_10 (by decide) (fun c10 => ?_) (fun c10 => ?_)
      · refine x_sub [1, 2] (L' := [(0, .ref (adr 0)), (1, .int first)]) rfl ?_
        obtain rfl : cc_ = 0 := by omega
        exact K_ _ rfl
      · refine x_aload_n O 1 dX6_leads_13 rfl rfl ?_
        refine x_mget O k_X6_39_6 (mg_21 _ _) dX6_leads_14 ?_
        refine x_iload_n O 0 dX6_leads_17 rfl rfl ?_
        refine x_ldcw O q2139 dX6_leads_18 ?_
        refine x_mastQ O 7 MS.c8 rfl rfl rfl (by omega) rfl dX6_leads_21 (μ' := (mc μ 8 (ups a8_2 i2_2 ((100000))))) wc_s ?_
        refine x_iincN O 0 [(2, .int (nI (i2_2 + 1))), (0, .ref (adr 0)), (1, .int first)] dX6_leads_22 rfl rfl rfl ?_
        refine x_goto O 2 dX6_leads_25 (by decide) ?_
        obtain ⟨c2_, rfl⟩ : ∃ z, cc_ = z + 1 := ⟨cc_ - 1, by omega⟩
        have hs_ : (fun i s => m_leads_b2 (μ 1) (μ 7) (μ 8) (μ 0 20) i s) i2_2 a8_2 = ups a8_2 i2_2 ((100000)) := by show m_leads_b2 (μ 1) (μ 7) (μ 8) (μ 0 20) i2_2 a8_2 = _; unfold m_leads_b2; rfl
        exact IH_ c2_ (by omega) _ _ (by omega) (by omega) (fun y0 hy_ => K_ y0 (hy_.trans (fr_step hs_).symm))
  refine x_weak (Ω' := MS G adr h0 ((mc μ 8 (μ 8)))) (fun _ m => m.eq (mc_id (c := 8) (f := μ 8) (by rfl)).symm) ?_
  refine LOOP2 (8 * 2 ^ tn (μ 0 20)) 0 (μ 8) rfl (by omega) (fun y0 hy_2 => ?_)
  subst hy_2
  refine x_iconst O (nI 0) dX6_leads_28 (by decide) ?_
  refine x_istore_n O [(2, .int (nI 0)), (0, .ref (adr 0)), (1, .int first)] dX6_leads_29 rfl rfl rfl ?_
  have LOOP30 : ∀ (cc_ : Nat) (i2_30 : Nat) (a8_30 : (Nat → Int32)), cc_ = tn (μ 0 20) - i2_30 → i2_30 < 2147483648 → (∀ (y0 : (Nat → Int32)), y0 = fr (fun i s => m_leads_b30 (μ 1) (μ 7) (μ 8) (μ 0 20) first i s) cc_ i2_30 a8_30 → X G F R Q 8 77 [(0, .ref (adr 0))] [] (MS G adr h0 ((mc μ 8 y0))) 0 0) → X G F R Q 8 30 [(2, .int (nI i2_30)), (0, .ref (adr 0)), (1, .int first)] [] (MS G adr h0 ((mc μ 8 a8_30))) 0 0 := by
    intro cc_
    induction cc_ using Nat.strongRecOn with
    | ind cc_ IH_ =>
      intro i2_30 a8_30 hc_ hb_  K_
      refine x_iload_n O 0 dX6_leads_30 rfl rfl ?_
      refine x_aload_n O 1 dX6_leads_31 rfl rfl ?_
      refine x_mget O k_X6_365_6 (mg_20 _ _) dX6_leads_32 ?_
      refine x_top (v' := nI (tn (μ 0 20))) ((congrFun (mc_n (by decide)) 20).trans (hn.1)) ?_
      refine x_icmpgeN O 77 (by omega) (by omega) dX6_leads_35 (by decide) (fun c35 => ?_) (fun c35 => ?_)
      · refine x_sub [1] (L' := [(0, .ref (adr 0))]) rfl ?_
        obtain rfl : cc_ = 0 := by omega
        exact K_ _ rfl
      · refine x_iload_n O 2 dX6_leads_38 rfl rfl ?_
        have J4 : ∀ (y1 : Nat → Int32), y1 = (if first < 0 then ups a8_30 (8 * 2 ^ i2_30 + i2_30) (m_ofFind (μ 1) (tn (μ 7 i2_30)) 4) else (if (nI i2_30) = first then ups a8_30 (8 * 2 ^ i2_30 + i2_30) (m_ofFind (μ 1) (tn (μ 7 i2_30)) 4) else a8_30)) → X G F R Q 8 71 [(2, .int (nI i2_30)), (0, .ref (adr 0)), (1, .int first)] [] (MS G adr h0 ((mc μ 8 y1))) 0 0 := by
          intro y1 e5
          subst e5
          refine x_iincN O 0 [(2, .int (nI (i2_30 + 1))), (0, .ref (adr 0)), (1, .int first)] dX6_leads_71 rfl rfl rfl ?_
          refine x_goto O 30 dX6_leads_74 (by decide) ?_
          obtain ⟨c2_, rfl⟩ : ∃ z, cc_ = z + 1 := ⟨cc_ - 1, by omega⟩
          have hs_ : (fun i s => m_leads_b30 (μ 1) (μ 7) (μ 8) (μ 0 20) first i s) i2_30 a8_30 = (if first < 0 then ups a8_30 (8 * 2 ^ i2_30 + i2_30) (m_ofFind (μ 1) (tn (μ 7 i2_30)) 4) else (if (nI i2_30) = first then ups a8_30 (8 * 2 ^ i2_30 + i2_30) (m_ofFind (μ 1) (tn (μ 7 i2_30)) 4) else a8_30)) := by show m_leads_b30 (μ 1) (μ 7) (μ 8) (μ 0 20) first i2_30 a8_30 = _; unfold m_leads_b30; rfl
          exact IH_ c2_ (by omega) _ _ (by omega) (by omega) (fun y0 hy_ => K_ y0 (hy_.trans (fr_step hs_).symm))
        refine x_iflt O 47 dX6_leads_39 (by decide) (fun c39 => ?_) (fun c39 => ?_)
        · refine x_aload_n O 1 dX6_leads_47 rfl rfl ?_
          refine x_mget O k_X6_39_6 (mg_21 _ _) dX6_leads_48 ?_
          refine x_bipush O (nI 8) dX6_leads_51 (by decide) ?_
          refine x_iconst O (nI 1) dX6_leads_53 (by decide) ?_
          refine x_iload_n O 0 dX6_leads_54 rfl rfl ?_
          refine x_ishl O dX6_leads_55 ?_
          refine x_top (v' := nI (2 ^ i2_30)) (shl1 (by omega)) ?_
          refine x_imulN O dX6_leads_56 ?_
          refine x_iload_n O 0 dX6_leads_57 rfl rfl ?_
          refine x_iaddN O dX6_leads_58 ?_
          refine x_aload_n O 1 dX6_leads_59 rfl rfl ?_
          refine x_aload_n O 1 dX6_leads_60 rfl rfl ?_
          refine x_mget O k_X6_36_6 (mg_19 _ _) dX6_leads_61 ?_
          refine x_iload_n O 0 dX6_leads_64 rfl rfl ?_
          refine x_ialdN O MS.c7 (by omega) rfl dX6_leads_65 ?_
          refine x_top (v' := μ 7 i2_30) (congrFun (mc_n (by decide)) i2_30) ?_
          refine x_top (v' := nI (tn (μ 7 i2_30))) ((hit _ (by omega)).1) ?_
          refine x_iconst O (nI 4) dX6_leads_66 (by decide) ?_
          refine x_cV O 2 (c_m_ofFind (μ := (mc μ 8 a8_30)) (tn (μ 7 i2_30)) 4 (by have := (hit i2_30 (by omega)).2; omega) (by omega)) MS.obj uc6 (lw_V q2054 q2056 qs75 q111 q2057) rfl hd_X6_ofFind rfl (by rw [RF]; rfl) (by rw [RL]; rfl) ⟨Nat.zero_le _, Nat.zero_le _⟩ rfl rfl dX6_leads_67 ?_
          refine x_top (v' := m_ofFind (μ 1) (tn (μ 7 i2_30)) 4) (by rw [show (mc μ 8 a8_30) 1 = μ 1 from (mc_n (by decide))]) ?_
          refine x_mastQ O 7 MS.c8 rfl rfl rfl (by have := pow7 (a := i2_30) (by omega); omega) rfl dX6_leads_70 (μ' := (mc μ 8 (ups a8_30 (8 * 2 ^ i2_30 + i2_30) (m_ofFind (μ 1) (tn (μ 7 i2_30)) 4)))) wc_s ?_
          exact J4 (ups a8_30 (8 * 2 ^ i2_30 + i2_30) (m_ofFind (μ 1) (tn (μ 7 i2_30)) 4)) (by rw [if_pos c39])
        · refine x_iload_n O 0 dX6_leads_42 rfl rfl ?_
          refine x_iload_n O 2 dX6_leads_43 rfl rfl ?_
          refine x_icmpne O 71 dX6_leads_44 (by decide) (fun c44 => ?_) (fun c44 => ?_)
          · exact J4 a8_30 (by first | (rw [if_neg c39, if_neg c44]; done) | simp only [if_neg c39, if_neg c44])
          · refine x_aload_n O 1 dX6_leads_47 rfl rfl ?_
            refine x_mget O k_X6_39_6 (mg_21 _ _) dX6_leads_48 ?_
            refine x_bipush O (nI 8) dX6_leads_51 (by decide) ?_
            refine x_iconst O (nI 1) dX6_leads_53 (by decide) ?_
            refine x_iload_n O 0 dX6_leads_54 rfl rfl ?_
            refine x_ishl O dX6_leads_55 ?_
            refine x_top (v' := nI (2 ^ i2_30)) (shl1 (by omega)) ?_
            refine x_imulN O dX6_leads_56 ?_
            refine x_iload_n O 0 dX6_leads_57 rfl rfl ?_
            refine x_iaddN O dX6_leads_58 ?_
            refine x_aload_n O 1 dX6_leads_59 rfl rfl ?_
            refine x_aload_n O 1 dX6_leads_60 rfl rfl ?_
            refine x_mget O k_X6_36_6 (mg_19 _ _) dX6_leads_61 ?_
            refine x_iload_n O 0 dX6_leads_64 rfl rfl ?_
            refine x_ialdN O MS.c7 (by omega) rfl dX6_leads_65 ?_
            refine x_top (v' := μ 7 i2_30) (congrFun (mc_n (by decide)) i2_30) ?_
            refine x_top (v' := nI (tn (μ 7 i2_30))) ((hit _ (by omega)).1) ?_
            refine x_iconst O (nI 4) dX6_leads_66 (by decide) ?_
            refine x_cV O 2 (c_m_ofFind (μ := (mc μ 8 a8_30)) (tn (μ 7 i2_30)) 4 (by have := (hit i2_30 (by omega)).2; omega) (by omega)) MS.obj uc6 (lw_V q2054 q2056 qs75 q111 q2057) rfl hd_X6_ofFind rfl (by rw [RF]; rfl) (by rw [RL]; rfl) ⟨Nat.zero_le _, Nat.zero_le _⟩ rfl rfl dX6_leads_67 ?_
            refine x_top (v' := m_ofFind (μ 1) (tn (μ 7 i2_30)) 4) (by rw [show (mc μ 8 a8_30) 1 = μ 1 from (mc_n (by decide))]) ?_
            refine x_mastQ O 7 MS.c8 rfl rfl rfl (by have := pow7 (a := i2_30) (by omega); omega) rfl dX6_leads_70 (μ' := (mc μ 8 (ups a8_30 (8 * 2 ^ i2_30 + i2_30) (m_ofFind (μ 1) (tn (μ 7 i2_30)) 4)))) wc_s ?_
            exact J4 (ups a8_30 (8 * 2 ^ i2_30 + i2_30) (m_ofFind (μ 1) (tn (μ 7 i2_30)) 4)) (by first | (rw [if_neg c39, if_pos c44]; done) | simp only [if_neg c39, if_pos c44])
  refine LOOP30 (tn (μ 0 20)) 0 ((fr (fun i s => m_leads_b2 (μ 1) (μ 7) (μ 8) (μ 0 20) i s) (8 * 2 ^ tn (μ 0 20)) 0 (μ 8))) rfl (by omega) (fun y0 hy_30 => ?_)
  subst hy_30
  refine x_iconst O (nI 1) dX6_leads_77 (by decide) ?_
  refine x_istore_n O [(2, .int (nI 1)), (0, .ref (adr 0))] dX6_leads_78 rfl rfl rfl ?_
  have LOOP79 : ∀ (cc_ : Nat) (i2_79 : Nat) (a8_79 : (Nat → Int32)), cc_ = 2 ^ tn (μ 0 20) - i2_79 → i2_79 < 2147483648 → (∀ (y0 : (Nat → Int32)), y0 = fr (fun i s => m_leads_b79 (μ 1) (μ 7) (μ 8) (μ 0 20) i s) cc_ i2_79 a8_79 → X G F R Q 8 263 [(0, .ref (adr 0))] [] (MS G adr h0 ((mc μ 8 y0))) 0 0) → X G F R Q 8 79 [(2, .int (nI i2_79)), (0, .ref (adr 0))] [] (MS G adr h0 ((mc μ 8 a8_79))) 0 0 := by
    intro cc_
    induction cc_ using Nat.strongRecOn with
    | ind cc_ IH_ =>
      intro i2_79 a8_79 hc_ hb_  K_
      refine x_iload_n O 0 dX6_leads_79 rfl rfl ?_
      refine x_iconst O (nI 1) dX6_leads_80 (by decide) ?_
      refine x_aload_n O 1 dX6_leads_81 rfl rfl ?_
      refine x_mget O k_X6_365_6 (mg_20 _ _) dX6_leads_82 ?_
      refine x_top (v' := nI (tn (μ 0 20))) ((congrFun (mc_n (by decide)) 20).trans (hn.1)) ?_
      refine x_ishl O dX6_leads_85 ?_
      refine x_top (v' := nI (2 ^ tn (μ 0 20))) (shl1 hnb) ?_
      refine x_icmpgeN O 263 (by omega) (by omega) dX6_leads_86 (by decide) (fun c86 => ?_) (fun c86 => ?_)
      · refine x_sub [1] (L' := [(0, .ref (adr 0))]) rfl ?_
        obtain rfl : cc_ = 0 := by omega
        exact K_ _ rfl
      · refine x_iconst O (nI 0) dX6_leads_89 (by decide) ?_
        refine x_istore_n O [(3, .int (nI 0)), (2, .int (nI i2_79)), (0, .ref (adr 0))] dX6_leads_90 rfl rfl rfl ?_
        have LOOP91 : ∀ (cc_ : Nat) (i3_91 : Nat) (a8_91 : (Nat → Int32)), cc_ = tn (μ 0 20) - i3_91 → i3_91 < 2147483648 → (∀ (y0 : (Nat → Int32)), y0 = fr (fun i s => m_leads_b91 (μ 1) (μ 7) (μ 8) (μ 0 20) i2_79 i s) cc_ i3_91 a8_91 → X G F R Q 8 257 [(2, .int (nI i2_79)), (0, .ref (adr 0))] [] (MS G adr h0 ((mc μ 8 y0))) 0 0) → X G F R Q 8 91 [(3, .int (nI i3_91)), (2, .int (nI i2_79)), (0, .ref (adr 0))] [] (MS G adr h0 ((mc μ 8 a8_91))) 0 0 := by
          intro cc_
          induction cc_ using Nat.strongRecOn with
          | ind cc_ IH_ =>
            intro i3_91 a8_91 hc_ hb_  K_
            refine x_iload_n O 0 dX6_leads_91 rfl rfl ?_
            refine x_aload_n O 2 dX6_leads_92 rfl rfl ?_
            refine x_mget O k_X6_365_6 (mg_20 _ _) dX6_leads_93 ?_
            refine x_top (v' := nI (tn (μ 0 20))) ((congrFun (mc_n (by decide)) 20).trans (hn.1)) ?_
            refine x_icmpgeN O 257 (by omega) (by omega) dX6_leads_96 (by decide) (fun c96 => ?_) (fun c96 => ?_)
            · refine x_sub [1, 2] (L' := [(2, .int (nI i2_79)), (0, .ref (adr 0))]) rfl ?_
              obtain rfl : cc_ = 0 := by omega
              exact K_ _ rfl
            · refine x_aload_n O 2 dX6_leads_99 rfl rfl ?_
              refine x_mget O k_X6_39_6 (mg_21 _ _) dX6_leads_100 ?_
              refine x_bipush O (nI 8) dX6_leads_103 (by decide) ?_
              refine x_iload_n O 1 dX6_leads_105 rfl rfl ?_
              refine x_imulN O dX6_leads_106 ?_
              refine x_iload_n O 0 dX6_leads_107 rfl rfl ?_
              refine x_iaddN O dX6_leads_108 ?_
              refine x_ialdN O MS.c8 (by omega) rfl dX6_leads_109 ?_
              refine x_top (v' := a8_91 (8 * i2_79 + i3_91)) (congrFun mc_s (8 * i2_79 + i3_91)) ?_
              refine x_istore O [(4, .int (a8_91 (8 * i2_79 + i3_91))), (3, .int (nI i3_91)), (2, .int (nI i2_79)), (0, .ref (adr 0))] dX6_leads_110 rfl rfl ?_
              refine x_iload O 0 dX6_leads_112 rfl ?_
              refine x_ldcw O q2139 dX6_leads_114 ?_
              have J6 : ∀ (y3 : Nat → Int32), y3 = (if (a8_91 (8 * i2_79 + i3_91)) = ((100000)) then a8_91 else (fr (fun i s => m_leads_b126 (μ 1) (μ 7) (μ 8) (μ 0 20) i2_79 i3_91 a8_91 i s) (tn (μ 0 20)) 0 a8_91)) → X G F R Q 8 251 [(3, .int (nI i3_91)), (2, .int (nI i2_79)), (0, .ref (adr 0))] [] (MS G adr h0 ((mc μ 8 y3))) 0 0 := by
                intro y3 e7
                subst e7
                refine x_iincN O 0 [(3, .int (nI (i3_91 + 1))), (2, .int (nI i2_79)), (0, .ref (adr 0))] dX6_leads_251 rfl rfl rfl ?_
                refine x_goto O 91 dX6_leads_254 (by decide) ?_
                obtain ⟨c2_, rfl⟩ : ∃ z, cc_ = z + 1 := ⟨cc_ - 1, by omega⟩
                have hs_ : (fun i s => m_leads_b91 (μ 1) (μ 7) (μ 8) (μ 0 20) i2_79 i s) i3_91 a8_91 = (if (a8_91 (8 * i2_79 + i3_91)) = ((100000)) then a8_91 else (fr (fun i s => m_leads_b126 (μ 1) (μ 7) (μ 8) (μ 0 20) i2_79 i3_91 a8_91 i s) (tn (μ 0 20)) 0 a8_91)) := by show m_leads_b91 (μ 1) (μ 7) (μ 8) (μ 0 20) i2_79 i3_91 a8_91 = _; unfold m_leads_b91; rfl
                exact IH_ c2_ (by omega) _ _ (by omega) (by omega) (fun y0 hy_ => K_ y0 (hy_.trans (fr_step hs_).symm))
              refine x_icmpne O 123 dX6_leads_117 (by decide) (fun c117 => ?_) (fun c117 => ?_)
              · refine x_iconst O (nI 0) dX6_leads_123 (by decide) ?_
                refine x_istore O [(5, .int (nI 0)), (4, .int (a8_91 (8 * i2_79 + i3_91))), (3, .int (nI i3_91)), (2, .int (nI i2_79)), (0, .ref (adr 0))] dX6_leads_124 rfl rfl ?_
                have LOOP126 : ∀ (cc_ : Nat) (i5_126 : Nat) (a8_126 : (Nat → Int32)), cc_ = tn (μ 0 20) - i5_126 → i5_126 < 2147483648 → (∀ (y0 : (Nat → Int32)), y0 = fr (fun i s => m_leads_b126 (μ 1) (μ 7) (μ 8) (μ 0 20) i2_79 i3_91 a8_91 i s) cc_ i5_126 a8_126 → X G F R Q 8 251 [(3, .int (nI i3_91)), (2, .int (nI i2_79)), (0, .ref (adr 0))] [] (MS G adr h0 ((mc μ 8 y0))) 0 0) → X G F R Q 8 126 [(5, .int (nI i5_126)), (4, .int (a8_91 (8 * i2_79 + i3_91))), (3, .int (nI i3_91)), (2, .int (nI i2_79)), (0, .ref (adr 0))] [] (MS G adr h0 ((mc μ 8 a8_126))) 0 0 := by
                  intro cc_
                  induction cc_ using Nat.strongRecOn with
                  | ind cc_ IH_ =>
                    intro i5_126 a8_126 hc_ hb_  K_
                    refine x_iload O 0 dX6_leads_126 rfl ?_
                    refine x_aload_n O 4 dX6_leads_128 rfl rfl ?_
                    refine x_mget O k_X6_365_6 (mg_20 _ _) dX6_leads_129 ?_
                    refine x_top (v' := nI (tn (μ 0 20))) ((congrFun (mc_n (by decide)) 20).trans (hn.1)) ?_
                    refine x_icmpgeN O 251 (by omega) (by omega) dX6_leads_132 (by decide) (fun c132 => ?_) (fun c132 => ?_)
                    · refine x_sub [2, 3, 4] (L' := [(3, .int (nI i3_91)), (2, .int (nI i2_79)), (0, .ref (adr 0))]) rfl ?_
                      obtain rfl : cc_ = 0 := by omega
                      exact K_ _ rfl
                    · refine x_iload_n O 3 dX6_leads_135 rfl rfl ?_
                      refine x_iload O 0 dX6_leads_136 rfl ?_
                      refine x_ishr O dX6_leads_138 ?_
                      refine x_iconst O (nI 1) dX6_leads_139 (by decide) ?_
                      refine x_iand O dX6_leads_140 ?_
                      refine x_iconst O (nI 1) dX6_leads_141 (by decide) ?_
                      have J8 : ∀ (y2 : Nat → Int32), y2 = (if (((nI i2_79) >>> ((nI i5_126) &&& 31)) &&& (nI 1)) = (nI 1) then a8_126 else (if (m_ofFind (μ 1) (tn (μ 7 i5_126)) 5) < (j_max ((a8_91 (8 * i2_79 + i3_91)) + (m_goes (μ 1) (tn (m_ofFind (μ 1) (tn (μ 7 i3_91)) 1)) (tn (m_ofFind (μ 1) (tn (μ 7 i5_126)) 1)))) (m_ofFind (μ 1) (tn (μ 7 i5_126)) 4)) then a8_126 else ups a8_126 ((8 * (i2_79 ||| 2 ^ i5_126)) + i5_126) (j_min (a8_126 ((8 * (i2_79 ||| 2 ^ i5_126)) + i5_126)) (j_max ((a8_91 (8 * i2_79 + i3_91)) + (m_goes (μ 1) (tn (m_ofFind (μ 1) (tn (μ 7 i3_91)) 1)) (tn (m_ofFind (μ 1) (tn (μ 7 i5_126)) 1)))) (m_ofFind (μ 1) (tn (μ 7 i5_126)) 4))))) → X G F R Q 8 245 [(5, .int (nI i5_126)), (4, .int (a8_91 (8 * i2_79 + i3_91))), (3, .int (nI i3_91)), (2, .int (nI i2_79)), (0, .ref (adr 0))] [] (MS G adr h0 ((mc μ 8 y2))) 0 0 := by
                        intro y2 e9
                        subst e9
                        refine x_iincN O 0 [(5, .int (nI (i5_126 + 1))), (4, .int (a8_91 (8 * i2_79 + i3_91))), (3, .int (nI i3_91)), (2, .int (nI i2_79)), (0, .ref (adr 0))] dX6_leads_245 rfl rfl rfl ?_
                        refine x_goto O 126 dX6_leads_248 (by decide) ?_
                        obtain ⟨c2_, rfl⟩ : ∃ z, cc_ = z + 1 := ⟨cc_ - 1, by omega⟩
                        have hs_ : (fun i s => m_leads_b126 (μ 1) (μ 7) (μ 8) (μ 0 20) i2_79 i3_91 a8_91 i s) i5_126 a8_126 = (if (((nI i2_79) >>> ((nI i5_126) &&& 31)) &&& (nI 1)) = (nI 1) then a8_126 else (if (m_ofFind (μ 1) (tn (μ 7 i5_126)) 5) < (j_max ((a8_91 (8 * i2_79 + i3_91)) + (m_goes (μ 1) (tn (m_ofFind (μ 1) (tn (μ 7 i3_91)) 1)) (tn (m_ofFind (μ 1) (tn (μ 7 i5_126)) 1)))) (m_ofFind (μ 1) (tn (μ 7 i5_126)) 4)) then a8_126 else ups a8_126 ((8 * (i2_79 ||| 2 ^ i5_126)) + i5_126) (j_min (a8_126 ((8 * (i2_79 ||| 2 ^ i5_126)) + i5_126)) (j_max ((a8_91 (8 * i2_79 + i3_91)) + (m_goes (μ 1) (tn (m_ofFind (μ 1) (tn (μ 7 i3_91)) 1)) (tn (m_ofFind (μ 1) (tn (μ 7 i5_126)) 1)))) (m_ofFind (μ 1) (tn (μ 7 i5_126)) 4))))) := by show m_leads_b126 (μ 1) (μ 7) (μ 8) (μ 0 20) i2_79 i3_91 a8_91 i5_126 a8_126 = _; unfold m_leads_b126; rfl
                        exact IH_ c2_ (by omega) _ _ (by omega) (by omega) (fun y0 hy_ => K_ y0 (hy_.trans (fr_step hs_).symm))
                      refine x_icmpne O 148 dX6_leads_142 (by decide) (fun c142 => ?_) (fun c142 => ?_)
                      · refine x_iload O 1 dX6_leads_148 rfl ?_
                        refine x_aload_n O 4 dX6_leads_150 rfl rfl ?_
                        refine x_aload_n O 4 dX6_leads_151 rfl rfl ?_
                        refine x_aload_n O 4 dX6_leads_152 rfl rfl ?_
                        refine x_mget O k_X6_36_6 (mg_19 _ _) dX6_leads_153 ?_
                        refine x_iload_n O 2 dX6_leads_156 rfl rfl ?_
                        refine x_ialdN O MS.c7 (by omega) rfl dX6_leads_157 ?_
                        refine x_top (v' := μ 7 i3_91) (congrFun (mc_n (by decide)) i3_91) ?_
                        refine x_top (v' := nI (tn (μ 7 i3_91))) ((hit _ (by omega)).1) ?_
                        refine x_iconst O (nI 1) dX6_leads_158 (by decide) ?_
                        refine x_cV O 2 (c_m_ofFind (μ := (mc μ 8 a8_126)) (tn (μ 7 i3_91)) 1 (by have := (hit i3_91 (by omega)).2; omega) (by omega)) MS.obj uc6 (lw_V q2054 q2056 qs75 q111 q2057) rfl hd_X6_ofFind rfl (by rw [RF]; rfl) (by rw [RL]; rfl) ⟨Nat.zero_le _, Nat.zero_le _⟩ rfl rfl dX6_leads_159 ?_
                        refine x_top (v' := m_ofFind (μ 1) (tn (μ 7 i3_91)) 1) (by rw [show (mc μ 8 a8_126) 1 = μ 1 from (mc_n (by decide))]) ?_
                        refine x_top (v' := nI (tn (m_ofFind (μ 1) (tn (μ 7 i3_91)) 1))) ((fcell hJ (hit i3_91 (by omega)).2).1) ?_
                        refine x_aload_n O 4 dX6_leads_162 rfl rfl ?_
                        refine x_aload_n O 4 dX6_leads_163 rfl rfl ?_
                        refine x_mget O k_X6_36_6 (mg_19 _ _) dX6_leads_164 ?_
                        refine x_iload O 0 dX6_leads_167 rfl ?_
                        refine x_ialdN O MS.c7 (by omega) rfl dX6_leads_169 ?_
                        refine x_top (v' := μ 7 i5_126) (congrFun (mc_n (by decide)) i5_126) ?_
                        refine x_top (v' := nI (tn (μ 7 i5_126))) ((hit _ (by omega)).1) ?_
                        refine x_iconst O (nI 1) dX6_leads_170 (by decide) ?_
                        refine x_cV O 2 (c_m_ofFind (μ := (mc μ 8 a8_126)) (tn (μ 7 i5_126)) 1 (by have := (hit i5_126 (by omega)).2; omega) (by omega)) MS.obj uc6 (lw_V q2054 q2056 qs75 q111 q2057) rfl hd_X6_ofFind rfl (by rw [RF]; rfl) (by rw [RL]; rfl) ⟨Nat.zero_le _, Nat.zero_le _⟩ rfl rfl dX6_leads_171 ?_
                        refine x_top (v' := m_ofFind (μ 1) (tn (μ 7 i5_126)) 1) (by rw [show (mc μ 8 a8_126) 1 = μ 1 from (mc_n (by decide))]) ?_
                        refine x_top (v' := nI (tn (m_ofFind (μ 1) (tn (μ 7 i5_126)) 1))) ((fcell hJ (hit i5_126 (by omega)).2).1) ?_
                        refine x_cV O 2 (c_m_goes (μ := (mc μ 8 a8_126)) (tn (m_ofFind (μ 1) (tn (μ 7 i3_91)) 1)) (tn (m_ofFind (μ 1) (tn (μ 7 i5_126)) 1)) (by have := (fcell hJ (hit i3_91 (by omega)).2).2; omega) (by have := (fcell hJ (hit i5_126 (by omega)).2).2; omega)) MS.obj uc6 (lw_V q2140 q2142 qs87 q111 q2143) rfl hd_X6_goes rfl (by rw [RF]; rfl) (by rw [RL]; rfl) ⟨Nat.zero_le _, Nat.zero_le _⟩ rfl rfl dX6_leads_174 ?_
                        refine x_top (v' := m_goes (μ 1) (tn (m_ofFind (μ 1) (tn (μ 7 i3_91)) 1)) (tn (m_ofFind (μ 1) (tn (μ 7 i5_126)) 1))) (by rw [show (mc μ 8 a8_126) 1 = μ 1 from (mc_n (by decide))]) ?_
                        refine x_iadd O dX6_leads_177 ?_
                        refine x_aload_n O 4 dX6_leads_178 rfl rfl ?_
                        refine x_aload_n O 4 dX6_leads_179 rfl rfl ?_
                        refine x_mget O k_X6_36_6 (mg_19 _ _) dX6_leads_180 ?_
                        refine x_iload O 0 dX6_leads_183 rfl ?_
                        refine x_ialdN O MS.c7 (by omega) rfl dX6_leads_185 ?_
                        refine x_top (v' := μ 7 i5_126) (congrFun (mc_n (by decide)) i5_126) ?_
                        refine x_top (v' := nI (tn (μ 7 i5_126))) ((hit _ (by omega)).1) ?_
                        refine x_iconst O (nI 4) dX6_leads_186 (by decide) ?_
                        refine x_cV O 2 (c_m_ofFind (μ := (mc μ 8 a8_126)) (tn (μ 7 i5_126)) 4 (by have := (hit i5_126 (by omega)).2; omega) (by omega)) MS.obj uc6 (lw_V q2054 q2056 qs75 q111 q2057) rfl hd_X6_ofFind rfl (by rw [RF]; rfl) (by rw [RL]; rfl) ⟨Nat.zero_le _, Nat.zero_le _⟩ rfl rfl dX6_leads_187 ?_
                        refine x_top (v' := m_ofFind (μ 1) (tn (μ 7 i5_126)) 4) (by rw [show (mc μ 8 a8_126) 1 = μ 1 from (mc_n (by decide))]) ?_
                        refine x_cS O 2 (c_j_max ((a8_91 (8 * i2_79 + i3_91)) + (m_goes (μ 1) (tn (m_ofFind (μ 1) (tn (μ 7 i3_91)) 1)) (tn (m_ofFind (μ 1) (tn (μ 7 i5_126)) 1)))) (m_ofFind (μ 1) (tn (μ 7 i5_126)) 4)) (lw_S q1782 q558 q116 q559) hd_J7_max rfl (by rw [RF]; rfl) (by rw [RL]; rfl) ⟨Nat.zero_le _, Nat.zero_le _⟩ rfl rfl dX6_leads_190 ?_
                        refine x_top (v' := j_max ((a8_91 (8 * i2_79 + i3_91)) + (m_goes (μ 1) (tn (m_ofFind (μ 1) (tn (μ 7 i3_91)) 1)) (tn (m_ofFind (μ 1) (tn (μ 7 i5_126)) 1)))) (m_ofFind (μ 1) (tn (μ 7 i5_126)) 4)) rfl ?_
                        refine x_istore O [(6, .int (j_max ((a8_91 (8 * i2_79 + i3_91)) + (m_goes (μ 1) (tn (m_ofFind (μ 1) (tn (μ 7 i3_91)) 1)) (tn (m_ofFind (μ 1) (tn (μ 7 i5_126)) 1)))) (m_ofFind (μ 1) (tn (μ 7 i5_126)) 4))), (5, .int (nI i5_126)), (4, .int (a8_91 (8 * i2_79 + i3_91))), (3, .int (nI i3_91)), (2, .int (nI i2_79)), (0, .ref (adr 0))] dX6_leads_193 rfl rfl ?_
                        refine x_bipush O (nI 8) dX6_leads_195 (by decide) ?_
                        refine x_iload_n O 4 dX6_leads_197 rfl rfl ?_
                        refine x_iconst O (nI 1) dX6_leads_198 (by decide) ?_
                        refine x_iload O 1 dX6_leads_199 rfl ?_
                        refine x_ishl O dX6_leads_201 ?_
                        refine x_top (v' := nI (2 ^ i5_126)) (shl1 (by omega)) ?_
                        refine x_ior O dX6_leads_202 ?_
                        refine x_top (v' := nI (i2_79 ||| 2 ^ i5_126)) (or_N (by omega) (by have := pow7 (a := i5_126) (by omega); omega)) ?_
                        refine x_imulN O dX6_leads_203 ?_
                        refine x_iload O 1 dX6_leads_204 rfl ?_
                        refine x_iaddN O dX6_leads_206 ?_
                        refine x_istore O [(7, .int (nI ((8 * (i2_79 ||| 2 ^ i5_126)) + i5_126))), (6, .int (j_max ((a8_91 (8 * i2_79 + i3_91)) + (m_goes (μ 1) (tn (m_ofFind (μ 1) (tn (μ 7 i3_91)) 1)) (tn (m_ofFind (μ 1) (tn (μ 7 i5_126)) 1)))) (m_ofFind (μ 1) (tn (μ 7 i5_126)) 4))), (5, .int (nI i5_126)), (4, .int (a8_91 (8 * i2_79 + i3_91))), (3, .int (nI i3_91)), (2, .int (nI i2_79)), (0, .ref (adr 0))] dX6_leads_207 rfl rfl ?_
                        refine x_iload O 1 dX6_leads_209 rfl ?_
                        refine x_aload_n O 6 dX6_leads_211 rfl rfl ?_
                        refine x_aload_n O 6 dX6_leads_212 rfl rfl ?_
                        refine x_mget O k_X6_36_6 (mg_19 _ _) dX6_leads_213 ?_
                        refine x_iload O 2 dX6_leads_216 rfl ?_
                        refine x_ialdN O MS.c7 (by omega) rfl dX6_leads_218 ?_
                        refine x_top (v' := μ 7 i5_126) (congrFun (mc_n (by decide)) i5_126) ?_
                        refine x_top (v' := nI (tn (μ 7 i5_126))) ((hit _ (by omega)).1) ?_
                        refine x_iconst O (nI 5) dX6_leads_219 (by decide) ?_
                        refine x_cV O 2 (c_m_ofFind (μ := (mc μ 8 a8_126)) (tn (μ 7 i5_126)) 5 (by have := (hit i5_126 (by omega)).2; omega) (by omega)) MS.obj uc6 (lw_V q2054 q2056 qs75 q111 q2057) rfl hd_X6_ofFind rfl (by rw [RF]; rfl) (by rw [RL]; rfl) ⟨Nat.zero_le _, Nat.zero_le _⟩ rfl rfl dX6_leads_220 ?_
                        refine x_top (v' := m_ofFind (μ 1) (tn (μ 7 i5_126)) 5) (by rw [show (mc μ 8 a8_126) 1 = μ 1 from (mc_n (by decide))]) ?_
                        refine x_icmpgt O 245 dX6_leads_223 (by decide) (fun c223 => ?_) (fun c223 => ?_)
                        · refine x_sub [2, 3, 4, 5, 6] (L' := [(5, .int (nI i5_126)), (4, .int (a8_91 (8 * i2_79 + i3_91))), (3, .int (nI i3_91)), (2, .int (nI i2_79)), (0, .ref (adr 0))]) rfl ?_
                          exact J8 a8_126 (by first | (rw [if_neg c142, if_pos c223]; done) | simp only [if_neg c142, if_pos c223])
                        · refine x_aload_n O 6 dX6_leads_226 rfl rfl ?_
                          refine x_mget O k_X6_39_6 (mg_21 _ _) dX6_leads_227 ?_
                          refine x_iload O 0 dX6_leads_230 rfl ?_
                          refine x_aload_n O 6 dX6_leads_232 rfl rfl ?_
                          refine x_mget O k_X6_39_6 (mg_21 _ _) dX6_leads_233 ?_
                          refine x_iload O 0 dX6_leads_236 rfl ?_
                          refine x_ialdN O MS.c8 (by have := or8 (a := i2_79) (b := i5_126) (by omega) (by omega); omega) rfl dX6_leads_238 ?_
                          refine x_top (v' := a8_126 ((8 * (i2_79 ||| 2 ^ i5_126)) + i5_126)) (congrFun mc_s ((8 * (i2_79 ||| 2 ^ i5_126)) + i5_126)) ?_
                          refine x_iload O 1 dX6_leads_239 rfl ?_
                          refine x_cS O 2 (c_j_min (a8_126 ((8 * (i2_79 ||| 2 ^ i5_126)) + i5_126)) (j_max ((a8_91 (8 * i2_79 + i3_91)) + (m_goes (μ 1) (tn (m_ofFind (μ 1) (tn (μ 7 i3_91)) 1)) (tn (m_ofFind (μ 1) (tn (μ 7 i5_126)) 1)))) (m_ofFind (μ 1) (tn (μ 7 i5_126)) 4))) (lw_S q1781 q760 q116 q761) hd_J7_min rfl (by rw [RF]; rfl) (by rw [RL]; rfl) ⟨Nat.zero_le _, Nat.zero_le _⟩ rfl rfl dX6_leads_241 ?_
                          refine x_top (v' := j_min (a8_126 ((8 * (i2_79 ||| 2 ^ i5_126)) + i5_126)) (j_max ((a8_91 (8 * i2_79 + i3_91)) + (m_goes (μ 1) (tn (m_ofFind (μ 1) (tn (μ 7 i3_91)) 1)) (tn (m_ofFind (μ 1) (tn (μ 7 i5_126)) 1)))) (m_ofFind (μ 1) (tn (μ 7 i5_126)) 4))) rfl ?_
                          refine x_mastQ O 7 MS.c8 rfl rfl rfl (by have := or8 (a := i2_79) (b := i5_126) (by omega) (by omega); omega) rfl dX6_leads_244 (μ' := (mc μ 8 (ups a8_126 ((8 * (i2_79 ||| 2 ^ i5_126)) + i5_126) (j_min (a8_126 ((8 * (i2_79 ||| 2 ^ i5_126)) + i5_126)) (j_max ((a8_91 (8 * i2_79 + i3_91)) + (m_goes (μ 1) (tn (m_ofFind (μ 1) (tn (μ 7 i3_91)) 1)) (tn (m_ofFind (μ 1) (tn (μ 7 i5_126)) 1)))) (m_ofFind (μ 1) (tn (μ 7 i5_126)) 4)))))) wc_s ?_
                          refine x_sub [2, 3, 4, 5, 6] rfl ?_
                          exact J8 (ups a8_126 ((8 * (i2_79 ||| 2 ^ i5_126)) + i5_126) (j_min (a8_126 ((8 * (i2_79 ||| 2 ^ i5_126)) + i5_126)) (j_max ((a8_91 (8 * i2_79 + i3_91)) + (m_goes (μ 1) (tn (m_ofFind (μ 1) (tn (μ 7 i3_91)) 1)) (tn (m_ofFind (μ 1) (tn (μ 7 i5_126)) 1)))) (m_ofFind (μ 1) (tn (μ 7 i5_126)) 4)))) (by first | (rw [if_neg c142, if_neg c223]; done) | simp only [if_neg c142, if_neg c223])
                      · refine x_goto O 245 dX6_leads_145 (by decide) ?_
                        exact J8 a8_126 (by rw [if_pos c142])
                refine LOOP126 (tn (μ 0 20)) 0 a8_91 rfl (by omega) (fun y0 hy_126 => ?_)
                subst hy_126
                exact J6 ((fr (fun i s => m_leads_b126 (μ 1) (μ 7) (μ 8) (μ 0 20) i2_79 i3_91 a8_91 i s) (tn (μ 0 20)) 0 a8_91)) (by rw [if_neg c117])
              · refine x_sub [1, 2, 3] (L' := [(3, .int (nI i3_91)), (2, .int (nI i2_79)), (0, .ref (adr 0))]) rfl ?_
                refine x_goto O 251 dX6_leads_120 (by decide) ?_
                exact J6 a8_91 (by rw [if_pos c117])
        refine LOOP91 (tn (μ 0 20)) 0 a8_79 rfl (by omega) (fun y0 hy_91 => ?_)
        subst hy_91
        refine x_iincN O 0 [(2, .int (nI (i2_79 + 1))), (0, .ref (adr 0))] dX6_leads_257 rfl rfl rfl ?_
        refine x_goto O 79 dX6_leads_260 (by decide) ?_
        obtain ⟨c2_, rfl⟩ : ∃ z, cc_ = z + 1 := ⟨cc_ - 1, by omega⟩
        have hs_ : (fun i s => m_leads_b79 (μ 1) (μ 7) (μ 8) (μ 0 20) i s) i2_79 a8_79 = (fr (fun i s => m_leads_b91 (μ 1) (μ 7) (μ 8) (μ 0 20) i2_79 i s) (tn (μ 0 20)) 0 a8_79) := by show m_leads_b79 (μ 1) (μ 7) (μ 8) (μ 0 20) i2_79 a8_79 = _; unfold m_leads_b79; rfl
        exact IH_ c2_ (by omega) _ _ (by omega) (by omega) (fun y0 hy_ => K_ y0 (hy_.trans (fr_step hs_).symm))
  refine LOOP79 (2 ^ tn (μ 0 20) - 1) 1 ((fr (fun i s => m_leads_b30 (μ 1) (μ 7) (μ 8) (μ 0 20) first i s) (tn (μ 0 20)) 0 (fr (fun i s => m_leads_b2 (μ 1) (μ 7) (μ 8) (μ 0 20) i s) (8 * 2 ^ tn (μ 0 20)) 0 (μ 8)))) rfl (by omega) (fun y0 hy_79 => ?_)
  subst hy_79
  exact x_vretQ O hQ rfl dX6_leads_263 (fun h m => ⟨rfl, by rw [hrs0]; exact m.eq rfl⟩)

def m_earliest_b6 (C8 : Nat → Int32) (F20 : Int32) (set : Nat) (i3_6 : Nat) (v2_6 : Int32) : Int32 :=
  j_min v2_6 (C8 (8 * set + i3_6))
def m_earliest (C8 : Nat → Int32) (F20 : Int32) (set : Nat) : Int32 :=
  (fr (fun i s => m_earliest_b6 C8 F20 set i s) (tn F20) 0 (100000))
set_option maxHeartbeats 1000000 in
set_option maxRecDepth 100000 in
theorem c_m_earliest {G : UG} {adr : Nat → Nat} {h0 : Hp} {μ : Mu} (hn : nn (μ 0 20) 8) (set : Nat) (hs : set < 256) : Con G yX6_earliest cX6_earliest 4 (some .int) 1 21 0 0 [.ref (adr 0), .int (nI set)] (MS G adr h0 μ) (fun vr_ h' => vr_ = some (.int (m_earliest (μ 8) (μ 0 20) set)) ∧ MS G adr h0 μ h') nX := by
  refine con_of2 (plainFor_of_name (by decide)) rfl ?_
  intro F R Q RF RL RC RS hQ O hnh hnm
  obtain ⟨res, hres⟩ : ∃ z, z = (m_earliest (μ 8) (μ 0 20) set) := ⟨_, rfl⟩
  rw [← hres] at hQ
  unfold m_earliest at hres
  have hnb := hn.2
  refine x_eq (L' := [(0, .ref (adr 0)), (1, .int (nI set))]) ?_ rfl rfl rfl
  refine x_ldcw O q2139 dX6_earliest_0 ?_
  refine x_istore_n O [(2, .int ((100000))), (0, .ref (adr 0)), (1, .int (nI set))] dX6_earliest_3 rfl rfl rfl ?_
  refine x_iconst O (nI 0) dX6_earliest_4 (by decide) ?_
  refine x_istore_n O [(3, .int (nI 0)), (2, .int ((100000))), (0, .ref (adr 0)), (1, .int (nI set))] dX6_earliest_5 rfl rfl rfl ?_
  have LOOP6 : ∀ (cc_ : Nat) (i3_6 : Nat) (v2_6 : Int32), cc_ = tn (μ 0 20) - i3_6 → i3_6 < 2147483648 → (∀ (y0 : Int32), y0 = fr (fun i s => m_earliest_b6 (μ 8) (μ 0 20) set i s) cc_ i3_6 v2_6 → X G F R Q 4 36 [(2, .int y0), (0, .ref (adr 0))] [] (MS G adr h0 μ) 0 0) → X G F R Q 4 6 [(3, .int (nI i3_6)), (2, .int v2_6), (0, .ref (adr 0)), (1, .int (nI set))] [] (MS G adr h0 μ) 0 0 := by
    intro cc_
    induction cc_ using Nat.strongRecOn with
    | ind cc_ IH_ =>
      intro i3_6 v2_6 hc_ hb_  K_
      refine x_iload_n O 0 dX6_earliest_6 rfl rfl ?_
      refine x_aload_n O 2 dX6_earliest_7 rfl rfl ?_
      refine x_mget O k_X6_365_6 (mg_20 _ _) dX6_earliest_8 ?_
      refine x_top (v' := nI (tn (μ 0 20))) (hn.1) ?_
      refine x_icmpgeN O 36 (by omega) (by omega) dX6_earliest_11 (by decide) (fun c11 => ?_) (fun c11 => ?_)
      · refine x_sub [1, 2] (L' := [(2, .int v2_6), (0, .ref (adr 0))]) rfl ?_
        obtain rfl : cc_ = 0 := by omega
        exact K_ _ rfl
      · refine x_iload_n O 1 dX6_earliest_14 rfl rfl ?_
        refine x_aload_n O 2 dX6_earliest_15 rfl rfl ?_
        refine x_mget O k_X6_39_6 (mg_21 _ _) dX6_earliest_16 ?_
        refine x_bipush O (nI 8) dX6_earliest_19 (by decide) ?_
        refine x_iload_n O 3 dX6_earliest_21 rfl rfl ?_
        refine x_imulN O dX6_earliest_22 ?_
        refine x_iload_n O 0 dX6_earliest_23 rfl rfl ?_
        refine x_iaddN O dX6_earliest_24 ?_
        refine x_ialdN O MS.c8 (by omega) rfl dX6_earliest_25 ?_
        refine x_top (v' := μ 8 (8 * set + i3_6)) rfl ?_
        refine x_cS O 2 (c_j_min v2_6 (μ 8 (8 * set + i3_6))) (lw_S q1781 q760 q116 q761) hd_J7_min rfl (by rw [RF]; rfl) (by rw [RL]; rfl) ⟨Nat.zero_le _, Nat.zero_le _⟩ rfl rfl dX6_earliest_26 ?_
        refine x_top (v' := j_min v2_6 (μ 8 (8 * set + i3_6))) rfl ?_
        refine x_istore_n O [(2, .int (j_min v2_6 (μ 8 (8 * set + i3_6)))), (3, .int (nI i3_6)), (0, .ref (adr 0)), (1, .int (nI set))] dX6_earliest_29 rfl rfl rfl ?_
        refine x_iincN O 1 [(3, .int (nI (i3_6 + 1))), (2, .int (j_min v2_6 (μ 8 (8 * set + i3_6)))), (0, .ref (adr 0)), (1, .int (nI set))] dX6_earliest_30 rfl rfl rfl ?_
        refine x_goto O 6 dX6_earliest_33 (by decide) ?_
        obtain ⟨c2_, rfl⟩ : ∃ z, cc_ = z + 1 := ⟨cc_ - 1, by omega⟩
        have hs_ : (fun i s => m_earliest_b6 (μ 8) (μ 0 20) set i s) i3_6 v2_6 = j_min v2_6 (μ 8 (8 * set + i3_6)) := by show m_earliest_b6 (μ 8) (μ 0 20) set i3_6 v2_6 = _; unfold m_earliest_b6; rfl
        exact IH_ c2_ (by omega) _ _ (by omega) (by omega) (fun y0 hy_ => K_ y0 (hy_.trans (fr_step hs_).symm))
  refine LOOP6 (tn (μ 0 20)) 0 ((100000)) rfl (by omega) (fun y0 hy_6 => ?_)
  subst hy_6
  refine x_iload_n O 0 dX6_earliest_36 rfl rfl ?_
  exact x_iretQ O hQ rfl dX6_earliest_37 (fun h m => ⟨by rw [hres], m⟩)

def m_handsOf_b29 (C8 : Nat → Int32) (C9 : Nat → Int32) (F20 : Int32) (i1_9 : Nat) (iw_29 : Nat) (v2_29 : Nat) (a9_29 : (Nat → Int32)) : (Nat × (Nat → Int32)) ⊕ (Nat × (Nat → Int32)) :=
  (if v2_29 = 0 then .inr (v2_29, a9_29) else .inl (tn ((nI (v2_29 - 1)) &&& (nI i1_9)), (if ((100000)) ≤ (m_earliest C8 (nI (tn F20)) v2_29) then a9_29 else ups a9_29 i1_9 (j_min (a9_29 i1_9) ((nI 1) + (a9_29 (tn ((nI i1_9) &&& ((nI v2_29) ^^^ ((-1)))))))))))
def m_handsOf_b9 (C8 : Nat → Int32) (C9 : Nat → Int32) (F20 : Int32)  (i1_9 : Nat) (a9_9 : (Nat → Int32)) : (Nat → Int32) :=
  (frb (fun i s => m_handsOf_b29 C8 C9 F20 i1_9 i s.1 s.2) (i1_9 + 1) 0 (i1_9, ups a9_9 i1_9 (nI 9))).2
def m_handsOf (C8 : Nat → Int32) (C9 : Nat → Int32) (F20 : Int32)  : Int32 :=
  ((fr (fun i s => m_handsOf_b9 C8 C9 F20 i s) (2 ^ tn F20 - 1) 1 (ups C9 0 (nI 0)))) (2 ^ tn F20 - 1)
def m_handsOf_c9 (C8 : Nat → Int32) (C9 : Nat → Int32) (F20 : Int32)  : Nat → Int32 :=
  (fr (fun i s => m_handsOf_b9 C8 C9 F20 i s) (2 ^ tn F20 - 1) 1 (ups C9 0 (nI 0)))
set_option maxHeartbeats 1000000 in
set_option maxRecDepth 100000 in
theorem c_m_handsOf {G : UG} {adr : Nat → Nat} {h0 : Hp} {μ : Mu} (hn : nn (μ 0 20) 8)   : Con G yX6_handsOf cX6_handsOf 3 (some .int) 2 44 0 0 [.ref (adr 0)] (MS G adr h0 μ) (fun vr_ h' => vr_ = some (.int (m_handsOf (μ 8) (μ 9) (μ 0 20))) ∧ MS G adr h0 (mc μ 9 (m_handsOf_c9 (μ 8) (μ 9) (μ 0 20))) h') nX := by
  refine con_of2 (plainFor_of_name (by decide)) rfl ?_
  intro F R Q RF RL RC RS hQ O hnh hnm
  obtain ⟨res, hres⟩ : ∃ z, z = (m_handsOf (μ 8) (μ 9) (μ 0 20)) := ⟨_, rfl⟩
  rw [← hres] at hQ
  unfold m_handsOf at hres
  obtain ⟨rs0, hrs0⟩ : ∃ z, z = m_handsOf_c9 (μ 8) (μ 9) (μ 0 20) := ⟨_, rfl⟩
  rw [← hrs0] at hQ
  unfold m_handsOf_c9 at hrs0
  have hnb := hn.2
  have hp := pow8 hnb
  have hp1 := pow_1 (tn (μ 0 20))
  refine x_eq (L' := [(0, .ref (adr 0))]) ?_ rfl rfl rfl
  refine x_aload_n O 0 dX6_handsOf_0 rfl rfl ?_
  refine x_mget O k_X6_42_6 (mg_22 _ _) dX6_handsOf_1 ?_
  refine x_iconst O (nI 0) dX6_handsOf_4 (by decide) ?_
  refine x_iconst O (nI 0) dX6_handsOf_5 (by decide) ?_
  refine x_mastQ O 8 MS.c9 rfl rfl rfl (by omega) rfl dX6_handsOf_6 (μ' := (mc μ 9 (ups (μ 9) 0 (nI 0)))) (w_new (f := μ 9) (by rfl)) ?_
  refine x_iconst O (nI 1) dX6_handsOf_7 (by decide) ?_
  refine x_istore_n O [(1, .int (nI 1)), (0, .ref (adr 0))] dX6_handsOf_8 rfl rfl rfl ?_
  have LOOP9 : ∀ (cc_ : Nat) (i1_9 : Nat) (a9_9 : (Nat → Int32)), cc_ = 2 ^ tn (μ 0 20) - i1_9 → i1_9 < 2147483648 → (∀ (y0 : (Nat → Int32)), y0 = fr (fun i s => m_handsOf_b9 (μ 8) (μ 9) (μ 0 20) i s) cc_ i1_9 a9_9 → X G F R Q 3 86 [(0, .ref (adr 0))] [] (MS G adr h0 ((mc μ 9 y0))) 0 0) → X G F R Q 3 9 [(1, .int (nI i1_9)), (0, .ref (adr 0))] [] (MS G adr h0 ((mc μ 9 a9_9))) 0 0 := by
    intro cc_
    induction cc_ using Nat.strongRecOn with
    | ind cc_ IH_ =>
      intro i1_9 a9_9 hc_ hb_  K_
      refine x_iload_n O 0 dX6_handsOf_9 rfl rfl ?_
      refine x_iconst O (nI 1) dX6_handsOf_10 (by decide) ?_
      refine x_aload_n O 1 dX6_handsOf_11 rfl rfl ?_
      refine x_mget O k_X6_365_6 (mg_20 _ _) dX6_handsOf_12 ?_
      refine x_top (v' := nI (tn (μ 0 20))) ((congrFun (mc_n (by decide)) 20).trans (hn.1)) ?_
      refine x_ishl O dX6_handsOf_15 ?_
      refine x_top (v' := nI (2 ^ tn (μ 0 20))) (shl1 hnb) ?_
      refine x_icmpgeN O 86 (by omega) (by omega) dX6_handsOf_16 (by decide) (fun c16 => ?_) (fun c16 => ?_)
      · refine x_sub [1] (L' := [(0, .ref (adr 0))]) rfl ?_
        obtain rfl : cc_ = 0 := by omega
        exact K_ _ rfl
      · refine x_aload_n O 1 dX6_handsOf_19 rfl rfl ?_
        refine x_mget O k_X6_42_6 (mg_22 _ _) dX6_handsOf_20 ?_
        refine x_iload_n O 0 dX6_handsOf_23 rfl rfl ?_
        refine x_bipush O (nI 9) dX6_handsOf_24 (by decide) ?_
        refine x_mastQ O 8 MS.c9 rfl rfl rfl (by omega) rfl dX6_handsOf_26 (μ' := (mc μ 9 (ups a9_9 i1_9 (nI 9)))) wc_s ?_
        refine x_iload_n O 0 dX6_handsOf_27 rfl rfl ?_
        refine x_istore_n O [(2, .int (nI i1_9)), (1, .int (nI i1_9)), (0, .ref (adr 0))] dX6_handsOf_28 rfl rfl rfl ?_
        have LOOP29 : ∀ (cc_ : Nat) (iw_29 : Nat) (v2_29 : Nat) (a9_29 : (Nat → Int32)), v2_29 < cc_ → True → (v2_29 ≤ i1_9) → (∀ (y0 : Nat) (y1 : (Nat → Int32)), (y0, y1) = frb (fun i s => m_handsOf_b29 (μ 8) (μ 9) (μ 0 20) i1_9 i s.1 s.2) cc_ iw_29 (v2_29, a9_29) → X G F R Q 3 80 [(1, .int (nI i1_9)), (0, .ref (adr 0))] [] (MS G adr h0 ((mc μ 9 y1))) 0 0) → X G F R Q 3 29 [(2, .int (nI v2_29)), (1, .int (nI i1_9)), (0, .ref (adr 0))] [] (MS G adr h0 ((mc μ 9 a9_29))) 0 0 := by
          intro cc_
          induction cc_ using Nat.strongRecOn with
          | ind cc_ IH_ =>
            intro iw_29 v2_29 a9_29 hc_ hb_ hs_ K_
            refine x_iload_n O 0 dX6_handsOf_29 rfl rfl ?_
            refine x_ifleN O 80 (by omega) dX6_handsOf_30 (by decide) (fun c30 => ?_) (fun c30 => ?_)
            · refine x_sub [1, 2] (L' := [(1, .int (nI i1_9)), (0, .ref (adr 0))]) rfl ?_
              obtain ⟨c2_, rfl⟩ : ∃ z, cc_ = z + 1 := ⟨cc_ - 1, by omega⟩
              have hs_ : (fun i s => m_handsOf_b29 (μ 8) (μ 9) (μ 0 20) i1_9 i s.1 s.2) iw_29 (v2_29, a9_29) = .inr (v2_29, a9_29) := by show m_handsOf_b29 (μ 8) (μ 9) (μ 0 20) i1_9 iw_29 v2_29 a9_29 = _; unfold m_handsOf_b29; rw [if_pos c30]
              exact K_ _ _ (frb_stop hs_).symm
            · refine x_aload_n O 2 dX6_handsOf_33 rfl rfl ?_
              refine x_iload_n O 0 dX6_handsOf_34 rfl rfl ?_
              refine x_cV O 1 (c_m_earliest (μ := (mc μ 9 a9_29)) hn v2_29 (by omega)) MS.obj uc6 (lw_V q2148 q2150 qs89 q111 q2151) rfl hd_X6_earliest rfl (by rw [RF]; rfl) (by rw [RL]; rfl) ⟨Nat.zero_le _, Nat.zero_le _⟩ rfl rfl dX6_handsOf_35 ?_
              refine x_top (v' := m_earliest (μ 8) (nI (tn (μ 0 20))) v2_29) (by rw [show (mc μ 9 a9_29) 8 = μ 8 from (mc_n (by decide)), show (mc μ 9 a9_29) 0 20 = nI (tn (μ 0 20)) from ((congrFun (mc_n (by decide)) 20).trans (hn.1))]) ?_
              refine x_ldcw O q2139 dX6_handsOf_38 ?_
              have J2 : ∀ (y1 : Nat → Int32), y1 = (if ((100000)) ≤ (m_earliest (μ 8) (nI (tn (μ 0 20))) v2_29) then a9_29 else ups a9_29 i1_9 (j_min (a9_29 i1_9) ((nI 1) + (a9_29 (tn ((nI i1_9) &&& ((nI v2_29) ^^^ ((-1))))))))) → X G F R Q 3 71 [(2, .int (nI v2_29)), (1, .int (nI i1_9)), (0, .ref (adr 0))] [] (MS G adr h0 ((mc μ 9 y1))) 0 0 := by
                intro y1 e3
                subst e3
                refine x_iload_n O 0 dX6_handsOf_71 rfl rfl ?_
                refine x_iconst O (nI 1) dX6_handsOf_72 (by decide) ?_
                refine x_isubN O (by omega) dX6_handsOf_73 ?_
                refine x_iload_n O 1 dX6_handsOf_74 rfl rfl ?_
                refine x_iand O dX6_handsOf_75 ?_
                refine x_top (v' := nI (tn ((nI (v2_29 - 1)) &&& (nI i1_9)))) ((and_nn (by omega) _).1) ?_
                refine x_istore_n O [(2, .int (nI (tn ((nI (v2_29 - 1)) &&& (nI i1_9))))), (1, .int (nI i1_9)), (0, .ref (adr 0))] dX6_handsOf_76 rfl rfl rfl ?_
                refine x_goto O 29 dX6_handsOf_77 (by decide) ?_
                obtain ⟨c2_, rfl⟩ : ∃ z, cc_ = z + 1 := ⟨cc_ - 1, by omega⟩
                have hs_ : (fun i s => m_handsOf_b29 (μ 8) (μ 9) (μ 0 20) i1_9 i s.1 s.2) iw_29 (v2_29, a9_29) = .inl (tn ((nI (v2_29 - 1)) &&& (nI i1_9)), (if ((100000)) ≤ (m_earliest (μ 8) (nI (tn (μ 0 20))) v2_29) then a9_29 else ups a9_29 i1_9 (j_min (a9_29 i1_9) ((nI 1) + (a9_29 (tn ((nI i1_9) &&& ((nI v2_29) ^^^ ((-1)))))))))) := by show m_handsOf_b29 (μ 8) (μ 9) (μ 0 20) i1_9 iw_29 v2_29 a9_29 = _; unfold m_handsOf_b29; rw [if_neg c30]
                exact IH_ c2_ (by omega) _ _ _ (by have := (and_nn (a := v2_29 - 1) (by omega) (nI i1_9)).2; omega) trivial (by have := (and_nn (a := v2_29 - 1) (by omega) (nI i1_9)).2; omega) (fun y0 y1 hy_ => K_ y0 y1 (hy_.trans (frb_step hs_).symm))
              refine x_icmpge O 71 dX6_handsOf_41 (by decide) (fun c41 => ?_) (fun c41 => ?_)
              · exact J2 a9_29 (by rw [if_pos c41])
              · refine x_aload_n O 2 dX6_handsOf_44 rfl rfl ?_
                refine x_mget O k_X6_42_6 (mg_22 _ _) dX6_handsOf_45 ?_
                refine x_iload_n O 1 dX6_handsOf_48 rfl rfl ?_
                refine x_aload_n O 2 dX6_handsOf_49 rfl rfl ?_
                refine x_mget O k_X6_42_6 (mg_22 _ _) dX6_handsOf_50 ?_
                refine x_iload_n O 1 dX6_handsOf_53 rfl rfl ?_
                refine x_ialdN O MS.c9 (by omega) rfl dX6_handsOf_54 ?_
                refine x_top (v' := a9_29 i1_9) (congrFun mc_s i1_9) ?_
                refine x_iconst O (nI 1) dX6_handsOf_55 (by decide) ?_
                refine x_aload_n O 2 dX6_handsOf_56 rfl rfl ?_
                refine x_mget O k_X6_42_6 (mg_22 _ _) dX6_handsOf_57 ?_
                refine x_iload_n O 1 dX6_handsOf_60 rfl rfl ?_
                refine x_iload_n O 0 dX6_handsOf_61 rfl rfl ?_
                refine x_iconst O ((-1)) dX6_handsOf_62 (by decide) ?_
                refine x_ixor O dX6_handsOf_63 ?_
                refine x_iand O dX6_handsOf_64 ?_
                refine x_top (v' := nI (tn ((nI i1_9) &&& ((nI v2_29) ^^^ ((-1)))))) ((and_nn (by omega) _).1) ?_
                refine x_ialdN O MS.c9 (Nat.lt_of_le_of_lt (and_nn (by omega) _).2 (by omega)) rfl dX6_handsOf_65 ?_
                refine x_top (v' := a9_29 (tn ((nI i1_9) &&& ((nI v2_29) ^^^ ((-1)))))) (congrFun mc_s (tn ((nI i1_9) &&& ((nI v2_29) ^^^ ((-1)))))) ?_
                refine x_iadd O dX6_handsOf_66 ?_
                refine x_cS O 2 (c_j_min (a9_29 i1_9) ((nI 1) + (a9_29 (tn ((nI i1_9) &&& ((nI v2_29) ^^^ ((-1)))))))) (lw_S q1781 q760 q116 q761) hd_J7_min rfl (by rw [RF]; rfl) (by rw [RL]; rfl) ⟨Nat.zero_le _, Nat.zero_le _⟩ rfl rfl dX6_handsOf_67 ?_
                refine x_top (v' := j_min (a9_29 i1_9) ((nI 1) + (a9_29 (tn ((nI i1_9) &&& ((nI v2_29) ^^^ ((-1)))))))) rfl ?_
                refine x_mastQ O 8 MS.c9 rfl rfl rfl (by omega) rfl dX6_handsOf_70 (μ' := (mc μ 9 (ups a9_29 i1_9 (j_min (a9_29 i1_9) ((nI 1) + (a9_29 (tn ((nI i1_9) &&& ((nI v2_29) ^^^ ((-1))))))))))) wc_s ?_
                exact J2 (ups a9_29 i1_9 (j_min (a9_29 i1_9) ((nI 1) + (a9_29 (tn ((nI i1_9) &&& ((nI v2_29) ^^^ ((-1))))))))) (by rw [if_neg c41])
        refine LOOP29 (i1_9 + 1) 0 i1_9 (ups a9_9 i1_9 (nI 9)) (by omega) trivial (by omega) (fun y0 y1 hy_29 => ?_)
        obtain rfl : y0 = (frb (fun i s => m_handsOf_b29 (μ 8) (μ 9) (μ 0 20) i1_9 i s.1 s.2) (i1_9 + 1) 0 (i1_9, ups a9_9 i1_9 (nI 9))).1 := congrArg (fun z => z.1) hy_29
        obtain rfl : y1 = (frb (fun i s => m_handsOf_b29 (μ 8) (μ 9) (μ 0 20) i1_9 i s.1 s.2) (i1_9 + 1) 0 (i1_9, ups a9_9 i1_9 (nI 9))).2 := congrArg (fun z => z.2) hy_29
        refine x_iincN O 0 [(1, .int (nI (i1_9 + 1))), (0, .ref (adr 0))] dX6_handsOf_80 rfl rfl rfl ?_
        refine x_goto O 9 dX6_handsOf_83 (by decide) ?_
        obtain ⟨c2_, rfl⟩ : ∃ z, cc_ = z + 1 := ⟨cc_ - 1, by omega⟩
        have hs_ : (fun i s => m_handsOf_b9 (μ 8) (μ 9) (μ 0 20) i s) i1_9 a9_9 = (frb (fun i s => m_handsOf_b29 (μ 8) (μ 9) (μ 0 20) i1_9 i s.1 s.2) (i1_9 + 1) 0 (i1_9, ups a9_9 i1_9 (nI 9))).2 := by show m_handsOf_b9 (μ 8) (μ 9) (μ 0 20) i1_9 a9_9 = _; unfold m_handsOf_b9; rfl
        exact IH_ c2_ (by omega) _ _ (by omega) (by omega) (fun y0 hy_ => K_ y0 (hy_.trans (fr_step hs_).symm))
  refine LOOP9 (2 ^ tn (μ 0 20) - 1) 1 (ups (μ 9) 0 (nI 0)) rfl (by omega) (fun y0 hy_9 => ?_)
  subst hy_9
  refine x_aload_n O 0 dX6_handsOf_86 rfl rfl ?_
  refine x_mget O k_X6_42_6 (mg_22 _ _) dX6_handsOf_87 ?_
  refine x_iconst O (nI 1) dX6_handsOf_90 (by decide) ?_
  refine x_aload_n O 0 dX6_handsOf_91 rfl rfl ?_
  refine x_mget O k_X6_365_6 (mg_20 _ _) dX6_handsOf_92 ?_
  refine x_top (v' := nI (tn (μ 0 20))) ((congrFun (mc_n (by decide)) 20).trans (hn.1)) ?_
  refine x_ishl O dX6_handsOf_95 ?_
  refine x_top (v' := nI (2 ^ tn (μ 0 20))) (shl1 hnb) ?_
  refine x_iconst O (nI 1) dX6_handsOf_96 (by decide) ?_
  refine x_isubN O (by omega) dX6_handsOf_97 ?_
  refine x_ialdN O MS.c9 (by omega) rfl dX6_handsOf_98 ?_
  refine x_top (v' := ((fr (fun i s => m_handsOf_b9 (μ 8) (μ 9) (μ 0 20) i s) (2 ^ tn (μ 0 20) - 1) 1 (ups (μ 9) 0 (nI 0)))) (2 ^ tn (μ 0 20) - 1)) (congrFun mc_s (2 ^ tn (μ 0 20) - 1)) ?_
  exact x_iretQ O hQ rfl dX6_handsOf_99 (fun h m => ⟨by rw [hres], by rw [hrs0]; exact m.eq rfl⟩)

def m_way_b106 (W : Nat → Int32) (C7 : Nat → Int32) (C8 : Nat → Int32) (C9 : Nat → Int32) (gun : Int32) (i5_106 : Nat) (a8_106 : (Nat → Int32)) : ((Nat → Int32)) ⊕ (Int32) :=
  (if (m_earliest (m_leads_c8 W (m_gathers_c7 W C7 gun) a8_106 (nI (m_gathers_f20 W C7 gun)) (nI i5_106)) (nI (m_gathers_f20 W C7 gun)) (2 ^ m_gathers_f20 W C7 gun - 1)) = (m_earliest (m_leads_c8 W (m_gathers_c7 W C7 gun) C8 (nI (m_gathers_f20 W C7 gun)) ((-1))) (nI (m_gathers_f20 W C7 gun)) (2 ^ m_gathers_f20 W C7 gun - 1)) then .inr ((m_gathers_c7 W C7 gun) i5_106) else .inl (m_leads_c8 W (m_gathers_c7 W C7 gun) a8_106 (nI (m_gathers_f20 W C7 gun)) (nI i5_106)))
def m_way (W : Nat → Int32) (C7 : Nat → Int32) (C8 : Nat → Int32) (C9 : Nat → Int32) (gun : Int32) (what : Int32) : Int32 :=
  (if m_none W gun 0 = true then nI 0 else (if (if m_in what (nI 0) (nI 2) = true then false else true) = true then nI 0 else (if what = 0 then m_handsOf (m_leads_c8 W (m_gathers_c7 W C7 gun) C8 (nI (m_gathers_f20 W C7 gun)) ((-1))) C9 (nI (m_gathers_f20 W C7 gun)) else (if (m_gathers_f20 W C7 gun) = 0 then (-1) else (if (m_earliest (m_leads_c8 W (m_gathers_c7 W C7 gun) C8 (nI (m_gathers_f20 W C7 gun)) ((-1))) (nI (m_gathers_f20 W C7 gun)) (2 ^ m_gathers_f20 W C7 gun - 1)) = ((100000)) then (-1) else (if what = (nI 1) then m_earliest (m_leads_c8 W (m_gathers_c7 W C7 gun) C8 (nI (m_gathers_f20 W C7 gun)) ((-1))) (nI (m_gathers_f20 W C7 gun)) (2 ^ m_gathers_f20 W C7 gun - 1) else (match (fre (fun i s => m_way_b106 W C7 C8 C9 gun i s) (m_gathers_f20 W C7 gun) 0 (m_leads_c8 W (m_gathers_c7 W C7 gun) C8 (nI (m_gathers_f20 W C7 gun)) ((-1)))) with | .inl y_106 => (-1) | .inr v => v)))))))
def m_way_f0 (W : Nat → Int32) (C7 : Nat → Int32) (C8 : Nat → Int32) (C9 : Nat → Int32) (gun : Int32) (what : Int32) : Nat :=
  (if m_none W gun 0 = true then 1 else (if (if m_in what (nI 0) (nI 2) = true then false else true) = true then 2 else 0))
set_option maxHeartbeats 1000000 in
set_option maxRecDepth 100000 in
theorem c_m_way {G : UG} {adr : Nat → Nat} {h0 : Hp} {μ : Mu} (hJ : MJ (μ 1)) (gun : Int32) (what : Int32)  : Con G yX6_way cX6_way 6 (some .int) 6 129 0 0 [.ref (adr 0), .int gun, .int what] (MS G adr h0 μ) (fun vr_ h' => vr_ = some (.int (m_way (μ 1) (μ 7) (μ 8) (μ 9) gun what)) ∧ ∃ (Z7 : Nat → Int32) (Z8 : Nat → Int32) (Z9 : Nat → Int32) (z20 : Int32), MS G adr h0 (mc (mc (mc (mset (mset μ 0 0 (nI (m_way_f0 (μ 1) (μ 7) (μ 8) (μ 9) gun what))) 0 20 z20) 7 Z7) 8 Z8) 9 Z9) h') nX := by
  refine con_of2 (plainFor_of_name (by decide)) rfl ?_
  intro F R Q RF RL RC RS hQ O hnh hnm
  obtain ⟨res, hres⟩ : ∃ z, z = (m_way (μ 1) (μ 7) (μ 8) (μ 9) gun what) := ⟨_, rfl⟩
  rw [← hres] at hQ
  unfold m_way at hres
  obtain ⟨rs0, hrs0⟩ : ∃ z, z = m_way_f0 (μ 1) (μ 7) (μ 8) (μ 9) gun what := ⟨_, rfl⟩
  rw [← hrs0] at hQ
  unfold m_way_f0 at hrs0
  have hI := hJ.1
  have hg := gat_n (μ 1) (μ 7) gun
  have hp := pow8 hg
  have hp1 := pow_1 (m_gathers_f20 (μ 1) (μ 7) gun)
  refine x_eq (L' := [(0, .ref (adr 0)), (1, .int gun), (2, .int what)]) ?_ rfl rfl rfl
  refine x_aload_n O 0 dX6_way_0 rfl rfl ?_
  refine x_iconst O (nI 0) dX6_way_1 (by decide) ?_
  refine x_mputQ O p_X6_3_6 (mp_0 _ _ _) rfl dX6_way_2 (μ' := (mset μ 0 0 (nI 0))) rfl ?_
  refine x_aload_n O 0 dX6_way_5 rfl rfl ?_
  refine x_aload_n O 0 dX6_way_6 rfl rfl ?_
  refine x_iload_n O 1 dX6_way_7 rfl rfl ?_
  refine x_iconst O (nI 0) dX6_way_8 (by decide) ?_
  refine x_cV O 2 (c_m_none (μ := (mset μ 0 0 (nI 0))) gun 0 (by omega)) MS.obj uc6 (lw_V q1964 q1966 qs59 q111 q1967) rfl hd_X6_none rfl (by rw [RF]; rfl) (by rw [RL]; rfl) ⟨Nat.zero_le _, Nat.zero_le _⟩ rfl rfl dX6_way_9 ?_
  refine x_top (v' := b2i (m_none (μ 1) gun 0)) (by rw [show (mset μ 0 0 (nI 0)) 1 = μ 1 from (mset_n (by decide))]) ?_
  refine x_iconst O (nI 1) dX6_way_12 (by decide) ?_
  refine x_bc (m_none (μ 1) gun 0) (fun c13 => ?_) (fun c13 => ?_)
  · have hr2 := hres.trans (if_pos c13)
    have hr3 := hrs0.trans (if_pos c13)
    refine x_eq (st' := [.int (nI 1), .int (b2i true), .ref (adr 0)]) ?_ rfl rfl (by rw [c13] <;> rfl)
    refine x_cV O 2 (c_m_throwsIf_t (μ := (mset μ 0 0 (nI 0))) 1) MS.obj uc6 (lw_V q1774 q1776 qs34 q111 q1777) rfl hd_X6_throwsIf rfl (by rw [RF]; rfl) (by rw [RL]; rfl) ⟨Nat.zero_le _, Nat.zero_le _⟩ rfl rfl dX6_way_13 ?_
    refine x_top (v' := b2i true) rfl ?_
    refine x_weak (Ω' := MS G adr h0 (mset μ 0 0 (nI 1))) (fun _ m => m.eq ff_s) ?_
    refine x_ifneB O 41 dX6_way_16 (by decide) (fun _ => ?_) (fun c => absurd rfl c)
    refine x_sub [0] (L' := [(0, .ref (adr 0))]) rfl ?_
    refine x_iconst O (nI 0) dX6_way_41 (by decide) ?_
    exact x_iretQ O hQ rfl dX6_way_42 (fun h m => ⟨by rw [hr2], by rw [hr3]; exact ⟨_, _, _, _, m.eq ((mf_id (k := 20) (v := μ 0 20) (by rfl)).symm.trans ((mc_id (c := 7) (f := μ 7) (by rfl)).symm.trans ((mc_id (c := 8) (f := μ 8) (by rfl)).symm.trans (mc_id (c := 9) (f := μ 9) (by rfl)).symm)))⟩⟩)
  · have hr4 := hres.trans (if_neg c13)
    have hr5 := hrs0.trans (if_neg c13)
    refine x_eq (st' := [.int (nI 1), .int (b2i false), .ref (adr 0)]) ?_ rfl rfl (by rw [bfalse c13] <;> rfl)
    refine x_cV O 2 (c_m_throwsIf_f (μ := (mset μ 0 0 (nI 0))) 1) MS.obj uc6 (lw_V q1774 q1776 qs34 q111 q1777) rfl hd_X6_throwsIf rfl (by rw [RF]; rfl) (by rw [RL]; rfl) ⟨Nat.zero_le _, Nat.zero_le _⟩ rfl rfl dX6_way_13 ?_
    refine x_top (v' := b2i false) rfl ?_
    refine x_ifneB O 41 dX6_way_16 (by decide) (fun c => absurd c (by decide)) (fun _ => ?_)
    refine x_aload_n O 0 dX6_way_19 rfl rfl ?_
    refine x_iload_n O 2 dX6_way_20 rfl rfl ?_
    refine x_iconst O (nI 0) dX6_way_21 (by decide) ?_
    refine x_iconst O (nI 2) dX6_way_22 (by decide) ?_
    refine x_cS O 3 (c_m_in what (nI 0) (nI 2)) (lw_S q1771 q1772 q111 q1773) hd_X6_in rfl (by rw [RF]; rfl) (by rw [RL]; rfl) ⟨Nat.zero_le _, Nat.zero_le _⟩ rfl rfl dX6_way_23 ?_
    refine x_top (v' := b2i (m_in what (nI 0) (nI 2))) rfl ?_
    have J6 : ∀ (y1 : Bool), y1 = (if m_in what (nI 0) (nI 2) = true then false else true) → X G F R Q 6 34 [(0, .ref (adr 0)), (1, .int gun), (2, .int what)] [.int (b2i y1), .ref (adr 0)] (MS G adr h0 ((mset μ 0 0 (nI 0)))) 0 0 := by
      intro y1 e7
      subst e7
      refine x_iconst O (nI 2) dX6_way_34 (by decide) ?_
      refine x_bc ((if m_in what (nI 0) (nI 2) = true then false else true)) (fun c35 => ?_) (fun c35 => ?_)
      · have hr8 := hr4.trans (if_pos c35)
        have hr9 := hr5.trans (if_pos c35)
        refine x_eq (st' := [.int (nI 2), .int (b2i true), .ref (adr 0)]) ?_ rfl rfl (by rw [c35] <;> rfl)
        refine x_cV O 2 (c_m_throwsIf_t (μ := (mset μ 0 0 (nI 0))) 2) MS.obj uc6 (lw_V q1774 q1776 qs34 q111 q1777) rfl hd_X6_throwsIf rfl (by rw [RF]; rfl) (by rw [RL]; rfl) ⟨Nat.zero_le _, Nat.zero_le _⟩ rfl rfl dX6_way_35 ?_
        refine x_top (v' := b2i true) rfl ?_
        refine x_weak (Ω' := MS G adr h0 (mset μ 0 0 (nI 2))) (fun _ m => m.eq ff_s) ?_
        refine x_ifeqB O 43 dX6_way_38 (by decide) (fun c => absurd rfl c) (fun _ => ?_)
        refine x_sub [0] (L' := [(0, .ref (adr 0))]) rfl ?_
        refine x_iconst O (nI 0) dX6_way_41 (by decide) ?_
        exact x_iretQ O hQ rfl dX6_way_42 (fun h m => ⟨by rw [hr8], by rw [hr9]; exact ⟨_, _, _, _, m.eq ((mf_id (k := 20) (v := μ 0 20) (by rfl)).symm.trans ((mc_id (c := 7) (f := μ 7) (by rfl)).symm.trans ((mc_id (c := 8) (f := μ 8) (by rfl)).symm.trans (mc_id (c := 9) (f := μ 9) (by rfl)).symm)))⟩⟩)
      · have hr10 := hr4.trans (if_neg c35)
        have hr11 := hr5.trans (if_neg c35)
        refine x_eq (st' := [.int (nI 2), .int (b2i false), .ref (adr 0)]) ?_ rfl rfl (by rw [bfalse c35] <;> rfl)
        refine x_cV O 2 (c_m_throwsIf_f (μ := (mset μ 0 0 (nI 0))) 2) MS.obj uc6 (lw_V q1774 q1776 qs34 q111 q1777) rfl hd_X6_throwsIf rfl (by rw [RF]; rfl) (by rw [RL]; rfl) ⟨Nat.zero_le _, Nat.zero_le _⟩ rfl rfl dX6_way_35 ?_
        refine x_top (v' := b2i false) rfl ?_
        refine x_ifeqB O 43 dX6_way_38 (by decide) (fun _ => ?_) (fun c => absurd c (by decide))
        refine x_aload_n O 0 dX6_way_43 rfl rfl ?_
        refine x_iload_n O 1 dX6_way_44 rfl rfl ?_
        refine x_cV O 1 (c_m_gathers (μ := (mset μ 0 0 (nI 0))) hI gun) MS.obj uc6 (lw_V q2126 q2128 qs84 q111 q2129) rfl hd_X6_gathers rfl (by rw [RF]; rfl) (by rw [RL]; rfl) ⟨Nat.zero_le _, Nat.zero_le _⟩ rfl rfl dX6_way_45 ?_
        refine x_weak (Ω' := MS G adr h0 (mc (mset (mset μ 0 0 (nI 0)) 0 20 (nI (m_gathers_f20 (μ 1) (μ 7) gun))) 7 (m_gathers_c7 (μ 1) (μ 7) gun))) (fun _ m => by rw [show (mset μ 0 0 (nI 0)) 1 = μ 1 from (mset_n (by decide)), show (mset μ 0 0 (nI 0)) 7 = μ 7 from (mset_n (by decide))] at m; exact m.eq rfl) ?_
        refine x_aload_n O 0 dX6_way_48 rfl rfl ?_
        refine x_iconst O ((-1)) dX6_way_49 (by decide) ?_
        refine x_cV O 1 (c_m_leads (μ := (mc (mset (mset μ 0 0 (nI 0)) 0 20 (nI (m_gathers_f20 (μ 1) (μ 7) gun))) 7 (m_gathers_c7 (μ 1) (μ 7) gun))) hJ (nn_nI (gat_n (μ 1) (μ 7) gun) (by decide)) (gat_h hJ.1) ((-1))) MS.obj uc6 (lw_V q2135 q2137 qs86 q111 q2138) rfl hd_X6_leads rfl (by rw [RF]; rfl) (by rw [RL]; rfl) ⟨Nat.zero_le _, Nat.zero_le _⟩ rfl rfl dX6_way_50 ?_
        refine x_weak (Ω' := MS G adr h0 (mc (mc (mset (mset μ 0 0 (nI 0)) 0 20 (nI (m_gathers_f20 (μ 1) (μ 7) gun))) 7 (m_gathers_c7 (μ 1) (μ 7) gun)) 8 (m_leads_c8 (μ 1) (m_gathers_c7 (μ 1) (μ 7) gun) (μ 8) (nI (m_gathers_f20 (μ 1) (μ 7) gun)) ((-1))))) (fun _ m => by rw [show (mc (mset (mset μ 0 0 (nI 0)) 0 20 (nI (m_gathers_f20 (μ 1) (μ 7) gun))) 7 (m_gathers_c7 (μ 1) (μ 7) gun)) 1 = μ 1 from ((mc_n (by decide)).trans ((mset_n (by decide)).trans (mset_n (by decide)))), show (mc (mset (mset μ 0 0 (nI 0)) 0 20 (nI (m_gathers_f20 (μ 1) (μ 7) gun))) 7 (m_gathers_c7 (μ 1) (μ 7) gun)) 7 = m_gathers_c7 (μ 1) (μ 7) gun from mc_s, show (mc (mset (mset μ 0 0 (nI 0)) 0 20 (nI (m_gathers_f20 (μ 1) (μ 7) gun))) 7 (m_gathers_c7 (μ 1) (μ 7) gun)) 8 = μ 8 from ((mc_n (by decide)).trans ((mset_n (by decide)).trans (mset_n (by decide)))), show (mc (mset (mset μ 0 0 (nI 0)) 0 20 (nI (m_gathers_f20 (μ 1) (μ 7) gun))) 7 (m_gathers_c7 (μ 1) (μ 7) gun)) 0 20 = nI (m_gathers_f20 (μ 1) (μ 7) gun) from ((congrFun (mc_n (by decide)) 20).trans rd_hit)] at m; exact m.eq rfl) ?_
        refine x_iload_n O 2 dX6_way_53 rfl rfl ?_
        refine x_ifne O 62 dX6_way_54 (by decide) (fun c54 => ?_) (fun c54 => ?_)
        · have hr12 := hr10.trans (if_neg c54)
          refine x_sub [0, 2] (L' := [(0, .ref (adr 0)), (2, .int what)]) rfl ?_
          refine x_iconst O (nI 1) dX6_way_62 (by decide) ?_
          refine x_aload_n O 0 dX6_way_63 rfl rfl ?_
          refine x_mget O k_X6_365_6 (mg_20 _ _) dX6_way_64 ?_
          refine x_top (v' := nI (m_gathers_f20 (μ 1) (μ 7) gun)) ((congrFun (mc_n (by decide)) 20).trans ((congrFun (mc_n (by decide)) 20).trans rd_hit)) ?_
          refine x_ishl O dX6_way_67 ?_
          refine x_top (v' := nI (2 ^ m_gathers_f20 (μ 1) (μ 7) gun)) (shl1 hg) ?_
          refine x_iconst O (nI 1) dX6_way_68 (by decide) ?_
          refine x_isubN O (by omega) dX6_way_69 ?_
          refine x_istore_n O [(3, .int (nI (2 ^ m_gathers_f20 (μ 1) (μ 7) gun - 1))), (0, .ref (adr 0)), (2, .int what)] dX6_way_70 rfl rfl rfl ?_
          refine x_aload_n O 1 dX6_way_71 rfl rfl ?_
          refine x_iload_n O 0 dX6_way_72 rfl rfl ?_
          refine x_cV O 1 (c_m_earliest (μ := (mc (mc (mset (mset μ 0 0 (nI 0)) 0 20 (nI (m_gathers_f20 (μ 1) (μ 7) gun))) 7 (m_gathers_c7 (μ 1) (μ 7) gun)) 8 (m_leads_c8 (μ 1) (m_gathers_c7 (μ 1) (μ 7) gun) (μ 8) (nI (m_gathers_f20 (μ 1) (μ 7) gun)) ((-1))))) (nn_nI (gat_n (μ 1) (μ 7) gun) (by decide)) (2 ^ m_gathers_f20 (μ 1) (μ 7) gun - 1) (by omega)) MS.obj uc6 (lw_V q2148 q2150 qs89 q111 q2151) rfl hd_X6_earliest rfl (by rw [RF]; rfl) (by rw [RL]; rfl) ⟨Nat.zero_le _, Nat.zero_le _⟩ rfl rfl dX6_way_73 ?_
          refine x_top (v' := m_earliest (m_leads_c8 (μ 1) (m_gathers_c7 (μ 1) (μ 7) gun) (μ 8) (nI (m_gathers_f20 (μ 1) (μ 7) gun)) ((-1))) (nI (m_gathers_f20 (μ 1) (μ 7) gun)) (2 ^ m_gathers_f20 (μ 1) (μ 7) gun - 1)) (by rw [show (mc (mc (mset (mset μ 0 0 (nI 0)) 0 20 (nI (m_gathers_f20 (μ 1) (μ 7) gun))) 7 (m_gathers_c7 (μ 1) (μ 7) gun)) 8 (m_leads_c8 (μ 1) (m_gathers_c7 (μ 1) (μ 7) gun) (μ 8) (nI (m_gathers_f20 (μ 1) (μ 7) gun)) ((-1)))) 8 = m_leads_c8 (μ 1) (m_gathers_c7 (μ 1) (μ 7) gun) (μ 8) (nI (m_gathers_f20 (μ 1) (μ 7) gun)) ((-1)) from mc_s, show (mc (mc (mset (mset μ 0 0 (nI 0)) 0 20 (nI (m_gathers_f20 (μ 1) (μ 7) gun))) 7 (m_gathers_c7 (μ 1) (μ 7) gun)) 8 (m_leads_c8 (μ 1) (m_gathers_c7 (μ 1) (μ 7) gun) (μ 8) (nI (m_gathers_f20 (μ 1) (μ 7) gun)) ((-1)))) 0 20 = nI (m_gathers_f20 (μ 1) (μ 7) gun) from ((congrFun (mc_n (by decide)) 20).trans ((congrFun (mc_n (by decide)) 20).trans rd_hit))]) ?_
          refine x_istore O [(4, .int (m_earliest (m_leads_c8 (μ 1) (m_gathers_c7 (μ 1) (μ 7) gun) (μ 8) (nI (m_gathers_f20 (μ 1) (μ 7) gun)) ((-1))) (nI (m_gathers_f20 (μ 1) (μ 7) gun)) (2 ^ m_gathers_f20 (μ 1) (μ 7) gun - 1))), (3, .int (nI (2 ^ m_gathers_f20 (μ 1) (μ 7) gun - 1))), (0, .ref (adr 0)), (2, .int what)] dX6_way_76 rfl rfl ?_
          refine x_aload_n O 2 dX6_way_78 rfl rfl ?_
          refine x_mget O k_X6_365_6 (mg_20 _ _) dX6_way_79 ?_
          refine x_top (v' := nI (m_gathers_f20 (μ 1) (μ 7) gun)) ((congrFun (mc_n (by decide)) 20).trans ((congrFun (mc_n (by decide)) 20).trans rd_hit)) ?_
          refine x_ifeqN O 93 (by omega) dX6_way_82 (by decide) (fun c82 => ?_) (fun c82 => ?_)
          · have hr13 := hr12.trans (if_pos c82)
            refine x_sub [2] (L' := [(0, .ref (adr 0))]) rfl ?_
            refine x_iconst O ((-1)) dX6_way_93 (by decide) ?_
            exact x_iretQ O hQ rfl dX6_way_94 (fun h m => ⟨by rw [hr13], by rw [hr11]; exact ⟨_, _, _, _, m.eq (mc_id (c := 9) (f := μ 9) (by rfl)).symm⟩⟩)
          · have hr14 := hr12.trans (if_neg c82)
            refine x_iload O 0 dX6_way_85 rfl ?_
            refine x_ldcw O q2139 dX6_way_87 ?_
            refine x_icmpne O 95 dX6_way_90 (by decide) (fun c90 => ?_) (fun c90 => ?_)
            · have hr15 := hr14.trans (if_neg c90)
              refine x_iload_n O 3 dX6_way_95 rfl rfl ?_
              refine x_iconst O (nI 1) dX6_way_96 (by decide) ?_
              refine x_icmpne O 103 dX6_way_97 (by decide) (fun c97 => ?_) (fun c97 => ?_)
              · have hr16 := hr15.trans (if_neg c97)
                refine x_sub [0, 1, 2] (L' := [(4, .int (m_earliest (m_leads_c8 (μ 1) (m_gathers_c7 (μ 1) (μ 7) gun) (μ 8) (nI (m_gathers_f20 (μ 1) (μ 7) gun)) ((-1))) (nI (m_gathers_f20 (μ 1) (μ 7) gun)) (2 ^ m_gathers_f20 (μ 1) (μ 7) gun - 1))), (3, .int (nI (2 ^ m_gathers_f20 (μ 1) (μ 7) gun - 1))), (0, .ref (adr 0))]) rfl ?_
                refine x_iconst O (nI 0) dX6_way_103 (by decide) ?_
                refine x_istore O [(5, .int (nI 0)), (4, .int (m_earliest (m_leads_c8 (μ 1) (m_gathers_c7 (μ 1) (μ 7) gun) (μ 8) (nI (m_gathers_f20 (μ 1) (μ 7) gun)) ((-1))) (nI (m_gathers_f20 (μ 1) (μ 7) gun)) (2 ^ m_gathers_f20 (μ 1) (μ 7) gun - 1))), (3, .int (nI (2 ^ m_gathers_f20 (μ 1) (μ 7) gun - 1))), (0, .ref (adr 0))] dX6_way_104 rfl rfl ?_
                have LOOP106 : ∀ (cc_ : Nat) (i5_106 : Nat) (a8_106 : (Nat → Int32)), cc_ = m_gathers_f20 (μ 1) (μ 7) gun - i5_106 → i5_106 < 2147483648 → (∀ (y0 : (Nat → Int32)), fre (fun i s => m_way_b106 (μ 1) (μ 7) (μ 8) (μ 9) gun i s) cc_ i5_106 a8_106 = .inl y0 → X G F R Q 6 145 [(0, .ref (adr 0))] [] (MS G adr h0 ((mc (mc (mset (mset μ 0 0 (nI 0)) 0 20 (nI (m_gathers_f20 (μ 1) (μ 7) gun))) 7 (m_gathers_c7 (μ 1) (μ 7) gun)) 8 y0))) 0 0) → (∀ v_ : Int32, fre (fun i s => m_way_b106 (μ 1) (μ 7) (μ 8) (μ 9) gun i s) cc_ i5_106 a8_106 = .inr v_ → res = v_) → X G F R Q 6 106 [(5, .int (nI i5_106)), (4, .int (m_earliest (m_leads_c8 (μ 1) (m_gathers_c7 (μ 1) (μ 7) gun) (μ 8) (nI (m_gathers_f20 (μ 1) (μ 7) gun)) ((-1))) (nI (m_gathers_f20 (μ 1) (μ 7) gun)) (2 ^ m_gathers_f20 (μ 1) (μ 7) gun - 1))), (3, .int (nI (2 ^ m_gathers_f20 (μ 1) (μ 7) gun - 1))), (0, .ref (adr 0))] [] (MS G adr h0 ((mc (mc (mset (mset μ 0 0 (nI 0)) 0 20 (nI (m_gathers_f20 (μ 1) (μ 7) gun))) 7 (m_gathers_c7 (μ 1) (μ 7) gun)) 8 a8_106))) 0 0 := by
                  intro cc_
                  induction cc_ using Nat.strongRecOn with
                  | ind cc_ IH_ =>
                    intro i5_106 a8_106 hc_ hb_  K_ K2_
                    refine x_iload O 0 dX6_way_106 rfl ?_
                    refine x_aload_n O 3 dX6_way_108 rfl rfl ?_
                    refine x_mget O k_X6_365_6 (mg_20 _ _) dX6_way_109 ?_
                    refine x_top (v' := nI (m_gathers_f20 (μ 1) (μ 7) gun)) ((congrFun (mc_n (by decide)) 20).trans ((congrFun (mc_n (by decide)) 20).trans rd_hit)) ?_
                    refine x_icmpgeN O 145 (by omega) (by omega) dX6_way_112 (by decide) (fun c112 => ?_) (fun c112 => ?_)
                    · refine x_sub [3] (L' := [(0, .ref (adr 0))]) rfl ?_
                      obtain rfl : cc_ = 0 := by omega
                      exact K_ _ rfl
                    · refine x_aload_n O 3 dX6_way_115 rfl rfl ?_
                      refine x_iload O 0 dX6_way_116 rfl ?_
                      refine x_cV O 1 (c_m_leads (μ := (mc (mc (mset (mset μ 0 0 (nI 0)) 0 20 (nI (m_gathers_f20 (μ 1) (μ 7) gun))) 7 (m_gathers_c7 (μ 1) (μ 7) gun)) 8 a8_106)) hJ (nn_nI (gat_n (μ 1) (μ 7) gun) (by decide)) (gat_h hJ.1) (nI i5_106)) MS.obj uc6 (lw_V q2135 q2137 qs86 q111 q2138) rfl hd_X6_leads rfl (by rw [RF]; rfl) (by rw [RL]; rfl) ⟨Nat.zero_le _, Nat.zero_le _⟩ rfl rfl dX6_way_118 ?_
                      refine x_weak (Ω' := MS G adr h0 (mc (mc (mset (mset μ 0 0 (nI 0)) 0 20 (nI (m_gathers_f20 (μ 1) (μ 7) gun))) 7 (m_gathers_c7 (μ 1) (μ 7) gun)) 8 (m_leads_c8 (μ 1) (m_gathers_c7 (μ 1) (μ 7) gun) a8_106 (nI (m_gathers_f20 (μ 1) (μ 7) gun)) (nI i5_106)))) (fun _ m => by rw [show (mc (mc (mset (mset μ 0 0 (nI 0)) 0 20 (nI (m_gathers_f20 (μ 1) (μ 7) gun))) 7 (m_gathers_c7 (μ 1) (μ 7) gun)) 8 a8_106) 1 = μ 1 from ((mc_n (by decide)).trans ((mc_n (by decide)).trans ((mset_n (by decide)).trans (mset_n (by decide))))), show (mc (mc (mset (mset μ 0 0 (nI 0)) 0 20 (nI (m_gathers_f20 (μ 1) (μ 7) gun))) 7 (m_gathers_c7 (μ 1) (μ 7) gun)) 8 a8_106) 7 = m_gathers_c7 (μ 1) (μ 7) gun from ((mc_n (by decide)).trans mc_s), show (mc (mc (mset (mset μ 0 0 (nI 0)) 0 20 (nI (m_gathers_f20 (μ 1) (μ 7) gun))) 7 (m_gathers_c7 (μ 1) (μ 7) gun)) 8 a8_106) 8 = a8_106 from mc_s, show (mc (mc (mset (mset μ 0 0 (nI 0)) 0 20 (nI (m_gathers_f20 (μ 1) (μ 7) gun))) 7 (m_gathers_c7 (μ 1) (μ 7) gun)) 8 a8_106) 0 20 = nI (m_gathers_f20 (μ 1) (μ 7) gun) from ((congrFun (mc_n (by decide)) 20).trans ((congrFun (mc_n (by decide)) 20).trans rd_hit))] at m; exact m.eq cc_s) ?_
                      refine x_aload_n O 3 dX6_way_121 rfl rfl ?_
                      refine x_iload_n O 2 dX6_way_122 rfl rfl ?_
                      refine x_cV O 1 (c_m_earliest (μ := (mc (mc (mset (mset μ 0 0 (nI 0)) 0 20 (nI (m_gathers_f20 (μ 1) (μ 7) gun))) 7 (m_gathers_c7 (μ 1) (μ 7) gun)) 8 (m_leads_c8 (μ 1) (m_gathers_c7 (μ 1) (μ 7) gun) a8_106 (nI (m_gathers_f20 (μ 1) (μ 7) gun)) (nI i5_106)))) (nn_nI (gat_n (μ 1) (μ 7) gun) (by decide)) (2 ^ m_gathers_f20 (μ 1) (μ 7) gun - 1) (by omega)) MS.obj uc6 (lw_V q2148 q2150 qs89 q111 q2151) rfl hd_X6_earliest rfl (by rw [RF]; rfl) (by rw [RL]; rfl) ⟨Nat.zero_le _, Nat.zero_le _⟩ rfl rfl dX6_way_123 ?_
                      refine x_top (v' := m_earliest (m_leads_c8 (μ 1) (m_gathers_c7 (μ 1) (μ 7) gun) a8_106 (nI (m_gathers_f20 (μ 1) (μ 7) gun)) (nI i5_106)) (nI (m_gathers_f20 (μ 1) (μ 7) gun)) (2 ^ m_gathers_f20 (μ 1) (μ 7) gun - 1)) (by rw [show (mc (mc (mset (mset μ 0 0 (nI 0)) 0 20 (nI (m_gathers_f20 (μ 1) (μ 7) gun))) 7 (m_gathers_c7 (μ 1) (μ 7) gun)) 8 (m_leads_c8 (μ 1) (m_gathers_c7 (μ 1) (μ 7) gun) a8_106 (nI (m_gathers_f20 (μ 1) (μ 7) gun)) (nI i5_106))) 8 = m_leads_c8 (μ 1) (m_gathers_c7 (μ 1) (μ 7) gun) a8_106 (nI (m_gathers_f20 (μ 1) (μ 7) gun)) (nI i5_106) from mc_s, show (mc (mc (mset (mset μ 0 0 (nI 0)) 0 20 (nI (m_gathers_f20 (μ 1) (μ 7) gun))) 7 (m_gathers_c7 (μ 1) (μ 7) gun)) 8 (m_leads_c8 (μ 1) (m_gathers_c7 (μ 1) (μ 7) gun) a8_106 (nI (m_gathers_f20 (μ 1) (μ 7) gun)) (nI i5_106))) 0 20 = nI (m_gathers_f20 (μ 1) (μ 7) gun) from ((congrFun (mc_n (by decide)) 20).trans ((congrFun (mc_n (by decide)) 20).trans rd_hit))]) ?_
                      refine x_iload O 1 dX6_way_126 rfl ?_
                      refine x_icmpne O 139 dX6_way_128 (by decide) (fun c128 => ?_) (fun c128 => ?_)
                      · refine x_iincN O 0 [(5, .int (nI (i5_106 + 1))), (4, .int (m_earliest (m_leads_c8 (μ 1) (m_gathers_c7 (μ 1) (μ 7) gun) (μ 8) (nI (m_gathers_f20 (μ 1) (μ 7) gun)) ((-1))) (nI (m_gathers_f20 (μ 1) (μ 7) gun)) (2 ^ m_gathers_f20 (μ 1) (μ 7) gun - 1))), (3, .int (nI (2 ^ m_gathers_f20 (μ 1) (μ 7) gun - 1))), (0, .ref (adr 0))] dX6_way_139 rfl rfl rfl ?_
                        refine x_goto O 106 dX6_way_142 (by decide) ?_
                        obtain ⟨c2_, rfl⟩ : ∃ z, cc_ = z + 1 := ⟨cc_ - 1, by omega⟩
                        have hs_ : (fun i s => m_way_b106 (μ 1) (μ 7) (μ 8) (μ 9) gun i s) i5_106 a8_106 = .inl (m_leads_c8 (μ 1) (m_gathers_c7 (μ 1) (μ 7) gun) a8_106 (nI (m_gathers_f20 (μ 1) (μ 7) gun)) (nI i5_106)) := by show m_way_b106 (μ 1) (μ 7) (μ 8) (μ 9) gun i5_106 a8_106 = _; unfold m_way_b106; rw [if_neg c128]
                        exact IH_ c2_ (by omega) _ _ (by omega) (by omega) (fun y0 hy_ => K_ y0 ((frx_step hs_).trans hy_)) (fun v_ hv_ => K2_ v_ ((frx_step hs_).trans hv_))
                      · refine x_sub [0, 3] (L' := [(5, .int (nI i5_106)), (0, .ref (adr 0))]) rfl ?_
                        refine x_aload_n O 1 dX6_way_131 rfl rfl ?_
                        refine x_mget O k_X6_36_6 (mg_19 _ _) dX6_way_132 ?_
                        refine x_iload O 0 dX6_way_135 rfl ?_
                        refine x_ialdN O MS.c7 (by omega) rfl dX6_way_137 ?_
                        refine x_top (v' := (m_gathers_c7 (μ 1) (μ 7) gun) i5_106) ((congrFun (mc_n (by decide)) i5_106).trans (congrFun mc_s i5_106)) ?_
                        obtain ⟨c2_, rfl⟩ : ∃ z, cc_ = z + 1 := ⟨cc_ - 1, by omega⟩
                        have hs_ : (fun i s => m_way_b106 (μ 1) (μ 7) (μ 8) (μ 9) gun i s) i5_106 a8_106 = .inr ((m_gathers_c7 (μ 1) (μ 7) gun) i5_106) := by show m_way_b106 (μ 1) (μ 7) (μ 8) (μ 9) gun i5_106 a8_106 = _; unfold m_way_b106; rw [if_pos c128]
                        have hk17 := K2_ _ (frx_stop hs_)
                        exact x_iretQ O hQ rfl dX6_way_138 (fun h m => ⟨by rw [hk17], by rw [hr11]; exact ⟨_, _, _, _, m.eq (mc_id (c := 9) (f := μ 9) (by rfl)).symm⟩⟩)
                refine LOOP106 (m_gathers_f20 (μ 1) (μ 7) gun) 0 (m_leads_c8 (μ 1) (m_gathers_c7 (μ 1) (μ 7) gun) (μ 8) (nI (m_gathers_f20 (μ 1) (μ 7) gun)) ((-1))) rfl (by omega) (fun y0 hy_106 => ?_) (fun v_ hv_ => by rw [hr16, hv_])
                obtain ⟨y_106, hyy_106⟩ : ∃ z : (Nat → Int32), z = y0 := ⟨_, rfl⟩
                rw [hy_106] at hr16
                rw [← hyy_106] at hr16
                subst hyy_106
                refine x_iconst O ((-1)) dX6_way_145 (by decide) ?_
                exact x_iretQ O hQ rfl dX6_way_146 (fun h m => ⟨by rw [hr16], by rw [hr11]; exact ⟨_, _, _, _, m.eq (mc_id (c := 9) (f := μ 9) (by rfl)).symm⟩⟩)
              · have hr18 := hr15.trans (if_pos c97)
                refine x_sub [0, 2] (L' := [(4, .int (m_earliest (m_leads_c8 (μ 1) (m_gathers_c7 (μ 1) (μ 7) gun) (μ 8) (nI (m_gathers_f20 (μ 1) (μ 7) gun)) ((-1))) (nI (m_gathers_f20 (μ 1) (μ 7) gun)) (2 ^ m_gathers_f20 (μ 1) (μ 7) gun - 1))), (0, .ref (adr 0))]) rfl ?_
                refine x_iload O 0 dX6_way_100 rfl ?_
                exact x_iretQ O hQ rfl dX6_way_102 (fun h m => ⟨by rw [hr18], by rw [hr11]; exact ⟨_, _, _, _, m.eq (mc_id (c := 9) (f := μ 9) (by rfl)).symm⟩⟩)
            · have hr19 := hr14.trans (if_pos c90)
              refine x_sub [2] (L' := [(0, .ref (adr 0))]) rfl ?_
              refine x_iconst O ((-1)) dX6_way_93 (by decide) ?_
              exact x_iretQ O hQ rfl dX6_way_94 (fun h m => ⟨by rw [hr19], by rw [hr11]; exact ⟨_, _, _, _, m.eq (mc_id (c := 9) (f := μ 9) (by rfl)).symm⟩⟩)
        · have hr20 := hr10.trans (if_pos c54)
          refine x_sub [0] (L' := [(0, .ref (adr 0))]) rfl ?_
          refine x_aload_n O 0 dX6_way_57 rfl rfl ?_
          refine x_cV O 0 (c_m_handsOf (μ := (mc (mc (mset (mset μ 0 0 (nI 0)) 0 20 (nI (m_gathers_f20 (μ 1) (μ 7) gun))) 7 (m_gathers_c7 (μ 1) (μ 7) gun)) 8 (m_leads_c8 (μ 1) (m_gathers_c7 (μ 1) (μ 7) gun) (μ 8) (nI (m_gathers_f20 (μ 1) (μ 7) gun)) ((-1))))) (nn_nI (gat_n (μ 1) (μ 7) gun) (by decide))) MS.obj uc6 (lw_V q2144 q2146 qs88 q111 q2147) rfl hd_X6_handsOf rfl (by rw [RF]; rfl) (by rw [RL]; rfl) ⟨Nat.zero_le _, Nat.zero_le _⟩ rfl rfl dX6_way_58 ?_
          refine x_top (v' := m_handsOf (m_leads_c8 (μ 1) (m_gathers_c7 (μ 1) (μ 7) gun) (μ 8) (nI (m_gathers_f20 (μ 1) (μ 7) gun)) ((-1))) (μ 9) (nI (m_gathers_f20 (μ 1) (μ 7) gun))) (by rw [show (mc (mc (mset (mset μ 0 0 (nI 0)) 0 20 (nI (m_gathers_f20 (μ 1) (μ 7) gun))) 7 (m_gathers_c7 (μ 1) (μ 7) gun)) 8 (m_leads_c8 (μ 1) (m_gathers_c7 (μ 1) (μ 7) gun) (μ 8) (nI (m_gathers_f20 (μ 1) (μ 7) gun)) ((-1)))) 8 = m_leads_c8 (μ 1) (m_gathers_c7 (μ 1) (μ 7) gun) (μ 8) (nI (m_gathers_f20 (μ 1) (μ 7) gun)) ((-1)) from mc_s, show (mc (mc (mset (mset μ 0 0 (nI 0)) 0 20 (nI (m_gathers_f20 (μ 1) (μ 7) gun))) 7 (m_gathers_c7 (μ 1) (μ 7) gun)) 8 (m_leads_c8 (μ 1) (m_gathers_c7 (μ 1) (μ 7) gun) (μ 8) (nI (m_gathers_f20 (μ 1) (μ 7) gun)) ((-1)))) 9 = μ 9 from ((mc_n (by decide)).trans ((mc_n (by decide)).trans ((mset_n (by decide)).trans (mset_n (by decide))))), show (mc (mc (mset (mset μ 0 0 (nI 0)) 0 20 (nI (m_gathers_f20 (μ 1) (μ 7) gun))) 7 (m_gathers_c7 (μ 1) (μ 7) gun)) 8 (m_leads_c8 (μ 1) (m_gathers_c7 (μ 1) (μ 7) gun) (μ 8) (nI (m_gathers_f20 (μ 1) (μ 7) gun)) ((-1)))) 0 20 = nI (m_gathers_f20 (μ 1) (μ 7) gun) from ((congrFun (mc_n (by decide)) 20).trans ((congrFun (mc_n (by decide)) 20).trans rd_hit))]) ?_
          refine x_weak (Ω' := MS G adr h0 (mc (mc (mc (mset (mset μ 0 0 (nI 0)) 0 20 (nI (m_gathers_f20 (μ 1) (μ 7) gun))) 7 (m_gathers_c7 (μ 1) (μ 7) gun)) 8 (m_leads_c8 (μ 1) (m_gathers_c7 (μ 1) (μ 7) gun) (μ 8) (nI (m_gathers_f20 (μ 1) (μ 7) gun)) ((-1)))) 9 (m_handsOf_c9 (m_leads_c8 (μ 1) (m_gathers_c7 (μ 1) (μ 7) gun) (μ 8) (nI (m_gathers_f20 (μ 1) (μ 7) gun)) ((-1))) (μ 9) (nI (m_gathers_f20 (μ 1) (μ 7) gun))))) (fun _ m => by rw [show (mc (mc (mset (mset μ 0 0 (nI 0)) 0 20 (nI (m_gathers_f20 (μ 1) (μ 7) gun))) 7 (m_gathers_c7 (μ 1) (μ 7) gun)) 8 (m_leads_c8 (μ 1) (m_gathers_c7 (μ 1) (μ 7) gun) (μ 8) (nI (m_gathers_f20 (μ 1) (μ 7) gun)) ((-1)))) 8 = m_leads_c8 (μ 1) (m_gathers_c7 (μ 1) (μ 7) gun) (μ 8) (nI (m_gathers_f20 (μ 1) (μ 7) gun)) ((-1)) from mc_s, show (mc (mc (mset (mset μ 0 0 (nI 0)) 0 20 (nI (m_gathers_f20 (μ 1) (μ 7) gun))) 7 (m_gathers_c7 (μ 1) (μ 7) gun)) 8 (m_leads_c8 (μ 1) (m_gathers_c7 (μ 1) (μ 7) gun) (μ 8) (nI (m_gathers_f20 (μ 1) (μ 7) gun)) ((-1)))) 9 = μ 9 from ((mc_n (by decide)).trans ((mc_n (by decide)).trans ((mset_n (by decide)).trans (mset_n (by decide))))), show (mc (mc (mset (mset μ 0 0 (nI 0)) 0 20 (nI (m_gathers_f20 (μ 1) (μ 7) gun))) 7 (m_gathers_c7 (μ 1) (μ 7) gun)) 8 (m_leads_c8 (μ 1) (m_gathers_c7 (μ 1) (μ 7) gun) (μ 8) (nI (m_gathers_f20 (μ 1) (μ 7) gun)) ((-1)))) 0 20 = nI (m_gathers_f20 (μ 1) (μ 7) gun) from ((congrFun (mc_n (by decide)) 20).trans ((congrFun (mc_n (by decide)) 20).trans rd_hit))] at m; exact m.eq rfl) ?_
          exact x_iretQ O hQ rfl dX6_way_61 (fun h m => ⟨by rw [hr20], by rw [hr11]; exact ⟨_, _, _, _, m.eq rfl⟩⟩)
    refine x_ifneB O 33 dX6_way_26 (by decide) (fun c26 => ?_) (fun c26 => ?_)
    · refine x_iconst O (nI 0) dX6_way_33 (by decide) ?_
      refine x_top (v' := b2i false) (by decide) ?_
      exact J6 false (by rw [if_pos c26])
    · refine x_iconst O (nI 1) dX6_way_29 (by decide) ?_
      refine x_goto O 34 dX6_way_30 (by decide) ?_
      refine x_top (v' := b2i true) (by decide) ?_
      exact J6 true (by rw [if_neg c26])

def m_canAll_b2 (W : Nat → Int32) (C11 : Nat → Int32) (C12 : Nat → Int32) (F26 : Int32)  (i3_2 : Nat) (a12_2 : (Nat → Int32)) : (Nat → Int32) :=
  ups a12_2 i3_2 (b2i ((if i3_2 = 0 then true else false)))
def m_canAll_b92 (W : Nat → Int32) (C11 : Nat → Int32) (C12 : Nat → Int32) (F26 : Int32) (which : Int32) (person : Nat) (i3_32 : Nat) (v5_81 : Int32) (a12_81 : (Nat → Int32)) (i7_92 : Nat) (v6_92 : Bool) : (Bool) ⊕ (Bool) :=
  (if (j_bits v5_81) = (nI (i3_32 + 1)) then .inl (if v6_92 = true then true else (if (((v5_81 >>> ((nI i7_92) &&& 31)) &&& (((if (nI i3_32) = which then (m_ofFind W (tn (C11 i3_32)) 3) &&& ((nI 1) <<< ((nI person) &&& 31)) else m_ofFind W (tn (C11 i3_32)) 3)) >>> ((nI i7_92) &&& 31))) &&& (nI 1)) = (nI 1) then (if (a12_81 (tn (v5_81 &&& (((nI 1) <<< ((nI i7_92) &&& 31)) ^^^ ((-1)))))) = 0 then false else true) else false)) else .inr v6_92)
def m_canAll_b81 (W : Nat → Int32) (C11 : Nat → Int32) (C12 : Nat → Int32) (F26 : Int32) (which : Int32) (person : Nat) (i3_32 : Nat) (iw_81 : Nat) (v5_81 : Int32) (a12_81 : (Nat → Int32)) : (Int32 × (Nat → Int32)) ⊕ (Int32 × (Nat → Int32)) :=
  (if v5_81 < 0 then .inr (v5_81, a12_81) else .inl (v5_81 + (-1), ups a12_81 (tn v5_81) ((if (j_bits v5_81) = (nI (i3_32 + 1)) then b2i ((frb (fun i s => m_canAll_b92 W C11 C12 F26 which person i3_32 v5_81 a12_81 i s) 8 0 false)) else a12_81 (tn v5_81)))))
def m_canAll_b32 (W : Nat → Int32) (C11 : Nat → Int32) (C12 : Nat → Int32) (F26 : Int32) (which : Int32) (person : Nat) (i3_32 : Nat) (a12_32 : (Nat → Int32)) : (Nat → Int32) :=
  (frb (fun i s => m_canAll_b81 W C11 C12 F26 which person i3_32 i s.1 s.2) (257 + person) 0 (nI 255, a12_32)).2
def m_canAll_b209 (W : Nat → Int32) (C11 : Nat → Int32) (C12 : Nat → Int32) (F26 : Int32) (which : Int32) (person : Nat) (i4_209 : Nat) (v3_209 : Bool) : Bool :=
  (if v3_209 = true then true else (if (j_bits (nI i4_209)) = (nI (tn F26)) then (if (((fr (fun i s => m_canAll_b32 W C11 C12 F26 which person i s) (tn F26) 0 (fr (fun i s => m_canAll_b2 W C11 C12 F26 i s) 256 0 C12))) i4_209) = 0 then false else true) else false))
def m_canAll (W : Nat → Int32) (C11 : Nat → Int32) (C12 : Nat → Int32) (F26 : Int32) (which : Int32) (person : Nat) : Bool :=
  (fr (fun i s => m_canAll_b209 W C11 C12 F26 which person i s) 256 0 false)
def m_canAll_c12 (W : Nat → Int32) (C11 : Nat → Int32) (C12 : Nat → Int32) (F26 : Int32) (which : Int32) (person : Nat) : Nat → Int32 :=
  (fr (fun i s => m_canAll_b32 W C11 C12 F26 which person i s) (tn F26) 0 (fr (fun i s => m_canAll_b2 W C11 C12 F26 i s) 256 0 C12))
set_option maxHeartbeats 1000000 in
set_option maxRecDepth 100000 in
theorem c_m_canAll {G : UG} {adr : Nat → Nat} {h0 : Hp} {μ : Mu} (hI : MI (μ 1)) (hn : nn (μ 0 26) 8) (hbn : ∀ k, k < tn (μ 0 26) → nn (μ 11 k) 119) (which : Int32) (person : Nat)  : Con G yX6_canAll cX6_canAll 8 (some .boolean) 1 22 0 0 [.ref (adr 0), .int which, .int (nI person)] (MS G adr h0 μ) (fun vr_ h' => vr_ = some (.int (b2i (m_canAll (μ 1) (μ 11) (μ 12) (μ 0 26) which person))) ∧ MS G adr h0 (mc μ 12 (m_canAll_c12 (μ 1) (μ 11) (μ 12) (μ 0 26) which person)) h') nX := by
  refine con_of2 (plainFor_of_name (by decide)) rfl ?_
  intro F R Q RF RL RC RS hQ O hnh hnm
  obtain ⟨res, hres⟩ : ∃ z, z = (m_canAll (μ 1) (μ 11) (μ 12) (μ 0 26) which person) := ⟨_, rfl⟩
  rw [← hres] at hQ
  unfold m_canAll at hres
  obtain ⟨rs0, hrs0⟩ : ∃ z, z = m_canAll_c12 (μ 1) (μ 11) (μ 12) (μ 0 26) which person := ⟨_, rfl⟩
  rw [← hrs0] at hQ
  unfold m_canAll_c12 at hrs0
  have hnb := hn.2
  refine x_eq (L' := [(0, .ref (adr 0)), (1, .int which), (2, .int (nI person))]) ?_ rfl rfl rfl
  refine x_iconst O (nI 0) dX6_canAll_0 (by decide) ?_
  refine x_istore_n O [(3, .int (nI 0)), (0, .ref (adr 0)), (1, .int which), (2, .int (nI person))] dX6_canAll_1 rfl rfl rfl ?_
  have LOOP2 : ∀ (cc_ : Nat) (i3_2 : Nat) (a12_2 : (Nat → Int32)), cc_ = 256 - i3_2 → i3_2 < 2147483648 → (∀ k, k < i3_2 → isB (a12_2 k)) → (∀ (y0 : (Nat → Int32)), y0 = fr (fun i s => m_canAll_b2 (μ 1) (μ 11) (μ 12) (μ 0 26) i s) cc_ i3_2 a12_2 → (∀ k, k < 256 → isB (y0 k)) → X G F R Q 8 30 [(0, .ref (adr 0)), (1, .int which), (2, .int (nI person))] [] (MS G adr h0 ((mc μ 12 y0))) 0 0) → X G F R Q 8 2 [(3, .int (nI i3_2)), (0, .ref (adr 0)), (1, .int which), (2, .int (nI person))] [] (MS G adr h0 ((mc μ 12 a12_2))) 0 0 := by
    intro cc_
    induction cc_ using Nat.strongRecOn with
    | ind cc_ IH_ =>
      intro i3_2 a12_2 hc_ hb_ hb_ K_
      refine x_iload_n O 0 dX6_canAll_2 rfl rfl ?_
      refine x_sipush O (nI 256) dX6_canAll_3 (by decide) ?_
      refine x_icmpgeN O 30 (by omega) (by omega) dX6_canAll_6 (by decide) (fun c6 => ?_) (fun c6 => ?_)
      · refine x_sub [1, 2, 3] (L' := [(0, .ref (adr 0)), (1, .int which), (2, .int (nI person))]) rfl ?_
        obtain rfl : cc_ = 0 := by omega
        exact K_ _ rfl (fun k hk => hb_ k (by omega))
      · refine x_aload_n O 1 dX6_canAll_9 rfl rfl ?_
        refine x_mget O k_X6_51_6 (mg_27 _ _) dX6_canAll_10 ?_
        refine x_iload_n O 0 dX6_canAll_13 rfl rfl ?_
        refine x_iload_n O 0 dX6_canAll_14 rfl rfl ?_
        have J6 : ∀ (y1 : Bool), y1 = (if i3_2 = 0 then true else false) → X G F R Q 8 23 [(3, .int (nI i3_2)), (0, .ref (adr 0)), (1, .int which), (2, .int (nI person))] [.int (b2i y1), .int (nI i3_2), .ref (adr 12)] (MS G adr h0 ((mc μ 12 a12_2))) 0 0 := by
          intro y1 e7
          subst e7
          refine x_mzstQ O 11 MS.c12 rfl rfl rfl (by omega) rfl dX6_canAll_23 (isB_b _) (μ' := (mc μ 12 (ups a12_2 i3_2 (b2i ((if i3_2 = 0 then true else false)))))) wc_s ?_
          refine x_iincN O 0 [(3, .int (nI (i3_2 + 1))), (0, .ref (adr 0)), (1, .int which), (2, .int (nI person))] dX6_canAll_24 rfl rfl rfl ?_
          refine x_goto O 2 dX6_canAll_27 (by decide) ?_
          obtain ⟨c2_, rfl⟩ : ∃ z, cc_ = z + 1 := ⟨cc_ - 1, by omega⟩
          have hs_ : (fun i s => m_canAll_b2 (μ 1) (μ 11) (μ 12) (μ 0 26) i s) i3_2 a12_2 = ups a12_2 i3_2 (b2i ((if i3_2 = 0 then true else false))) := by show m_canAll_b2 (μ 1) (μ 11) (μ 12) (μ 0 26) i3_2 a12_2 = _; unfold m_canAll_b2; rfl
          exact IH_ c2_ (by omega) _ _ (by omega) (by omega) (ups_B1 hb_ (isB_b _)) (fun y0 hy_ => K_ y0 (hy_.trans (fr_step hs_).symm))
        refine x_ifneN O 22 (by omega) dX6_canAll_15 (by decide) (fun c15 => ?_) (fun c15 => ?_)
        · refine x_iconst O (nI 0) dX6_canAll_22 (by decide) ?_
          refine x_top (v' := b2i false) (by decide) ?_
          exact J6 false (by rw [if_neg c15])
        · refine x_iconst O (nI 1) dX6_canAll_18 (by decide) ?_
          refine x_goto O 23 dX6_canAll_19 (by decide) ?_
          refine x_top (v' := b2i true) (by decide) ?_
          exact J6 true (by rw [if_pos c15])
  refine x_weak (Ω' := MS G adr h0 ((mc μ 12 (μ 12)))) (fun _ m => m.eq (mc_id (c := 12) (f := μ 12) (by rfl)).symm) ?_
  refine LOOP2 256 0 (μ 12) rfl (by omega) (fun k hk => absurd hk (Nat.not_lt_zero k)) (fun y0 hy_2 hx_ => ?_)
  subst hy_2
  refine x_iconst O (nI 0) dX6_canAll_30 (by decide) ?_
  refine x_istore_n O [(3, .int (nI 0)), (0, .ref (adr 0)), (1, .int which), (2, .int (nI person))] dX6_canAll_31 rfl rfl rfl ?_
  have LOOP32 : ∀ (cc_ : Nat) (i3_32 : Nat) (a12_32 : (Nat → Int32)), cc_ = tn (μ 0 26) - i3_32 → i3_32 < 2147483648 → (∀ k, k < 256 → isB (a12_32 k)) → (∀ (y0 : (Nat → Int32)), y0 = fr (fun i s => m_canAll_b32 (μ 1) (μ 11) (μ 12) (μ 0 26) which person i s) cc_ i3_32 a12_32 → X G F R Q 8 204 [(0, .ref (adr 0))] [] (MS G adr h0 ((mc μ 12 y0))) 0 0) → X G F R Q 8 32 [(3, .int (nI i3_32)), (0, .ref (adr 0)), (1, .int which), (2, .int (nI person))] [] (MS G adr h0 ((mc μ 12 a12_32))) 0 0 := by
    intro cc_
    induction cc_ using Nat.strongRecOn with
    | ind cc_ IH_ =>
      intro i3_32 a12_32 hc_ hb_ hb_ K_
      refine x_iload_n O 0 dX6_canAll_32 rfl rfl ?_
      refine x_aload_n O 1 dX6_canAll_33 rfl rfl ?_
      refine x_mget O k_X6_422_6 (mg_26 _ _) dX6_canAll_34 ?_
      refine x_top (v' := nI (tn (μ 0 26))) ((congrFun (mc_n (by decide)) 26).trans (hn.1)) ?_
      refine x_icmpgeN O 204 (by omega) (by omega) dX6_canAll_37 (by decide) (fun c37 => ?_) (fun c37 => ?_)
      · refine x_sub [1] (L' := [(0, .ref (adr 0))]) rfl ?_
        obtain rfl : cc_ = 0 := by omega
        exact K_ _ rfl
      · refine x_iload_n O 0 dX6_canAll_40 rfl rfl ?_
        refine x_iload_n O 2 dX6_canAll_41 rfl rfl ?_
        have J8 : ∀ (y2 : Int32), y2 = (if (nI i3_32) = which then (m_ofFind (μ 1) (tn (μ 11 i3_32)) 3) &&& ((nI 1) <<< ((nI person) &&& 31)) else m_ofFind (μ 1) (tn (μ 11 i3_32)) 3) → X G F R Q 8 74 [(3, .int (nI i3_32)), (0, .ref (adr 0)), (1, .int which), (2, .int (nI person))] [.int y2] (MS G adr h0 ((mc μ 12 a12_32))) 0 0 := by
          intro y2 e9
          subst e9
          refine x_istore O [(4, .int ((if (nI i3_32) = which then (m_ofFind (μ 1) (tn (μ 11 i3_32)) 3) &&& ((nI 1) <<< ((nI person) &&& 31)) else m_ofFind (μ 1) (tn (μ 11 i3_32)) 3))), (3, .int (nI i3_32)), (0, .ref (adr 0)), (1, .int which), (2, .int (nI person))] dX6_canAll_74 rfl rfl ?_
          refine x_sipush O (nI 255) dX6_canAll_76 (by decide) ?_
          refine x_istore O [(5, .int (nI 255)), (4, .int ((if (nI i3_32) = which then (m_ofFind (μ 1) (tn (μ 11 i3_32)) 3) &&& ((nI 1) <<< ((nI person) &&& 31)) else m_ofFind (μ 1) (tn (μ 11 i3_32)) 3))), (3, .int (nI i3_32)), (0, .ref (adr 0)), (1, .int which), (2, .int (nI person))] dX6_canAll_79 rfl rfl ?_
          have LOOP81 : ∀ (cc_ : Nat) (iw_81 : Nat) (v5_81 : Int32) (a12_81 : (Nat → Int32)), tn (v5_81 + 1) < cc_ → True → (gO v5_81 255) → (∀ k, k < 256 → isB (a12_81 k)) → (∀ (y0 : Int32) (y1 : (Nat → Int32)), (y0, y1) = frb (fun i s => m_canAll_b81 (μ 1) (μ 11) (μ 12) (μ 0 26) which person i3_32 i s.1 s.2) cc_ iw_81 (v5_81, a12_81) → (∀ k, k < 256 → isB (y1 k)) → X G F R Q 8 198 [(3, .int (nI i3_32)), (0, .ref (adr 0)), (1, .int which), (2, .int (nI person))] [] (MS G adr h0 ((mc μ 12 y1))) 0 0) → X G F R Q 8 81 [(5, .int v5_81), (4, .int ((if (nI i3_32) = which then (m_ofFind (μ 1) (tn (μ 11 i3_32)) 3) &&& ((nI 1) <<< ((nI person) &&& 31)) else m_ofFind (μ 1) (tn (μ 11 i3_32)) 3))), (3, .int (nI i3_32)), (0, .ref (adr 0)), (1, .int which), (2, .int (nI person))] [] (MS G adr h0 ((mc μ 12 a12_81))) 0 0 := by
            intro cc_
            induction cc_ using Nat.strongRecOn with
            | ind cc_ IH_ =>
              intro iw_81 v5_81 a12_81 hc_ hb_ hv_ hb2_ K_
              refine x_iload O 0 dX6_canAll_81 rfl ?_
              refine x_iflt O 198 dX6_canAll_83 (by decide) (fun c83 => ?_) (fun c83 => ?_)
              · refine x_sub [2, 3, 4, 5] (L' := [(3, .int (nI i3_32)), (0, .ref (adr 0)), (1, .int which), (2, .int (nI person))]) rfl ?_
                obtain ⟨c2_, rfl⟩ : ∃ z, cc_ = z + 1 := ⟨cc_ - 1, by omega⟩
                have hs_ : (fun i s => m_canAll_b81 (μ 1) (μ 11) (μ 12) (μ 0 26) which person i3_32 i s.1 s.2) iw_81 (v5_81, a12_81) = .inr (v5_81, a12_81) := by show m_canAll_b81 (μ 1) (μ 11) (μ 12) (μ 0 26) which person i3_32 iw_81 v5_81 a12_81 = _; unfold m_canAll_b81; rw [if_pos c83]
                exact K_ _ _ (frb_stop hs_).symm hb2_
              · refine x_iconst O (nI 0) dX6_canAll_86 (by decide) ?_
                refine x_top (v' := b2i false) (by decide) ?_
                refine x_istore O [(6, .int (b2i false)), (5, .int v5_81), (4, .int ((if (nI i3_32) = which then (m_ofFind (μ 1) (tn (μ 11 i3_32)) 3) &&& ((nI 1) <<< ((nI person) &&& 31)) else m_ofFind (μ 1) (tn (μ 11 i3_32)) 3))), (3, .int (nI i3_32)), (0, .ref (adr 0)), (1, .int which), (2, .int (nI person))] dX6_canAll_87 rfl rfl ?_
                refine x_iconst O (nI 0) dX6_canAll_89 (by decide) ?_
                refine x_istore O [(7, .int (nI 0)), (6, .int (b2i false)), (5, .int v5_81), (4, .int ((if (nI i3_32) = which then (m_ofFind (μ 1) (tn (μ 11 i3_32)) 3) &&& ((nI 1) <<< ((nI person) &&& 31)) else m_ofFind (μ 1) (tn (μ 11 i3_32)) 3))), (3, .int (nI i3_32)), (0, .ref (adr 0)), (1, .int which), (2, .int (nI person))] dX6_canAll_90 rfl rfl ?_
                have LOOP92 : ∀ (cc_ : Nat) (i7_92 : Nat) (v6_92 : Bool), cc_ = 8 - i7_92 → i7_92 < 2147483648 → (∀ (y0 : Bool), y0 = frb (fun i s => m_canAll_b92 (μ 1) (μ 11) (μ 12) (μ 0 26) which person i3_32 v5_81 a12_81 i s) cc_ i7_92 v6_92 → X G F R Q 8 162 [(6, .int (b2i y0)), (5, .int v5_81), (4, .int ((if (nI i3_32) = which then (m_ofFind (μ 1) (tn (μ 11 i3_32)) 3) &&& ((nI 1) <<< ((nI person) &&& 31)) else m_ofFind (μ 1) (tn (μ 11 i3_32)) 3))), (3, .int (nI i3_32)), (0, .ref (adr 0)), (1, .int which), (2, .int (nI person))] [] (MS G adr h0 ((mc μ 12 a12_81))) 0 0) → X G F R Q 8 92 [(7, .int (nI i7_92)), (6, .int (b2i v6_92)), (5, .int v5_81), (4, .int ((if (nI i3_32) = which then (m_ofFind (μ 1) (tn (μ 11 i3_32)) 3) &&& ((nI 1) <<< ((nI person) &&& 31)) else m_ofFind (μ 1) (tn (μ 11 i3_32)) 3))), (3, .int (nI i3_32)), (0, .ref (adr 0)), (1, .int which), (2, .int (nI person))] [] (MS G adr h0 ((mc μ 12 a12_81))) 0 0 := by
                  intro cc_
                  induction cc_ using Nat.strongRecOn with
                  | ind cc_ IH_ =>
                    intro i7_92 v6_92 hc_ hb_  K_
                    refine x_iload O 0 dX6_canAll_92 rfl ?_
                    refine x_bipush O (nI 8) dX6_canAll_94 (by decide) ?_
                    refine x_icmpgeN O 162 (by omega) (by omega) dX6_canAll_96 (by decide) (fun c96 => ?_) (fun c96 => ?_)
                    · refine x_sub [1, 2, 3, 4, 5, 6, 7] (L' := [(6, .int (b2i v6_92)), (5, .int v5_81), (4, .int ((if (nI i3_32) = which then (m_ofFind (μ 1) (tn (μ 11 i3_32)) 3) &&& ((nI 1) <<< ((nI person) &&& 31)) else m_ofFind (μ 1) (tn (μ 11 i3_32)) 3))), (3, .int (nI i3_32)), (0, .ref (adr 0)), (1, .int which), (2, .int (nI person))]) rfl ?_
                      obtain rfl : cc_ = 0 := by omega
                      exact K_ _ rfl
                    · refine x_iload O 2 dX6_canAll_99 rfl ?_
                      refine x_cS O 1 (c_j_bits v5_81) (lw_S q2105 q572 q142 q573) hd_J13_bitCount rfl (by rw [RF]; rfl) (by rw [RL]; rfl) ⟨Nat.zero_le _, Nat.zero_le _⟩ rfl rfl dX6_canAll_101 ?_
                      refine x_top (v' := j_bits v5_81) rfl ?_
                      refine x_iload_n O 4 dX6_canAll_104 rfl rfl ?_
                      refine x_iconst O (nI 1) dX6_canAll_105 (by decide) ?_
                      refine x_iaddN O dX6_canAll_106 ?_
                      refine x_icmpne O 162 dX6_canAll_107 (by decide) (fun c107 => ?_) (fun c107 => ?_)
                      · refine x_sub [1, 2, 3, 4, 5, 6, 7] (L' := [(6, .int (b2i v6_92)), (5, .int v5_81), (4, .int ((if (nI i3_32) = which then (m_ofFind (μ 1) (tn (μ 11 i3_32)) 3) &&& ((nI 1) <<< ((nI person) &&& 31)) else m_ofFind (μ 1) (tn (μ 11 i3_32)) 3))), (3, .int (nI i3_32)), (0, .ref (adr 0)), (1, .int which), (2, .int (nI person))]) rfl ?_
                        obtain ⟨c2_, rfl⟩ : ∃ z, cc_ = z + 1 := ⟨cc_ - 1, by omega⟩
                        have hs_ : (fun i s => m_canAll_b92 (μ 1) (μ 11) (μ 12) (μ 0 26) which person i3_32 v5_81 a12_81 i s) i7_92 v6_92 = .inr v6_92 := by show m_canAll_b92 (μ 1) (μ 11) (μ 12) (μ 0 26) which person i3_32 v5_81 a12_81 i7_92 v6_92 = _; unfold m_canAll_b92; rw [if_neg c107]
                        exact K_ _ (frb_stop hs_).symm
                      · refine x_iload O 1 dX6_canAll_110 rfl ?_
                        have J10 : ∀ (y3 : Bool), y3 = (if v6_92 = true then true else (if (((v5_81 >>> ((nI i7_92) &&& 31)) &&& (((if (nI i3_32) = which then (m_ofFind (μ 1) (tn (μ 11 i3_32)) 3) &&& ((nI 1) <<< ((nI person) &&& 31)) else m_ofFind (μ 1) (tn (μ 11 i3_32)) 3)) >>> ((nI i7_92) &&& 31))) &&& (nI 1)) = (nI 1) then (if (a12_81 (tn (v5_81 &&& (((nI 1) <<< ((nI i7_92) &&& 31)) ^^^ ((-1)))))) = 0 then false else true) else false)) → X G F R Q 8 154 [(7, .int (nI i7_92)), (5, .int v5_81), (4, .int ((if (nI i3_32) = which then (m_ofFind (μ 1) (tn (μ 11 i3_32)) 3) &&& ((nI 1) <<< ((nI person) &&& 31)) else m_ofFind (μ 1) (tn (μ 11 i3_32)) 3))), (3, .int (nI i3_32)), (0, .ref (adr 0)), (1, .int which), (2, .int (nI person))] [.int (b2i y3)] (MS G adr h0 ((mc μ 12 a12_81))) 0 0 := by
                          intro y3 e11
                          subst e11
                          refine x_istore O [(6, .int (b2i ((if v6_92 = true then true else (if (((v5_81 >>> ((nI i7_92) &&& 31)) &&& (((if (nI i3_32) = which then (m_ofFind (μ 1) (tn (μ 11 i3_32)) 3) &&& ((nI 1) <<< ((nI person) &&& 31)) else m_ofFind (μ 1) (tn (μ 11 i3_32)) 3)) >>> ((nI i7_92) &&& 31))) &&& (nI 1)) = (nI 1) then (if (a12_81 (tn (v5_81 &&& (((nI 1) <<< ((nI i7_92) &&& 31)) ^^^ ((-1)))))) = 0 then false else true) else false))))), (7, .int (nI i7_92)), (5, .int v5_81), (4, .int ((if (nI i3_32) = which then (m_ofFind (μ 1) (tn (μ 11 i3_32)) 3) &&& ((nI 1) <<< ((nI person) &&& 31)) else m_ofFind (μ 1) (tn (μ 11 i3_32)) 3))), (3, .int (nI i3_32)), (0, .ref (adr 0)), (1, .int which), (2, .int (nI person))] dX6_canAll_154 rfl rfl ?_
                          refine x_iincN O 1 [(7, .int (nI (i7_92 + 1))), (6, .int (b2i ((if v6_92 = true then true else (if (((v5_81 >>> ((nI i7_92) &&& 31)) &&& (((if (nI i3_32) = which then (m_ofFind (μ 1) (tn (μ 11 i3_32)) 3) &&& ((nI 1) <<< ((nI person) &&& 31)) else m_ofFind (μ 1) (tn (μ 11 i3_32)) 3)) >>> ((nI i7_92) &&& 31))) &&& (nI 1)) = (nI 1) then (if (a12_81 (tn (v5_81 &&& (((nI 1) <<< ((nI i7_92) &&& 31)) ^^^ ((-1)))))) = 0 then false else true) else false))))), (5, .int v5_81), (4, .int ((if (nI i3_32) = which then (m_ofFind (μ 1) (tn (μ 11 i3_32)) 3) &&& ((nI 1) <<< ((nI person) &&& 31)) else m_ofFind (μ 1) (tn (μ 11 i3_32)) 3))), (3, .int (nI i3_32)), (0, .ref (adr 0)), (1, .int which), (2, .int (nI person))] dX6_canAll_156 rfl rfl rfl ?_
                          refine x_goto O 92 dX6_canAll_159 (by decide) ?_
                          obtain ⟨c2_, rfl⟩ : ∃ z, cc_ = z + 1 := ⟨cc_ - 1, by omega⟩
                          have hs_ : (fun i s => m_canAll_b92 (μ 1) (μ 11) (μ 12) (μ 0 26) which person i3_32 v5_81 a12_81 i s) i7_92 v6_92 = .inl (if v6_92 = true then true else (if (((v5_81 >>> ((nI i7_92) &&& 31)) &&& (((if (nI i3_32) = which then (m_ofFind (μ 1) (tn (μ 11 i3_32)) 3) &&& ((nI 1) <<< ((nI person) &&& 31)) else m_ofFind (μ 1) (tn (μ 11 i3_32)) 3)) >>> ((nI i7_92) &&& 31))) &&& (nI 1)) = (nI 1) then (if (a12_81 (tn (v5_81 &&& (((nI 1) <<< ((nI i7_92) &&& 31)) ^^^ ((-1)))))) = 0 then false else true) else false)) := by show m_canAll_b92 (μ 1) (μ 11) (μ 12) (μ 0 26) which person i3_32 v5_81 a12_81 i7_92 v6_92 = _; unfold m_canAll_b92; rw [if_pos c107]
                          exact IH_ c2_ (by omega) _ _ (by omega) (by omega) (fun y0 hy_ => K_ y0 (hy_.trans (frb_step hs_).symm))
                        refine x_ifneB O 149 dX6_canAll_112 (by decide) (fun c112 => ?_) (fun c112 => ?_)
                        · refine x_sub [0, 2, 3, 4, 5, 6, 7] (L' := [(7, .int (nI i7_92)), (5, .int v5_81), (4, .int ((if (nI i3_32) = which then (m_ofFind (μ 1) (tn (μ 11 i3_32)) 3) &&& ((nI 1) <<< ((nI person) &&& 31)) else m_ofFind (μ 1) (tn (μ 11 i3_32)) 3))), (3, .int (nI i3_32)), (0, .ref (adr 0)), (1, .int which), (2, .int (nI person))]) rfl ?_
                          refine x_iconst O (nI 1) dX6_canAll_149 (by decide) ?_
                          refine x_goto O 154 dX6_canAll_150 (by decide) ?_
                          refine x_top (v' := b2i true) (by decide) ?_
                          exact J10 true (by rw [if_pos c112])
                        · refine x_sub [0, 2, 3, 4, 5, 6, 7] (L' := [(7, .int (nI i7_92)), (5, .int v5_81), (4, .int ((if (nI i3_32) = which then (m_ofFind (μ 1) (tn (μ 11 i3_32)) 3) &&& ((nI 1) <<< ((nI person) &&& 31)) else m_ofFind (μ 1) (tn (μ 11 i3_32)) 3))), (3, .int (nI i3_32)), (0, .ref (adr 0)), (1, .int which), (2, .int (nI person))]) rfl ?_
                          refine x_iload O 1 dX6_canAll_115 rfl ?_
                          refine x_iload O 0 dX6_canAll_117 rfl ?_
                          refine x_ishr O dX6_canAll_119 ?_
                          refine x_iload O 2 dX6_canAll_120 rfl ?_
                          refine x_iload O 0 dX6_canAll_122 rfl ?_
                          refine x_ishr O dX6_canAll_124 ?_
                          refine x_iand O dX6_canAll_125 ?_
                          refine x_iconst O (nI 1) dX6_canAll_126 (by decide) ?_
                          refine x_iand O dX6_canAll_127 ?_
                          refine x_iconst O (nI 1) dX6_canAll_128 (by decide) ?_
                          refine x_icmpne O 153 dX6_canAll_129 (by decide) (fun c129 => ?_) (fun c129 => ?_)
                          · refine x_iconst O (nI 0) dX6_canAll_153 (by decide) ?_
                            refine x_top (v' := b2i false) (by decide) ?_
                            exact J10 false (by first | (rw [if_neg c112, if_neg c129]; done) | simp only [if_neg c112, if_neg c129])
                          · refine x_aload_n O 4 dX6_canAll_132 rfl rfl ?_
                            refine x_mget O k_X6_51_6 (mg_27 _ _) dX6_canAll_133 ?_
                            refine x_iload O 1 dX6_canAll_136 rfl ?_
                            refine x_iconst O (nI 1) dX6_canAll_138 (by decide) ?_
                            refine x_iload O 0 dX6_canAll_139 rfl ?_
                            refine x_ishl O dX6_canAll_141 ?_
                            refine x_iconst O ((-1)) dX6_canAll_142 (by decide) ?_
                            refine x_ixor O dX6_canAll_143 ?_
                            refine x_iand O dX6_canAll_144 ?_
                            refine x_top (v' := nI (tn (v5_81 &&& (((nI 1) <<< ((nI i7_92) &&& 31)) ^^^ ((-1)))))) ((and_nn2 (gO_nn hv_ c83) _).1) ?_
                            refine x_zaldN O MS.c12 (Nat.lt_of_le_of_lt (and_nn2 (gO_nn hv_ c83) _).2 (by decide)) rfl dX6_canAll_145 ?_
                            refine x_top (v' := a12_81 (tn (v5_81 &&& (((nI 1) <<< ((nI i7_92) &&& 31)) ^^^ ((-1)))))) (congrFun mc_s (tn (v5_81 &&& (((nI 1) <<< ((nI i7_92) &&& 31)) ^^^ ((-1)))))) ?_
                            refine x_ifeq O 153 dX6_canAll_146 (by decide) (fun c146 => ?_) (fun c146 => ?_)
                            · refine x_iconst O (nI 0) dX6_canAll_153 (by decide) ?_
                              refine x_top (v' := b2i false) (by decide) ?_
                              exact J10 false (by first | (rw [if_neg c112, if_pos c129, if_pos c146]; done) | simp only [if_neg c112, if_pos c129, if_pos c146])
                            · refine x_iconst O (nI 1) dX6_canAll_149 (by decide) ?_
                              refine x_goto O 154 dX6_canAll_150 (by decide) ?_
                              refine x_top (v' := b2i true) (by decide) ?_
                              exact J10 true (by first | (rw [if_neg c112, if_pos c129, if_neg c146]; done) | simp only [if_neg c112, if_pos c129, if_neg c146])
                refine LOOP92 8 0 false rfl (by omega) (fun y0 hy_92 => ?_)
                subst hy_92
                refine x_aload_n O 4 dX6_canAll_162 rfl rfl ?_
                refine x_mget O k_X6_51_6 (mg_27 _ _) dX6_canAll_163 ?_
                refine x_iload O 1 dX6_canAll_166 rfl ?_
                refine x_top (v' := nI (tn v5_81)) ((gO_nn hv_ c83).1) ?_
                refine x_iload O 1 dX6_canAll_168 rfl ?_
                refine x_cS O 1 (c_j_bits v5_81) (lw_S q2105 q572 q142 q573) hd_J13_bitCount rfl (by rw [RF]; rfl) (by rw [RL]; rfl) ⟨Nat.zero_le _, Nat.zero_le _⟩ rfl rfl dX6_canAll_170 ?_
                refine x_top (v' := j_bits v5_81) rfl ?_
                refine x_iload_n O 3 dX6_canAll_173 rfl rfl ?_
                refine x_iconst O (nI 1) dX6_canAll_174 (by decide) ?_
                refine x_iaddN O dX6_canAll_175 ?_
                have J12 : ∀ (y4 : Int32), y4 = (if (j_bits v5_81) = (nI (i3_32 + 1)) then b2i ((frb (fun i s => m_canAll_b92 (μ 1) (μ 11) (μ 12) (μ 0 26) which person i3_32 v5_81 a12_81 i s) 8 0 false)) else a12_81 (tn v5_81)) → X G F R Q 8 191 [(5, .int v5_81), (4, .int ((if (nI i3_32) = which then (m_ofFind (μ 1) (tn (μ 11 i3_32)) 3) &&& ((nI 1) <<< ((nI person) &&& 31)) else m_ofFind (μ 1) (tn (μ 11 i3_32)) 3))), (3, .int (nI i3_32)), (0, .ref (adr 0)), (1, .int which), (2, .int (nI person))] [.int y4, .int (nI (tn v5_81)), .ref (adr 12)] (MS G adr h0 ((mc μ 12 a12_81))) 0 0 := by
                  intro y4 e13
                  subst e13
                  refine x_mzstQ O 11 MS.c12 rfl rfl rfl (by have := (gO_nn hv_ c83).2; omega) rfl dX6_canAll_191 (by split; exact isB_b _; exact hb2_ _ (by have := (gO_nn hv_ c83).2; omega)) (μ' := (mc μ 12 (ups a12_81 (tn v5_81) ((if (j_bits v5_81) = (nI (i3_32 + 1)) then b2i ((frb (fun i s => m_canAll_b92 (μ 1) (μ 11) (μ 12) (μ 0 26) which person i3_32 v5_81 a12_81 i s) 8 0 false)) else a12_81 (tn v5_81)))))) wc_s ?_
                  refine x_iinc O 0 (v5_81 + (-1)) [(5, .int (v5_81 + (-1))), (4, .int ((if (nI i3_32) = which then (m_ofFind (μ 1) (tn (μ 11 i3_32)) 3) &&& ((nI 1) <<< ((nI person) &&& 31)) else m_ofFind (μ 1) (tn (μ 11 i3_32)) 3))), (3, .int (nI i3_32)), (0, .ref (adr 0)), (1, .int which), (2, .int (nI person))] dX6_canAll_192 rfl rfl rfl rfl ?_
                  refine x_goto O 81 dX6_canAll_195 (by decide) ?_
                  obtain ⟨c2_, rfl⟩ : ∃ z, cc_ = z + 1 := ⟨cc_ - 1, by omega⟩
                  have hs_ : (fun i s => m_canAll_b81 (μ 1) (μ 11) (μ 12) (μ 0 26) which person i3_32 i s.1 s.2) iw_81 (v5_81, a12_81) = .inl (v5_81 + (-1), ups a12_81 (tn v5_81) ((if (j_bits v5_81) = (nI (i3_32 + 1)) then b2i ((frb (fun i s => m_canAll_b92 (μ 1) (μ 11) (μ 12) (μ 0 26) which person i3_32 v5_81 a12_81 i s) 8 0 false)) else a12_81 (tn v5_81)))) := by show m_canAll_b81 (μ 1) (μ 11) (μ 12) (μ 0 26) which person i3_32 iw_81 v5_81 a12_81 = _; unfold m_canAll_b81; rw [if_neg c83]
                  exact IH_ c2_ (by omega) _ _ _ (by have := dn_t (gO_nn hv_ c83); omega) trivial (dn_g (gO_nn hv_ c83)) (ups_B hb2_ (by split; exact isB_b _; exact hb2_ _ (by have := (gO_nn hv_ c83).2; omega))) (fun y0 y1 hy_ => K_ y0 y1 (hy_.trans (frb_step hs_).symm))
                refine x_icmpne O 184 dX6_canAll_176 (by decide) (fun c176 => ?_) (fun c176 => ?_)
                · refine x_sub [1, 2, 3, 4, 5, 6] (L' := [(5, .int v5_81), (4, .int ((if (nI i3_32) = which then (m_ofFind (μ 1) (tn (μ 11 i3_32)) 3) &&& ((nI 1) <<< ((nI person) &&& 31)) else m_ofFind (μ 1) (tn (μ 11 i3_32)) 3))), (3, .int (nI i3_32)), (0, .ref (adr 0)), (1, .int which), (2, .int (nI person))]) rfl ?_
                  refine x_aload_n O 3 dX6_canAll_184 rfl rfl ?_
                  refine x_mget O k_X6_51_6 (mg_27 _ _) dX6_canAll_185 ?_
                  refine x_iload O 0 dX6_canAll_188 rfl ?_
                  refine x_top (v' := nI (tn v5_81)) ((gO_nn hv_ c83).1) ?_
                  refine x_zaldN O MS.c12 (by have := (gO_nn hv_ c83).2; omega) rfl dX6_canAll_190 ?_
                  refine x_top (v' := a12_81 (tn v5_81)) (congrFun mc_s (tn v5_81)) ?_
                  exact J12 (a12_81 (tn v5_81)) (by rw [if_neg c176])
                · refine x_iload O 0 dX6_canAll_179 rfl ?_
                  refine x_goto O 191 dX6_canAll_181 (by decide) ?_
                  refine x_sub [1, 2, 3, 4, 5, 6] (L' := [(5, .int v5_81), (4, .int ((if (nI i3_32) = which then (m_ofFind (μ 1) (tn (μ 11 i3_32)) 3) &&& ((nI 1) <<< ((nI person) &&& 31)) else m_ofFind (μ 1) (tn (μ 11 i3_32)) 3))), (3, .int (nI i3_32)), (0, .ref (adr 0)), (1, .int which), (2, .int (nI person))]) rfl ?_
                  exact J12 (b2i ((frb (fun i s => m_canAll_b92 (μ 1) (μ 11) (μ 12) (μ 0 26) which person i3_32 v5_81 a12_81 i s) 8 0 false))) (by rw [if_pos c176])
          refine LOOP81 (257 + person) 0 (nI 255) a12_32 (by have h_ : tn (nI 255 + 1) = 256 := (by decide +kernel); omega) trivial (Or.inr (nn_nI (by omega) (by decide))) hb_ (fun y0 y1 hy_81 hx81_ => ?_)
          obtain rfl : y0 = (frb (fun i s => m_canAll_b81 (μ 1) (μ 11) (μ 12) (μ 0 26) which person i3_32 i s.1 s.2) (257 + person) 0 (nI 255, a12_32)).1 := congrArg (fun z => z.1) hy_81
          obtain rfl : y1 = (frb (fun i s => m_canAll_b81 (μ 1) (μ 11) (μ 12) (μ 0 26) which person i3_32 i s.1 s.2) (257 + person) 0 (nI 255, a12_32)).2 := congrArg (fun z => z.2) hy_81
          refine x_iincN O 0 [(3, .int (nI (i3_32 + 1))), (0, .ref (adr 0)), (1, .int which), (2, .int (nI person))] dX6_canAll_198 rfl rfl rfl ?_
          refine x_goto O 32 dX6_canAll_201 (by decide) ?_
          obtain ⟨c2_, rfl⟩ : ∃ z, cc_ = z + 1 := ⟨cc_ - 1, by omega⟩
          have hs_ : (fun i s => m_canAll_b32 (μ 1) (μ 11) (μ 12) (μ 0 26) which person i s) i3_32 a12_32 = (frb (fun i s => m_canAll_b81 (μ 1) (μ 11) (μ 12) (μ 0 26) which person i3_32 i s.1 s.2) (257 + person) 0 (nI 255, a12_32)).2 := by show m_canAll_b32 (μ 1) (μ 11) (μ 12) (μ 0 26) which person i3_32 a12_32 = _; unfold m_canAll_b32; rfl
          exact IH_ c2_ (by omega) _ _ (by omega) (by omega) hx81_ (fun y0 hy_ => K_ y0 (hy_.trans (fr_step hs_).symm))
        refine x_icmpne O 63 dX6_canAll_42 (by decide) (fun c42 => ?_) (fun c42 => ?_)
        · refine x_aload_n O 1 dX6_canAll_63 rfl rfl ?_
          refine x_aload_n O 1 dX6_canAll_64 rfl rfl ?_
          refine x_mget O k_X6_48_6 (mg_25 _ _) dX6_canAll_65 ?_
          refine x_iload_n O 0 dX6_canAll_68 rfl rfl ?_
          refine x_ialdN O MS.c11 (by omega) rfl dX6_canAll_69 ?_
          refine x_top (v' := μ 11 i3_32) (congrFun (mc_n (by decide)) i3_32) ?_
          refine x_top (v' := nI (tn (μ 11 i3_32))) ((hbn _ (by omega)).1) ?_
          refine x_iconst O (nI 3) dX6_canAll_70 (by decide) ?_
          refine x_cV O 2 (c_m_ofFind (μ := (mc μ 12 a12_32)) (tn (μ 11 i3_32)) 3 (by have := (hbn i3_32 (by omega)).2; omega) (by omega)) MS.obj uc6 (lw_V q2054 q2056 qs75 q111 q2057) rfl hd_X6_ofFind rfl (by rw [RF]; rfl) (by rw [RL]; rfl) ⟨Nat.zero_le _, Nat.zero_le _⟩ rfl rfl dX6_canAll_71 ?_
          refine x_top (v' := m_ofFind (μ 1) (tn (μ 11 i3_32)) 3) (by rw [show (mc μ 12 a12_32) 1 = μ 1 from (mc_n (by decide))]) ?_
          exact J8 (m_ofFind (μ 1) (tn (μ 11 i3_32)) 3) (by rw [if_neg c42])
        · refine x_aload_n O 1 dX6_canAll_45 rfl rfl ?_
          refine x_aload_n O 1 dX6_canAll_46 rfl rfl ?_
          refine x_mget O k_X6_48_6 (mg_25 _ _) dX6_canAll_47 ?_
          refine x_iload_n O 0 dX6_canAll_50 rfl rfl ?_
          refine x_ialdN O MS.c11 (by omega) rfl dX6_canAll_51 ?_
          refine x_top (v' := μ 11 i3_32) (congrFun (mc_n (by decide)) i3_32) ?_
          refine x_top (v' := nI (tn (μ 11 i3_32))) ((hbn _ (by omega)).1) ?_
          refine x_iconst O (nI 3) dX6_canAll_52 (by decide) ?_
          refine x_cV O 2 (c_m_ofFind (μ := (mc μ 12 a12_32)) (tn (μ 11 i3_32)) 3 (by have := (hbn i3_32 (by omega)).2; omega) (by omega)) MS.obj uc6 (lw_V q2054 q2056 qs75 q111 q2057) rfl hd_X6_ofFind rfl (by rw [RF]; rfl) (by rw [RL]; rfl) ⟨Nat.zero_le _, Nat.zero_le _⟩ rfl rfl dX6_canAll_53 ?_
          refine x_top (v' := m_ofFind (μ 1) (tn (μ 11 i3_32)) 3) (by rw [show (mc μ 12 a12_32) 1 = μ 1 from (mc_n (by decide))]) ?_
          refine x_iconst O (nI 1) dX6_canAll_56 (by decide) ?_
          refine x_iload_n O 3 dX6_canAll_57 rfl rfl ?_
          refine x_ishl O dX6_canAll_58 ?_
          refine x_iand O dX6_canAll_59 ?_
          refine x_goto O 74 dX6_canAll_60 (by decide) ?_
          exact J8 ((m_ofFind (μ 1) (tn (μ 11 i3_32)) 3) &&& ((nI 1) <<< ((nI person) &&& 31))) (by rw [if_pos c42])
  refine LOOP32 (tn (μ 0 26)) 0 ((fr (fun i s => m_canAll_b2 (μ 1) (μ 11) (μ 12) (μ 0 26) i s) 256 0 (μ 12))) rfl (by omega) hx_ (fun y0 hy_32 => ?_)
  subst hy_32
  refine x_iconst O (nI 0) dX6_canAll_204 (by decide) ?_
  refine x_top (v' := b2i false) (by decide) ?_
  refine x_istore_n O [(3, .int (b2i false)), (0, .ref (adr 0))] dX6_canAll_205 rfl rfl rfl ?_
  refine x_iconst O (nI 0) dX6_canAll_206 (by decide) ?_
  refine x_istore O [(4, .int (nI 0)), (3, .int (b2i false)), (0, .ref (adr 0))] dX6_canAll_207 rfl rfl ?_
  have LOOP209 : ∀ (cc_ : Nat) (i4_209 : Nat) (v3_209 : Bool), cc_ = 256 - i4_209 → i4_209 < 2147483648 → (∀ (y0 : Bool), y0 = fr (fun i s => m_canAll_b209 (μ 1) (μ 11) (μ 12) (μ 0 26) which person i s) cc_ i4_209 v3_209 → X G F R Q 8 255 [(3, .int (b2i y0)), (0, .ref (adr 0))] [] (MS G adr h0 ((mc μ 12 ((fr (fun i s => m_canAll_b32 (μ 1) (μ 11) (μ 12) (μ 0 26) which person i s) (tn (μ 0 26)) 0 (fr (fun i s => m_canAll_b2 (μ 1) (μ 11) (μ 12) (μ 0 26) i s) 256 0 (μ 12))))))) 0 0) → X G F R Q 8 209 [(4, .int (nI i4_209)), (3, .int (b2i v3_209)), (0, .ref (adr 0))] [] (MS G adr h0 ((mc μ 12 ((fr (fun i s => m_canAll_b32 (μ 1) (μ 11) (μ 12) (μ 0 26) which person i s) (tn (μ 0 26)) 0 (fr (fun i s => m_canAll_b2 (μ 1) (μ 11) (μ 12) (μ 0 26) i s) 256 0 (μ 12))))))) 0 0 := by
    intro cc_
    induction cc_ using Nat.strongRecOn with
    | ind cc_ IH_ =>
      intro i4_209 v3_209 hc_ hb_  K_
      refine x_iload O 0 dX6_canAll_209 rfl ?_
      refine x_sipush O (nI 256) dX6_canAll_211 (by decide) ?_
      refine x_icmpgeN O 255 (by omega) (by omega) dX6_canAll_214 (by decide) (fun c214 => ?_) (fun c214 => ?_)
      · refine x_sub [1, 2] (L' := [(3, .int (b2i v3_209)), (0, .ref (adr 0))]) rfl ?_
        obtain rfl : cc_ = 0 := by omega
        exact K_ _ rfl
      · refine x_iload_n O 1 dX6_canAll_217 rfl rfl ?_
        have J14 : ∀ (y5 : Bool), y5 = (if v3_209 = true then true else (if (j_bits (nI i4_209)) = (nI (tn (μ 0 26))) then (if (((fr (fun i s => m_canAll_b32 (μ 1) (μ 11) (μ 12) (μ 0 26) which person i s) (tn (μ 0 26)) 0 (fr (fun i s => m_canAll_b2 (μ 1) (μ 11) (μ 12) (μ 0 26) i s) 256 0 (μ 12)))) i4_209) = 0 then false else true) else false)) → X G F R Q 8 248 [(4, .int (nI i4_209)), (0, .ref (adr 0))] [.int (b2i y5)] (MS G adr h0 ((mc μ 12 ((fr (fun i s => m_canAll_b32 (μ 1) (μ 11) (μ 12) (μ 0 26) which person i s) (tn (μ 0 26)) 0 (fr (fun i s => m_canAll_b2 (μ 1) (μ 11) (μ 12) (μ 0 26) i s) 256 0 (μ 12))))))) 0 0 := by
          intro y5 e15
          subst e15
          refine x_istore_n O [(3, .int (b2i ((if v3_209 = true then true else (if (j_bits (nI i4_209)) = (nI (tn (μ 0 26))) then (if (((fr (fun i s => m_canAll_b32 (μ 1) (μ 11) (μ 12) (μ 0 26) which person i s) (tn (μ 0 26)) 0 (fr (fun i s => m_canAll_b2 (μ 1) (μ 11) (μ 12) (μ 0 26) i s) 256 0 (μ 12)))) i4_209) = 0 then false else true) else false))))), (4, .int (nI i4_209)), (0, .ref (adr 0))] dX6_canAll_248 rfl rfl rfl ?_
          refine x_iincN O 1 [(4, .int (nI (i4_209 + 1))), (3, .int (b2i ((if v3_209 = true then true else (if (j_bits (nI i4_209)) = (nI (tn (μ 0 26))) then (if (((fr (fun i s => m_canAll_b32 (μ 1) (μ 11) (μ 12) (μ 0 26) which person i s) (tn (μ 0 26)) 0 (fr (fun i s => m_canAll_b2 (μ 1) (μ 11) (μ 12) (μ 0 26) i s) 256 0 (μ 12)))) i4_209) = 0 then false else true) else false))))), (0, .ref (adr 0))] dX6_canAll_249 rfl rfl rfl ?_
          refine x_goto O 209 dX6_canAll_252 (by decide) ?_
          obtain ⟨c2_, rfl⟩ : ∃ z, cc_ = z + 1 := ⟨cc_ - 1, by omega⟩
          have hs_ : (fun i s => m_canAll_b209 (μ 1) (μ 11) (μ 12) (μ 0 26) which person i s) i4_209 v3_209 = (if v3_209 = true then true else (if (j_bits (nI i4_209)) = (nI (tn (μ 0 26))) then (if (((fr (fun i s => m_canAll_b32 (μ 1) (μ 11) (μ 12) (μ 0 26) which person i s) (tn (μ 0 26)) 0 (fr (fun i s => m_canAll_b2 (μ 1) (μ 11) (μ 12) (μ 0 26) i s) 256 0 (μ 12)))) i4_209) = 0 then false else true) else false)) := by show m_canAll_b209 (μ 1) (μ 11) (μ 12) (μ 0 26) which person i4_209 v3_209 = _; unfold m_canAll_b209; rfl
          exact IH_ c2_ (by omega) _ _ (by omega) (by omega) (fun y0 hy_ => K_ y0 (hy_.trans (fr_step hs_).symm))
        refine x_ifneB O 243 dX6_canAll_218 (by decide) (fun c218 => ?_) (fun c218 => ?_)
        · refine x_sub [0, 2] (L' := [(4, .int (nI i4_209)), (0, .ref (adr 0))]) rfl ?_
          refine x_iconst O (nI 1) dX6_canAll_243 (by decide) ?_
          refine x_goto O 248 dX6_canAll_244 (by decide) ?_
          refine x_top (v' := b2i true) (by decide) ?_
          exact J14 true (by rw [if_pos c218])
        · refine x_sub [0, 2] (L' := [(4, .int (nI i4_209)), (0, .ref (adr 0))]) rfl ?_
          refine x_iload O 0 dX6_canAll_221 rfl ?_
          refine x_cS O 1 (c_j_bits (nI i4_209)) (lw_S q2105 q572 q142 q573) hd_J13_bitCount rfl (by rw [RF]; rfl) (by rw [RL]; rfl) ⟨Nat.zero_le _, Nat.zero_le _⟩ rfl rfl dX6_canAll_223 ?_
          refine x_top (v' := j_bits (nI i4_209)) rfl ?_
          refine x_aload_n O 1 dX6_canAll_226 rfl rfl ?_
          refine x_mget O k_X6_422_6 (mg_26 _ _) dX6_canAll_227 ?_
          refine x_top (v' := nI (tn (μ 0 26))) ((congrFun (mc_n (by decide)) 26).trans (hn.1)) ?_
          refine x_icmpne O 247 dX6_canAll_230 (by decide) (fun c230 => ?_) (fun c230 => ?_)
          · refine x_iconst O (nI 0) dX6_canAll_247 (by decide) ?_
            refine x_top (v' := b2i false) (by decide) ?_
            exact J14 false (by first | (rw [if_neg c218, if_neg c230]; done) | simp only [if_neg c218, if_neg c230])
          · refine x_aload_n O 1 dX6_canAll_233 rfl rfl ?_
            refine x_mget O k_X6_51_6 (mg_27 _ _) dX6_canAll_234 ?_
            refine x_iload O 0 dX6_canAll_237 rfl ?_
            refine x_zaldN O MS.c12 (by omega) rfl dX6_canAll_239 ?_
            refine x_top (v' := ((fr (fun i s => m_canAll_b32 (μ 1) (μ 11) (μ 12) (μ 0 26) which person i s) (tn (μ 0 26)) 0 (fr (fun i s => m_canAll_b2 (μ 1) (μ 11) (μ 12) (μ 0 26) i s) 256 0 (μ 12)))) i4_209) (congrFun mc_s i4_209) ?_
            refine x_ifeq O 247 dX6_canAll_240 (by decide) (fun c240 => ?_) (fun c240 => ?_)
            · refine x_iconst O (nI 0) dX6_canAll_247 (by decide) ?_
              refine x_top (v' := b2i false) (by decide) ?_
              exact J14 false (by first | (rw [if_neg c218, if_pos c230, if_pos c240]; done) | simp only [if_neg c218, if_pos c230, if_pos c240])
            · refine x_iconst O (nI 1) dX6_canAll_243 (by decide) ?_
              refine x_goto O 248 dX6_canAll_244 (by decide) ?_
              refine x_top (v' := b2i true) (by decide) ?_
              exact J14 true (by first | (rw [if_neg c218, if_pos c230, if_neg c240]; done) | simp only [if_neg c218, if_pos c230, if_neg c240])
  refine LOOP209 256 0 false rfl (by omega) (fun y0 hy_209 => ?_)
  subst hy_209
  refine x_iload_n O 0 dX6_canAll_255 rfl rfl ?_
  exact x_zretQ O hQ rfl dX6_canAll_256 (fun h m => ⟨by rw [hres], by rw [hrs0]; exact m.eq rfl⟩)

def m_who_b30 (W : Nat → Int32) (C11 : Nat → Int32) (C12 : Nat → Int32) (find : Int32) (i3_30 : Nat) (v2_30 : Int32) (f26_30 : Nat) (a11_30 : (Nat → Int32)) : (Int32 × Nat × (Nat → Int32)) ⊕ (Int32 × Nat × (Nat → Int32)) :=
  (if 8 ≤ f26_30 then .inr (v2_30, f26_30, a11_30) else .inl ((if m_isKind W i3_30 2 = true then (if m_isSeen W i3_30 = true then (if (nI i3_30) = find then nI f26_30 else v2_30) else v2_30) else v2_30), (if m_isKind W i3_30 2 = true then (if m_isSeen W i3_30 = true then f26_30 + 1 else f26_30) else f26_30), (if m_isKind W i3_30 2 = true then (if m_isSeen W i3_30 = true then ups a11_30 f26_30 (nI i3_30) else a11_30) else a11_30)))
def m_who_b131 (W : Nat → Int32) (C11 : Nat → Int32) (C12 : Nat → Int32) (find : Int32) (i4_131 : Nat) (v3_131 : Int32) (a12_131 : (Nat → Int32)) : Int32 × (Nat → Int32) :=
  (v3_131 ||| ((if m_canAll W ((frb (fun i s => m_who_b30 W C11 C12 find i s.1 s.2.1 s.2.2) (tn (W 3)) 0 ((-1), 0, C11)).2.2) a12_131 (nI ((frb (fun i s => m_who_b30 W C11 C12 find i s.1 s.2.1 s.2.2) (tn (W 3)) 0 ((-1), 0, C11)).2.1)) ((frb (fun i s => m_who_b30 W C11 C12 find i s.1 s.2.1 s.2.2) (tn (W 3)) 0 ((-1), 0, C11)).1) i4_131 = true then (nI 1) <<< ((nI i4_131) &&& 31) else nI 0)), m_canAll_c12 W ((frb (fun i s => m_who_b30 W C11 C12 find i s.1 s.2.1 s.2.2) (tn (W 3)) 0 ((-1), 0, C11)).2.2) a12_131 (nI ((frb (fun i s => m_who_b30 W C11 C12 find i s.1 s.2.1 s.2.2) (tn (W 3)) 0 ((-1), 0, C11)).2.1)) ((frb (fun i s => m_who_b30 W C11 C12 find i s.1 s.2.1 s.2.2) (tn (W 3)) 0 ((-1), 0, C11)).1) i4_131)
def m_who (W : Nat → Int32) (C11 : Nat → Int32) (C12 : Nat → Int32) (find : Int32) : Int32 :=
  (if m_none W find 3 = true then nI 0 else (if (if 0 ≤ ((frb (fun i s => m_who_b30 W C11 C12 find i s.1 s.2.1 s.2.2) (tn (W 3)) 0 ((-1), 0, C11)).1) then false else true) = true then nI 0 else (fr (fun i s => m_who_b131 W C11 C12 find i s.1 s.2) 8 0 (nI 0, C12)).1))
def m_who_f0 (W : Nat → Int32) (C11 : Nat → Int32) (C12 : Nat → Int32) (find : Int32) : Nat :=
  (if m_none W find 3 = true then 1 else (if (if 0 ≤ ((frb (fun i s => m_who_b30 W C11 C12 find i s.1 s.2.1 s.2.2) (tn (W 3)) 0 ((-1), 0, C11)).1) then false else true) = true then 2 else 0))
set_option maxHeartbeats 1000000 in
set_option maxRecDepth 100000 in
theorem c_m_who {G : UG} {adr : Nat → Nat} {h0 : Hp} {μ : Mu} (hI : MI (μ 1)) (find : Int32)  : Con G yX6_who cX6_who 5 (some .int) 3 64 0 0 [.ref (adr 0), .int find] (MS G adr h0 μ) (fun vr_ h' => vr_ = some (.int (m_who (μ 1) (μ 11) (μ 12) find)) ∧ ∃ (Z11 : Nat → Int32) (Z12 : Nat → Int32) (z26 : Int32), MS G adr h0 (mc (mc (mset (mset μ 0 0 (nI (m_who_f0 (μ 1) (μ 11) (μ 12) find))) 0 26 z26) 11 Z11) 12 Z12) h') nX := by
  refine con_of2 (plainFor_of_name (by decide)) rfl ?_
  intro F R Q RF RL RC RS hQ O hnh hnm
  obtain ⟨res, hres⟩ : ∃ z, z = (m_who (μ 1) (μ 11) (μ 12) find) := ⟨_, rfl⟩
  rw [← hres] at hQ
  unfold m_who at hres
  obtain ⟨rs0, hrs0⟩ : ∃ z, z = m_who_f0 (μ 1) (μ 11) (μ 12) find := ⟨_, rfl⟩
  rw [← hrs0] at hQ
  unfold m_who_f0 at hrs0
  have hb3 : tn (μ 1 3) ≤ 120 := (hI 3 (by decide)).2
  refine x_eq (L' := [(0, .ref (adr 0)), (1, .int find)]) ?_ rfl rfl rfl
  refine x_aload_n O 0 dX6_who_0 rfl rfl ?_
  refine x_iconst O (nI 0) dX6_who_1 (by decide) ?_
  refine x_mputQ O p_X6_3_6 (mp_0 _ _ _) rfl dX6_who_2 (μ' := (mset μ 0 0 (nI 0))) rfl ?_
  refine x_aload_n O 0 dX6_who_5 rfl rfl ?_
  refine x_aload_n O 0 dX6_who_6 rfl rfl ?_
  refine x_iload_n O 1 dX6_who_7 rfl rfl ?_
  refine x_iconst O (nI 3) dX6_who_8 (by decide) ?_
  refine x_cV O 2 (c_m_none (μ := (mset μ 0 0 (nI 0))) find 3 (by omega)) MS.obj uc6 (lw_V q1964 q1966 qs59 q111 q1967) rfl hd_X6_none rfl (by rw [RF]; rfl) (by rw [RL]; rfl) ⟨Nat.zero_le _, Nat.zero_le _⟩ rfl rfl dX6_who_9 ?_
  refine x_top (v' := b2i (m_none (μ 1) find 3)) (by rw [show (mset μ 0 0 (nI 0)) 1 = μ 1 from (mset_n (by decide))]) ?_
  refine x_iconst O (nI 1) dX6_who_12 (by decide) ?_
  refine x_bc (m_none (μ 1) find 3) (fun c13 => ?_) (fun c13 => ?_)
  · have hr7 := hres.trans (if_pos c13)
    have hr8 := hrs0.trans (if_pos c13)
    refine x_eq (st' := [.int (nI 1), .int (b2i true), .ref (adr 0)]) ?_ rfl rfl (by rw [c13] <;> rfl)
    refine x_cV O 2 (c_m_throwsIf_t (μ := (mset μ 0 0 (nI 0))) 1) MS.obj uc6 (lw_V q1774 q1776 qs34 q111 q1777) rfl hd_X6_throwsIf rfl (by rw [RF]; rfl) (by rw [RL]; rfl) ⟨Nat.zero_le _, Nat.zero_le _⟩ rfl rfl dX6_who_13 ?_
    refine x_top (v' := b2i true) rfl ?_
    refine x_weak (Ω' := MS G adr h0 (mset μ 0 0 (nI 1))) (fun _ m => m.eq ff_s) ?_
    refine x_ifeqB O 21 dX6_who_16 (by decide) (fun c => absurd rfl c) (fun _ => ?_)
    refine x_sub [0] (L' := [(0, .ref (adr 0))]) rfl ?_
    refine x_iconst O (nI 0) dX6_who_19 (by decide) ?_
    exact x_iretQ O hQ rfl dX6_who_20 (fun h m => ⟨by rw [hr7], by rw [hr8]; exact ⟨_, _, _, m.eq ((mf_id (k := 26) (v := μ 0 26) (by rfl)).symm.trans ((mc_id (c := 11) (f := μ 11) (by rfl)).symm.trans (mc_id (c := 12) (f := μ 12) (by rfl)).symm))⟩⟩)
  · have hr9 := hres.trans (if_neg c13)
    have hr10 := hrs0.trans (if_neg c13)
    refine x_eq (st' := [.int (nI 1), .int (b2i false), .ref (adr 0)]) ?_ rfl rfl (by rw [bfalse c13] <;> rfl)
    refine x_cV O 2 (c_m_throwsIf_f (μ := (mset μ 0 0 (nI 0))) 1) MS.obj uc6 (lw_V q1774 q1776 qs34 q111 q1777) rfl hd_X6_throwsIf rfl (by rw [RF]; rfl) (by rw [RL]; rfl) ⟨Nat.zero_le _, Nat.zero_le _⟩ rfl rfl dX6_who_13 ?_
    refine x_top (v' := b2i false) rfl ?_
    refine x_ifeqB O 21 dX6_who_16 (by decide) (fun _ => ?_) (fun c => absurd c (by decide))
    refine x_iconst O ((-1)) dX6_who_21 (by decide) ?_
    refine x_istore_n O [(2, .int ((-1))), (0, .ref (adr 0)), (1, .int find)] dX6_who_22 rfl rfl rfl ?_
    refine x_aload_n O 1 dX6_who_23 rfl rfl ?_
    refine x_iconst O (nI 0) dX6_who_24 (by decide) ?_
    refine x_mputQ O p_X6_422_6 (mp_26 _ _ _) rfl dX6_who_25 (μ' := (mset (mset μ 0 0 (nI 0)) 0 26 (nI 0))) rfl ?_
    refine x_iconst O (nI 0) dX6_who_28 (by decide) ?_
    refine x_istore_n O [(3, .int (nI 0)), (2, .int ((-1))), (0, .ref (adr 0)), (1, .int find)] dX6_who_29 rfl rfl rfl ?_
    have LOOP30 : ∀ (cc_ : Nat) (i3_30 : Nat) (v2_30 : Int32) (f26_30 : Nat) (a11_30 : (Nat → Int32)), cc_ = tn (μ 1 3) - i3_30 → i3_30 < 2147483648 → (f26_30 ≤ 8) → (∀ k, k < f26_30 → nn (a11_30 k) 119) → (∀ (y0 : Int32) (y1 : Nat) (y2 : (Nat → Int32)), (y0, y1, y2) = frb (fun i s => m_who_b30 (μ 1) (μ 11) (μ 12) find i s.1 s.2.1 s.2.2) cc_ i3_30 (v2_30, f26_30, a11_30) → (y1 ≤ 8) → (∀ k, k < y1 → nn (y2 k) 119) → X G F R Q 5 107 [(2, .int y0), (0, .ref (adr 0))] [] (MS G adr h0 ((mc (mset (mset μ 0 0 (nI 0)) 0 26 (nI y1)) 11 y2))) 0 0) → X G F R Q 5 30 [(3, .int (nI i3_30)), (2, .int v2_30), (0, .ref (adr 0)), (1, .int find)] [] (MS G adr h0 ((mc (mset (mset μ 0 0 (nI 0)) 0 26 (nI f26_30)) 11 a11_30))) 0 0 := by
      intro cc_
      induction cc_ using Nat.strongRecOn with
      | ind cc_ IH_ =>
        intro i3_30 v2_30 f26_30 a11_30 hc_ hb_ hn_ hb_ K_
        refine x_iload_n O 0 dX6_who_30 rfl rfl ?_
        refine x_aload_n O 2 dX6_who_31 rfl rfl ?_
        refine x_cV O 0 (c_m_finds (μ := (mc (mset (mset μ 0 0 (nI 0)) 0 26 (nI f26_30)) 11 a11_30))) MS.obj uc6 (lw_V q2042 q2044 qs74 q111 q2045) rfl hd_X6_finds rfl (by rw [RF]; rfl) (by rw [RL]; rfl) ⟨Nat.zero_le _, Nat.zero_le _⟩ rfl rfl dX6_who_32 ?_
        refine x_top (v' := μ 1 3) (m_finds_u _) ?_
        refine x_top (v' := nI (tn (μ 1 3))) ((hI 3 (by decide)).1) ?_
        refine x_icmpgeN O 107 (by omega) (by omega) dX6_who_35 (by decide) (fun c35 => ?_) (fun c35 => ?_)
        · refine x_sub [1, 2] (L' := [(2, .int v2_30), (0, .ref (adr 0))]) rfl ?_
          obtain rfl : cc_ = 0 := by omega
          exact K_ _ _ _ rfl hn_ hb_
        · refine x_aload_n O 2 dX6_who_38 rfl rfl ?_
          refine x_mget O k_X6_422_6 (mg_26 _ _) dX6_who_39 ?_
          refine x_top (v' := nI f26_30) ((congrFun (mc_n (by decide)) 26).trans rd_hit) ?_
          refine x_bipush O (nI 8) dX6_who_42 (by decide) ?_
          refine x_icmpgeN O 107 (by omega) (by omega) dX6_who_44 (by decide) (fun c44 => ?_) (fun c44 => ?_)
          · refine x_sub [1, 2] (L' := [(2, .int v2_30), (0, .ref (adr 0))]) rfl ?_
            obtain ⟨c2_, rfl⟩ : ∃ z, cc_ = z + 1 := ⟨cc_ - 1, by omega⟩
            have hs_ : (fun i s => m_who_b30 (μ 1) (μ 11) (μ 12) find i s.1 s.2.1 s.2.2) i3_30 (v2_30, f26_30, a11_30) = .inr (v2_30, f26_30, a11_30) := by show m_who_b30 (μ 1) (μ 11) (μ 12) find i3_30 v2_30 f26_30 a11_30 = _; unfold m_who_b30; rw [if_pos c44]
            exact K_ _ _ _ (frb_stop hs_).symm hn_ hb_
          · refine x_aload_n O 2 dX6_who_47 rfl rfl ?_
            refine x_iload_n O 0 dX6_who_48 rfl rfl ?_
            refine x_iconst O (nI 2) dX6_who_49 (by decide) ?_
            refine x_cV O 2 (c_m_isKind (μ := (mc (mset (mset μ 0 0 (nI 0)) 0 26 (nI f26_30)) 11 a11_30)) i3_30 2 (by omega)) MS.obj uc6 (lw_V q2070 q2072 qs79 q111 q2073) rfl hd_X6_isKind rfl (by rw [RF]; rfl) (by rw [RL]; rfl) ⟨Nat.zero_le _, Nat.zero_le _⟩ rfl rfl dX6_who_50 ?_
            refine x_top (v' := b2i (m_isKind (μ 1) i3_30 2)) (by rw [show (mc (mset (mset μ 0 0 (nI 0)) 0 26 (nI f26_30)) 11 a11_30) 1 = μ 1 from ((mc_n (by decide)).trans ((mset_n (by decide)).trans (mset_n (by decide))))]) ?_
            have J11 : ∀ (y2 : Int32) (y3 : Nat) (y4 : Nat → Int32), y2 = (if m_isKind (μ 1) i3_30 2 = true then (if m_isSeen (μ 1) i3_30 = true then (if (nI i3_30) = find then nI f26_30 else v2_30) else v2_30) else v2_30) → y3 = (if m_isKind (μ 1) i3_30 2 = true then (if m_isSeen (μ 1) i3_30 = true then f26_30 + 1 else f26_30) else f26_30) → y4 = (if m_isKind (μ 1) i3_30 2 = true then (if m_isSeen (μ 1) i3_30 = true then ups a11_30 f26_30 (nI i3_30) else a11_30) else a11_30) → X G F R Q 5 101 [(3, .int (nI i3_30)), (2, .int y2), (0, .ref (adr 0)), (1, .int find)] [] (MS G adr h0 ((mc (mset (mset μ 0 0 (nI 0)) 0 26 (nI y3)) 11 y4))) 0 0 := by
              intro y2 y3 y4 e12 e13 e14
              subst e12; subst e13; subst e14
              refine x_iincN O 0 [(3, .int (nI (i3_30 + 1))), (2, .int ((if m_isKind (μ 1) i3_30 2 = true then (if m_isSeen (μ 1) i3_30 = true then (if (nI i3_30) = find then nI f26_30 else v2_30) else v2_30) else v2_30))), (0, .ref (adr 0)), (1, .int find)] dX6_who_101 rfl rfl rfl ?_
              refine x_goto O 30 dX6_who_104 (by decide) ?_
              obtain ⟨c2_, rfl⟩ : ∃ z, cc_ = z + 1 := ⟨cc_ - 1, by omega⟩
              have hs_ : (fun i s => m_who_b30 (μ 1) (μ 11) (μ 12) find i s.1 s.2.1 s.2.2) i3_30 (v2_30, f26_30, a11_30) = .inl ((if m_isKind (μ 1) i3_30 2 = true then (if m_isSeen (μ 1) i3_30 = true then (if (nI i3_30) = find then nI f26_30 else v2_30) else v2_30) else v2_30), (if m_isKind (μ 1) i3_30 2 = true then (if m_isSeen (μ 1) i3_30 = true then f26_30 + 1 else f26_30) else f26_30), (if m_isKind (μ 1) i3_30 2 = true then (if m_isSeen (μ 1) i3_30 = true then ups a11_30 f26_30 (nI i3_30) else a11_30) else a11_30)) := by show m_who_b30 (μ 1) (μ 11) (μ 12) find i3_30 v2_30 f26_30 a11_30 = _; unfold m_who_b30; rw [if_neg c44]
              exact IH_ c2_ (by omega) _ _ _ _ (by omega) (by omega) (by (repeat' split) <;> omega) (by (repeat' split) <;> first | exact hb_ | exact ups_all (P := fun x => nn x 119) hb_ (nn_nI (by omega) (by decide))) (fun y0 y1 y2 hy_ => K_ y0 y1 y2 (hy_.trans (frb_step hs_).symm))
            refine x_ifeqB O 101 dX6_who_53 (by decide) (fun c53 => ?_) (fun c53 => ?_)
            · exact J11 v2_30 f26_30 a11_30 (by rw [if_neg c53]) (by rw [if_neg c53]) (by rw [if_neg c53])
            · refine x_aload_n O 2 dX6_who_56 rfl rfl ?_
              refine x_iload_n O 0 dX6_who_57 rfl rfl ?_
              refine x_cV O 1 (c_m_isSeen (μ := (mc (mset (mset μ 0 0 (nI 0)) 0 26 (nI f26_30)) 11 a11_30)) i3_30 (by omega)) MS.obj uc6 (lw_V q2058 q2060 qs76 q111 q2061) rfl hd_X6_isSeen rfl (by rw [RF]; rfl) (by rw [RL]; rfl) ⟨Nat.zero_le _, Nat.zero_le _⟩ rfl rfl dX6_who_58 ?_
              refine x_top (v' := b2i (m_isSeen (μ 1) i3_30)) (by rw [show (mc (mset (mset μ 0 0 (nI 0)) 0 26 (nI f26_30)) 11 a11_30) 1 = μ 1 from ((mc_n (by decide)).trans ((mset_n (by decide)).trans (mset_n (by decide))))]) ?_
              refine x_ifneB O 67 dX6_who_61 (by decide) (fun c61 => ?_) (fun c61 => ?_)
              · refine x_iload_n O 0 dX6_who_67 rfl rfl ?_
                refine x_iload_n O 3 dX6_who_68 rfl rfl ?_
                have J15 : ∀ (y1 : Int32), y1 = (if (nI i3_30) = find then nI f26_30 else v2_30) → X G F R Q 5 80 [(3, .int (nI i3_30)), (0, .ref (adr 0)), (1, .int find)] [.int y1] (MS G adr h0 ((mc (mset (mset μ 0 0 (nI 0)) 0 26 (nI f26_30)) 11 a11_30))) 0 0 := by
                  intro y1 e16
                  subst e16
                  refine x_istore_n O [(2, .int ((if (nI i3_30) = find then nI f26_30 else v2_30))), (3, .int (nI i3_30)), (0, .ref (adr 0)), (1, .int find)] dX6_who_80 rfl rfl rfl ?_
                  refine x_aload_n O 2 dX6_who_81 rfl rfl ?_
                  refine x_mget O k_X6_48_6 (mg_25 _ _) dX6_who_82 ?_
                  refine x_aload_n O 2 dX6_who_85 rfl rfl ?_
                  refine x_mget O k_X6_422_6 (mg_26 _ _) dX6_who_86 ?_
                  refine x_top (v' := nI f26_30) ((congrFun (mc_n (by decide)) 26).trans rd_hit) ?_
                  refine x_iload_n O 1 dX6_who_89 rfl rfl ?_
                  refine x_mastQ O 10 MS.c11 rfl rfl rfl (by omega) rfl dX6_who_90 (μ' := (mc (mset (mset μ 0 0 (nI 0)) 0 26 (nI f26_30)) 11 (ups a11_30 f26_30 (nI i3_30)))) wc_s ?_
                  refine x_aload_n O 2 dX6_who_91 rfl rfl ?_
                  refine x_dup O dX6_who_92 rfl ?_
                  refine x_mget O k_X6_422_6 (mg_26 _ _) dX6_who_93 ?_
                  refine x_top (v' := nI f26_30) ((congrFun (mc_n (by decide)) 26).trans rd_hit) ?_
                  refine x_iconst O (nI 1) dX6_who_96 (by decide) ?_
                  refine x_iaddN O dX6_who_97 ?_
                  refine x_mputQ O p_X6_422_6 (mp_26 _ _ _) rfl dX6_who_98 (μ' := (mc (mset (mset μ 0 0 (nI 0)) 0 26 (nI (f26_30 + 1))) 11 (ups a11_30 f26_30 (nI i3_30)))) ((wc_n (by decide)).trans (congrArg (fun m_ => mc m_ 11 _) ff_s)) ?_
                  refine x_sub [1, 0, 2, 3] rfl ?_
                  exact J11 ((if (nI i3_30) = find then nI f26_30 else v2_30)) (f26_30 + 1) (ups a11_30 f26_30 (nI i3_30)) (by first | (rw [if_pos c53, if_pos c61]; done) | simp only [if_pos c53, if_pos c61]) (by first | (rw [if_pos c53, if_pos c61]; done) | simp only [if_pos c53, if_pos c61]) (by first | (rw [if_pos c53, if_pos c61]; done) | simp only [if_pos c53, if_pos c61])
                refine x_icmpne O 79 dX6_who_69 (by decide) (fun c69 => ?_) (fun c69 => ?_)
                · refine x_iload_n O 1 dX6_who_79 rfl rfl ?_
                  refine x_sub [0, 2, 3] rfl ?_
                  exact J15 v2_30 (by rw [if_neg c69])
                · refine x_sub [0, 2, 3] (L' := [(3, .int (nI i3_30)), (0, .ref (adr 0)), (1, .int find)]) rfl ?_
                  refine x_aload_n O 1 dX6_who_72 rfl rfl ?_
                  refine x_mget O k_X6_422_6 (mg_26 _ _) dX6_who_73 ?_
                  refine x_top (v' := nI f26_30) ((congrFun (mc_n (by decide)) 26).trans rd_hit) ?_
                  refine x_goto O 80 dX6_who_76 (by decide) ?_
                  exact J15 (nI f26_30) (by rw [if_pos c69])
              · refine x_goto O 101 dX6_who_64 (by decide) ?_
                exact J11 v2_30 f26_30 a11_30 (by first | (rw [if_pos c53, if_neg c61]; done) | simp only [if_pos c53, if_neg c61]) (by first | (rw [if_pos c53, if_neg c61]; done) | simp only [if_pos c53, if_neg c61]) (by first | (rw [if_pos c53, if_neg c61]; done) | simp only [if_pos c53, if_neg c61])
    refine x_weak (Ω' := MS G adr h0 ((mc (mset (mset μ 0 0 (nI 0)) 0 26 (nI 0)) 11 (μ 11)))) (fun _ m => m.eq (mc_id (c := 11) (f := μ 11) (by rfl)).symm) ?_
    refine LOOP30 (tn (μ 1 3)) 0 ((-1)) 0 (μ 11) rfl (by omega) (by omega) (fun k hk => absurd hk (Nat.not_lt_zero k)) (fun y0 y1 y2 hy_30 hx1_ hx2_ => ?_)
    obtain rfl : y0 = (frb (fun i s => m_who_b30 (μ 1) (μ 11) (μ 12) find i s.1 s.2.1 s.2.2) (tn (μ 1 3)) 0 ((-1), 0, μ 11)).1 := congrArg (fun z => z.1) hy_30
    obtain rfl : y1 = (frb (fun i s => m_who_b30 (μ 1) (μ 11) (μ 12) find i s.1 s.2.1 s.2.2) (tn (μ 1 3)) 0 ((-1), 0, μ 11)).2.1 := congrArg (fun z => z.2.1) hy_30
    obtain rfl : y2 = (frb (fun i s => m_who_b30 (μ 1) (μ 11) (μ 12) find i s.1 s.2.1 s.2.2) (tn (μ 1 3)) 0 ((-1), 0, μ 11)).2.2 := congrArg (fun z => z.2.2) hy_30
    refine x_aload_n O 1 dX6_who_107 rfl rfl ?_
    refine x_iload_n O 0 dX6_who_108 rfl rfl ?_
    have J17 : ∀ (y5 : Bool), y5 = (if 0 ≤ ((frb (fun i s => m_who_b30 (μ 1) (μ 11) (μ 12) find i s.1 s.2.1 s.2.2) (tn (μ 1 3)) 0 ((-1), 0, μ 11)).1) then false else true) → X G F R Q 5 117 [(2, .int ((frb (fun i s => m_who_b30 (μ 1) (μ 11) (μ 12) find i s.1 s.2.1 s.2.2) (tn (μ 1 3)) 0 ((-1), 0, μ 11)).1)), (0, .ref (adr 0))] [.int (b2i y5), .ref (adr 0)] (MS G adr h0 ((mc (mset (mset μ 0 0 (nI 0)) 0 26 (nI ((frb (fun i s => m_who_b30 (μ 1) (μ 11) (μ 12) find i s.1 s.2.1 s.2.2) (tn (μ 1 3)) 0 ((-1), 0, μ 11)).2.1))) 11 ((frb (fun i s => m_who_b30 (μ 1) (μ 11) (μ 12) find i s.1 s.2.1 s.2.2) (tn (μ 1 3)) 0 ((-1), 0, μ 11)).2.2)))) 0 0 := by
      intro y5 e18
      subst e18
      refine x_iconst O (nI 2) dX6_who_117 (by decide) ?_
      refine x_bc ((if 0 ≤ ((frb (fun i s => m_who_b30 (μ 1) (μ 11) (μ 12) find i s.1 s.2.1 s.2.2) (tn (μ 1 3)) 0 ((-1), 0, μ 11)).1) then false else true)) (fun c118 => ?_) (fun c118 => ?_)
      · have hr19 := hr9.trans (if_pos c118)
        have hr20 := hr10.trans (if_pos c118)
        refine x_eq (st' := [.int (nI 2), .int (b2i true), .ref (adr 0)]) ?_ rfl rfl (by rw [c118] <;> rfl)
        refine x_cV O 2 (c_m_throwsIf_t (μ := (mc (mset (mset μ 0 0 (nI 0)) 0 26 (nI ((frb (fun i s => m_who_b30 (μ 1) (μ 11) (μ 12) find i s.1 s.2.1 s.2.2) (tn (μ 1 3)) 0 ((-1), 0, μ 11)).2.1))) 11 ((frb (fun i s => m_who_b30 (μ 1) (μ 11) (μ 12) find i s.1 s.2.1 s.2.2) (tn (μ 1 3)) 0 ((-1), 0, μ 11)).2.2))) 2) MS.obj uc6 (lw_V q1774 q1776 qs34 q111 q1777) rfl hd_X6_throwsIf rfl (by rw [RF]; rfl) (by rw [RL]; rfl) ⟨Nat.zero_le _, Nat.zero_le _⟩ rfl rfl dX6_who_118 ?_
        refine x_top (v' := b2i true) rfl ?_
        refine x_weak (Ω' := MS G adr h0 (mc (mset (mset μ 0 0 (nI 2)) 0 26 (nI ((frb (fun i s => m_who_b30 (μ 1) (μ 11) (μ 12) find i s.1 s.2.1 s.2.2) (tn (μ 1 3)) 0 ((-1), 0, μ 11)).2.1))) 11 ((frb (fun i s => m_who_b30 (μ 1) (μ 11) (μ 12) find i s.1 s.2.1 s.2.2) (tn (μ 1 3)) 0 ((-1), 0, μ 11)).2.2))) (fun _ m => m.eq ((wc_n (by decide)).trans ((congrArg (fun m_ => mc m_ 11 _) (ff_n (by decide))).trans (congrArg (fun m_ => mc m_ 11 _) (congrArg (fun m_ => mset m_ 0 26 _) ff_s))))) ?_
        refine x_ifeqB O 126 dX6_who_121 (by decide) (fun c => absurd rfl c) (fun _ => ?_)
        refine x_sub [1] (L' := [(0, .ref (adr 0))]) rfl ?_
        refine x_iconst O (nI 0) dX6_who_124 (by decide) ?_
        exact x_iretQ O hQ rfl dX6_who_125 (fun h m => ⟨by rw [hr19], by rw [hr20]; exact ⟨_, _, _, m.eq (mc_id (c := 12) (f := μ 12) (by rfl)).symm⟩⟩)
      · have hr21 := hr9.trans (if_neg c118)
        have hr22 := hr10.trans (if_neg c118)
        refine x_eq (st' := [.int (nI 2), .int (b2i false), .ref (adr 0)]) ?_ rfl rfl (by rw [bfalse c118] <;> rfl)
        refine x_cV O 2 (c_m_throwsIf_f (μ := (mc (mset (mset μ 0 0 (nI 0)) 0 26 (nI ((frb (fun i s => m_who_b30 (μ 1) (μ 11) (μ 12) find i s.1 s.2.1 s.2.2) (tn (μ 1 3)) 0 ((-1), 0, μ 11)).2.1))) 11 ((frb (fun i s => m_who_b30 (μ 1) (μ 11) (μ 12) find i s.1 s.2.1 s.2.2) (tn (μ 1 3)) 0 ((-1), 0, μ 11)).2.2))) 2) MS.obj uc6 (lw_V q1774 q1776 qs34 q111 q1777) rfl hd_X6_throwsIf rfl (by rw [RF]; rfl) (by rw [RL]; rfl) ⟨Nat.zero_le _, Nat.zero_le _⟩ rfl rfl dX6_who_118 ?_
        refine x_top (v' := b2i false) rfl ?_
        refine x_ifeqB O 126 dX6_who_121 (by decide) (fun _ => ?_) (fun c => absurd c (by decide))
        refine x_iconst O (nI 0) dX6_who_126 (by decide) ?_
        refine x_istore_n O [(3, .int (nI 0)), (2, .int ((frb (fun i s => m_who_b30 (μ 1) (μ 11) (μ 12) find i s.1 s.2.1 s.2.2) (tn (μ 1 3)) 0 ((-1), 0, μ 11)).1)), (0, .ref (adr 0))] dX6_who_127 rfl rfl rfl ?_
        refine x_iconst O (nI 0) dX6_who_128 (by decide) ?_
        refine x_istore O [(4, .int (nI 0)), (3, .int (nI 0)), (2, .int ((frb (fun i s => m_who_b30 (μ 1) (μ 11) (μ 12) find i s.1 s.2.1 s.2.2) (tn (μ 1 3)) 0 ((-1), 0, μ 11)).1)), (0, .ref (adr 0))] dX6_who_129 rfl rfl ?_
        have LOOP131 : ∀ (cc_ : Nat) (i4_131 : Nat) (v3_131 : Int32) (a12_131 : (Nat → Int32)), cc_ = 8 - i4_131 → i4_131 < 2147483648 → (∀ (y0 : Int32) (y1 : (Nat → Int32)), (y0, y1) = fr (fun i s => m_who_b131 (μ 1) (μ 11) (μ 12) find i s.1 s.2) cc_ i4_131 (v3_131, a12_131) → X G F R Q 5 165 [(3, .int y0), (0, .ref (adr 0))] [] (MS G adr h0 ((mc (mc (mset (mset μ 0 0 (nI 0)) 0 26 (nI ((frb (fun i s => m_who_b30 (μ 1) (μ 11) (μ 12) find i s.1 s.2.1 s.2.2) (tn (μ 1 3)) 0 ((-1), 0, μ 11)).2.1))) 11 ((frb (fun i s => m_who_b30 (μ 1) (μ 11) (μ 12) find i s.1 s.2.1 s.2.2) (tn (μ 1 3)) 0 ((-1), 0, μ 11)).2.2)) 12 y1))) 0 0) → X G F R Q 5 131 [(4, .int (nI i4_131)), (3, .int v3_131), (2, .int ((frb (fun i s => m_who_b30 (μ 1) (μ 11) (μ 12) find i s.1 s.2.1 s.2.2) (tn (μ 1 3)) 0 ((-1), 0, μ 11)).1)), (0, .ref (adr 0))] [] (MS G adr h0 ((mc (mc (mset (mset μ 0 0 (nI 0)) 0 26 (nI ((frb (fun i s => m_who_b30 (μ 1) (μ 11) (μ 12) find i s.1 s.2.1 s.2.2) (tn (μ 1 3)) 0 ((-1), 0, μ 11)).2.1))) 11 ((frb (fun i s => m_who_b30 (μ 1) (μ 11) (μ 12) find i s.1 s.2.1 s.2.2) (tn (μ 1 3)) 0 ((-1), 0, μ 11)).2.2)) 12 a12_131))) 0 0 := by
          intro cc_
          induction cc_ using Nat.strongRecOn with
          | ind cc_ IH_ =>
            intro i4_131 v3_131 a12_131 hc_ hb_  K_
            refine x_iload O 0 dX6_who_131 rfl ?_
            refine x_bipush O (nI 8) dX6_who_133 (by decide) ?_
            refine x_icmpgeN O 165 (by omega) (by omega) dX6_who_135 (by decide) (fun c135 => ?_) (fun c135 => ?_)
            · refine x_sub [1, 3] (L' := [(3, .int v3_131), (0, .ref (adr 0))]) rfl ?_
              obtain rfl : cc_ = 0 := by omega
              exact K_ _ _ rfl
            · refine x_iload_n O 1 dX6_who_138 rfl rfl ?_
              refine x_aload_n O 3 dX6_who_139 rfl rfl ?_
              refine x_iload_n O 2 dX6_who_140 rfl rfl ?_
              refine x_iload O 0 dX6_who_141 rfl ?_
              refine x_cV O 2 (c_m_canAll (μ := (mc (mc (mset (mset μ 0 0 (nI 0)) 0 26 (nI ((frb (fun i s => m_who_b30 (μ 1) (μ 11) (μ 12) find i s.1 s.2.1 s.2.2) (tn (μ 1 3)) 0 ((-1), 0, μ 11)).2.1))) 11 ((frb (fun i s => m_who_b30 (μ 1) (μ 11) (μ 12) find i s.1 s.2.1 s.2.2) (tn (μ 1 3)) 0 ((-1), 0, μ 11)).2.2)) 12 a12_131)) hI (nn_nI hx1_ (by decide)) (fun k hk => hx2_ k (Nat.lt_of_lt_of_eq hk (tn_nI (Nat.lt_of_le_of_lt hx1_ (by decide))))) ((frb (fun i s => m_who_b30 (μ 1) (μ 11) (μ 12) find i s.1 s.2.1 s.2.2) (tn (μ 1 3)) 0 ((-1), 0, μ 11)).1) i4_131) MS.obj uc6 (lw_V q2231 q2233 qs99 q111 q2234) rfl hd_X6_canAll rfl (by rw [RF]; rfl) (by rw [RL]; rfl) ⟨Nat.zero_le _, Nat.zero_le _⟩ rfl rfl dX6_who_143 ?_
              refine x_top (v' := b2i (m_canAll (μ 1) ((frb (fun i s => m_who_b30 (μ 1) (μ 11) (μ 12) find i s.1 s.2.1 s.2.2) (tn (μ 1 3)) 0 ((-1), 0, μ 11)).2.2) a12_131 (nI ((frb (fun i s => m_who_b30 (μ 1) (μ 11) (μ 12) find i s.1 s.2.1 s.2.2) (tn (μ 1 3)) 0 ((-1), 0, μ 11)).2.1)) ((frb (fun i s => m_who_b30 (μ 1) (μ 11) (μ 12) find i s.1 s.2.1 s.2.2) (tn (μ 1 3)) 0 ((-1), 0, μ 11)).1) i4_131)) (by rw [show (mc (mc (mset (mset μ 0 0 (nI 0)) 0 26 (nI ((frb (fun i s => m_who_b30 (μ 1) (μ 11) (μ 12) find i s.1 s.2.1 s.2.2) (tn (μ 1 3)) 0 ((-1), 0, μ 11)).2.1))) 11 ((frb (fun i s => m_who_b30 (μ 1) (μ 11) (μ 12) find i s.1 s.2.1 s.2.2) (tn (μ 1 3)) 0 ((-1), 0, μ 11)).2.2)) 12 a12_131) 1 = μ 1 from ((mc_n (by decide)).trans ((mc_n (by decide)).trans ((mset_n (by decide)).trans (mset_n (by decide))))), show (mc (mc (mset (mset μ 0 0 (nI 0)) 0 26 (nI ((frb (fun i s => m_who_b30 (μ 1) (μ 11) (μ 12) find i s.1 s.2.1 s.2.2) (tn (μ 1 3)) 0 ((-1), 0, μ 11)).2.1))) 11 ((frb (fun i s => m_who_b30 (μ 1) (μ 11) (μ 12) find i s.1 s.2.1 s.2.2) (tn (μ 1 3)) 0 ((-1), 0, μ 11)).2.2)) 12 a12_131) 11 = (frb (fun i s => m_who_b30 (μ 1) (μ 11) (μ 12) find i s.1 s.2.1 s.2.2) (tn (μ 1 3)) 0 ((-1), 0, μ 11)).2.2 from ((mc_n (by decide)).trans mc_s), show (mc (mc (mset (mset μ 0 0 (nI 0)) 0 26 (nI ((frb (fun i s => m_who_b30 (μ 1) (μ 11) (μ 12) find i s.1 s.2.1 s.2.2) (tn (μ 1 3)) 0 ((-1), 0, μ 11)).2.1))) 11 ((frb (fun i s => m_who_b30 (μ 1) (μ 11) (μ 12) find i s.1 s.2.1 s.2.2) (tn (μ 1 3)) 0 ((-1), 0, μ 11)).2.2)) 12 a12_131) 12 = a12_131 from mc_s, show (mc (mc (mset (mset μ 0 0 (nI 0)) 0 26 (nI ((frb (fun i s => m_who_b30 (μ 1) (μ 11) (μ 12) find i s.1 s.2.1 s.2.2) (tn (μ 1 3)) 0 ((-1), 0, μ 11)).2.1))) 11 ((frb (fun i s => m_who_b30 (μ 1) (μ 11) (μ 12) find i s.1 s.2.1 s.2.2) (tn (μ 1 3)) 0 ((-1), 0, μ 11)).2.2)) 12 a12_131) 0 26 = nI ((frb (fun i s => m_who_b30 (μ 1) (μ 11) (μ 12) find i s.1 s.2.1 s.2.2) (tn (μ 1 3)) 0 ((-1), 0, μ 11)).2.1) from ((congrFun (mc_n (by decide)) 26).trans ((congrFun (mc_n (by decide)) 26).trans rd_hit))]) ?_
              refine x_weak (Ω' := MS G adr h0 (mc (mc (mset (mset μ 0 0 (nI 0)) 0 26 (nI ((frb (fun i s => m_who_b30 (μ 1) (μ 11) (μ 12) find i s.1 s.2.1 s.2.2) (tn (μ 1 3)) 0 ((-1), 0, μ 11)).2.1))) 11 ((frb (fun i s => m_who_b30 (μ 1) (μ 11) (μ 12) find i s.1 s.2.1 s.2.2) (tn (μ 1 3)) 0 ((-1), 0, μ 11)).2.2)) 12 (m_canAll_c12 (μ 1) ((frb (fun i s => m_who_b30 (μ 1) (μ 11) (μ 12) find i s.1 s.2.1 s.2.2) (tn (μ 1 3)) 0 ((-1), 0, μ 11)).2.2) a12_131 (nI ((frb (fun i s => m_who_b30 (μ 1) (μ 11) (μ 12) find i s.1 s.2.1 s.2.2) (tn (μ 1 3)) 0 ((-1), 0, μ 11)).2.1)) ((frb (fun i s => m_who_b30 (μ 1) (μ 11) (μ 12) find i s.1 s.2.1 s.2.2) (tn (μ 1 3)) 0 ((-1), 0, μ 11)).1) i4_131))) (fun _ m => by rw [show (mc (mc (mset (mset μ 0 0 (nI 0)) 0 26 (nI ((frb (fun i s => m_who_b30 (μ 1) (μ 11) (μ 12) find i s.1 s.2.1 s.2.2) (tn (μ 1 3)) 0 ((-1), 0, μ 11)).2.1))) 11 ((frb (fun i s => m_who_b30 (μ 1) (μ 11) (μ 12) find i s.1 s.2.1 s.2.2) (tn (μ 1 3)) 0 ((-1), 0, μ 11)).2.2)) 12 a12_131) 1 = μ 1 from ((mc_n (by decide)).trans ((mc_n (by decide)).trans ((mset_n (by decide)).trans (mset_n (by decide))))), show (mc (mc (mset (mset μ 0 0 (nI 0)) 0 26 (nI ((frb (fun i s => m_who_b30 (μ 1) (μ 11) (μ 12) find i s.1 s.2.1 s.2.2) (tn (μ 1 3)) 0 ((-1), 0, μ 11)).2.1))) 11 ((frb (fun i s => m_who_b30 (μ 1) (μ 11) (μ 12) find i s.1 s.2.1 s.2.2) (tn (μ 1 3)) 0 ((-1), 0, μ 11)).2.2)) 12 a12_131) 11 = (frb (fun i s => m_who_b30 (μ 1) (μ 11) (μ 12) find i s.1 s.2.1 s.2.2) (tn (μ 1 3)) 0 ((-1), 0, μ 11)).2.2 from ((mc_n (by decide)).trans mc_s), show (mc (mc (mset (mset μ 0 0 (nI 0)) 0 26 (nI ((frb (fun i s => m_who_b30 (μ 1) (μ 11) (μ 12) find i s.1 s.2.1 s.2.2) (tn (μ 1 3)) 0 ((-1), 0, μ 11)).2.1))) 11 ((frb (fun i s => m_who_b30 (μ 1) (μ 11) (μ 12) find i s.1 s.2.1 s.2.2) (tn (μ 1 3)) 0 ((-1), 0, μ 11)).2.2)) 12 a12_131) 12 = a12_131 from mc_s, show (mc (mc (mset (mset μ 0 0 (nI 0)) 0 26 (nI ((frb (fun i s => m_who_b30 (μ 1) (μ 11) (μ 12) find i s.1 s.2.1 s.2.2) (tn (μ 1 3)) 0 ((-1), 0, μ 11)).2.1))) 11 ((frb (fun i s => m_who_b30 (μ 1) (μ 11) (μ 12) find i s.1 s.2.1 s.2.2) (tn (μ 1 3)) 0 ((-1), 0, μ 11)).2.2)) 12 a12_131) 0 26 = nI ((frb (fun i s => m_who_b30 (μ 1) (μ 11) (μ 12) find i s.1 s.2.1 s.2.2) (tn (μ 1 3)) 0 ((-1), 0, μ 11)).2.1) from ((congrFun (mc_n (by decide)) 26).trans ((congrFun (mc_n (by decide)) 26).trans rd_hit))] at m; exact m.eq cc_s) ?_
              have J23 : ∀ (y6 : Int32), y6 = (if m_canAll (μ 1) ((frb (fun i s => m_who_b30 (μ 1) (μ 11) (μ 12) find i s.1 s.2.1 s.2.2) (tn (μ 1 3)) 0 ((-1), 0, μ 11)).2.2) a12_131 (nI ((frb (fun i s => m_who_b30 (μ 1) (μ 11) (μ 12) find i s.1 s.2.1 s.2.2) (tn (μ 1 3)) 0 ((-1), 0, μ 11)).2.1)) ((frb (fun i s => m_who_b30 (μ 1) (μ 11) (μ 12) find i s.1 s.2.1 s.2.2) (tn (μ 1 3)) 0 ((-1), 0, μ 11)).1) i4_131 = true then (nI 1) <<< ((nI i4_131) &&& 31) else nI 0) → X G F R Q 5 157 [(4, .int (nI i4_131)), (2, .int ((frb (fun i s => m_who_b30 (μ 1) (μ 11) (μ 12) find i s.1 s.2.1 s.2.2) (tn (μ 1 3)) 0 ((-1), 0, μ 11)).1)), (0, .ref (adr 0))] [.int y6, .int v3_131] (MS G adr h0 ((mc (mc (mset (mset μ 0 0 (nI 0)) 0 26 (nI ((frb (fun i s => m_who_b30 (μ 1) (μ 11) (μ 12) find i s.1 s.2.1 s.2.2) (tn (μ 1 3)) 0 ((-1), 0, μ 11)).2.1))) 11 ((frb (fun i s => m_who_b30 (μ 1) (μ 11) (μ 12) find i s.1 s.2.1 s.2.2) (tn (μ 1 3)) 0 ((-1), 0, μ 11)).2.2)) 12 (m_canAll_c12 (μ 1) ((frb (fun i s => m_who_b30 (μ 1) (μ 11) (μ 12) find i s.1 s.2.1 s.2.2) (tn (μ 1 3)) 0 ((-1), 0, μ 11)).2.2) a12_131 (nI ((frb (fun i s => m_who_b30 (μ 1) (μ 11) (μ 12) find i s.1 s.2.1 s.2.2) (tn (μ 1 3)) 0 ((-1), 0, μ 11)).2.1)) ((frb (fun i s => m_who_b30 (μ 1) (μ 11) (μ 12) find i s.1 s.2.1 s.2.2) (tn (μ 1 3)) 0 ((-1), 0, μ 11)).1) i4_131)))) 0 0 := by
                intro y6 e24
                subst e24
                refine x_ior O dX6_who_157 ?_
                refine x_istore_n O [(3, .int (v3_131 ||| ((if m_canAll (μ 1) ((frb (fun i s => m_who_b30 (μ 1) (μ 11) (μ 12) find i s.1 s.2.1 s.2.2) (tn (μ 1 3)) 0 ((-1), 0, μ 11)).2.2) a12_131 (nI ((frb (fun i s => m_who_b30 (μ 1) (μ 11) (μ 12) find i s.1 s.2.1 s.2.2) (tn (μ 1 3)) 0 ((-1), 0, μ 11)).2.1)) ((frb (fun i s => m_who_b30 (μ 1) (μ 11) (μ 12) find i s.1 s.2.1 s.2.2) (tn (μ 1 3)) 0 ((-1), 0, μ 11)).1) i4_131 = true then (nI 1) <<< ((nI i4_131) &&& 31) else nI 0)))), (4, .int (nI i4_131)), (2, .int ((frb (fun i s => m_who_b30 (μ 1) (μ 11) (μ 12) find i s.1 s.2.1 s.2.2) (tn (μ 1 3)) 0 ((-1), 0, μ 11)).1)), (0, .ref (adr 0))] dX6_who_158 rfl rfl rfl ?_
                refine x_iincN O 1 [(4, .int (nI (i4_131 + 1))), (3, .int (v3_131 ||| ((if m_canAll (μ 1) ((frb (fun i s => m_who_b30 (μ 1) (μ 11) (μ 12) find i s.1 s.2.1 s.2.2) (tn (μ 1 3)) 0 ((-1), 0, μ 11)).2.2) a12_131 (nI ((frb (fun i s => m_who_b30 (μ 1) (μ 11) (μ 12) find i s.1 s.2.1 s.2.2) (tn (μ 1 3)) 0 ((-1), 0, μ 11)).2.1)) ((frb (fun i s => m_who_b30 (μ 1) (μ 11) (μ 12) find i s.1 s.2.1 s.2.2) (tn (μ 1 3)) 0 ((-1), 0, μ 11)).1) i4_131 = true then (nI 1) <<< ((nI i4_131) &&& 31) else nI 0)))), (2, .int ((frb (fun i s => m_who_b30 (μ 1) (μ 11) (μ 12) find i s.1 s.2.1 s.2.2) (tn (μ 1 3)) 0 ((-1), 0, μ 11)).1)), (0, .ref (adr 0))] dX6_who_159 rfl rfl rfl ?_
                refine x_goto O 131 dX6_who_162 (by decide) ?_
                obtain ⟨c2_, rfl⟩ : ∃ z, cc_ = z + 1 := ⟨cc_ - 1, by omega⟩
                have hs_ : (fun i s => m_who_b131 (μ 1) (μ 11) (μ 12) find i s.1 s.2) i4_131 (v3_131, a12_131) = (v3_131 ||| ((if m_canAll (μ 1) ((frb (fun i s => m_who_b30 (μ 1) (μ 11) (μ 12) find i s.1 s.2.1 s.2.2) (tn (μ 1 3)) 0 ((-1), 0, μ 11)).2.2) a12_131 (nI ((frb (fun i s => m_who_b30 (μ 1) (μ 11) (μ 12) find i s.1 s.2.1 s.2.2) (tn (μ 1 3)) 0 ((-1), 0, μ 11)).2.1)) ((frb (fun i s => m_who_b30 (μ 1) (μ 11) (μ 12) find i s.1 s.2.1 s.2.2) (tn (μ 1 3)) 0 ((-1), 0, μ 11)).1) i4_131 = true then (nI 1) <<< ((nI i4_131) &&& 31) else nI 0)), m_canAll_c12 (μ 1) ((frb (fun i s => m_who_b30 (μ 1) (μ 11) (μ 12) find i s.1 s.2.1 s.2.2) (tn (μ 1 3)) 0 ((-1), 0, μ 11)).2.2) a12_131 (nI ((frb (fun i s => m_who_b30 (μ 1) (μ 11) (μ 12) find i s.1 s.2.1 s.2.2) (tn (μ 1 3)) 0 ((-1), 0, μ 11)).2.1)) ((frb (fun i s => m_who_b30 (μ 1) (μ 11) (μ 12) find i s.1 s.2.1 s.2.2) (tn (μ 1 3)) 0 ((-1), 0, μ 11)).1) i4_131) := by show m_who_b131 (μ 1) (μ 11) (μ 12) find i4_131 v3_131 a12_131 = _; unfold m_who_b131; rfl
                exact IH_ c2_ (by omega) _ _ _ (by omega) (by omega) (fun y0 y1 hy_ => K_ y0 y1 (hy_.trans (fr_step hs_).symm))
              refine x_ifeqB O 156 dX6_who_146 (by decide) (fun c146 => ?_) (fun c146 => ?_)
              · refine x_sub [0, 2, 3] (L' := [(4, .int (nI i4_131)), (2, .int ((frb (fun i s => m_who_b30 (μ 1) (μ 11) (μ 12) find i s.1 s.2.1 s.2.2) (tn (μ 1 3)) 0 ((-1), 0, μ 11)).1)), (0, .ref (adr 0))]) rfl ?_
                refine x_iconst O (nI 0) dX6_who_156 (by decide) ?_
                exact J23 (nI 0) (by rw [if_neg c146])
              · refine x_sub [0, 2, 3] (L' := [(4, .int (nI i4_131)), (2, .int ((frb (fun i s => m_who_b30 (μ 1) (μ 11) (μ 12) find i s.1 s.2.1 s.2.2) (tn (μ 1 3)) 0 ((-1), 0, μ 11)).1)), (0, .ref (adr 0))]) rfl ?_
                refine x_iconst O (nI 1) dX6_who_149 (by decide) ?_
                refine x_iload O 0 dX6_who_150 rfl ?_
                refine x_ishl O dX6_who_152 ?_
                refine x_goto O 157 dX6_who_153 (by decide) ?_
                exact J23 ((nI 1) <<< ((nI i4_131) &&& 31)) (by rw [if_pos c146])
        refine x_weak (Ω' := MS G adr h0 ((mc (mc (mset (mset μ 0 0 (nI 0)) 0 26 (nI ((frb (fun i s => m_who_b30 (μ 1) (μ 11) (μ 12) find i s.1 s.2.1 s.2.2) (tn (μ 1 3)) 0 ((-1), 0, μ 11)).2.1))) 11 ((frb (fun i s => m_who_b30 (μ 1) (μ 11) (μ 12) find i s.1 s.2.1 s.2.2) (tn (μ 1 3)) 0 ((-1), 0, μ 11)).2.2)) 12 (μ 12)))) (fun _ m => m.eq (mc_id (c := 12) (f := μ 12) (by rfl)).symm) ?_
        refine LOOP131 8 0 (nI 0) (μ 12) rfl (by omega) (fun y0 y1 hy_131 => ?_)
        obtain rfl : y0 = (fr (fun i s => m_who_b131 (μ 1) (μ 11) (μ 12) find i s.1 s.2) 8 0 (nI 0, μ 12)).1 := congrArg (fun z => z.1) hy_131
        obtain rfl : y1 = (fr (fun i s => m_who_b131 (μ 1) (μ 11) (μ 12) find i s.1 s.2) 8 0 (nI 0, μ 12)).2 := congrArg (fun z => z.2) hy_131
        refine x_iload_n O 0 dX6_who_165 rfl rfl ?_
        exact x_iretQ O hQ rfl dX6_who_166 (fun h m => ⟨by rw [hr21], by rw [hr22]; exact ⟨_, _, _, m.eq rfl⟩⟩)
    refine x_ifge O 116 dX6_who_109 (by decide) (fun c109 => ?_) (fun c109 => ?_)
    · refine x_iconst O (nI 0) dX6_who_116 (by decide) ?_
      refine x_top (v' := b2i false) (by decide) ?_
      exact J17 false (by rw [if_pos c109])
    · refine x_iconst O (nI 1) dX6_who_112 (by decide) ?_
      refine x_goto O 117 dX6_who_113 (by decide) ?_
      refine x_top (v' := b2i true) (by decide) ?_
      exact J17 true (by rw [if_neg c109])
