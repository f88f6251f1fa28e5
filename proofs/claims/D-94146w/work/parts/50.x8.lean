/-! the calls on a gun's way, rows of sure cases, what stories ask -/
theorem lt_or {a b n : Nat} (ha : a < 2 ^ n) (hb : b < 2 ^ n) : a ||| b < 2 ^ n := Nat.or_lt_two_pow ha hb
theorem hmb_nn {w : Nat → Int32} {f : Nat} (hI : MI w) : nn (h_mayBe w f) (2 ^ tn (w 0) - 1) := by
  have h0 : tn (w 0) ≤ 8 := (hI 0 (by decide)).2
  have hp : 2 ^ tn (w 0) ≤ 2 ^ 8 := Nat.pow_le_pow_right (by decide) h0
  have hp1 : 1 ≤ 2 ^ tn (w 0) := Nat.one_le_two_pow
  unfold h_mayBe
  split
  · have := fr_inv (f := fun i s => h_mayBe_b13 w f i s) (e := tn (w 0)) (fun i s => s = nI (tn s) ∧ tn s < 2 ^ i) (fun i s hi hs => ?_) (tn (w 0)) 0 (nI 0) (by omega) ⟨by rw [tn_nI (by decide)], by rw [tn_nI (by decide)]; decide⟩
    · rw [Nat.zero_add] at this
      exact ⟨this.1, by have := this.2; omega⟩
    · obtain ⟨e, hl⟩ := hs
      have hi2 : 2 ^ (i + 1) ≤ 2 ^ 8 := Nat.pow_le_pow_right (by decide) (by omega)
      have hi3 : 2 ^ (i + 1) = 2 * 2 ^ i := by rw [Nat.pow_succ]; omega
      unfold h_mayBe_b13
      rw [e]
      split
      · rw [show nI 1 <<< (nI i &&& 31) = nI (2 ^ i) by have := shl_N (a := 1) (g := i) (by omega) (by omega); rw [this, Nat.one_mul], or_N (by omega) (by omega)]
        have := lt_or (a := tn s) (b := 2 ^ i) (n := i + 1) (by omega) (by omega)
        exact ⟨by rw [tn_nI (by omega)], by rw [tn_nI (by omega)]; exact this⟩
      · rw [or_N (by omega) (by decide), Nat.or_zero]
        exact ⟨by rw [tn_nI (by omega)], by rw [tn_nI (by omega)]; omega⟩
  · exact nn_nI (by omega) (by omega)
theorem hsure_lt {w : Nat → Int32} {f : Nat} (hI : MI w) (h : ¬ h_sure w f = -1) : h_sure w f = nI (tn (h_sure w f)) ∧ tn (h_sure w f) < tn (w 0) := by
  have h0 : tn (w 0) ≤ 8 := (hI 0 (by decide)).2
  have hp : 2 ^ tn (w 0) ≤ 2 ^ 8 := Nat.pow_le_pow_right (by decide) h0
  have hp1 : 1 ≤ 2 ^ tn (w 0) := Nat.one_le_two_pow
  have hm := hmb_nn (f := f) hI
  unfold h_sure at h ⊢
  by_cases c1 : h_isCase w f = true
  · simp only [if_pos c1] at h ⊢
    by_cases c2 : j_bits (h_mayBe w f) = nI 1
    · simp only [if_pos c2] at h ⊢
      obtain ⟨m, hm1, e⟩ : ∃ m, m < 256 ∧ h_mayBe w f = nI m := ⟨_, by have := hm.2; omega, hm.1⟩
      have hm2 : m < 2 ^ tn (w 0) := by have := hm.2; rw [e, tn_nI (by omega)] at this; omega
      rw [e] at c2 ⊢
      obtain ⟨g, hg, rfl⟩ := bits_1 m hm1 c2
      rw [ntz_1 g hg, tn_nI (by omega)]
      exact ⟨rfl, (Nat.pow_lt_pow_iff_right (by decide)).mp hm2⟩
    · exact absurd (if_neg c2) h
  · exact absurd (if_neg c1) h
theorem hsure_k {w : Nat → Int32} {f : Nat} (h : ¬ h_sure w f = -1) : w (349 + 6 * f) = 0 := by
  unfold h_sure at h
  by_cases c1 : h_isCase w f = true
  · unfold h_isCase at c1
    by_cases c2 : w (349 + 6 * f) = 0
    · exact c2
    · rw [if_neg c2] at c1; cases c1
  · exact absurd (if_neg c1) h
theorem gx_n (W C4 : Nat → Int32) (gun : Int32) : x_gather_f10 W C4 gun ≤ 8 := by
  unfold x_gather_f10
  refine frb_inv (e := 0 + tn (W 3)) (fun (s : Nat × (Nat → Int32)) => s.1 ≤ 8) (fun i s s' hi hs h => ?_) (fun i s s' hi hs h => ?_) _ 0 _ (by omega) (by show (0 : Nat) ≤ 8; omega)
  all_goals
    replace h : x_gather_b7 W C4 gun i s.1 s.2 = _ := h
    unfold x_gather_b7 at h
    split at h <;> cases h <;> first | exact hs | (dsimp only; split <;> omega)
theorem gx_C {W C4 : Nat → Int32} {gun : Int32} (hI : MI W) (hg : ¬ gun = -1) : ∀ k, k < tn (nI (x_gather_f10 W C4 gun)) → x_gather_c4 W C4 gun k = nI (tn (x_gather_c4 W C4 gun k)) ∧ tn (x_gather_c4 W C4 gun k) < tn (W 3) ∧ W (349 + 6 * tn (x_gather_c4 W C4 gun k)) = 0 := by
  have h3 : tn (W 3) ≤ 120 := (hI 3 (by decide)).2
  rw [tn_nI (by have := gx_n W C4 gun; omega)]
  unfold x_gather_f10 x_gather_c4
  refine frb_inv (e := tn (W 3)) (fun (s : Nat × (Nat → Int32)) => ∀ k, k < s.1 → s.2 k = nI (tn (s.2 k)) ∧ tn (s.2 k) < tn (W 3) ∧ W (349 + 6 * tn (s.2 k)) = 0) (fun i s s' hi hs h => ?_) (fun i s s' hi hs h => ?_) _ 0 _ (by omega) (fun k hk => absurd hk (Nat.not_lt_zero k))
  all_goals
    replace h : x_gather_b7 W C4 gun i s.1 s.2 = _ := h
    unfold x_gather_b7 at h
    split at h <;> cases h <;> first | exact hs | skip
  by_cases c : h_sure W i = gun
  · simp only [if_pos c]
    intro k hk
    by_cases q : k = s.1
    · subst q
      rw [ups_s, tn_nI (by omega)]
      exact ⟨rfl, hi, hsure_k (by rw [c]; exact hg)⟩
    · rw [ups_n q]; exact hs k (by omega)
  · simp only [if_neg c]; exact hs
theorem gun_ne {v : Int32} {c : Nat} (h : v = nI (tn v) ∧ tn v < c) (hc : c ≤ 8) : ¬ v = -1 := by
  intro e
  rw [e] at h
  exact absurd h.1 (by decide)

def x_way (W : Nat → Int32) (C4 : Nat → Int32) (C6 : Nat → Int32) (C7 : Nat → Int32) (gun : Int32) (what : Int32) : Int32 :=
  (if what = 0 then x_hands W (x_gather_c4 W C4 gun) C6 C7 (nI (x_gather_f10 W C4 gun)) else (if what = (nI 1) then x_tlast W (x_gather_c4 W C4 gun) C7 (nI (x_gather_f10 W C4 gun)) else x_tfirst W (x_gather_c4 W C4 gun) C7 (nI (x_gather_f10 W C4 gun))))
def x_way_e (W : Nat → Int32) (C4 : Nat → Int32) (C6 : Nat → Int32) (C7 : Nat → Int32) (gun : Int32) (what : Int32) : Nat :=
  (if eIf (z_isIn gun (nI 0) (nI (tn (W 0)) - nI 1)) 1 = 0 then (if eIf (z_isIn what (nI 0) (nI 2)) 4 = 0 then 0 else eIf (z_isIn what (nI 0) (nI 2)) 4) else eIf (z_isIn gun (nI 0) (nI (tn (W 0)) - nI 1)) 1)
set_option maxHeartbeats 1000000 in
set_option maxRecDepth 100000 in
theorem c_x_way {G : UG} {κe κ : Hp} {adr : Nat → Nat} {μ : Mu} {ρ : List Nat} (hI : MI (μ 1)) (hkind : ∀ f : Nat, f < tn (μ 1 3) → μ 1 (349 + 6 * f) = 0 ∨ μ 1 (349 + 6 * f) = 1 ∨ μ 1 (349 + 6 * f) = 2 ∨ μ 1 (349 + 6 * f) = 3) (hJ : MJ (μ 1)) (gun : Int32) (what : Int32)  : Con G yX1_way cX1_way 3 (some .int) 8 134 2 12 [.ref (adr 0), .int gun, .int what] (XR G κe κ adr μ ρ) (fun vr_ h' => vr_ = some (.int (x_way (μ 1) (μ 4) (μ 6) (μ 7) gun what)) ∧ (x_way_e (μ 1) (μ 4) (μ 6) (μ 7) gun what) = 0 ∧ ∃ (Z4 : Nat → Int32) (Z6 : Nat → Int32) (Z7 : Nat → Int32) (z10 : Int32), XR G κe κ adr (mc (mc (mc (mset μ 0 10 z10) 4 Z4) 6 Z6) 7 Z7) ρ h') (fun E_ _ h' => ¬ (x_way_e (μ 1) (μ 4) (μ 6) (μ 7) gun what) = 0 ∧ E_ = exN (x_way_e (μ 1) (μ 4) (μ 6) (μ 7) gun what) ∧ ∃ (Z4 : Nat → Int32) (Z6 : Nat → Int32) (Z7 : Nat → Int32) (z10 : Int32), XR G κe κ adr (mc (mc (mc (mset μ 0 10 z10) 4 Z4) 6 Z6) 7 Z7) ρ h') := by
  refine con_of2 (plainFor_of_name (by decide)) rfl ?_
  intro F R Q RF RL RC RS hQ O hnh hnm
  obtain ⟨res, hres⟩ : ∃ z, z = (x_way (μ 1) (μ 4) (μ 6) (μ 7) gun what) := ⟨_, rfl⟩
  rw [← hres] at hQ
  unfold x_way at hres
  obtain ⟨rcd, hrcd⟩ : ∃ z, z = (x_way_e (μ 1) (μ 4) (μ 6) (μ 7) gun what) := ⟨_, rfl⟩
  rw [← hrcd] at hQ
  unfold x_way_e at hrcd
  have hb0 : tn (μ 1 0) ≤ 8 := (hI 0 (by decide)).2
  refine x_eq (L' := [(0, .ref (adr 0)), (1, .int gun), (2, .int what)]) ?_ rfl rfl rfl
  refine x_aload_n O 0 dX1_way_0 rfl rfl ?_
  refine x_iload_n O 1 dX1_way_1 rfl rfl ?_
  refine x_runE O hQ hnh (r_V O 1 (c_x_isGun (μ := μ) hI gun) XR.o0 rfl (lw_V q1067 q1069 qs15 q103 q1070) rfl hd_X1_isGun rfl (by rw [RF]; rfl) (by rw [RL]; rfl) (by rw [RC, RS]; decide) rfl rfl dX1_way_2) (by decide) (by decide) (fun c2 => ?_) (fun c2 => ?_)
  · have hr4 := hrcd.trans (if_neg c2)
    exact fun q h m => ⟨by rw [hr4]; exact c2, by rw [hr4], by exact ⟨_, _, _, _, m.eq ((mf_id (k := 10) (v := μ 0 10) (by rfl)).symm.trans ((mc_id (c := 4) (f := μ 4) (by rfl)).symm.trans ((mc_id (c := 6) (f := μ 6) (by rfl)).symm.trans (mc_id (c := 7) (f := μ 7) (by rfl)).symm)))⟩⟩
  · have hr5 := hrcd.trans (if_pos c2)
    have hzc2 : tn (μ 1 0) ≤ 120 := Nat.le_trans (hI 0 (by decide)).2 (by decide)
    have hxc2 := (isK_lt c2 (by omega)).2
    have hgun := gun_ne (isK_lt c2 (by omega)) hb0
    refine x_iload_n O 2 dX1_way_5 rfl rfl ?_
    refine x_iconst O (nI 0) dX1_way_6 (by decide) ?_
    refine x_iconst O (nI 2) dX1_way_7 (by decide) ?_
    refine x_cS O 3 (c_z_isIn what (nI 0) (nI 2)) (lw_S q476 q477 q103 q478) hd_X1_isIn rfl (by rw [RF]; rfl) (by rw [RL]; rfl) (by rw [RC, RS]; decide) rfl rfl dX1_way_8 ?_
    refine x_top (v' := b2i (z_isIn what (nI 0) (nI 2))) rfl ?_
    refine x_runE O hQ hnh (r_S O 1 (c_e_thereIs (z_isIn what (nI 0) (nI 2))) (lw_S q1391 q1392 q103 q1393) hd_X1_thereIs rfl (by rw [RF]; rfl) (by rw [RL]; rfl) (by rw [RC, RS]; decide) rfl rfl dX1_way_11) (by decide) (by decide) (fun c11 => ?_) (fun c11 => ?_)
    · have hr6 := hr5.trans (if_neg c11)
      exact fun q h m => ⟨by rw [hr6]; exact c11, by rw [hr6], by exact ⟨_, _, _, _, m.eq ((mf_id (k := 10) (v := μ 0 10) (by rfl)).symm.trans ((mc_id (c := 4) (f := μ 4) (by rfl)).symm.trans ((mc_id (c := 6) (f := μ 6) (by rfl)).symm.trans (mc_id (c := 7) (f := μ 7) (by rfl)).symm)))⟩⟩
    · have hr7 := hr5.trans (if_pos c11)
      refine x_aload_n O 0 dX1_way_14 rfl rfl ?_
      refine x_get O k_X1_41_1 XR.o0 (v := .ref (adr 10)) rfl dX1_way_15 ?_
      refine x_iload_n O 1 dX1_way_18 rfl rfl ?_
      refine x_cV O 1 (c_x_gather (μ := μ) hI hkind gun) XR.o10 rfl (lw_V q1408 q1409 q1410 q110 q1411) rfl hd_X5_gather rfl (by rw [RF]; rfl) (by rw [RL]; rfl) (by rw [RC, RS]; decide) rfl rfl dX1_way_19 ?_
      refine x_weak (Ω' := XR G κe κ adr (mc (mset μ 0 10 (nI (x_gather_f10 (μ 1) (μ 4) gun))) 4 (x_gather_c4 (μ 1) (μ 4) gun)) ρ) (fun _ m => m.eq rfl) ?_
      refine x_iload_n O 2 dX1_way_22 rfl rfl ?_
      have J8 : ∀ (y1 : Int32) (y2 : Nat → Int32) (y3 : Nat → Int32), y1 = (if what = 0 then x_hands (μ 1) (x_gather_c4 (μ 1) (μ 4) gun) (μ 6) (μ 7) (nI (x_gather_f10 (μ 1) (μ 4) gun)) else (if what = (nI 1) then x_tlast (μ 1) (x_gather_c4 (μ 1) (μ 4) gun) (μ 7) (nI (x_gather_f10 (μ 1) (μ 4) gun)) else x_tfirst (μ 1) (x_gather_c4 (μ 1) (μ 4) gun) (μ 7) (nI (x_gather_f10 (μ 1) (μ 4) gun)))) → y2 = (if what = 0 then x_hands_c6 (μ 1) (x_gather_c4 (μ 1) (μ 4) gun) (μ 6) (μ 7) (nI (x_gather_f10 (μ 1) (μ 4) gun)) else μ 6) → y3 = (if what = 0 then x_hands_c7 (μ 1) (x_gather_c4 (μ 1) (μ 4) gun) (μ 6) (μ 7) (nI (x_gather_f10 (μ 1) (μ 4) gun)) else (if what = (nI 1) then x_tlast_c7 (μ 1) (x_gather_c4 (μ 1) (μ 4) gun) (μ 7) (nI (x_gather_f10 (μ 1) (μ 4) gun)) else x_tfirst_c7 (μ 1) (x_gather_c4 (μ 1) (μ 4) gun) (μ 7) (nI (x_gather_f10 (μ 1) (μ 4) gun)))) → X G F R Q 3 58 [(0, .ref (adr 0))] [.int y1] (XR G κe κ adr (mc (mc (mc (mset μ 0 10 (nI (x_gather_f10 (μ 1) (μ 4) gun))) 4 (x_gather_c4 (μ 1) (μ 4) gun)) 6 y2) 7 y3) ρ) 2 12 := by
        intro y1 y2 y3 e9 e10 e11
        subst e9; subst e10; subst e11
        refine x_widen (k' := 2) (n' := 12) (by decide) (by decide) ?_
        exact x_iretQ O hQ rfl dX1_way_58 (fun h m => ⟨by rw [hres], by rw [hr7], by exact ⟨_, _, _, _, m.eq rfl⟩⟩)
      refine x_ifne O 36 dX1_way_23 (by decide) (fun c23 => ?_) (fun c23 => ?_)
      · refine x_sub [0, 2] (L' := [(0, .ref (adr 0)), (2, .int what)]) rfl ?_
        refine x_iload_n O 1 dX1_way_36 rfl rfl ?_
        refine x_iconst O (nI 1) dX1_way_37 (by decide) ?_
        refine x_icmpne O 51 dX1_way_38 (by decide) (fun c38 => ?_) (fun c38 => ?_)
        · refine x_sub [0] (L' := [(0, .ref (adr 0))]) rfl ?_
          refine x_aload_n O 0 dX1_way_51 rfl rfl ?_
          refine x_get O k_X1_41_1 XR.o0 (v := .ref (adr 10)) rfl dX1_way_52 ?_
          refine x_cV O 0 (c_x_tfirst (μ := (mc (mset μ 0 10 (nI (x_gather_f10 (μ 1) (μ 4) gun))) 4 (x_gather_c4 (μ 1) (μ 4) gun))) hI hJ (nn_nI (gx_n (μ 1) (μ 4) gun) (by decide)) (gx_C hI hgun)) XR.o10 rfl (lw_V q1453 q1454 q1455 q110 q1456) rfl hd_X5_first rfl (by rw [RF]; rfl) (by rw [RL]; rfl) (by rw [RC, RS]; decide) rfl rfl dX1_way_55 ?_
          refine x_top (v' := x_tfirst (μ 1) (x_gather_c4 (μ 1) (μ 4) gun) (μ 7) (nI (x_gather_f10 (μ 1) (μ 4) gun))) (by rw [show (mc (mset μ 0 10 (nI (x_gather_f10 (μ 1) (μ 4) gun))) 4 (x_gather_c4 (μ 1) (μ 4) gun)) 1 = μ 1 from ((mc_n (by decide)).trans (mset_n (by decide))), show (mc (mset μ 0 10 (nI (x_gather_f10 (μ 1) (μ 4) gun))) 4 (x_gather_c4 (μ 1) (μ 4) gun)) 4 = x_gather_c4 (μ 1) (μ 4) gun from mc_s, show (mc (mset μ 0 10 (nI (x_gather_f10 (μ 1) (μ 4) gun))) 4 (x_gather_c4 (μ 1) (μ 4) gun)) 7 = μ 7 from ((mc_n (by decide)).trans (mset_n (by decide))), show (mc (mset μ 0 10 (nI (x_gather_f10 (μ 1) (μ 4) gun))) 4 (x_gather_c4 (μ 1) (μ 4) gun)) 0 10 = nI (x_gather_f10 (μ 1) (μ 4) gun) from ((congrFun (mc_n (by decide)) 10).trans rd_hit)]) ?_
          refine x_weak (Ω' := XR G κe κ adr (mc (mc (mset μ 0 10 (nI (x_gather_f10 (μ 1) (μ 4) gun))) 4 (x_gather_c4 (μ 1) (μ 4) gun)) 7 (x_tfirst_c7 (μ 1) (x_gather_c4 (μ 1) (μ 4) gun) (μ 7) (nI (x_gather_f10 (μ 1) (μ 4) gun)))) ρ) (fun _ m => by rw [show (mc (mset μ 0 10 (nI (x_gather_f10 (μ 1) (μ 4) gun))) 4 (x_gather_c4 (μ 1) (μ 4) gun)) 1 = μ 1 from ((mc_n (by decide)).trans (mset_n (by decide))), show (mc (mset μ 0 10 (nI (x_gather_f10 (μ 1) (μ 4) gun))) 4 (x_gather_c4 (μ 1) (μ 4) gun)) 4 = x_gather_c4 (μ 1) (μ 4) gun from mc_s, show (mc (mset μ 0 10 (nI (x_gather_f10 (μ 1) (μ 4) gun))) 4 (x_gather_c4 (μ 1) (μ 4) gun)) 7 = μ 7 from ((mc_n (by decide)).trans (mset_n (by decide))), show (mc (mset μ 0 10 (nI (x_gather_f10 (μ 1) (μ 4) gun))) 4 (x_gather_c4 (μ 1) (μ 4) gun)) 0 10 = nI (x_gather_f10 (μ 1) (μ 4) gun) from ((congrFun (mc_n (by decide)) 10).trans rd_hit)] at m; exact m.eq rfl) ?_
          refine x_weak (Ω' := XR G κe κ adr (mc (mc (mc (mset μ 0 10 (nI (x_gather_f10 (μ 1) (μ 4) gun))) 4 (x_gather_c4 (μ 1) (μ 4) gun)) 6 (μ 6)) 7 (x_tfirst_c7 (μ 1) (x_gather_c4 (μ 1) (μ 4) gun) (μ 7) (nI (x_gather_f10 (μ 1) (μ 4) gun)))) ρ) (fun _ m => m.eq ((mc_id (c := 6) (f := μ 6) (by rfl)).symm.trans (cc_n (by decide)))) ?_
          exact J8 (x_tfirst (μ 1) (x_gather_c4 (μ 1) (μ 4) gun) (μ 7) (nI (x_gather_f10 (μ 1) (μ 4) gun))) (μ 6) (x_tfirst_c7 (μ 1) (x_gather_c4 (μ 1) (μ 4) gun) (μ 7) (nI (x_gather_f10 (μ 1) (μ 4) gun))) (by first | (rw [if_neg c23, if_neg c38]; done) | simp only [if_neg c23, if_neg c38]) (by rw [if_neg c23]) (by first | (rw [if_neg c23, if_neg c38]; done) | simp only [if_neg c23, if_neg c38])
        · refine x_sub [0] (L' := [(0, .ref (adr 0))]) rfl ?_
          refine x_aload_n O 0 dX1_way_41 rfl rfl ?_
          refine x_get O k_X1_41_1 XR.o0 (v := .ref (adr 10)) rfl dX1_way_42 ?_
          refine x_cV O 0 (c_x_tlast (μ := (mc (mset μ 0 10 (nI (x_gather_f10 (μ 1) (μ 4) gun))) 4 (x_gather_c4 (μ 1) (μ 4) gun))) hI hJ (nn_nI (gx_n (μ 1) (μ 4) gun) (by decide)) (gx_C hI hgun)) XR.o10 rfl (lw_V q1449 q1450 q1451 q110 q1452) rfl hd_X5_last rfl (by rw [RF]; rfl) (by rw [RL]; rfl) (by rw [RC, RS]; decide) rfl rfl dX1_way_45 ?_
          refine x_top (v' := x_tlast (μ 1) (x_gather_c4 (μ 1) (μ 4) gun) (μ 7) (nI (x_gather_f10 (μ 1) (μ 4) gun))) (by rw [show (mc (mset μ 0 10 (nI (x_gather_f10 (μ 1) (μ 4) gun))) 4 (x_gather_c4 (μ 1) (μ 4) gun)) 1 = μ 1 from ((mc_n (by decide)).trans (mset_n (by decide))), show (mc (mset μ 0 10 (nI (x_gather_f10 (μ 1) (μ 4) gun))) 4 (x_gather_c4 (μ 1) (μ 4) gun)) 4 = x_gather_c4 (μ 1) (μ 4) gun from mc_s, show (mc (mset μ 0 10 (nI (x_gather_f10 (μ 1) (μ 4) gun))) 4 (x_gather_c4 (μ 1) (μ 4) gun)) 7 = μ 7 from ((mc_n (by decide)).trans (mset_n (by decide))), show (mc (mset μ 0 10 (nI (x_gather_f10 (μ 1) (μ 4) gun))) 4 (x_gather_c4 (μ 1) (μ 4) gun)) 0 10 = nI (x_gather_f10 (μ 1) (μ 4) gun) from ((congrFun (mc_n (by decide)) 10).trans rd_hit)]) ?_
          refine x_weak (Ω' := XR G κe κ adr (mc (mc (mset μ 0 10 (nI (x_gather_f10 (μ 1) (μ 4) gun))) 4 (x_gather_c4 (μ 1) (μ 4) gun)) 7 (x_tlast_c7 (μ 1) (x_gather_c4 (μ 1) (μ 4) gun) (μ 7) (nI (x_gather_f10 (μ 1) (μ 4) gun)))) ρ) (fun _ m => by rw [show (mc (mset μ 0 10 (nI (x_gather_f10 (μ 1) (μ 4) gun))) 4 (x_gather_c4 (μ 1) (μ 4) gun)) 1 = μ 1 from ((mc_n (by decide)).trans (mset_n (by decide))), show (mc (mset μ 0 10 (nI (x_gather_f10 (μ 1) (μ 4) gun))) 4 (x_gather_c4 (μ 1) (μ 4) gun)) 4 = x_gather_c4 (μ 1) (μ 4) gun from mc_s, show (mc (mset μ 0 10 (nI (x_gather_f10 (μ 1) (μ 4) gun))) 4 (x_gather_c4 (μ 1) (μ 4) gun)) 7 = μ 7 from ((mc_n (by decide)).trans (mset_n (by decide))), show (mc (mset μ 0 10 (nI (x_gather_f10 (μ 1) (μ 4) gun))) 4 (x_gather_c4 (μ 1) (μ 4) gun)) 0 10 = nI (x_gather_f10 (μ 1) (μ 4) gun) from ((congrFun (mc_n (by decide)) 10).trans rd_hit)] at m; exact m.eq rfl) ?_
          refine x_goto O 58 dX1_way_48 (by decide) ?_
          refine x_weak (Ω' := XR G κe κ adr (mc (mc (mc (mset μ 0 10 (nI (x_gather_f10 (μ 1) (μ 4) gun))) 4 (x_gather_c4 (μ 1) (μ 4) gun)) 6 (μ 6)) 7 (x_tlast_c7 (μ 1) (x_gather_c4 (μ 1) (μ 4) gun) (μ 7) (nI (x_gather_f10 (μ 1) (μ 4) gun)))) ρ) (fun _ m => m.eq ((mc_id (c := 6) (f := μ 6) (by rfl)).symm.trans (cc_n (by decide)))) ?_
          exact J8 (x_tlast (μ 1) (x_gather_c4 (μ 1) (μ 4) gun) (μ 7) (nI (x_gather_f10 (μ 1) (μ 4) gun))) (μ 6) (x_tlast_c7 (μ 1) (x_gather_c4 (μ 1) (μ 4) gun) (μ 7) (nI (x_gather_f10 (μ 1) (μ 4) gun))) (by first | (rw [if_neg c23, if_pos c38]; done) | simp only [if_neg c23, if_pos c38]) (by rw [if_neg c23]) (by first | (rw [if_neg c23, if_pos c38]; done) | simp only [if_neg c23, if_pos c38])
      · refine x_sub [0] (L' := [(0, .ref (adr 0))]) rfl ?_
        refine x_aload_n O 0 dX1_way_26 rfl rfl ?_
        refine x_get O k_X1_41_1 XR.o0 (v := .ref (adr 10)) rfl dX1_way_27 ?_
        refine x_cV O 0 (c_x_hands (μ := (mc (mset μ 0 10 (nI (x_gather_f10 (μ 1) (μ 4) gun))) 4 (x_gather_c4 (μ 1) (μ 4) gun))) hI hJ (nn_nI (gx_n (μ 1) (μ 4) gun) (by decide)) (gx_C hI hgun)) XR.o10 rfl (lw_V q1420 q1421 q1422 q110 q1423) rfl hd_X5_hands rfl (by rw [RF]; rfl) (by rw [RL]; rfl) (by rw [RC, RS]; decide) rfl rfl dX1_way_30 ?_
        refine x_top (v' := x_hands (μ 1) (x_gather_c4 (μ 1) (μ 4) gun) (μ 6) (μ 7) (nI (x_gather_f10 (μ 1) (μ 4) gun))) (by rw [show (mc (mset μ 0 10 (nI (x_gather_f10 (μ 1) (μ 4) gun))) 4 (x_gather_c4 (μ 1) (μ 4) gun)) 1 = μ 1 from ((mc_n (by decide)).trans (mset_n (by decide))), show (mc (mset μ 0 10 (nI (x_gather_f10 (μ 1) (μ 4) gun))) 4 (x_gather_c4 (μ 1) (μ 4) gun)) 4 = x_gather_c4 (μ 1) (μ 4) gun from mc_s, show (mc (mset μ 0 10 (nI (x_gather_f10 (μ 1) (μ 4) gun))) 4 (x_gather_c4 (μ 1) (μ 4) gun)) 6 = μ 6 from ((mc_n (by decide)).trans (mset_n (by decide))), show (mc (mset μ 0 10 (nI (x_gather_f10 (μ 1) (μ 4) gun))) 4 (x_gather_c4 (μ 1) (μ 4) gun)) 7 = μ 7 from ((mc_n (by decide)).trans (mset_n (by decide))), show (mc (mset μ 0 10 (nI (x_gather_f10 (μ 1) (μ 4) gun))) 4 (x_gather_c4 (μ 1) (μ 4) gun)) 0 10 = nI (x_gather_f10 (μ 1) (μ 4) gun) from ((congrFun (mc_n (by decide)) 10).trans rd_hit)]) ?_
        refine x_weak (Ω' := XR G κe κ adr (mc (mc (mc (mset μ 0 10 (nI (x_gather_f10 (μ 1) (μ 4) gun))) 4 (x_gather_c4 (μ 1) (μ 4) gun)) 6 (x_hands_c6 (μ 1) (x_gather_c4 (μ 1) (μ 4) gun) (μ 6) (μ 7) (nI (x_gather_f10 (μ 1) (μ 4) gun)))) 7 (x_hands_c7 (μ 1) (x_gather_c4 (μ 1) (μ 4) gun) (μ 6) (μ 7) (nI (x_gather_f10 (μ 1) (μ 4) gun)))) ρ) (fun _ m => by rw [show (mc (mset μ 0 10 (nI (x_gather_f10 (μ 1) (μ 4) gun))) 4 (x_gather_c4 (μ 1) (μ 4) gun)) 1 = μ 1 from ((mc_n (by decide)).trans (mset_n (by decide))), show (mc (mset μ 0 10 (nI (x_gather_f10 (μ 1) (μ 4) gun))) 4 (x_gather_c4 (μ 1) (μ 4) gun)) 4 = x_gather_c4 (μ 1) (μ 4) gun from mc_s, show (mc (mset μ 0 10 (nI (x_gather_f10 (μ 1) (μ 4) gun))) 4 (x_gather_c4 (μ 1) (μ 4) gun)) 6 = μ 6 from ((mc_n (by decide)).trans (mset_n (by decide))), show (mc (mset μ 0 10 (nI (x_gather_f10 (μ 1) (μ 4) gun))) 4 (x_gather_c4 (μ 1) (μ 4) gun)) 7 = μ 7 from ((mc_n (by decide)).trans (mset_n (by decide))), show (mc (mset μ 0 10 (nI (x_gather_f10 (μ 1) (μ 4) gun))) 4 (x_gather_c4 (μ 1) (μ 4) gun)) 0 10 = nI (x_gather_f10 (μ 1) (μ 4) gun) from ((congrFun (mc_n (by decide)) 10).trans rd_hit)] at m; exact m.eq rfl) ?_
        refine x_goto O 58 dX1_way_33 (by decide) ?_
        exact J8 (x_hands (μ 1) (x_gather_c4 (μ 1) (μ 4) gun) (μ 6) (μ 7) (nI (x_gather_f10 (μ 1) (μ 4) gun))) (x_hands_c6 (μ 1) (x_gather_c4 (μ 1) (μ 4) gun) (μ 6) (μ 7) (nI (x_gather_f10 (μ 1) (μ 4) gun))) (x_hands_c7 (μ 1) (x_gather_c4 (μ 1) (μ 4) gun) (μ 6) (μ 7) (nI (x_gather_f10 (μ 1) (μ 4) gun))) (by rw [if_pos c23]) (by rw [if_pos c23]) (by rw [if_pos c23])

theorem xgr_n (W C8 : Nat → Int32) (side : Int32) (row : Nat) : True := trivial

def x_gathers_b19 (W : Nat → Int32) (C8 : Nat → Int32) (side : Int32) (row : Nat) (i3_7 : Nat) (i5_19 : Nat) (v4_19 : Bool) : Bool :=
  (if v4_19 = true then true else (if (h_sure W i5_19) = ((-1)) then false else (if (W (269 + 4 * (tn (h_sure W i5_19)))) = side then (if (W (350 + 6 * i5_19)) = (nI (16 * row + i3_7)) then true else false) else false)))
def x_gathers_b7 (W : Nat → Int32) (C8 : Nat → Int32) (side : Int32) (row : Nat) (i3_7 : Nat) (f1_7 : Nat) (a8_7 : (Nat → Int32)) : Nat × (Nat → Int32) :=
  ((if (fr (fun i s => x_gathers_b19 W C8 side row i3_7 i s) (tn (W 3)) 0 false) = true then f1_7 + 1 else f1_7), (if (fr (fun i s => x_gathers_b19 W C8 side row i3_7 i s) (tn (W 3)) 0 false) = true then ups a8_7 f1_7 (nI i3_7) else a8_7))
def x_gathers_f1 (W : Nat → Int32) (C8 : Nat → Int32) (side : Int32) (row : Nat) : Nat :=
  (fr (fun i s => x_gathers_b7 W C8 side row i s.1 s.2) 16 0 (0, C8)).1
def x_gathers_c8 (W : Nat → Int32) (C8 : Nat → Int32) (side : Int32) (row : Nat) : Nat → Int32 :=
  (fr (fun i s => x_gathers_b7 W C8 side row i s.1 s.2) 16 0 (0, C8)).2
set_option maxHeartbeats 1000000 in
set_option maxRecDepth 100000 in
theorem c_x_gathers {G : UG} {κe κ : Hp} {adr : Nat → Nat} {μ : Mu} {ρ : List Nat} (hI : MI (μ 1)) (hkind : ∀ f : Nat, f < tn (μ 1 3) → μ 1 (349 + 6 * f) = 0 ∨ μ 1 (349 + 6 * f) = 1 ∨ μ 1 (349 + 6 * f) = 2 ∨ μ 1 (349 + 6 * f) = 3) (side : Int32) (row : Nat) (hr : row < 16) : Con G yX1_gathers cX1_gathers 7 none 5 107 0 0 [.ref (adr 0), .int side, .int (nI row)] (XR G κe κ adr μ ρ) (fun vr_ h' => vr_ = none ∧ XR G κe κ adr (mc (mset μ 0 1 (nI (x_gathers_f1 (μ 1) (μ 8) side row))) 8 (x_gathers_c8 (μ 1) (μ 8) side row)) ρ h') nX := by
  refine con_of2 (plainFor_of_name (by decide)) rfl ?_
  intro F R Q RF RL RC RS hQ O hnh hnm
  obtain ⟨rs0, hrs0⟩ : ∃ z, z = (x_gathers_f1 (μ 1) (μ 8) side row) := ⟨_, rfl⟩
  rw [← hrs0] at hQ
  unfold x_gathers_f1 at hrs0
  obtain ⟨rs1, hrs1⟩ : ∃ z, z = (x_gathers_c8 (μ 1) (μ 8) side row) := ⟨_, rfl⟩
  rw [← hrs1] at hQ
  unfold x_gathers_c8 at hrs1
  have hb0 : tn (μ 1 0) ≤ 8 := (hI 0 (by decide)).2
  have hb3 : tn (μ 1 3) ≤ 120 := (hI 3 (by decide)).2
  refine x_eq (L' := [(0, .ref (adr 0)), (1, .int side), (2, .int (nI row))]) ?_ rfl rfl rfl
  refine x_aload_n O 0 dX1_gathers_0 rfl rfl ?_
  refine x_iconst O (nI 0) dX1_gathers_1 (by decide) ?_
  refine x_put O p_X1_291_1 XR.o0 rfl rfl rfl dX1_gathers_2 (XR G κe κ adr (mset μ 0 1 (nI 0)) ρ) (fun _ m => XR.eq (XR.p1 m) rfl) ?_
  refine x_iconst O (nI 0) dX1_gathers_5 (by decide) ?_
  refine x_istore_n O [(3, .int (nI 0)), (0, .ref (adr 0)), (1, .int side), (2, .int (nI row))] dX1_gathers_6 rfl rfl rfl ?_
  have LOOP7 : ∀ (cc_ : Nat) (i3_7 : Nat) (f1_7 : Nat) (a8_7 : (Nat → Int32)), cc_ = 16 - i3_7 → i3_7 < 2147483648 → (f1_7 ≤ i3_7) → (∀ (y0 : Nat) (y1 : (Nat → Int32)), (y0, y1) = fr (fun i s => x_gathers_b7 (μ 1) (μ 8) side row i s.1 s.2) cc_ i3_7 (f1_7, a8_7) → X G F R Q 7 139 [(0, .ref (adr 0))] [] (XR G κe κ adr (mc (mset μ 0 1 (nI y0)) 8 y1) ρ) 0 0) → X G F R Q 7 7 [(3, .int (nI i3_7)), (0, .ref (adr 0)), (1, .int side), (2, .int (nI row))] [] (XR G κe κ adr (mc (mset μ 0 1 (nI f1_7)) 8 a8_7) ρ) 0 0 := by
    intro cc_
    induction cc_ using Nat.strongRecOn with
    | ind cc_ IH_ =>
      intro i3_7 f1_7 a8_7 hc_ hb_ hn_ K_
      refine x_iload_n O 0 dX1_gathers_7 rfl rfl ?_
      refine x_bipush O (nI 16) dX1_gathers_8 (by decide) ?_
      refine x_icmpgeN O 139 (by omega) (by omega) dX1_gathers_10 (by decide) (fun c10 => ?_) (fun c10 => ?_)
      · refine x_sub [1] (L' := [(0, .ref (adr 0))]) rfl ?_
        obtain rfl : cc_ = 0 := by omega
        exact K_ _ _ rfl
      · refine x_iconst O (nI 0) dX1_gathers_13 (by decide) ?_
        refine x_top (v' := b2i false) (by decide) ?_
        refine x_istore O [(4, .int (b2i false)), (3, .int (nI i3_7)), (0, .ref (adr 0)), (1, .int side), (2, .int (nI row))] dX1_gathers_14 rfl rfl ?_
        refine x_iconst O (nI 0) dX1_gathers_16 (by decide) ?_
        refine x_istore O [(5, .int (nI 0)), (4, .int (b2i false)), (3, .int (nI i3_7)), (0, .ref (adr 0)), (1, .int side), (2, .int (nI row))] dX1_gathers_17 rfl rfl ?_
        have LOOP19 : ∀ (cc_ : Nat) (i5_19 : Nat) (v4_19 : Bool), cc_ = tn (μ 1 3) - i5_19 → i5_19 < 2147483648 → (∀ (y0 : Bool), y0 = fr (fun i s => x_gathers_b19 (μ 1) (μ 8) side row i3_7 i s) cc_ i5_19 v4_19 → X G F R Q 7 105 [(4, .int (b2i y0)), (3, .int (nI i3_7)), (0, .ref (adr 0)), (1, .int side), (2, .int (nI row))] [] (XR G κe κ adr (mc (mset μ 0 1 (nI f1_7)) 8 a8_7) ρ) 0 0) → X G F R Q 7 19 [(5, .int (nI i5_19)), (4, .int (b2i v4_19)), (3, .int (nI i3_7)), (0, .ref (adr 0)), (1, .int side), (2, .int (nI row))] [] (XR G κe κ adr (mc (mset μ 0 1 (nI f1_7)) 8 a8_7) ρ) 0 0 := by
          intro cc_
          induction cc_ using Nat.strongRecOn with
          | ind cc_ IH_ =>
            intro i5_19 v4_19 hc_ hb_  K_
            refine x_iload O 0 dX1_gathers_19 rfl ?_
            refine x_aload_n O 3 dX1_gathers_21 rfl rfl ?_
            refine x_get O k_X1_29_1 XR.o0 (v := .ref (adr 1000)) rfl dX1_gathers_22 ?_
            refine x_hget O (XR.hr (μ := (mc (mset μ 0 1 (nI f1_7)) 8 a8_7)) hI ((mc_n (by decide)).trans (mset_n (by decide))) : HR G κe adr _ _ 1000 (μ 1) (XR G κe κ adr (mc (mset μ 0 1 (nI f1_7)) 8 a8_7) ρ)) k_X1_79_4 rfl dX1_gathers_25 ?_
            refine x_top (v' := nI (tn (μ 1 3))) (hI 3 (by decide)).1 ?_
            refine x_icmpgeN O 105 (by omega) (by omega) dX1_gathers_28 (by decide) (fun c28 => ?_) (fun c28 => ?_)
            · refine x_sub [1, 2, 3, 4, 5] (L' := [(4, .int (b2i v4_19)), (3, .int (nI i3_7)), (0, .ref (adr 0)), (1, .int side), (2, .int (nI row))]) rfl ?_
              obtain rfl : cc_ = 0 := by omega
              exact K_ _ rfl
            · refine x_aload_n O 3 dX1_gathers_31 rfl rfl ?_
              refine x_get O k_X1_29_1 XR.o0 (v := .ref (adr 1000)) rfl dX1_gathers_32 ?_
              refine x_iload O 0 dX1_gathers_35 rfl ?_
              refine x_cV O 1 (c_h_sure (XR.hr (μ := (mc (mset μ 0 1 (nI f1_7)) 8 a8_7)) hI ((mc_n (by decide)).trans (mset_n (by decide))) : HR G κe adr _ _ 1000 (μ 1) (XR G κe κ adr (mc (mset μ 0 1 (nI f1_7)) 8 a8_7) ρ)) hI hkind i5_19 (by omega)) (XR.hr (μ := (mc (mset μ 0 1 (nI f1_7)) 8 a8_7)) hI ((mc_n (by decide)).trans (mset_n (by decide))) : HR G κe adr _ _ 1000 (μ 1) (XR G κe κ adr (mc (mset μ 0 1 (nI f1_7)) 8 a8_7) ρ)).obj rfl (lw_V q1472 q1413 q1414 q109 q1415) rfl hd_X4_sure rfl (by rw [RF]; rfl) (by rw [RL]; rfl) ⟨Nat.zero_le _, Nat.zero_le _⟩ rfl rfl dX1_gathers_37 ?_
              refine x_top (v' := h_sure (μ 1) i5_19) rfl ?_
              refine x_istore O [(6, .int (h_sure (μ 1) i5_19)), (5, .int (nI i5_19)), (4, .int (b2i v4_19)), (3, .int (nI i3_7)), (0, .ref (adr 0)), (1, .int side), (2, .int (nI row))] dX1_gathers_40 rfl rfl ?_
              refine x_iload O 2 dX1_gathers_42 rfl ?_
              have J6 : ∀ (y3 : Bool), y3 = (if v4_19 = true then true else (if (h_sure (μ 1) i5_19) = ((-1)) then false else (if (μ 1 (269 + 4 * (tn (h_sure (μ 1) i5_19)))) = side then (if (μ 1 (350 + 6 * i5_19)) = (nI (16 * row + i3_7)) then true else false) else false))) → X G F R Q 7 97 [(5, .int (nI i5_19)), (3, .int (nI i3_7)), (0, .ref (adr 0)), (1, .int side), (2, .int (nI row))] [.int (b2i y3)] (XR G κe κ adr (mc (mset μ 0 1 (nI f1_7)) 8 a8_7) ρ) 0 0 := by
                intro y3 e7
                subst e7
                refine x_istore O [(4, .int (b2i ((if v4_19 = true then true else (if (h_sure (μ 1) i5_19) = ((-1)) then false else (if (μ 1 (269 + 4 * (tn (h_sure (μ 1) i5_19)))) = side then (if (μ 1 (350 + 6 * i5_19)) = (nI (16 * row + i3_7)) then true else false) else false)))))), (5, .int (nI i5_19)), (3, .int (nI i3_7)), (0, .ref (adr 0)), (1, .int side), (2, .int (nI row))] dX1_gathers_97 rfl rfl ?_
                refine x_iincN O 1 [(5, .int (nI (i5_19 + 1))), (4, .int (b2i ((if v4_19 = true then true else (if (h_sure (μ 1) i5_19) = ((-1)) then false else (if (μ 1 (269 + 4 * (tn (h_sure (μ 1) i5_19)))) = side then (if (μ 1 (350 + 6 * i5_19)) = (nI (16 * row + i3_7)) then true else false) else false)))))), (3, .int (nI i3_7)), (0, .ref (adr 0)), (1, .int side), (2, .int (nI row))] dX1_gathers_99 rfl rfl rfl ?_
                refine x_goto O 19 dX1_gathers_102 (by decide) ?_
                obtain ⟨c2_, rfl⟩ : ∃ z, cc_ = z + 1 := ⟨cc_ - 1, by omega⟩
                have hs_ : (fun i s => x_gathers_b19 (μ 1) (μ 8) side row i3_7 i s) i5_19 v4_19 = (if v4_19 = true then true else (if (h_sure (μ 1) i5_19) = ((-1)) then false else (if (μ 1 (269 + 4 * (tn (h_sure (μ 1) i5_19)))) = side then (if (μ 1 (350 + 6 * i5_19)) = (nI (16 * row + i3_7)) then true else false) else false))) := by show x_gathers_b19 (μ 1) (μ 8) side row i3_7 i5_19 v4_19 = _; unfold x_gathers_b19; rfl
                exact IH_ c2_ (by omega) _ _ (by omega) (by omega) (fun y0 hy_ => K_ y0 (hy_.trans (fr_step hs_).symm))
              refine x_ifneB O 92 dX1_gathers_44 (by decide) (fun c44 => ?_) (fun c44 => ?_)
              · refine x_sub [1, 3, 4, 5, 6] (L' := [(5, .int (nI i5_19)), (3, .int (nI i3_7)), (0, .ref (adr 0)), (1, .int side), (2, .int (nI row))]) rfl ?_
                refine x_iconst O (nI 1) dX1_gathers_92 (by decide) ?_
                refine x_goto O 97 dX1_gathers_93 (by decide) ?_
                refine x_top (v' := b2i true) (by decide) ?_
                exact J6 true (by rw [if_pos c44])
              · refine x_sub [0, 1, 3, 4, 5, 6] (L' := [(6, .int (h_sure (μ 1) i5_19)), (5, .int (nI i5_19)), (3, .int (nI i3_7)), (0, .ref (adr 0)), (1, .int side), (2, .int (nI row))]) rfl ?_
                refine x_iload O 0 dX1_gathers_47 rfl ?_
                refine x_iconst O ((-1)) dX1_gathers_49 (by decide) ?_
                refine x_icmpeq O 96 dX1_gathers_50 (by decide) (fun c50 => ?_) (fun c50 => ?_)
                · refine x_sub [1, 2, 3, 4, 5] (L' := [(5, .int (nI i5_19)), (3, .int (nI i3_7)), (0, .ref (adr 0)), (1, .int side), (2, .int (nI row))]) rfl ?_
                  refine x_iconst O (nI 0) dX1_gathers_96 (by decide) ?_
                  refine x_top (v' := b2i false) (by decide) ?_
                  exact J6 false (by first | (rw [if_neg c44, if_pos c50]; done) | simp only [if_neg c44, if_pos c50])
                · refine x_aload_n O 3 dX1_gathers_53 rfl rfl ?_
                  refine x_get O k_X1_29_1 XR.o0 (v := .ref (adr 1000)) rfl dX1_gathers_54 ?_
                  refine x_hget O (XR.hr (μ := (mc (mset μ 0 1 (nI f1_7)) 8 a8_7)) hI ((mc_n (by decide)).trans (mset_n (by decide))) : HR G κe adr _ _ 1000 (μ 1) (XR G κe κ adr (mc (mset μ 0 1 (nI f1_7)) 8 a8_7) ρ)) k_X1_121_4 rfl dX1_gathers_57 ?_
                  refine x_iload O 0 dX1_gathers_60 rfl ?_
                  refine x_top (v' := nI (tn (h_sure (μ 1) i5_19))) ((hsure_lt hI c50).1) ?_
                  refine x_hgun O (XR.hr (μ := (mc (mset μ 0 1 (nI f1_7)) 8 a8_7)) hI ((mc_n (by decide)).trans (mset_n (by decide))) : HR G κe adr _ _ 1000 (μ 1) (XR G κe κ adr (mc (mset μ 0 1 (nI f1_7)) 8 a8_7) ρ)) (hsure_lt hI c50).2 dX1_gathers_62 ?_
                  refine x_get O k_X1_168_7 ((XR.hr (μ := (mc (mset μ 0 1 (nI f1_7)) 8 a8_7)) hI ((mc_n (by decide)).trans (mset_n (by decide))) : HR G κe adr _ _ 1000 (μ 1) (XR G κe κ adr (mc (mset μ 0 1 (nI f1_7)) 8 a8_7) ρ)).gun (hsure_lt hI c50).2) (v := .int (μ 1 (269 + 4 * (tn (h_sure (μ 1) i5_19))))) rfl dX1_gathers_63 ?_
                  refine x_iload_n O 4 dX1_gathers_66 rfl rfl ?_
                  refine x_icmpne O 96 dX1_gathers_67 (by decide) (fun c67 => ?_) (fun c67 => ?_)
                  · refine x_sub [1, 2, 3, 4, 5] (L' := [(5, .int (nI i5_19)), (3, .int (nI i3_7)), (0, .ref (adr 0)), (1, .int side), (2, .int (nI row))]) rfl ?_
                    refine x_iconst O (nI 0) dX1_gathers_96 (by decide) ?_
                    refine x_top (v' := b2i false) (by decide) ?_
                    exact J6 false (by first | (rw [if_neg c44, if_neg c50, if_neg c67]; done) | simp only [if_neg c44, if_neg c50, if_neg c67])
                  · refine x_sub [1, 2, 3, 4, 5] (L' := [(5, .int (nI i5_19)), (3, .int (nI i3_7)), (0, .ref (adr 0)), (1, .int side), (2, .int (nI row))]) rfl ?_
                    refine x_aload_n O 2 dX1_gathers_70 rfl rfl ?_
                    refine x_get O k_X1_29_1 XR.o0 (v := .ref (adr 1000)) rfl dX1_gathers_71 ?_
                    refine x_hget O (XR.hr (μ := (mc (mset μ 0 1 (nI f1_7)) 8 a8_7)) hI ((mc_n (by decide)).trans (mset_n (by decide))) : HR G κe adr _ _ 1000 (μ 1) (XR G κe κ adr (mc (mset μ 0 1 (nI f1_7)) 8 a8_7) ρ)) k_X1_82_4 rfl dX1_gathers_74 ?_
                    refine x_iload O 0 dX1_gathers_77 rfl ?_
                    refine x_hfind O (XR.hr (μ := (mc (mset μ 0 1 (nI f1_7)) 8 a8_7)) hI ((mc_n (by decide)).trans (mset_n (by decide))) : HR G κe adr _ _ 1000 (μ 1) (XR G κe κ adr (mc (mset μ 0 1 (nI f1_7)) 8 a8_7) ρ)) (by omega) dX1_gathers_79 (fun q1 hq2 => ?_)
                    refine x_fcell O (f := i5_19) (w := μ 1) q1318 ((XR.hr (μ := (mc (mset μ 0 1 (nI f1_7)) 8 a8_7)) hI ((mc_n (by decide)).trans (mset_n (by decide))) : HR G κe adr _ _ 1000 (μ 1) (XR G κe κ adr (mc (mset μ 0 1 (nI f1_7)) 8 a8_7) ρ)).fr hq2) (by rw [RF]; rfl) (by rw [RL]; rfl) ⟨Nat.zero_le _, Nat.zero_le _⟩ rfl dX1_gathers_80 ?_
                    refine x_bipush O (nI 16) dX1_gathers_83 (by decide) ?_
                    refine x_iload_n O 4 dX1_gathers_85 rfl rfl ?_
                    refine x_imulN O dX1_gathers_86 ?_
                    refine x_iload_n O 1 dX1_gathers_87 rfl rfl ?_
                    refine x_iaddN O dX1_gathers_88 ?_
                    refine x_icmpne O 96 dX1_gathers_89 (by decide) (fun c89 => ?_) (fun c89 => ?_)
                    · refine x_iconst O (nI 0) dX1_gathers_96 (by decide) ?_
                      refine x_top (v' := b2i false) (by decide) ?_
                      exact J6 false (by first | (rw [if_neg c44, if_neg c50, if_pos c67, if_neg c89]; done) | simp only [if_neg c44, if_neg c50, if_pos c67, if_neg c89])
                    · refine x_iconst O (nI 1) dX1_gathers_92 (by decide) ?_
                      refine x_goto O 97 dX1_gathers_93 (by decide) ?_
                      refine x_top (v' := b2i true) (by decide) ?_
                      exact J6 true (by first | (rw [if_neg c44, if_neg c50, if_pos c67, if_pos c89]; done) | simp only [if_neg c44, if_neg c50, if_pos c67, if_pos c89])
        refine LOOP19 (tn (μ 1 3)) 0 false rfl (by omega) (fun y0 hy_19 => ?_)
        subst hy_19
        refine x_iload O 0 dX1_gathers_105 rfl ?_
        have J8 : ∀ (y4 : Nat) (y5 : Nat → Int32), y4 = (if (fr (fun i s => x_gathers_b19 (μ 1) (μ 8) side row i3_7 i s) (tn (μ 1 3)) 0 false) = true then f1_7 + 1 else f1_7) → y5 = (if (fr (fun i s => x_gathers_b19 (μ 1) (μ 8) side row i3_7 i s) (tn (μ 1 3)) 0 false) = true then ups a8_7 f1_7 (nI i3_7) else a8_7) → X G F R Q 7 133 [(3, .int (nI i3_7)), (0, .ref (adr 0)), (1, .int side), (2, .int (nI row))] [] (XR G κe κ adr (mc (mset μ 0 1 (nI y4)) 8 y5) ρ) 0 0 := by
          intro y4 y5 e9 e10
          subst e9; subst e10
          refine x_iincN O 0 [(3, .int (nI (i3_7 + 1))), (0, .ref (adr 0)), (1, .int side), (2, .int (nI row))] dX1_gathers_133 rfl rfl rfl ?_
          refine x_goto O 7 dX1_gathers_136 (by decide) ?_
          obtain ⟨c2_, rfl⟩ : ∃ z, cc_ = z + 1 := ⟨cc_ - 1, by omega⟩
          have hs_ : (fun i s => x_gathers_b7 (μ 1) (μ 8) side row i s.1 s.2) i3_7 (f1_7, a8_7) = ((if (fr (fun i s => x_gathers_b19 (μ 1) (μ 8) side row i3_7 i s) (tn (μ 1 3)) 0 false) = true then f1_7 + 1 else f1_7), (if (fr (fun i s => x_gathers_b19 (μ 1) (μ 8) side row i3_7 i s) (tn (μ 1 3)) 0 false) = true then ups a8_7 f1_7 (nI i3_7) else a8_7)) := by show x_gathers_b7 (μ 1) (μ 8) side row i3_7 f1_7 a8_7 = _; unfold x_gathers_b7; rfl
          exact IH_ c2_ (by omega) _ _ _ (by omega) (by omega) (by (repeat' split) <;> omega) (fun y0 y1 hy_ => K_ y0 y1 (hy_.trans (fr_step hs_).symm))
        refine x_ifneB O 113 dX1_gathers_107 (by decide) (fun c107 => ?_) (fun c107 => ?_)
        · refine x_sub [1, 2, 3, 4] (L' := [(3, .int (nI i3_7)), (0, .ref (adr 0)), (1, .int side), (2, .int (nI row))]) rfl ?_
          refine x_aload_n O 1 dX1_gathers_113 rfl rfl ?_
          refine x_get O k_X1_45_1 XR.o0 (v := .ref (adr 8)) rfl dX1_gathers_114 ?_
          refine x_aload_n O 1 dX1_gathers_117 rfl rfl ?_
          refine x_get O k_X1_291_1 XR.o0 (v := .int ((mc (mset μ 0 1 (nI f1_7)) 8 a8_7) 0 1)) rfl dX1_gathers_118 ?_
          refine x_top (v' := nI f1_7) ((congrFun (mc_n (by decide)) 1).trans rd_hit) ?_
          refine x_iload_n O 0 dX1_gathers_121 rfl rfl ?_
          refine x_xst8 O (by omega) dX1_gathers_122 (μ' := (mc (mset μ 0 1 (nI f1_7)) 8 (ups a8_7 f1_7 (nI i3_7)))) wc_s ?_
          refine x_aload_n O 1 dX1_gathers_123 rfl rfl ?_
          refine x_dup O dX1_gathers_124 rfl ?_
          refine x_get O k_X1_291_1 XR.o0 (v := .int ((mc (mset μ 0 1 (nI f1_7)) 8 (ups a8_7 f1_7 (nI i3_7))) 0 1)) rfl dX1_gathers_125 ?_
          refine x_top (v' := nI f1_7) ((congrFun (mc_n (by decide)) 1).trans rd_hit) ?_
          refine x_iconst O (nI 1) dX1_gathers_128 (by decide) ?_
          refine x_iaddN O dX1_gathers_129 ?_
          refine x_put O p_X1_291_1 XR.o0 rfl rfl rfl dX1_gathers_130 (XR G κe κ adr (mc (mset μ 0 1 (nI (f1_7 + 1))) 8 (ups a8_7 f1_7 (nI i3_7))) ρ) (fun _ m => XR.eq (XR.p1 m) ((wc_n (by decide)).trans (congrArg (fun m_ => mc m_ 8 _) ff_s))) ?_
          exact J8 (f1_7 + 1) (ups a8_7 f1_7 (nI i3_7)) (by rw [if_pos c107]) (by rw [if_pos c107])
        · refine x_sub [1, 2, 3, 4] (L' := [(3, .int (nI i3_7)), (0, .ref (adr 0)), (1, .int side), (2, .int (nI row))]) rfl ?_
          refine x_goto O 133 dX1_gathers_110 (by decide) ?_
          exact J8 f1_7 a8_7 (by rw [if_neg c107]) (by rw [if_neg c107])
  refine x_weak (Ω' := XR G κe κ adr (mc (mset μ 0 1 (nI 0)) 8 (μ 8)) ρ) (fun _ m => m.eq (mc_id (c := 8) (f := μ 8) (by rfl)).symm) ?_
  refine LOOP7 16 0 0 (μ 8) rfl (by omega) (by omega) (fun y0 y1 hy_7 => ?_)
  obtain rfl : y0 = (fr (fun i s => x_gathers_b7 (μ 1) (μ 8) side row i s.1 s.2) 16 0 (0, μ 8)).1 := congrArg (fun z => z.1) hy_7
  obtain rfl : y1 = (fr (fun i s => x_gathers_b7 (μ 1) (μ 8) side row i s.1 s.2) 16 0 (0, μ 8)).2 := congrArg (fun z => z.2) hy_7
  exact x_vretQ O hQ rfl dX1_gathers_139 (fun h m => ⟨rfl, by rw [hrs0, hrs1]; exact m.eq rfl⟩)

theorem grx_n (W C8 : Nat → Int32) (side : Int32) (row : Nat) : x_gathers_f1 W C8 side row ≤ 16 := by
  unfold x_gathers_f1
  have := fr_inv (f := fun i (s : Nat × (Nat → Int32)) => x_gathers_b7 W C8 side row i s.1 s.2) (e := 16) (fun i s => s.1 ≤ i) (fun i s hi hs => ?_) 16 0 (0, C8) (by omega) (by show (0 : Nat) ≤ 0; omega)
  · exact this
  · show (x_gathers_b7 W C8 side row i s.1 s.2).1 ≤ i + 1
    unfold x_gathers_b7
    dsimp only
    (repeat' split) <;> omega

def x_step (C8 : Nat → Int32) (k : Nat) : Int32 :=
  (C8 (k + 1)) - (C8 k)
set_option maxHeartbeats 1000000 in
set_option maxRecDepth 100000 in
theorem c_x_step {G : UG} {κe κ : Hp} {adr : Nat → Nat} {μ : Mu} {ρ : List Nat}  (k : Nat) (hk : k + 1 < 16) : Con G yX1_step cX1_step 2 (some .int) 0 0 0 0 [.ref (adr 0), .int (nI k)] (XR G κe κ adr μ ρ) (fun vr_ h' => vr_ = some (.int (x_step (μ 8) k)) ∧ XR G κe κ adr μ ρ h') nX := by
  refine con_of2 (plainFor_of_name (by decide)) rfl ?_
  intro F R Q RF RL RC RS hQ O hnh hnm
  obtain ⟨res, hres⟩ : ∃ z, z = (x_step (μ 8) k) := ⟨_, rfl⟩
  rw [← hres] at hQ
  unfold x_step at hres
  refine x_eq (L' := [(0, .ref (adr 0)), (1, .int (nI k))]) ?_ rfl rfl rfl
  refine x_aload_n O 0 dX1_step_0 rfl rfl ?_
  refine x_get O k_X1_45_1 XR.o0 (v := .ref (adr 8)) rfl dX1_step_1 ?_
  refine x_iload_n O 1 dX1_step_4 rfl rfl ?_
  refine x_iconst O (nI 1) dX1_step_5 (by decide) ?_
  refine x_iaddN O dX1_step_6 ?_
  refine x_ialdN O XR.c8 (by omega) rfl dX1_step_7 ?_
  refine x_top (v' := μ 8 (k + 1)) rfl ?_
  refine x_aload_n O 0 dX1_step_8 rfl rfl ?_
  refine x_get O k_X1_45_1 XR.o0 (v := .ref (adr 8)) rfl dX1_step_9 ?_
  refine x_iload_n O 1 dX1_step_12 rfl rfl ?_
  refine x_ialdN O XR.c8 (by omega) rfl dX1_step_13 ?_
  refine x_top (v' := μ 8 k) rfl ?_
  refine x_isub O dX1_step_14 ?_
  exact x_iretQ O hQ rfl dX1_step_15 (fun h m => ⟨by rw [hres], m⟩)

def x_longest_b31 (C8 : Nat → Int32) (F1 : Int32) (off : Int32) (i3_4 : Nat) (i6_31 : Nat) (v5_31 : Int32) (v4_31 : Int32) (v2_31 : Int32) : (Int32 × Int32 × Int32) ⊕ (Int32 × Int32 × Int32) :=
  (if ((j_max v5_31 (x_step C8 i6_31)) - (j_min v4_31 (x_step C8 i6_31))) ≤ off then .inl (j_max v5_31 (x_step C8 i6_31), j_min v4_31 (x_step C8 i6_31), j_max v2_31 (((nI i6_31) - (nI i3_4)) + (nI 1))) else .inr (v5_31, v4_31, v2_31))
def x_longest_b4 (C8 : Nat → Int32) (F1 : Int32) (off : Int32) (i3_4 : Nat) (v2_4 : Int32) : Int32 :=
  (frb (fun i s => x_longest_b31 C8 F1 off i3_4 i s.1 s.2.1 s.2.2) ((tn F1) - 1 - i3_4) i3_4 (x_step C8 i3_4, x_step C8 i3_4, v2_4)).2.2
def x_longest (C8 : Nat → Int32) (F1 : Int32) (off : Int32) : Int32 :=
  (fr (fun i s => x_longest_b4 C8 F1 off i s) ((tn F1) - 1) 0 (nI 0))
set_option maxHeartbeats 1000000 in
set_option maxRecDepth 100000 in
theorem c_x_longest {G : UG} {κe κ : Hp} {adr : Nat → Nat} {μ : Mu} {ρ : List Nat} (hn : nn (μ 0 1) 16) (off : Int32)  : Con G yX1_longest cX1_longest 7 (some .int) 1 21 0 0 [.ref (adr 0), .int off] (XR G κe κ adr μ ρ) (fun vr_ h' => vr_ = some (.int (x_longest (μ 8) (μ 0 1) off)) ∧ XR G κe κ adr μ ρ h') nX := by
  refine con_of2 (plainFor_of_name (by decide)) rfl ?_
  intro F R Q RF RL RC RS hQ O hnh hnm
  obtain ⟨res, hres⟩ : ∃ z, z = (x_longest (μ 8) (μ 0 1) off) := ⟨_, rfl⟩
  rw [← hres] at hQ
  unfold x_longest at hres
  have hnb := hn.2
  refine x_eq (L' := [(0, .ref (adr 0)), (1, .int off)]) ?_ rfl rfl rfl
  refine x_iconst O (nI 0) dX1_longest_0 (by decide) ?_
  refine x_istore_n O [(2, .int (nI 0)), (0, .ref (adr 0)), (1, .int off)] dX1_longest_1 rfl rfl rfl ?_
  refine x_iconst O (nI 0) dX1_longest_2 (by decide) ?_
  refine x_istore_n O [(3, .int (nI 0)), (2, .int (nI 0)), (0, .ref (adr 0)), (1, .int off)] dX1_longest_3 rfl rfl rfl ?_
  have LOOP4 : ∀ (cc_ : Nat) (i3_4 : Nat) (v2_4 : Int32), cc_ = (tn (μ 0 1)) - 1 - i3_4 → i3_4 < 2147483647 → (∀ (y0 : Int32), y0 = fr (fun i s => x_longest_b4 (μ 8) (μ 0 1) off i s) cc_ i3_4 v2_4 → X G F R Q 7 103 [(2, .int y0), (0, .ref (adr 0))] [] (XR G κe κ adr μ ρ) 0 0) → X G F R Q 7 4 [(3, .int (nI i3_4)), (2, .int v2_4), (0, .ref (adr 0)), (1, .int off)] [] (XR G κe κ adr μ ρ) 0 0 := by
    intro cc_
    induction cc_ using Nat.strongRecOn with
    | ind cc_ IH_ =>
      intro i3_4 v2_4 hc_ hb_  K_
      refine x_iload_n O 0 dX1_longest_4 rfl rfl ?_
      refine x_iconst O (nI 1) dX1_longest_5 (by decide) ?_
      refine x_iaddN O dX1_longest_6 ?_
      refine x_aload_n O 2 dX1_longest_7 rfl rfl ?_
      refine x_get O k_X1_291_1 XR.o0 (v := .int (μ 0 1)) rfl dX1_longest_8 ?_
      refine x_top (v' := nI (tn (μ 0 1))) (hn.1) ?_
      refine x_icmpgeN O 103 (by omega) (by omega) dX1_longest_11 (by decide) (fun c11 => ?_) (fun c11 => ?_)
      · refine x_sub [1, 2] (L' := [(2, .int v2_4), (0, .ref (adr 0))]) rfl ?_
        obtain rfl : cc_ = 0 := by omega
        exact K_ _ rfl
      · refine x_aload_n O 2 dX1_longest_14 rfl rfl ?_
        refine x_iload_n O 0 dX1_longest_15 rfl rfl ?_
        refine x_cV O 1 (c_x_step (μ := μ) i3_4 (by omega)) XR.o0 rfl (lw_V q1477 q1479 qs27 q103 q1480) rfl hd_X1_step rfl (by rw [RF]; rfl) (by rw [RL]; rfl) ⟨Nat.zero_le _, Nat.zero_le _⟩ rfl rfl dX1_longest_16 ?_
        refine x_top (v' := x_step (μ 8) i3_4) rfl ?_
        refine x_istore O [(4, .int (x_step (μ 8) i3_4)), (3, .int (nI i3_4)), (2, .int v2_4), (0, .ref (adr 0)), (1, .int off)] dX1_longest_19 rfl rfl ?_
        refine x_aload_n O 3 dX1_longest_21 rfl rfl ?_
        refine x_iload_n O 1 dX1_longest_22 rfl rfl ?_
        refine x_cV O 1 (c_x_step (μ := μ) i3_4 (by omega)) XR.o0 rfl (lw_V q1477 q1479 qs27 q103 q1480) rfl hd_X1_step rfl (by rw [RF]; rfl) (by rw [RL]; rfl) ⟨Nat.zero_le _, Nat.zero_le _⟩ rfl rfl dX1_longest_23 ?_
        refine x_top (v' := x_step (μ 8) i3_4) rfl ?_
        refine x_istore O [(5, .int (x_step (μ 8) i3_4)), (4, .int (x_step (μ 8) i3_4)), (3, .int (nI i3_4)), (2, .int v2_4), (0, .ref (adr 0)), (1, .int off)] dX1_longest_26 rfl rfl ?_
        refine x_iload_n O 2 dX1_longest_28 rfl rfl ?_
        refine x_istore O [(6, .int (nI i3_4)), (5, .int (x_step (μ 8) i3_4)), (4, .int (x_step (μ 8) i3_4)), (3, .int (nI i3_4)), (2, .int v2_4), (0, .ref (adr 0)), (1, .int off)] dX1_longest_29 rfl rfl ?_
        have LOOP31 : ∀ (cc_ : Nat) (i6_31 : Nat) (v5_31 : Int32) (v4_31 : Int32) (v2_31 : Int32), cc_ = (tn (μ 0 1)) - 1 - i6_31 → i6_31 < 2147483647 → (∀ (y0 : Int32) (y1 : Int32) (y2 : Int32), (y0, y1, y2) = frb (fun i s => x_longest_b31 (μ 8) (μ 0 1) off i3_4 i s.1 s.2.1 s.2.2) cc_ i6_31 (v5_31, v4_31, v2_31) → X G F R Q 7 97 [(3, .int (nI i3_4)), (2, .int y2), (0, .ref (adr 0)), (1, .int off)] [] (XR G κe κ adr μ ρ) 0 0) → X G F R Q 7 31 [(6, .int (nI i6_31)), (5, .int v5_31), (4, .int v4_31), (3, .int (nI i3_4)), (2, .int v2_31), (0, .ref (adr 0)), (1, .int off)] [] (XR G κe κ adr μ ρ) 0 0 := by
          intro cc_
          induction cc_ using Nat.strongRecOn with
          | ind cc_ IH_ =>
            intro i6_31 v5_31 v4_31 v2_31 hc_ hb_  K_
            refine x_iload O 0 dX1_longest_31 rfl ?_
            refine x_iconst O (nI 1) dX1_longest_33 (by decide) ?_
            refine x_iaddN O dX1_longest_34 ?_
            refine x_aload_n O 5 dX1_longest_35 rfl rfl ?_
            refine x_get O k_X1_291_1 XR.o0 (v := .int (μ 0 1)) rfl dX1_longest_36 ?_
            refine x_top (v' := nI (tn (μ 0 1))) (hn.1) ?_
            refine x_icmpgeN O 97 (by omega) (by omega) dX1_longest_39 (by decide) (fun c39 => ?_) (fun c39 => ?_)
            · refine x_sub [3, 4, 5, 6] (L' := [(3, .int (nI i3_4)), (2, .int v2_31), (0, .ref (adr 0)), (1, .int off)]) rfl ?_
              obtain rfl : cc_ = 0 := by omega
              exact K_ _ _ _ rfl
            · refine x_iload O 2 dX1_longest_42 rfl ?_
              refine x_aload_n O 5 dX1_longest_44 rfl rfl ?_
              refine x_iload O 0 dX1_longest_45 rfl ?_
              refine x_cV O 1 (c_x_step (μ := μ) i6_31 (by omega)) XR.o0 rfl (lw_V q1477 q1479 qs27 q103 q1480) rfl hd_X1_step rfl (by rw [RF]; rfl) (by rw [RL]; rfl) ⟨Nat.zero_le _, Nat.zero_le _⟩ rfl rfl dX1_longest_47 ?_
              refine x_top (v' := x_step (μ 8) i6_31) rfl ?_
              refine x_cS O 2 (c_j_min v4_31 (x_step (μ 8) i6_31)) (lw_S q1481 q760 q116 q761) hd_J7_min rfl (by rw [RF]; rfl) (by rw [RL]; rfl) ⟨Nat.zero_le _, Nat.zero_le _⟩ rfl rfl dX1_longest_50 ?_
              refine x_top (v' := j_min v4_31 (x_step (μ 8) i6_31)) rfl ?_
              refine x_istore O [(4, .int (j_min v4_31 (x_step (μ 8) i6_31))), (6, .int (nI i6_31)), (5, .int v5_31), (3, .int (nI i3_4)), (2, .int v2_31), (0, .ref (adr 0)), (1, .int off)] dX1_longest_53 rfl rfl ?_
              refine x_iload O 2 dX1_longest_55 rfl ?_
              refine x_aload_n O 5 dX1_longest_57 rfl rfl ?_
              refine x_iload O 1 dX1_longest_58 rfl ?_
              refine x_cV O 1 (c_x_step (μ := μ) i6_31 (by omega)) XR.o0 rfl (lw_V q1477 q1479 qs27 q103 q1480) rfl hd_X1_step rfl (by rw [RF]; rfl) (by rw [RL]; rfl) ⟨Nat.zero_le _, Nat.zero_le _⟩ rfl rfl dX1_longest_60 ?_
              refine x_top (v' := x_step (μ 8) i6_31) rfl ?_
              refine x_cS O 2 (c_j_max v5_31 (x_step (μ 8) i6_31)) (lw_S q557 q558 q116 q559) hd_J7_max rfl (by rw [RF]; rfl) (by rw [RL]; rfl) ⟨Nat.zero_le _, Nat.zero_le _⟩ rfl rfl dX1_longest_63 ?_
              refine x_top (v' := j_max v5_31 (x_step (μ 8) i6_31)) rfl ?_
              refine x_istore O [(5, .int (j_max v5_31 (x_step (μ 8) i6_31))), (4, .int (j_min v4_31 (x_step (μ 8) i6_31))), (6, .int (nI i6_31)), (3, .int (nI i3_4)), (2, .int v2_31), (0, .ref (adr 0)), (1, .int off)] dX1_longest_66 rfl rfl ?_
              refine x_iload O 0 dX1_longest_68 rfl ?_
              refine x_iload O 1 dX1_longest_70 rfl ?_
              refine x_isub O dX1_longest_72 ?_
              refine x_iload_n O 6 dX1_longest_73 rfl rfl ?_
              refine x_icmple O 80 dX1_longest_74 (by decide) (fun c74 => ?_) (fun c74 => ?_)
              · refine x_iload_n O 4 dX1_longest_80 rfl rfl ?_
                refine x_iload O 2 dX1_longest_81 rfl ?_
                refine x_iload_n O 3 dX1_longest_83 rfl rfl ?_
                refine x_isub O dX1_longest_84 ?_
                refine x_iconst O (nI 1) dX1_longest_85 (by decide) ?_
                refine x_iadd O dX1_longest_86 ?_
                refine x_cS O 2 (c_j_max v2_31 (((nI i6_31) - (nI i3_4)) + (nI 1))) (lw_S q557 q558 q116 q559) hd_J7_max rfl (by rw [RF]; rfl) (by rw [RL]; rfl) ⟨Nat.zero_le _, Nat.zero_le _⟩ rfl rfl dX1_longest_87 ?_
                refine x_top (v' := j_max v2_31 (((nI i6_31) - (nI i3_4)) + (nI 1))) rfl ?_
                refine x_istore_n O [(2, .int (j_max v2_31 (((nI i6_31) - (nI i3_4)) + (nI 1)))), (5, .int (j_max v5_31 (x_step (μ 8) i6_31))), (4, .int (j_min v4_31 (x_step (μ 8) i6_31))), (6, .int (nI i6_31)), (3, .int (nI i3_4)), (0, .ref (adr 0)), (1, .int off)] dX1_longest_90 rfl rfl rfl ?_
                refine x_iincN O 3 [(6, .int (nI (i6_31 + 1))), (2, .int (j_max v2_31 (((nI i6_31) - (nI i3_4)) + (nI 1)))), (5, .int (j_max v5_31 (x_step (μ 8) i6_31))), (4, .int (j_min v4_31 (x_step (μ 8) i6_31))), (3, .int (nI i3_4)), (0, .ref (adr 0)), (1, .int off)] dX1_longest_91 rfl rfl rfl ?_
                refine x_goto O 31 dX1_longest_94 (by decide) ?_
                obtain ⟨c2_, rfl⟩ : ∃ z, cc_ = z + 1 := ⟨cc_ - 1, by omega⟩
                refine x_sub [0, 2, 3, 4, 1, 5, 6] rfl ?_
                have hs_ : (fun i s => x_longest_b31 (μ 8) (μ 0 1) off i3_4 i s.1 s.2.1 s.2.2) i6_31 (v5_31, v4_31, v2_31) = .inl (j_max v5_31 (x_step (μ 8) i6_31), j_min v4_31 (x_step (μ 8) i6_31), j_max v2_31 (((nI i6_31) - (nI i3_4)) + (nI 1))) := by show x_longest_b31 (μ 8) (μ 0 1) off i3_4 i6_31 v5_31 v4_31 v2_31 = _; unfold x_longest_b31; rw [if_pos c74]
                exact IH_ c2_ (by omega) _ _ _ _ (by omega) (by omega) (fun y0 y1 y2 hy_ => K_ y0 y1 y2 (hy_.trans (frb_step hs_).symm))
              · refine x_sub [3, 4, 5, 6] (L' := [(3, .int (nI i3_4)), (2, .int v2_31), (0, .ref (adr 0)), (1, .int off)]) rfl ?_
                refine x_goto O 97 dX1_longest_77 (by decide) ?_
                obtain ⟨c2_, rfl⟩ : ∃ z, cc_ = z + 1 := ⟨cc_ - 1, by omega⟩
                have hs_ : (fun i s => x_longest_b31 (μ 8) (μ 0 1) off i3_4 i s.1 s.2.1 s.2.2) i6_31 (v5_31, v4_31, v2_31) = .inr (v5_31, v4_31, v2_31) := by show x_longest_b31 (μ 8) (μ 0 1) off i3_4 i6_31 v5_31 v4_31 v2_31 = _; unfold x_longest_b31; rw [if_neg c74]
                exact K_ _ _ _ (frb_stop hs_).symm
        refine LOOP31 ((tn (μ 0 1)) - 1 - i3_4) i3_4 (x_step (μ 8) i3_4) (x_step (μ 8) i3_4) v2_4 rfl (by omega) (fun y0 y1 y2 hy_31 => ?_)
        obtain rfl : y0 = (frb (fun i s => x_longest_b31 (μ 8) (μ 0 1) off i3_4 i s.1 s.2.1 s.2.2) ((tn (μ 0 1)) - 1 - i3_4) i3_4 (x_step (μ 8) i3_4, x_step (μ 8) i3_4, v2_4)).1 := congrArg (fun z => z.1) hy_31
        obtain rfl : y1 = (frb (fun i s => x_longest_b31 (μ 8) (μ 0 1) off i3_4 i s.1 s.2.1 s.2.2) ((tn (μ 0 1)) - 1 - i3_4) i3_4 (x_step (μ 8) i3_4, x_step (μ 8) i3_4, v2_4)).2.1 := congrArg (fun z => z.2.1) hy_31
        obtain rfl : y2 = (frb (fun i s => x_longest_b31 (μ 8) (μ 0 1) off i3_4 i s.1 s.2.1 s.2.2) ((tn (μ 0 1)) - 1 - i3_4) i3_4 (x_step (μ 8) i3_4, x_step (μ 8) i3_4, v2_4)).2.2 := congrArg (fun z => z.2.2) hy_31
        refine x_iincN O 0 [(3, .int (nI (i3_4 + 1))), (2, .int ((frb (fun i s => x_longest_b31 (μ 8) (μ 0 1) off i3_4 i s.1 s.2.1 s.2.2) ((tn (μ 0 1)) - 1 - i3_4) i3_4 (x_step (μ 8) i3_4, x_step (μ 8) i3_4, v2_4)).2.2)), (0, .ref (adr 0)), (1, .int off)] dX1_longest_97 rfl rfl rfl ?_
        refine x_goto O 4 dX1_longest_100 (by decide) ?_
        obtain ⟨c2_, rfl⟩ : ∃ z, cc_ = z + 1 := ⟨cc_ - 1, by omega⟩
        have hs_ : (fun i s => x_longest_b4 (μ 8) (μ 0 1) off i s) i3_4 v2_4 = (frb (fun i s => x_longest_b31 (μ 8) (μ 0 1) off i3_4 i s.1 s.2.1 s.2.2) ((tn (μ 0 1)) - 1 - i3_4) i3_4 (x_step (μ 8) i3_4, x_step (μ 8) i3_4, v2_4)).2.2 := by show x_longest_b4 (μ 8) (μ 0 1) off i3_4 v2_4 = _; unfold x_longest_b4; rfl
        exact IH_ c2_ (by omega) _ _ (by omega) (by omega) (fun y0 hy_ => K_ y0 (hy_.trans (fr_step hs_).symm))
  refine LOOP4 ((tn (μ 0 1)) - 1) 0 (nI 0) rfl (by omega) (fun y0 hy_4 => ?_)
  subst hy_4
  refine x_iload_n O 0 dX1_longest_103 rfl rfl ?_
  exact x_iretQ O hQ rfl dX1_longest_104 (fun h m => ⟨by rw [hres], m⟩)

def x_held_b38 (W : Nat → Int32) (C8 : Nat → Int32) (F1 : Int32) (side : Int32) (row : Int32) (off : Int32) (i5_38 : Nat)  : (Unit) ⊕ (Int32) :=
  (if (x_step (x_gathers_c8 W C8 side (tn row)) i5_38) ≤ ((x_step (x_gathers_c8 W C8 side (tn row)) (i5_38 - 1)) + off) then .inl () else .inr ((x_gathers_c8 W C8 side (tn row)) i5_38))
def x_held (W : Nat → Int32) (C8 : Nat → Int32) (F1 : Int32) (side : Int32) (row : Int32) (off : Int32) (broke : Bool) : Int32 :=
  (if broke = true then (match (fre (fun i s => x_held_b38 W C8 F1 side row off i) ((x_gathers_f1 W C8 side (tn row)) - 1 - 1) 1 ()) with | .inl y_38 => (-1) | .inr v => v) else x_longest (x_gathers_c8 W C8 side (tn row)) (nI (x_gathers_f1 W C8 side (tn row))) off)
def x_held_e (W : Nat → Int32) (C8 : Nat → Int32) (F1 : Int32) (side : Int32) (row : Int32) (off : Int32) (broke : Bool) : Nat :=
  (if eIf (z_isIn side (nI 0) (nI 1)) 1 = 0 then (if eIf (z_isIn row (nI 0) (nI 15)) 1 = 0 then (if eIf (z_isIn off (nI 0) (nI 15)) 2 = 0 then 0 else eIf (z_isIn off (nI 0) (nI 15)) 2) else eIf (z_isIn row (nI 0) (nI 15)) 1) else eIf (z_isIn side (nI 0) (nI 1)) 1)
def x_held_f1 (W : Nat → Int32) (C8 : Nat → Int32) (F1 : Int32) (side : Int32) (row : Int32) (off : Int32) (broke : Bool) : Int32 :=
  (if eIf (z_isIn side (nI 0) (nI 1)) 1 = 0 then (if eIf (z_isIn row (nI 0) (nI 15)) 1 = 0 then (if eIf (z_isIn off (nI 0) (nI 15)) 2 = 0 then nI (x_gathers_f1 W C8 side (tn row)) else F1) else F1) else F1)
def x_held_c8 (W : Nat → Int32) (C8 : Nat → Int32) (F1 : Int32) (side : Int32) (row : Int32) (off : Int32) (broke : Bool) : Nat → Int32 :=
  (if eIf (z_isIn side (nI 0) (nI 1)) 1 = 0 then (if eIf (z_isIn row (nI 0) (nI 15)) 1 = 0 then (if eIf (z_isIn off (nI 0) (nI 15)) 2 = 0 then x_gathers_c8 W C8 side (tn row) else C8) else C8) else C8)
set_option maxHeartbeats 1000000 in
set_option maxRecDepth 100000 in
theorem c_x_held {G : UG} {κe κ : Hp} {adr : Nat → Nat} {μ : Mu} {ρ : List Nat} (hI : MI (μ 1)) (hkind : ∀ f : Nat, f < tn (μ 1 3) → μ 1 (349 + 6 * f) = 0 ∨ μ 1 (349 + 6 * f) = 1 ∨ μ 1 (349 + 6 * f) = 2 ∨ μ 1 (349 + 6 * f) = 3) (side : Int32) (row : Int32) (off : Int32) (broke : Bool)  : Con G yX1_held cX1_held 6 (some .int) 8 133 3 18 [.ref (adr 0), .int side, .int row, .int off, .int (b2i broke)] (XR G κe κ adr μ ρ) (fun vr_ h' => vr_ = some (.int (x_held (μ 1) (μ 8) (μ 0 1) side row off broke)) ∧ (x_held_e (μ 1) (μ 8) (μ 0 1) side row off broke) = 0 ∧ XR G κe κ adr (mc (mset μ 0 1 (x_held_f1 (μ 1) (μ 8) (μ 0 1) side row off broke)) 8 (x_held_c8 (μ 1) (μ 8) (μ 0 1) side row off broke)) ρ h') (fun E_ _ h' => ¬ (x_held_e (μ 1) (μ 8) (μ 0 1) side row off broke) = 0 ∧ E_ = exN (x_held_e (μ 1) (μ 8) (μ 0 1) side row off broke) ∧ XR G κe κ adr (mc (mset μ 0 1 (x_held_f1 (μ 1) (μ 8) (μ 0 1) side row off broke)) 8 (x_held_c8 (μ 1) (μ 8) (μ 0 1) side row off broke)) ρ h') := by
  refine con_of2 (plainFor_of_name (by decide)) rfl ?_
  intro F R Q RF RL RC RS hQ O hnh hnm
  obtain ⟨res, hres⟩ : ∃ z, z = (x_held (μ 1) (μ 8) (μ 0 1) side row off broke) := ⟨_, rfl⟩
  rw [← hres] at hQ
  unfold x_held at hres
  obtain ⟨rcd, hrcd⟩ : ∃ z, z = (x_held_e (μ 1) (μ 8) (μ 0 1) side row off broke) := ⟨_, rfl⟩
  rw [← hrcd] at hQ
  unfold x_held_e at hrcd
  obtain ⟨rs0, hrs0⟩ : ∃ z, z = (x_held_f1 (μ 1) (μ 8) (μ 0 1) side row off broke) := ⟨_, rfl⟩
  rw [← hrs0] at hQ
  unfold x_held_f1 at hrs0
  obtain ⟨rs1, hrs1⟩ : ∃ z, z = (x_held_c8 (μ 1) (μ 8) (μ 0 1) side row off broke) := ⟨_, rfl⟩
  rw [← hrs1] at hQ
  unfold x_held_c8 at hrs1
  have hg := grx_n (μ 1) (μ 8) side (tn row)
  refine x_eq (L' := [(0, .ref (adr 0)), (1, .int side), (2, .int row), (3, .int off), (4, .int (b2i broke))]) ?_ rfl rfl rfl
  refine x_iload_n O 1 dX1_held_0 rfl rfl ?_
  refine x_runE O hQ hnh (r_S O 1 (c_e_isSide side) (lw_S q1465 q1466 q103 q1467) hd_X1_isSide rfl (by rw [RF]; rfl) (by rw [RL]; rfl) (by rw [RC, RS]; decide) rfl rfl dX1_held_1) (by decide) (by decide) (fun c1 => ?_) (fun c1 => ?_)
  · have hr1 := hrcd.trans (if_neg c1)
    have hr2 := hrs0.trans (if_neg c1)
    have hr3 := hrs1.trans (if_neg c1)
    exact fun q h m => ⟨by rw [hr1]; exact c1, by rw [hr1], by rw [hr2, hr3]; exact m.eq ((mf_id (k := 1) (v := μ 0 1) (by rfl)).symm.trans (mc_id (c := 8) (f := μ 8) (by rfl)).symm)⟩
  · have hr4 := hrcd.trans (if_pos c1)
    have hr5 := hrs0.trans (if_pos c1)
    have hr6 := hrs1.trans (if_pos c1)
    have hxc1 := (isC_nn c1 (by decide)).2
    refine x_iload_n O 2 dX1_held_4 rfl rfl ?_
    refine x_runE O hQ hnh (r_S O 1 (c_e_isRow row) (lw_S q1362 q1363 q103 q1364) hd_X1_isRow rfl (by rw [RF]; rfl) (by rw [RL]; rfl) (by rw [RC, RS]; decide) rfl rfl dX1_held_5) (by decide) (by decide) (fun c5 => ?_) (fun c5 => ?_)
    · have hr7 := hr4.trans (if_neg c5)
      have hr8 := hr5.trans (if_neg c5)
      have hr9 := hr6.trans (if_neg c5)
      exact fun q h m => ⟨by rw [hr7]; exact c5, by rw [hr7], by rw [hr8, hr9]; exact m.eq ((mf_id (k := 1) (v := μ 0 1) (by rfl)).symm.trans (mc_id (c := 8) (f := μ 8) (by rfl)).symm)⟩
    · have hr10 := hr4.trans (if_pos c5)
      have hr11 := hr5.trans (if_pos c5)
      have hr12 := hr6.trans (if_pos c5)
      have hxc5 := (isC_nn c5 (by decide)).2
      refine x_iload_n O 3 dX1_held_8 rfl rfl ?_
      refine x_iconst O (nI 0) dX1_held_9 (by decide) ?_
      refine x_bipush O (nI 15) dX1_held_10 (by decide) ?_
      refine x_cS O 3 (c_z_isIn off (nI 0) (nI 15)) (lw_S q476 q477 q103 q478) hd_X1_isIn rfl (by rw [RF]; rfl) (by rw [RL]; rfl) (by rw [RC, RS]; decide) rfl rfl dX1_held_12 ?_
      refine x_top (v' := b2i (z_isIn off (nI 0) (nI 15))) rfl ?_
      refine x_runE O hQ hnh (r_S O 1 (c_e_must (z_isIn off (nI 0) (nI 15))) (lw_S q738 q739 q103 q740) hd_X1_must rfl (by rw [RF]; rfl) (by rw [RL]; rfl) (by rw [RC, RS]; decide) rfl rfl dX1_held_15) (by decide) (by decide) (fun c15 => ?_) (fun c15 => ?_)
      · have hr13 := hr10.trans (if_neg c15)
        have hr14 := hr11.trans (if_neg c15)
        have hr15 := hr12.trans (if_neg c15)
        exact fun q h m => ⟨by rw [hr13]; exact c15, by rw [hr13], by rw [hr14, hr15]; exact m.eq ((mf_id (k := 1) (v := μ 0 1) (by rfl)).symm.trans (mc_id (c := 8) (f := μ 8) (by rfl)).symm)⟩
      · have hr16 := hr10.trans (if_pos c15)
        have hr17 := hr11.trans (if_pos c15)
        have hr18 := hr12.trans (if_pos c15)
        refine x_aload_n O 0 dX1_held_18 rfl rfl ?_
        refine x_iload_n O 1 dX1_held_19 rfl rfl ?_
        refine x_iload_n O 2 dX1_held_20 rfl rfl ?_
        refine x_top (v' := nI (tn row)) (isC_nn c5 (by decide)).1 ?_
        refine x_cV O 2 (c_x_gathers (μ := μ) hI hkind side (tn row) (by omega)) XR.o0 rfl (lw_V q1468 q1470 qs25 q103 q1471) rfl hd_X1_gathers rfl (by rw [RF]; rfl) (by rw [RL]; rfl) (by rw [RC, RS]; decide) rfl rfl dX1_held_21 ?_
        refine x_weak (Ω' := XR G κe κ adr (mc (mset μ 0 1 (nI (x_gathers_f1 (μ 1) (μ 8) side (tn row)))) 8 (x_gathers_c8 (μ 1) (μ 8) side (tn row))) ρ) (fun _ m => m.eq rfl) ?_
        refine x_iload O 4 dX1_held_24 rfl ?_
        refine x_ifneB O 35 dX1_held_26 (by decide) (fun c26 => ?_) (fun c26 => ?_)
        · have hr19 := hres.trans (if_pos c26)
          refine x_sub [0, 3] (L' := [(0, .ref (adr 0)), (3, .int off)]) rfl ?_
          refine x_iconst O (nI 1) dX1_held_35 (by decide) ?_
          refine x_istore O [(5, .int (nI 1)), (0, .ref (adr 0)), (3, .int off)] dX1_held_36 rfl rfl ?_
          have LOOP38 : ∀ (cc_ : Nat) (i5_38 : Nat) , cc_ = (x_gathers_f1 (μ 1) (μ 8) side (tn row)) - 1 - i5_38 → i5_38 < 2147483647 → (1 ≤ i5_38) → (fre (fun i s => x_held_b38 (μ 1) (μ 8) (μ 0 1) side row off i) cc_ i5_38 () = .inl () → X G F R Q 6 82 [(0, .ref (adr 0))] [] (XR G κe κ adr (mc (mset μ 0 1 (nI (x_gathers_f1 (μ 1) (μ 8) side (tn row)))) 8 (x_gathers_c8 (μ 1) (μ 8) side (tn row))) ρ) 3 18) → (∀ v_ : Int32, fre (fun i s => x_held_b38 (μ 1) (μ 8) (μ 0 1) side row off i) cc_ i5_38 () = .inr v_ → res = v_) → X G F R Q 6 38 [(5, .int (nI i5_38)), (0, .ref (adr 0)), (3, .int off)] [] (XR G κe κ adr (mc (mset μ 0 1 (nI (x_gathers_f1 (μ 1) (μ 8) side (tn row)))) 8 (x_gathers_c8 (μ 1) (μ 8) side (tn row))) ρ) 3 18 := by
            intro cc_
            induction cc_ using Nat.strongRecOn with
            | ind cc_ IH_ =>
              intro i5_38  hc_ hb_ h1_ K_ K2_
              refine x_iload O 0 dX1_held_38 rfl ?_
              refine x_iconst O (nI 1) dX1_held_40 (by decide) ?_
              refine x_iaddN O dX1_held_41 ?_
              refine x_aload_n O 1 dX1_held_42 rfl rfl ?_
              refine x_get O k_X1_291_1 XR.o0 (v := .int ((mc (mset μ 0 1 (nI (x_gathers_f1 (μ 1) (μ 8) side (tn row)))) 8 (x_gathers_c8 (μ 1) (μ 8) side (tn row))) 0 1)) rfl dX1_held_43 ?_
              refine x_top (v' := nI (x_gathers_f1 (μ 1) (μ 8) side (tn row))) ((congrFun (mc_n (by decide)) 1).trans rd_hit) ?_
              refine x_icmpgeN O 82 (by omega) (by omega) dX1_held_46 (by decide) (fun c46 => ?_) (fun c46 => ?_)
              · refine x_sub [1] (L' := [(0, .ref (adr 0))]) rfl ?_
                obtain rfl : cc_ = 0 := by omega
                exact K_ rfl
              · refine x_aload_n O 1 dX1_held_49 rfl rfl ?_
                refine x_iload O 0 dX1_held_50 rfl ?_
                refine x_cV O 1 (c_x_step (μ := (mc (mset μ 0 1 (nI (x_gathers_f1 (μ 1) (μ 8) side (tn row)))) 8 (x_gathers_c8 (μ 1) (μ 8) side (tn row)))) i5_38 (by omega)) XR.o0 rfl (lw_V q1477 q1479 qs27 q103 q1480) rfl hd_X1_step rfl (by rw [RF]; rfl) (by rw [RL]; rfl) (by rw [RC, RS]; decide) rfl rfl dX1_held_52 ?_
                refine x_top (v' := x_step (x_gathers_c8 (μ 1) (μ 8) side (tn row)) i5_38) (by rw [show (mc (mset μ 0 1 (nI (x_gathers_f1 (μ 1) (μ 8) side (tn row)))) 8 (x_gathers_c8 (μ 1) (μ 8) side (tn row))) 8 = x_gathers_c8 (μ 1) (μ 8) side (tn row) from mc_s]) ?_
                refine x_aload_n O 1 dX1_held_55 rfl rfl ?_
                refine x_iload O 0 dX1_held_56 rfl ?_
                refine x_iconst O (nI 1) dX1_held_58 (by decide) ?_
                refine x_isubN O (by omega) dX1_held_59 ?_
                refine x_cV O 1 (c_x_step (μ := (mc (mset μ 0 1 (nI (x_gathers_f1 (μ 1) (μ 8) side (tn row)))) 8 (x_gathers_c8 (μ 1) (μ 8) side (tn row)))) (i5_38 - 1) (by omega)) XR.o0 rfl (lw_V q1477 q1479 qs27 q103 q1480) rfl hd_X1_step rfl (by rw [RF]; rfl) (by rw [RL]; rfl) (by rw [RC, RS]; decide) rfl rfl dX1_held_60 ?_
                refine x_top (v' := x_step (x_gathers_c8 (μ 1) (μ 8) side (tn row)) (i5_38 - 1)) (by rw [show (mc (mset μ 0 1 (nI (x_gathers_f1 (μ 1) (μ 8) side (tn row)))) 8 (x_gathers_c8 (μ 1) (μ 8) side (tn row))) 8 = x_gathers_c8 (μ 1) (μ 8) side (tn row) from mc_s]) ?_
                refine x_iload_n O 2 dX1_held_63 rfl rfl ?_
                refine x_iadd O dX1_held_64 ?_
                refine x_icmple O 76 dX1_held_65 (by decide) (fun c65 => ?_) (fun c65 => ?_)
                · refine x_iincN O 0 [(5, .int (nI (i5_38 + 1))), (0, .ref (adr 0)), (3, .int off)] dX1_held_76 rfl rfl rfl ?_
                  refine x_goto O 38 dX1_held_79 (by decide) ?_
                  obtain ⟨c2_, rfl⟩ : ∃ z, cc_ = z + 1 := ⟨cc_ - 1, by omega⟩
                  have hs_ : (fun i s => x_held_b38 (μ 1) (μ 8) (μ 0 1) side row off i) i5_38 () = .inl () := by show x_held_b38 (μ 1) (μ 8) (μ 0 1) side row off i5_38 = _; unfold x_held_b38; rw [if_pos c65]
                  exact IH_ c2_ (by omega) _ (by omega) (by omega) (by omega) (fun hy_ => K_ ((frx_step hs_).trans hy_)) (fun v_ hv_ => K2_ v_ ((frx_step hs_).trans hv_))
                · refine x_sub [0, 1] (L' := [(5, .int (nI i5_38)), (0, .ref (adr 0))]) rfl ?_
                  refine x_aload_n O 1 dX1_held_68 rfl rfl ?_
                  refine x_get O k_X1_45_1 XR.o0 (v := .ref (adr 8)) rfl dX1_held_69 ?_
                  refine x_iload O 0 dX1_held_72 rfl ?_
                  refine x_ialdN O XR.c8 (by omega) rfl dX1_held_74 ?_
                  refine x_top (v' := (x_gathers_c8 (μ 1) (μ 8) side (tn row)) i5_38) (congrFun mc_s i5_38) ?_
                  obtain ⟨c2_, rfl⟩ : ∃ z, cc_ = z + 1 := ⟨cc_ - 1, by omega⟩
                  have hs_ : (fun i s => x_held_b38 (μ 1) (μ 8) (μ 0 1) side row off i) i5_38 () = .inr ((x_gathers_c8 (μ 1) (μ 8) side (tn row)) i5_38) := by show x_held_b38 (μ 1) (μ 8) (μ 0 1) side row off i5_38 = _; unfold x_held_b38; rw [if_neg c65]
                  have hk20 := K2_ _ (frx_stop hs_)
                  refine x_widen (k' := 3) (n' := 18) (by decide) (by decide) ?_
                  exact x_iretQ O hQ rfl dX1_held_75 (fun h m => ⟨by rw [hk20], by rw [hr16], by rw [hr17, hr18]; exact m.eq rfl⟩)
          refine LOOP38 ((x_gathers_f1 (μ 1) (μ 8) side (tn row)) - 1 - 1) 1 rfl (by omega) (by omega) (fun  hy_38 => ?_) (fun v_ hv_ => by rw [hr19, hv_])
          rw [hy_38] at hr19
          refine x_iconst O ((-1)) dX1_held_82 (by decide) ?_
          refine x_widen (k' := 3) (n' := 18) (by decide) (by decide) ?_
          exact x_iretQ O hQ rfl dX1_held_83 (fun h m => ⟨by rw [hr19], by rw [hr16], by rw [hr17, hr18]; exact m.eq rfl⟩)
        · have hr21 := hres.trans (if_neg c26)
          refine x_sub [0, 3] (L' := [(0, .ref (adr 0)), (3, .int off)]) rfl ?_
          refine x_aload_n O 0 dX1_held_29 rfl rfl ?_
          refine x_iload_n O 1 dX1_held_30 rfl rfl ?_
          refine x_cV O 1 (c_x_longest (μ := (mc (mset μ 0 1 (nI (x_gathers_f1 (μ 1) (μ 8) side (tn row)))) 8 (x_gathers_c8 (μ 1) (μ 8) side (tn row)))) (nn_nI hg (by decide)) off) XR.o0 rfl (lw_V q1473 q1475 qs26 q103 q1476) rfl hd_X1_longest rfl (by rw [RF]; rfl) (by rw [RL]; rfl) (by rw [RC, RS]; decide) rfl rfl dX1_held_31 ?_
          refine x_top (v' := x_longest (x_gathers_c8 (μ 1) (μ 8) side (tn row)) (nI (x_gathers_f1 (μ 1) (μ 8) side (tn row))) off) (by rw [show (mc (mset μ 0 1 (nI (x_gathers_f1 (μ 1) (μ 8) side (tn row)))) 8 (x_gathers_c8 (μ 1) (μ 8) side (tn row))) 8 = x_gathers_c8 (μ 1) (μ 8) side (tn row) from mc_s, show (mc (mset μ 0 1 (nI (x_gathers_f1 (μ 1) (μ 8) side (tn row)))) 8 (x_gathers_c8 (μ 1) (μ 8) side (tn row))) 0 1 = nI (x_gathers_f1 (μ 1) (μ 8) side (tn row)) from ((congrFun (mc_n (by decide)) 1).trans rd_hit)]) ?_
          refine x_widen (k' := 3) (n' := 18) (by decide) (by decide) ?_
          exact x_iretQ O hQ rfl dX1_held_34 (fun h m => ⟨by rw [hr21], by rw [hr16], by rw [hr17, hr18]; exact m.eq rfl⟩)

def x_look (W : Nat → Int32) (person : Int32) (what : Int32) : Int32 :=
  (if what = nI 0 then W (301 + 6 * (tn person)) else (if what = nI 1 then W (302 + 6 * (tn person)) else (if what = nI 2 then W (303 + 6 * (tn person)) else (if what = nI 3 then nI ((if decide (W (304 + 6 * (tn person)) = 1) = true then 1 else 0)) else (if what = nI 4 then W (305 + 6 * (tn person)) else (if what = nI 5 then W (306 + 6 * (tn person)) else (if what = nI 6 then nI (h_within W (tn person) true) else nI (h_within W (tn person) false))))))))
def x_look_e (W : Nat → Int32) (person : Int32) (what : Int32) : Nat :=
  (if eIf (z_isIn person (nI 0) ((nI (tn (W 1))) - (nI 1))) 1 = 0 then (if what = nI 0 then 0 else (if what = nI 1 then 0 else (if what = nI 2 then 0 else (if what = nI 3 then 0 else (if what = nI 4 then 0 else (if what = nI 5 then 0 else (if what = nI 6 then 0 else (if what = nI 7 then 0 else 4)))))))) else eIf (z_isIn person (nI 0) ((nI (tn (W 1))) - (nI 1))) 1)
set_option maxHeartbeats 1000000 in
set_option maxRecDepth 100000 in
theorem c_x_look {G : UG} {κe κ : Hp} {adr : Nat → Nat} {μ : Mu} {ρ : List Nat} (hI : MI (μ 1)) (person : Int32) (what : Int32)  : Con G yX1_look cX1_look 4 (some .int) 7 101 2 12 [.ref (adr 0), .int person, .int what] (XR G κe κ adr μ ρ) (fun vr_ h' => vr_ = some (.int (x_look (μ 1) person what)) ∧ (x_look_e (μ 1) person what) = 0 ∧ XR G κe κ adr μ ρ h') (fun E_ _ h' => ¬ (x_look_e (μ 1) person what) = 0 ∧ E_ = exN (x_look_e (μ 1) person what) ∧ XR G κe κ adr μ ρ h') := by
  refine con_of2 (plainFor_of_name (by decide)) rfl ?_
  intro F R Q RF RL RC RS hQ O hnh hnm
  obtain ⟨res, hres⟩ : ∃ z, z = (x_look (μ 1) person what) := ⟨_, rfl⟩
  rw [← hres] at hQ
  unfold x_look at hres
  obtain ⟨rcd, hrcd⟩ : ∃ z, z = (x_look_e (μ 1) person what) := ⟨_, rfl⟩
  rw [← hrcd] at hQ
  unfold x_look_e at hrcd
  have hb1 : tn (μ 1 1) ≤ 8 := (hI 1 (by decide)).2
  refine x_eq (L' := [(0, .ref (adr 0)), (1, .int person), (2, .int what)]) ?_ rfl rfl rfl
  refine x_iload_n O 1 dX1_look_0 rfl rfl ?_
  refine x_iconst O (nI 0) dX1_look_1 (by decide) ?_
  refine x_aload_n O 0 dX1_look_2 rfl rfl ?_
  refine x_get O k_X1_29_1 XR.o0 (v := .ref (adr 1000)) rfl dX1_look_3 ?_
  refine x_hget O (XR.hr (μ := μ) hI rfl : HR G κe adr _ _ 1000 (μ 1) (XR G κe κ adr μ ρ)) k_X1_156_4 rfl dX1_look_6 ?_
  refine x_top (v' := nI (tn (μ 1 1))) (hI 1 (by decide)).1 ?_
  refine x_iconst O (nI 1) dX1_look_9 (by decide) ?_
  refine x_isub O dX1_look_10 ?_
  refine x_cS O 3 (c_z_isIn person (nI 0) ((nI (tn (μ 1 1))) - (nI 1))) (lw_S q476 q477 q103 q478) hd_X1_isIn rfl (by rw [RF]; rfl) (by rw [RL]; rfl) ⟨Nat.zero_le _, Nat.zero_le _⟩ rfl rfl dX1_look_11 ?_
  refine x_top (v' := b2i (z_isIn person (nI 0) ((nI (tn (μ 1 1))) - (nI 1)))) rfl ?_
  refine x_runE O hQ hnh (r_S O 1 (c_e_mustBe (z_isIn person (nI 0) ((nI (tn (μ 1 1))) - (nI 1)))) (lw_S q714 q715 q103 q716) hd_X1_mustBe rfl (by rw [RF]; rfl) (by rw [RL]; rfl) (by rw [RC, RS]; decide) rfl rfl dX1_look_14) (by decide) (by decide) (fun c14 => ?_) (fun c14 => ?_)
  · have hr2 := hrcd.trans (if_neg c14)
    exact fun q h m => ⟨by rw [hr2]; exact c14, by rw [hr2], m⟩
  · have hr3 := hrcd.trans (if_pos c14)
    have hx14 := (isK_lt c14 (by omega)).2
    refine x_aload_n O 0 dX1_look_17 rfl rfl ?_
    refine x_get O k_X1_29_1 XR.o0 (v := .ref (adr 1000)) rfl dX1_look_18 ?_
    refine x_hget O (XR.hr (μ := μ) hI rfl : HR G κe adr _ _ 1000 (μ 1) (XR G κe κ adr μ ρ)) k_X1_159_4 rfl dX1_look_21 ?_
    refine x_iload_n O 1 dX1_look_24 rfl rfl ?_
    refine x_top (v' := nI (tn person)) (isK_lt c14 (by omega)).1 ?_
    refine x_hper O (XR.hr (μ := μ) hI rfl : HR G κe adr _ _ 1000 (μ 1) (XR G κe κ adr μ ρ)) (by omega) dX1_look_25 ?_
    refine x_astore_n O [(3, .ref (adr (1000 + (200 + (tn person))))), (0, .ref (adr 0)), (1, .int person), (2, .int what)] dX1_look_26 rfl rfl rfl ?_
    refine x_sub [0, 1, 3] (L' := [(3, .ref (adr (1000 + (200 + (tn person))))), (0, .ref (adr 0)), (2, .int what)]) rfl ?_
    refine x_iload_n O 2 dX1_look_27 rfl rfl ?_
    refine x_dc (what = nI 0) (fun c28_0 => ?_) (fun c28_0 => ?_)
    · have hr4 := hres.trans (if_pos c28_0)
      have hr5 := hr3.trans (if_pos c28_0)
      refine x_tabIn O 76 dX1_look_28 (by rw [c28_0]; decide) (by rw [c28_0]; decide) (by rw [c28_0]; rfl) (by decide) ?_
      refine x_sub [0, 1] (L' := [(3, .ref (adr (1000 + (200 + (tn person))))), (0, .ref (adr 0))]) rfl ?_
      refine x_aload_n O 0 dX1_look_76 rfl rfl ?_
      refine x_get O k_X1_163_20 ((XR.hr (μ := μ) hI rfl : HR G κe adr _ _ 1000 (μ 1) (XR G κe κ adr μ ρ)).per (by omega)) (v := .int (μ 1 (301 + 6 * (tn person)))) rfl dX1_look_77 ?_
      refine x_widen (k' := 2) (n' := 12) (by decide) (by decide) ?_
      exact x_iretQ O hQ rfl dX1_look_80 (fun h m => ⟨by rw [hr4], by rw [hr5], m⟩)
    · have hr6 := hres.trans (if_neg c28_0)
      have hr7 := hr3.trans (if_neg c28_0)
      refine x_dc (what = nI 1) (fun c28_1 => ?_) (fun c28_1 => ?_)
      · have hr8 := hr6.trans (if_pos c28_1)
        have hr9 := hr7.trans (if_pos c28_1)
        refine x_tabIn O 81 dX1_look_28 (by rw [c28_1]; decide) (by rw [c28_1]; decide) (by rw [c28_1]; rfl) (by decide) ?_
        refine x_sub [0, 1] (L' := [(3, .ref (adr (1000 + (200 + (tn person))))), (0, .ref (adr 0))]) rfl ?_
        refine x_aload_n O 0 dX1_look_81 rfl rfl ?_
        refine x_get O k_X1_174_20 ((XR.hr (μ := μ) hI rfl : HR G κe adr _ _ 1000 (μ 1) (XR G κe κ adr μ ρ)).per (by omega)) (v := .int (μ 1 (302 + 6 * (tn person)))) rfl dX1_look_82 ?_
        refine x_widen (k' := 2) (n' := 12) (by decide) (by decide) ?_
        exact x_iretQ O hQ rfl dX1_look_85 (fun h m => ⟨by rw [hr8], by rw [hr9], m⟩)
      · have hr10 := hr6.trans (if_neg c28_1)
        have hr11 := hr7.trans (if_neg c28_1)
        refine x_dc (what = nI 2) (fun c28_2 => ?_) (fun c28_2 => ?_)
        · have hr12 := hr10.trans (if_pos c28_2)
          have hr13 := hr11.trans (if_pos c28_2)
          refine x_tabIn O 86 dX1_look_28 (by rw [c28_2]; decide) (by rw [c28_2]; decide) (by rw [c28_2]; rfl) (by decide) ?_
          refine x_sub [0, 1] (L' := [(3, .ref (adr (1000 + (200 + (tn person))))), (0, .ref (adr 0))]) rfl ?_
          refine x_aload_n O 0 dX1_look_86 rfl rfl ?_
          refine x_get O k_X1_177_20 ((XR.hr (μ := μ) hI rfl : HR G κe adr _ _ 1000 (μ 1) (XR G κe κ adr μ ρ)).per (by omega)) (v := .int (μ 1 (303 + 6 * (tn person)))) rfl dX1_look_87 ?_
          refine x_widen (k' := 2) (n' := 12) (by decide) (by decide) ?_
          exact x_iretQ O hQ rfl dX1_look_90 (fun h m => ⟨by rw [hr12], by rw [hr13], m⟩)
        · have hr14 := hr10.trans (if_neg c28_2)
          have hr15 := hr11.trans (if_neg c28_2)
          refine x_dc (what = nI 3) (fun c28_3 => ?_) (fun c28_3 => ?_)
          · have hr16 := hr14.trans (if_pos c28_3)
            have hr17 := hr15.trans (if_pos c28_3)
            refine x_tabIn O 91 dX1_look_28 (by rw [c28_3]; decide) (by rw [c28_3]; decide) (by rw [c28_3]; rfl) (by decide) ?_
            refine x_sub [0, 1] (L' := [(3, .ref (adr (1000 + (200 + (tn person))))), (0, .ref (adr 0))]) rfl ?_
            refine x_aload_n O 0 dX1_look_91 rfl rfl ?_
            refine x_get O k_X1_180_20 ((XR.hr (μ := μ) hI rfl : HR G κe adr _ _ 1000 (μ 1) (XR G κe κ adr μ ρ)).per (by omega)) (v := .int (b2i (decide (μ 1 (304 + 6 * (tn person)) = 1)))) rfl dX1_look_92 ?_
            have J18 : ∀ (y1 : Nat), y1 = (if decide (μ 1 (304 + 6 * (tn person)) = 1) = true then 1 else 0) → X G F R Q 4 103 [(0, .ref (adr 0))] [.int (nI y1)] (XR G κe κ adr μ ρ) 1 6 := by
              intro y1 e19
              subst e19
              refine x_widen (k' := 2) (n' := 12) (by decide) (by decide) ?_
              exact x_iretQ O hQ rfl dX1_look_103 (fun h m => ⟨by rw [hr16], by rw [hr17], m⟩)
            refine x_ifeqB O 102 dX1_look_95 (by decide) (fun c95 => ?_) (fun c95 => ?_)
            · refine x_sub [1] (L' := [(0, .ref (adr 0))]) rfl ?_
              refine x_iconst O (nI 0) dX1_look_102 (by decide) ?_
              exact J18 0 (by rw [if_neg c95])
            · refine x_sub [1] (L' := [(0, .ref (adr 0))]) rfl ?_
              refine x_iconst O (nI 1) dX1_look_98 (by decide) ?_
              refine x_goto O 103 dX1_look_99 (by decide) ?_
              exact J18 1 (by rw [if_pos c95])
          · have hr20 := hr14.trans (if_neg c28_3)
            have hr21 := hr15.trans (if_neg c28_3)
            refine x_dc (what = nI 4) (fun c28_4 => ?_) (fun c28_4 => ?_)
            · have hr22 := hr20.trans (if_pos c28_4)
              have hr23 := hr21.trans (if_pos c28_4)
              refine x_tabIn O 104 dX1_look_28 (by rw [c28_4]; decide) (by rw [c28_4]; decide) (by rw [c28_4]; rfl) (by decide) ?_
              refine x_sub [0, 1] (L' := [(3, .ref (adr (1000 + (200 + (tn person))))), (0, .ref (adr 0))]) rfl ?_
              refine x_aload_n O 0 dX1_look_104 rfl rfl ?_
              refine x_get O k_X1_184_20 ((XR.hr (μ := μ) hI rfl : HR G κe adr _ _ 1000 (μ 1) (XR G κe κ adr μ ρ)).per (by omega)) (v := .int (μ 1 (305 + 6 * (tn person)))) rfl dX1_look_105 ?_
              refine x_widen (k' := 2) (n' := 12) (by decide) (by decide) ?_
              exact x_iretQ O hQ rfl dX1_look_108 (fun h m => ⟨by rw [hr22], by rw [hr23], m⟩)
            · have hr24 := hr20.trans (if_neg c28_4)
              have hr25 := hr21.trans (if_neg c28_4)
              refine x_dc (what = nI 5) (fun c28_5 => ?_) (fun c28_5 => ?_)
              · have hr26 := hr24.trans (if_pos c28_5)
                have hr27 := hr25.trans (if_pos c28_5)
                refine x_tabIn O 109 dX1_look_28 (by rw [c28_5]; decide) (by rw [c28_5]; decide) (by rw [c28_5]; rfl) (by decide) ?_
                refine x_sub [0, 1] (L' := [(3, .ref (adr (1000 + (200 + (tn person))))), (0, .ref (adr 0))]) rfl ?_
                refine x_aload_n O 0 dX1_look_109 rfl rfl ?_
                refine x_get O k_X1_185_20 ((XR.hr (μ := μ) hI rfl : HR G κe adr _ _ 1000 (μ 1) (XR G κe κ adr μ ρ)).per (by omega)) (v := .int (μ 1 (306 + 6 * (tn person)))) rfl dX1_look_110 ?_
                refine x_widen (k' := 2) (n' := 12) (by decide) (by decide) ?_
                exact x_iretQ O hQ rfl dX1_look_113 (fun h m => ⟨by rw [hr26], by rw [hr27], m⟩)
              · have hr28 := hr24.trans (if_neg c28_5)
                have hr29 := hr25.trans (if_neg c28_5)
                refine x_dc (what = nI 6) (fun c28_6 => ?_) (fun c28_6 => ?_)
                · have hr30 := hr28.trans (if_pos c28_6)
                  have hr31 := hr29.trans (if_pos c28_6)
                  refine x_tabIn O 114 dX1_look_28 (by rw [c28_6]; decide) (by rw [c28_6]; decide) (by rw [c28_6]; rfl) (by decide) ?_
                  refine x_sub [0, 1] (L' := [(3, .ref (adr (1000 + (200 + (tn person))))), (0, .ref (adr 0))]) rfl ?_
                  refine x_aload_n O 1 dX1_look_114 rfl rfl ?_
                  refine x_get O k_X1_29_1 XR.o0 (v := .ref (adr 1000)) rfl dX1_look_115 ?_
                  refine x_aload_n O 0 dX1_look_118 rfl rfl ?_
                  refine x_iconst O (nI 1) dX1_look_119 (by decide) ?_
                  refine x_top (v' := b2i true) (by decide) ?_
                  refine x_cV O 2 (c_h_within (XR.hr (μ := μ) hI rfl : HR G κe adr _ _ 1000 (μ 1) (XR G κe κ adr μ ρ)) hI (tn person) true (by omega)) (XR.hr (μ := μ) hI rfl : HR G κe adr _ _ 1000 (μ 1) (XR G κe κ adr μ ρ)).obj rfl (lw_V q1081 q1082 q1083 q109 q1084) rfl hd_X4_within rfl (by rw [RF]; rfl) (by rw [RL]; rfl) (by rw [RC, RS]; decide) rfl rfl dX1_look_120 ?_
                  refine x_top (v' := nI (h_within (μ 1) (tn person) true)) rfl ?_
                  refine x_widen (k' := 2) (n' := 12) (by decide) (by decide) ?_
                  exact x_iretQ O hQ rfl dX1_look_123 (fun h m => ⟨by rw [hr30], by rw [hr31], m⟩)
                · have hr32 := hr28.trans (if_neg c28_6)
                  have hr33 := hr29.trans (if_neg c28_6)
                  refine x_dc (what = nI 7) (fun c28_7 => ?_) (fun c28_7 => ?_)
                  · have hr34 := hr33.trans (if_pos c28_7)
                    refine x_tabIn O 124 dX1_look_28 (by rw [c28_7]; decide) (by rw [c28_7]; decide) (by rw [c28_7]; rfl) (by decide) ?_
                    refine x_sub [0, 1] (L' := [(3, .ref (adr (1000 + (200 + (tn person))))), (0, .ref (adr 0))]) rfl ?_
                    refine x_aload_n O 1 dX1_look_124 rfl rfl ?_
                    refine x_get O k_X1_29_1 XR.o0 (v := .ref (adr 1000)) rfl dX1_look_125 ?_
                    refine x_aload_n O 0 dX1_look_128 rfl rfl ?_
                    refine x_iconst O (nI 0) dX1_look_129 (by decide) ?_
                    refine x_top (v' := b2i false) (by decide) ?_
                    refine x_cV O 2 (c_h_within (XR.hr (μ := μ) hI rfl : HR G κe adr _ _ 1000 (μ 1) (XR G κe κ adr μ ρ)) hI (tn person) false (by omega)) (XR.hr (μ := μ) hI rfl : HR G κe adr _ _ 1000 (μ 1) (XR G κe κ adr μ ρ)).obj rfl (lw_V q1081 q1082 q1083 q109 q1084) rfl hd_X4_within rfl (by rw [RF]; rfl) (by rw [RL]; rfl) (by rw [RC, RS]; decide) rfl rfl dX1_look_130 ?_
                    refine x_top (v' := nI (h_within (μ 1) (tn person) false)) rfl ?_
                    refine x_widen (k' := 2) (n' := 12) (by decide) (by decide) ?_
                    exact x_iretQ O hQ rfl dX1_look_133 (fun h m => ⟨by rw [hr32], by rw [hr34], m⟩)
                  · have hr35 := hr33.trans (if_neg c28_7)
                    refine x_tabOut O 134 dX1_look_28 (tab_out (n := 8) (lt_s (lt_s (lt_s (lt_s (lt_s (lt_s (lt_s (lt_s lt_0 c28_0) c28_1) c28_2) c28_3) c28_4) c28_5) c28_6) c28_7) (by decide)) (by decide) ?_
                    refine x_sub [1] (L' := [(0, .ref (adr 0))]) rfl ?_
                    rw [hQ]
                    exact x_throw0 O hnh th_thereIsF th_fit q1093 q136 th_thereIs th_thereIsG dX1_look_134 dX1_look_137 dX1_look_138 dX1_look_141 (by rw [RF]; rfl) (by rw [RL]; rfl) (by rw [RC, RS]; decide) (by decide) (by decide) (fun h q m => ⟨by rw [hr35]; decide, by rw [hr35]; rfl, m⟩)

def x_about (W : Nat → Int32) (find : Int32) (what : Int32) : Int32 :=
  (if what = nI 0 then W (349 + 6 * (tn find)) else (if what = nI 1 then W (350 + 6 * (tn find)) else (if what = nI 2 then W (351 + 6 * (tn find)) else (if what = nI 3 then W (352 + 6 * (tn find)) else (if what = nI 4 then nI ((if h_isSeen W (tn find) = true then 1 else 0)) else (if what = nI 5 then h_mayBe W (tn find) else (if what = nI 6 then (if W (349 + 6 * (tn find)) = 0 then W (353 + 6 * (tn find)) else nI 0) else (if W (349 + 6 * (tn find)) = 0 then W (354 + 6 * (tn find)) else nI 239))))))))
def x_about_e (W : Nat → Int32) (find : Int32) (what : Int32) : Nat :=
  (if eIf (z_isIn find (nI 0) (nI (tn (W 3)) - nI 1)) 1 = 0 then (if what = nI 0 then 0 else (if what = nI 1 then 0 else (if what = nI 2 then 0 else (if what = nI 3 then 0 else (if what = nI 4 then 0 else (if what = nI 5 then 0 else (if what = nI 6 then 0 else (if what = nI 7 then 0 else 4)))))))) else eIf (z_isIn find (nI 0) (nI (tn (W 3)) - nI 1)) 1)
set_option maxHeartbeats 1000000 in
set_option maxRecDepth 100000 in
theorem c_x_about {G : UG} {κe κ : Hp} {adr : Nat → Nat} {μ : Mu} {ρ : List Nat} (hI : MI (μ 1)) (hkind : ∀ f : Nat, f < tn (μ 1 3) → μ 1 (349 + 6 * f) = 0 ∨ μ 1 (349 + 6 * f) = 1 ∨ μ 1 (349 + 6 * f) = 2 ∨ μ 1 (349 + 6 * f) = 3) (find : Int32) (what : Int32)  : Con G yX1_about cX1_about 4 (some .int) 8 122 2 12 [.ref (adr 0), .int find, .int what] (XR G κe κ adr μ ρ) (fun vr_ h' => vr_ = some (.int (x_about (μ 1) find what)) ∧ (x_about_e (μ 1) find what) = 0 ∧ XR G κe κ adr μ ρ h') (fun E_ _ h' => ¬ (x_about_e (μ 1) find what) = 0 ∧ E_ = exN (x_about_e (μ 1) find what) ∧ XR G κe κ adr μ ρ h') := by
  refine con_of2 (plainFor_of_name (by decide)) rfl ?_
  intro F R Q RF RL RC RS hQ O hnh hnm
  obtain ⟨res, hres⟩ : ∃ z, z = (x_about (μ 1) find what) := ⟨_, rfl⟩
  rw [← hres] at hQ
  unfold x_about at hres
  obtain ⟨rcd, hrcd⟩ : ∃ z, z = (x_about_e (μ 1) find what) := ⟨_, rfl⟩
  rw [← hrcd] at hQ
  unfold x_about_e at hrcd
  have hb3 : tn (μ 1 3) ≤ 120 := (hI 3 (by decide)).2
  refine x_eq (L' := [(0, .ref (adr 0)), (1, .int find), (2, .int what)]) ?_ rfl rfl rfl
  refine x_aload_n O 0 dX1_about_0 rfl rfl ?_
  refine x_iload_n O 1 dX1_about_1 rfl rfl ?_
  refine x_runF O hQ hnh (r_V O 1 (c_x_findAt (μ := μ) hI find) XR.o0 rfl (lw_V q1313 q1315 qs22 q103 q1316) rfl hd_X1_findAt rfl (by rw [RF]; rfl) (by rw [RL]; rfl) (by rw [RC, RS]; decide) rfl rfl dX1_about_2) (by decide) (by decide) (fun c2 => ?_) (fun c2 => ?_)
  · have hr4 := hrcd.trans (if_neg c2)
    exact fun q h m => ⟨by rw [hr4]; exact c2, by rw [hr4], m⟩
  · have hr5 := hrcd.trans (if_pos c2)
    intro q1 hq2
    have hzc2 : tn (μ 1 3) ≤ 120 := Nat.le_trans (hI 3 (by decide)).2 (by decide)
    have hxc2 := (isK_lt c2 (by omega)).2
    refine x_astore_n O [(3, .ref q1), (0, .ref (adr 0)), (1, .int find), (2, .int what)] dX1_about_5 rfl rfl rfl ?_
    refine x_iload_n O 3 dX1_about_6 rfl rfl ?_
    refine x_dc (what = nI 0) (fun c7_0 => ?_) (fun c7_0 => ?_)
    · have hr6 := hres.trans (if_pos c7_0)
      have hr7 := hr5.trans (if_pos c7_0)
      refine x_tabIn O 52 dX1_about_7 (by rw [c7_0]; decide) (by rw [c7_0]; decide) (by rw [c7_0]; rfl) (by decide) ?_
      refine x_sub [0, 1] (L' := [(3, .ref q1), (0, .ref (adr 0))]) rfl ?_
      refine x_aload_n O 0 dX1_about_52 rfl rfl ?_
      refine x_fkind O (f := (tn find)) (w := μ 1) q1317 ((XR.hr (μ := μ) hI rfl : HR G κe adr _ _ 1000 (μ 1) (XR G κe κ adr μ ρ)).fr hq2) (hkind (tn find) (by omega)) (by rw [RF]; rfl) (by rw [RL]; rfl) (by rw [RC, RS]; decide) rfl dX1_about_53 ?_
      refine x_widen (k' := 2) (n' := 12) (by decide) (by decide) ?_
      exact x_iretQ O hQ rfl dX1_about_56 (fun h m => ⟨by rw [hr6], by rw [hr7], m⟩)
    · have hr8 := hres.trans (if_neg c7_0)
      have hr9 := hr5.trans (if_neg c7_0)
      refine x_dc (what = nI 1) (fun c7_1 => ?_) (fun c7_1 => ?_)
      · have hr10 := hr8.trans (if_pos c7_1)
        have hr11 := hr9.trans (if_pos c7_1)
        refine x_tabIn O 57 dX1_about_7 (by rw [c7_1]; decide) (by rw [c7_1]; decide) (by rw [c7_1]; rfl) (by decide) ?_
        refine x_sub [0, 1] (L' := [(3, .ref q1), (0, .ref (adr 0))]) rfl ?_
        refine x_aload_n O 0 dX1_about_57 rfl rfl ?_
        refine x_fcell O (f := (tn find)) (w := μ 1) q1318 ((XR.hr (μ := μ) hI rfl : HR G κe adr _ _ 1000 (μ 1) (XR G κe κ adr μ ρ)).fr hq2) (by rw [RF]; rfl) (by rw [RL]; rfl) (by rw [RC, RS]; decide) rfl dX1_about_58 ?_
        refine x_widen (k' := 2) (n' := 12) (by decide) (by decide) ?_
        exact x_iretQ O hQ rfl dX1_about_61 (fun h m => ⟨by rw [hr10], by rw [hr11], m⟩)
      · have hr12 := hr8.trans (if_neg c7_1)
        have hr13 := hr9.trans (if_neg c7_1)
        refine x_dc (what = nI 2) (fun c7_2 => ?_) (fun c7_2 => ?_)
        · have hr14 := hr12.trans (if_pos c7_2)
          have hr15 := hr13.trans (if_pos c7_2)
          refine x_tabIn O 62 dX1_about_7 (by rw [c7_2]; decide) (by rw [c7_2]; decide) (by rw [c7_2]; rfl) (by decide) ?_
          refine x_sub [0, 1] (L' := [(3, .ref q1), (0, .ref (adr 0))]) rfl ?_
          refine x_aload_n O 0 dX1_about_62 rfl rfl ?_
          refine x_fdepth O (f := (tn find)) (w := μ 1) q1319 ((XR.hr (μ := μ) hI rfl : HR G κe adr _ _ 1000 (μ 1) (XR G κe κ adr μ ρ)).fr hq2) (by rw [RF]; rfl) (by rw [RL]; rfl) (by rw [RC, RS]; decide) rfl dX1_about_63 ?_
          refine x_widen (k' := 2) (n' := 12) (by decide) (by decide) ?_
          exact x_iretQ O hQ rfl dX1_about_66 (fun h m => ⟨by rw [hr14], by rw [hr15], m⟩)
        · have hr16 := hr12.trans (if_neg c7_2)
          have hr17 := hr13.trans (if_neg c7_2)
          refine x_dc (what = nI 3) (fun c7_3 => ?_) (fun c7_3 => ?_)
          · have hr18 := hr16.trans (if_pos c7_3)
            have hr19 := hr17.trans (if_pos c7_3)
            refine x_tabIn O 67 dX1_about_7 (by rw [c7_3]; decide) (by rw [c7_3]; decide) (by rw [c7_3]; rfl) (by decide) ?_
            refine x_sub [0, 1] (L' := [(3, .ref q1), (0, .ref (adr 0))]) rfl ?_
            refine x_aload_n O 0 dX1_about_67 rfl rfl ?_
            refine x_ftells O (f := (tn find)) (w := μ 1) q1320 ((XR.hr (μ := μ) hI rfl : HR G κe adr _ _ 1000 (μ 1) (XR G κe κ adr μ ρ)).fr hq2) (by rw [RF]; rfl) (by rw [RL]; rfl) (by rw [RC, RS]; decide) rfl dX1_about_68 ?_
            refine x_widen (k' := 2) (n' := 12) (by decide) (by decide) ?_
            exact x_iretQ O hQ rfl dX1_about_71 (fun h m => ⟨by rw [hr18], by rw [hr19], m⟩)
          · have hr20 := hr16.trans (if_neg c7_3)
            have hr21 := hr17.trans (if_neg c7_3)
            refine x_dc (what = nI 4) (fun c7_4 => ?_) (fun c7_4 => ?_)
            · have hr22 := hr20.trans (if_pos c7_4)
              have hr23 := hr21.trans (if_pos c7_4)
              refine x_tabIn O 72 dX1_about_7 (by rw [c7_4]; decide) (by rw [c7_4]; decide) (by rw [c7_4]; rfl) (by decide) ?_
              refine x_sub [1, 2] (L' := [(0, .ref (adr 0)), (1, .int find)]) rfl ?_
              refine x_aload_n O 0 dX1_about_72 rfl rfl ?_
              refine x_get O k_X1_29_1 XR.o0 (v := .ref (adr 1000)) rfl dX1_about_73 ?_
              refine x_iload_n O 1 dX1_about_76 rfl rfl ?_
              refine x_top (v' := nI (tn find)) (isK_lt c2 (by omega)).1 ?_
              refine x_cV O 1 (c_h_isSeen (XR.hr (μ := μ) hI rfl : HR G κe adr _ _ 1000 (μ 1) (XR G κe κ adr μ ρ)) (tn find) (by omega)) (XR.hr (μ := μ) hI rfl : HR G κe adr _ _ 1000 (μ 1) (XR G κe κ adr μ ρ)).obj rfl (lw_V q1335 q496 q497 q109 q498) rfl hd_X4_isSeen rfl (by rw [RF]; rfl) (by rw [RL]; rfl) (by rw [RC, RS]; decide) rfl rfl dX1_about_77 ?_
              refine x_top (v' := b2i (h_isSeen (μ 1) (tn find))) rfl ?_
              have J24 : ∀ (y3 : Nat), y3 = (if h_isSeen (μ 1) (tn find) = true then 1 else 0) → X G F R Q 4 88 [(0, .ref (adr 0))] [.int (nI y3)] (XR G κe κ adr μ ρ) 1 6 := by
                intro y3 e25
                subst e25
                refine x_widen (k' := 2) (n' := 12) (by decide) (by decide) ?_
                exact x_iretQ O hQ rfl dX1_about_88 (fun h m => ⟨by rw [hr22], by rw [hr23], m⟩)
              refine x_ifeqB O 87 dX1_about_80 (by decide) (fun c80 => ?_) (fun c80 => ?_)
              · refine x_sub [0] (L' := [(0, .ref (adr 0))]) rfl ?_
                refine x_iconst O (nI 0) dX1_about_87 (by decide) ?_
                exact J24 0 (by rw [if_neg c80])
              · refine x_sub [0] (L' := [(0, .ref (adr 0))]) rfl ?_
                refine x_iconst O (nI 1) dX1_about_83 (by decide) ?_
                refine x_goto O 88 dX1_about_84 (by decide) ?_
                exact J24 1 (by rw [if_pos c80])
            · have hr26 := hr20.trans (if_neg c7_4)
              have hr27 := hr21.trans (if_neg c7_4)
              refine x_dc (what = nI 5) (fun c7_5 => ?_) (fun c7_5 => ?_)
              · have hr28 := hr26.trans (if_pos c7_5)
                have hr29 := hr27.trans (if_pos c7_5)
                refine x_tabIn O 89 dX1_about_7 (by rw [c7_5]; decide) (by rw [c7_5]; decide) (by rw [c7_5]; rfl) (by decide) ?_
                refine x_sub [0, 1] (L' := [(3, .ref q1), (0, .ref (adr 0))]) rfl ?_
                refine x_aload_n O 1 dX1_about_89 rfl rfl ?_
                refine x_get O k_X1_29_1 XR.o0 (v := .ref (adr 1000)) rfl dX1_about_90 ?_
                refine x_aload_n O 0 dX1_about_93 rfl rfl ?_
                refine x_cV O 1 (c_h_mayBe (XR.hr (μ := μ) hI rfl : HR G κe adr _ _ 1000 (μ 1) (XR G κe κ adr μ ρ)) hI hkind (tn find) (by omega) _ hq2) (XR.hr (μ := μ) hI rfl : HR G κe adr _ _ 1000 (μ 1) (XR G κe κ adr μ ρ)).obj rfl (lw_V q1336 q1337 q1338 q109 q1339) rfl hd_X4_mayBe rfl (by rw [RF]; rfl) (by rw [RL]; rfl) (by rw [RC, RS]; decide) rfl rfl dX1_about_94 ?_
                refine x_top (v' := h_mayBe (μ 1) (tn find)) rfl ?_
                refine x_widen (k' := 2) (n' := 12) (by decide) (by decide) ?_
                exact x_iretQ O hQ rfl dX1_about_97 (fun h m => ⟨by rw [hr28], by rw [hr29], m⟩)
              · have hr30 := hr26.trans (if_neg c7_5)
                have hr31 := hr27.trans (if_neg c7_5)
                refine x_dc (what = nI 6) (fun c7_6 => ?_) (fun c7_6 => ?_)
                · have hr32 := hr30.trans (if_pos c7_6)
                  have hr33 := hr31.trans (if_pos c7_6)
                  refine x_tabIn O 98 dX1_about_7 (by rw [c7_6]; decide) (by rw [c7_6]; decide) (by rw [c7_6]; rfl) (by decide) ?_
                  refine x_sub [0, 1] (L' := [(3, .ref q1), (0, .ref (adr 0))]) rfl ?_
                  refine x_aload_n O 0 dX1_about_98 rfl rfl ?_
                  refine x_isCaseO O ((XR.hr (μ := μ) hI rfl : HR G κe adr _ _ 1000 (μ 1) (XR G κe κ adr μ ρ)).fr hq2) q1277 dX1_about_99 (fun c99 => ?_) (fun c99 => ?_)
                  · have hr34 := hr32.trans (if_pos c99)
                    refine x_ifeqB O 115 dX1_about_102 (by decide) (fun c => absurd rfl c) (fun _ => ?_)
                    refine x_aload_n O 0 dX1_about_105 rfl rfl ?_
                    refine x_castC O c99 ((XR.hr (μ := μ) hI rfl : HR G κe adr _ _ 1000 (μ 1) (XR G κe κ adr μ ρ)).fr hq2) q1277 dX1_about_106 ?_
                    refine x_get O k_X1_241_22 (fE0 c99 ((XR.hr (μ := μ) hI rfl : HR G κe adr _ _ 1000 (μ 1) (XR G κe κ adr μ ρ)).fr hq2)) (v := .int (μ 1 (353 + 6 * (tn find)))) rfl dX1_about_109 ?_
                    refine x_goto O 116 dX1_about_112 (by decide) ?_
                    refine x_sub [1] (L' := [(0, .ref (adr 0))]) rfl ?_
                    refine x_widen (k' := 2) (n' := 12) (by decide) (by decide) ?_
                    exact x_iretQ O hQ rfl dX1_about_116 (fun h m => ⟨by rw [hr34], by rw [hr33], m⟩)
                  · have hr35 := hr32.trans (if_neg c99)
                    refine x_ifeqB O 115 dX1_about_102 (by decide) (fun _ => ?_) (fun c => absurd c (by decide))
                    refine x_sub [1] (L' := [(0, .ref (adr 0))]) rfl ?_
                    refine x_iconst O (nI 0) dX1_about_115 (by decide) ?_
                    refine x_widen (k' := 2) (n' := 12) (by decide) (by decide) ?_
                    exact x_iretQ O hQ rfl dX1_about_116 (fun h m => ⟨by rw [hr35], by rw [hr33], m⟩)
                · have hr36 := hr30.trans (if_neg c7_6)
                  have hr37 := hr31.trans (if_neg c7_6)
                  refine x_dc (what = nI 7) (fun c7_7 => ?_) (fun c7_7 => ?_)
                  · have hr38 := hr37.trans (if_pos c7_7)
                    refine x_tabIn O 117 dX1_about_7 (by rw [c7_7]; decide) (by rw [c7_7]; decide) (by rw [c7_7]; rfl) (by decide) ?_
                    refine x_sub [0, 1] (L' := [(3, .ref q1), (0, .ref (adr 0))]) rfl ?_
                    refine x_aload_n O 0 dX1_about_117 rfl rfl ?_
                    refine x_isCaseO O ((XR.hr (μ := μ) hI rfl : HR G κe adr _ _ 1000 (μ 1) (XR G κe κ adr μ ρ)).fr hq2) q1277 dX1_about_118 (fun c118 => ?_) (fun c118 => ?_)
                    · have hr39 := hr36.trans (if_pos c118)
                      refine x_ifeqB O 134 dX1_about_121 (by decide) (fun c => absurd rfl c) (fun _ => ?_)
                      refine x_aload_n O 0 dX1_about_124 rfl rfl ?_
                      refine x_castC O c118 ((XR.hr (μ := μ) hI rfl : HR G κe adr _ _ 1000 (μ 1) (XR G κe κ adr μ ρ)).fr hq2) q1277 dX1_about_125 ?_
                      refine x_get O k_X1_244_22 (fE0 c118 ((XR.hr (μ := μ) hI rfl : HR G κe adr _ _ 1000 (μ 1) (XR G κe κ adr μ ρ)).fr hq2)) (v := .int (μ 1 (354 + 6 * (tn find)))) rfl dX1_about_128 ?_
                      refine x_goto O 137 dX1_about_131 (by decide) ?_
                      refine x_sub [1] (L' := [(0, .ref (adr 0))]) rfl ?_
                      refine x_widen (k' := 2) (n' := 12) (by decide) (by decide) ?_
                      exact x_iretQ O hQ rfl dX1_about_137 (fun h m => ⟨by rw [hr39], by rw [hr38], m⟩)
                    · have hr40 := hr36.trans (if_neg c118)
                      refine x_ifeqB O 134 dX1_about_121 (by decide) (fun _ => ?_) (fun c => absurd c (by decide))
                      refine x_sub [1] (L' := [(0, .ref (adr 0))]) rfl ?_
                      refine x_sipush O (nI 239) dX1_about_134 (by decide) ?_
                      refine x_widen (k' := 2) (n' := 12) (by decide) (by decide) ?_
                      exact x_iretQ O hQ rfl dX1_about_137 (fun h m => ⟨by rw [hr40], by rw [hr38], m⟩)
                  · have hr41 := hr37.trans (if_neg c7_7)
                    refine x_tabOut O 138 dX1_about_7 (tab_out (n := 8) (lt_s (lt_s (lt_s (lt_s (lt_s (lt_s (lt_s (lt_s lt_0 c7_0) c7_1) c7_2) c7_3) c7_4) c7_5) c7_6) c7_7) (by decide)) (by decide) ?_
                    refine x_sub [1] (L' := [(0, .ref (adr 0))]) rfl ?_
                    rw [hQ]
                    exact x_throw0 O hnh th_thereIsF th_fit q1093 q136 th_thereIs th_thereIsG dX1_about_138 dX1_about_141 dX1_about_142 dX1_about_145 (by rw [RF]; rfl) (by rw [RL]; rfl) (by rw [RC, RS]; decide) (by decide) (by decide) (fun h q m => ⟨by rw [hr41]; decide, by rw [hr41]; rfl, m⟩)

