/-- -1, or counted -/
def gO (x : Int32) (b : Nat) : Prop := x = -1 ∨ nn x b
theorem gO_nn {x : Int32} {b : Nat} (h : gO x b) (c : ¬ x < 0) : nn x b := by
  rcases h with rfl | h
  · exact absurd (by decide) c
  · exact h
theorem gO_nn' {x : Int32} {b : Nat} (h : gO x b) (c : 0 ≤ x) : nn x b := by
  rcases h with rfl | h
  · exact absurd c (by decide)
  · exact h
theorem nn_nI {a b : Nat} (h : a ≤ b) (hb : b < 2 ^ 31) : nn (nI a) b := by
  have h1 : tn (nI a) = a := tn_nI (by omega)
  exact ⟨by rw [h1], by omega⟩
theorem nn_mono {x : Int32} {a b : Nat} (h : nn x a) (hab : a ≤ b) : nn x b := ⟨h.1, Nat.le_trans h.2 hab⟩
theorem gO_mono {x : Int32} {a b : Nat} (h : gO x a) (hab : a ≤ b) : gO x b := h.elim Or.inl (fun z => Or.inr (nn_mono z hab))
theorem nn_of {x : Int32} {b : Nat} (h0 : (0 : Int32) ≤ x) (h1 : x ≤ nI b) (hb : b < 2 ^ 31) : nn x b := by
  have hM : (nI b).toInt = (b : Int) := nI_toInt hb
  obtain ⟨j, hj, rfl⟩ := nI_of2 hM (Int32.not_lt.mpr h0) h1
  exact nn_nI hj hb
/-- the world's numbers are in their ranges -/
def MJ (W : Nat → Int32) : Prop := MI W ∧ (∀ p : Nat, p < 8 → gO (m_of W p 0) 7 ∧ nn (m_of W p 1) 255 ∧ gO (m_of W p 5) 3) ∧ (∀ f : Nat, f < 120 → nn (m_ofFind W f 0) 3 ∧ nn (m_ofFind W f 1) 255 ∧ nn (m_ofFind W f 4) 239 ∧ nn (m_ofFind W f 5) 239) ∧ (∀ t : Nat, t < 20 → nn (m_ofTelling W t 0) 7 ∧ nn (m_ofTelling W t 1) 255) ∧ (∀ t : Nat, t < 8 → nn (m_ofTeller W t 0) 255)
theorem in_spec {v lo hi : Int32} : m_in v lo hi = true ↔ lo ≤ v ∧ v ≤ hi := by
  unfold m_in
  by_cases h1 : lo ≤ v <;> by_cases h2 : v ≤ hi <;> simp [h1, h2]
theorem noCell_nn {c : Int32} (h : ¬ m_noCell c = true) : nn c 255 := by
  have h1 : m_in c (nI 0) (nI 255) = true := by
    unfold m_noCell at h
    by_cases h2 : m_in c (nI 0) (nI 255) = true
    · exact h2
    · exact absurd (by simp [h2]) h
  obtain ⟨a, b⟩ := in_spec.mp h1
  exact nn_of a b (by decide)
theorem mB_le (w : Nat) : mB w ≤ 239 := by
  unfold mB
  split <;> decide
theorem none_nn {W : Nat → Int32} {k : Int32} {w : Nat} (hw : w < 8) (hI : MI W) (h : ¬ m_none W k w = true) : k = nI (tn k) ∧ tn k < tn (W w) := by
  have h1 : m_in k (nI 0) (W w - nI 1) = true := by
    unfold m_none at h
    by_cases h2 : m_in k (nI 0) (W w - nI 1) = true
    · exact h2
    · exact absurd (by simp [h2]) h
  obtain ⟨a, b⟩ := in_spec.mp h1
  obtain ⟨e, hb⟩ := hI w hw
  have hm := mB_le w
  obtain ⟨c, hc⟩ : ∃ c, c = tn (W w) := ⟨_, rfl⟩
  rw [← hc] at e hb ⊢
  rw [e] at b
  cases c with
  | zero => exact absurd (Int32.le_trans a b) (by decide)
  | succ c =>
    rw [pk_sub (by omega : 1 ≤ c + 1)] at b
    have h5 := nn_of (b := c) a b (by omega)
    exact ⟨h5.1, by have := h5.2; omega⟩
theorem MI_w {μ : Mu} {j : Nat} {v : Int32} (hj : 8 ≤ j) (h : MI (μ 1)) : MI (mset μ 1 j v 1) := fun c hc => by
  rw [rd_skip (by omega)]; exact h c hc
set_option maxHeartbeats 4000000 in
set_option maxRecDepth 100000 in
theorem c_m_sets {G : UG} {adr : Nat → Nat} {h0 : Hp} {μ : Mu}  (p : Nat) (w : Nat) (v : Int32) (hp : p < 8) (hw : w < 6) : Con G yX6_sets cX6_sets 4 none 0 0 0 0 [.ref (adr 0), .int (nI p), .int (nI w), .int v] (MS G adr h0 μ) (fun vr_ h' => vr_ = none ∧ MS G adr h0 (mset μ 1 (301 + 6 * p + w) v) h') nX := by
  refine con_of2 (plainFor_of_name (by decide)) rfl ?_
  intro F R Q RF RL RC RS hQ O hnh hnm
  refine x_eq (L' := [(0, .ref (adr 0)), (1, .int (nI p)), (2, .int (nI w)), (3, .int v)]) ?_ rfl rfl rfl
  refine x_aload_n O 0 dX6_sets_0 rfl rfl ?_
  refine x_mget O k_X6_13_6 (mg_1 _ _) dX6_sets_1 ?_
  refine x_sipush O (nI 301) dX6_sets_4 (by decide) ?_
  refine x_bipush O (nI 6) dX6_sets_7 (by decide) ?_
  refine x_iload_n O 1 dX6_sets_9 rfl rfl ?_
  refine x_imulN O dX6_sets_10 ?_
  refine x_iaddN O dX6_sets_11 ?_
  refine x_iload_n O 2 dX6_sets_12 rfl rfl ?_
  refine x_iaddN O dX6_sets_13 ?_
  refine x_iload_n O 3 dX6_sets_14 rfl rfl ?_
  refine x_mast O 0 MS.c1 rfl rfl rfl (by omega) rfl dX6_sets_15 ?_
  exact x_vretQ O hQ rfl dX6_sets_16 (fun h m => ⟨rfl, m⟩)

def m_height (W : Nat → Int32) (cell : Int32) : Int32 :=
  (if m_noCell cell = true then nI 0 else W (13 + tn cell))
def m_height_s (μ : Mu) (cell : Int32) : Mu :=
  (if m_noCell cell = true then (mset (mset μ 0 0 (nI 0)) 0 0 (nI 1)) else (mset μ 0 0 (nI 0)))
set_option maxHeartbeats 4000000 in
set_option maxRecDepth 100000 in
theorem c_m_height {G : UG} {adr : Nat → Nat} {h0 : Hp} {μ : Mu}  (cell : Int32)  : Con G yX6_height cX6_height 2 (some .int) 2 42 0 0 [.ref (adr 0), .int cell] (MS G adr h0 μ) (fun vr_ h' => vr_ = some (.int (m_height (μ 1) cell)) ∧ MS G adr h0 (m_height_s μ cell) h') nX := by
  refine con_of2 (plainFor_of_name (by decide)) rfl ?_
  intro F R Q RF RL RC RS hQ O hnh hnm
  obtain ⟨res, hres⟩ : ∃ z, z = (m_height (μ 1) cell) := ⟨_, rfl⟩
  rw [← hres] at hQ
  unfold m_height at hres
  obtain ⟨resm, hresm⟩ : ∃ z, z = m_height_s μ cell := ⟨_, rfl⟩
  rw [← hresm] at hQ
  unfold m_height_s at hresm
  refine x_eq (L' := [(0, .ref (adr 0)), (1, .int cell)]) ?_ rfl rfl rfl
  refine x_aload_n O 0 dX6_height_0 rfl rfl ?_
  refine x_iconst O (nI 0) dX6_height_1 (by decide) ?_
  refine x_mput O p_X6_3_6 (mp_0 _ _ _) rfl dX6_height_2 ?_
  refine x_aload_n O 0 dX6_height_5 rfl rfl ?_
  refine x_iload_n O 1 dX6_height_6 rfl rfl ?_
  refine x_cS O 1 (c_m_noCell cell) (lw_S q1768 q1769 q111 q1770) hd_X6_noCell rfl (by rw [RF]; rfl) (by rw [RL]; rfl) ⟨Nat.zero_le _, Nat.zero_le _⟩ rfl rfl dX6_height_7 ?_
  refine x_iconst O (nI 1) dX6_height_10 (by decide) ?_
  refine x_bc (m_noCell cell) (fun c11 => ?_) (fun c11 => ?_)
  · have hr1 := hres.trans (if_pos c11)
    have hr2 := hresm.trans (if_pos c11)
    refine x_eq (st' := [.int (nI 1), .int (b2i true), .ref (adr 0)]) ?_ rfl rfl (by rw [c11] <;> rfl)
    refine x_cV O 2 (c_m_throwsIf_t (μ := (mset μ 0 0 (nI 0))) 1) MS.obj uc6 (lw_V q1774 q1776 qs34 q111 q1777) rfl hd_X6_throwsIf rfl (by rw [RF]; rfl) (by rw [RL]; rfl) ⟨Nat.zero_le _, Nat.zero_le _⟩ rfl rfl dX6_height_11 ?_
    refine x_top (v' := b2i true) rfl ?_
    refine x_ifeqB O 21 dX6_height_14 (by decide) (fun c => absurd rfl c) (fun _ => ?_)
    refine x_sub [0] (L' := [(0, .ref (adr 0))]) rfl ?_
    refine x_iconst O (nI 0) dX6_height_17 (by decide) ?_
    refine x_goto O 30 dX6_height_18 (by decide) ?_
    exact x_iretQ O hQ rfl dX6_height_30 (fun h m => ⟨by rw [hr1], by rw [hr2]; exact m⟩)
  · have hr3 := hres.trans (if_neg c11)
    have hr4 := hresm.trans (if_neg c11)
    refine x_eq (st' := [.int (nI 1), .int (b2i false), .ref (adr 0)]) ?_ rfl rfl (by rw [bfalse c11] <;> rfl)
    refine x_cV O 2 (c_m_throwsIf_f (μ := (mset μ 0 0 (nI 0))) 1) MS.obj uc6 (lw_V q1774 q1776 qs34 q111 q1777) rfl hd_X6_throwsIf rfl (by rw [RF]; rfl) (by rw [RL]; rfl) ⟨Nat.zero_le _, Nat.zero_le _⟩ rfl rfl dX6_height_11 ?_
    refine x_top (v' := b2i false) rfl ?_
    refine x_ifeqB O 21 dX6_height_14 (by decide) (fun _ => ?_) (fun c => absurd c (by decide))
    refine x_aload_n O 0 dX6_height_21 rfl rfl ?_
    refine x_mget O k_X6_13_6 (mg_1 _ _) dX6_height_22 ?_
    refine x_bipush O (nI 13) dX6_height_25 (by decide) ?_
    refine x_iload_n O 1 dX6_height_27 rfl rfl ?_
    refine x_top (v' := nI (tn cell)) ((noCell_nn c11).1) ?_
    refine x_iaddN O dX6_height_28 ?_
    refine x_ialdN O MS.c1 (by have := (noCell_nn c11).2; omega) rfl dX6_height_29 ?_
    refine x_top (v' := μ 1 (13 + tn cell)) (rd_oth (by decide)) ?_
    exact x_iretQ O hQ rfl dX6_height_30 (fun h m => ⟨by rw [hr3], by rw [hr4]; exact m⟩)

def m_ground_b59 (a : Int32) (b : Int32) (ht : Int32) (i4_59 : Nat) (mu_59 : Mu) : Mu :=
  (if m_isIn (nI i4_59) a b = true then (mset mu_59 1 (13 + i4_59) ht) else mu_59)
def m_ground_s (μ : Mu) (a : Int32) (b : Int32) (ht : Int32) : Mu :=
  (if (if m_noCell a = true then true else (if m_noCell b = true then true else false)) = true then (mset (mset μ 0 0 (nI 0)) 0 0 (nI 1)) else (if (if m_in ht (nI 0) (nI 9) = true then false else true) = true then (mset (mset μ 0 0 (nI 0)) 0 0 (nI 2)) else (fr (fun i s => m_ground_b59 a b ht i s) 256 0 (mset μ 0 0 (nI 0)))))
set_option maxHeartbeats 4000000 in
set_option maxRecDepth 100000 in
theorem c_m_ground {G : UG} {adr : Nat → Nat} {h0 : Hp} {μ : Mu}  (a : Int32) (b : Int32) (ht : Int32)  : Con G yX6_ground cX6_ground 5 none 2 44 0 0 [.ref (adr 0), .int a, .int b, .int ht] (MS G adr h0 μ) (fun vr_ h' => vr_ = none ∧ MS G adr h0 (m_ground_s μ a b ht) h') nX := by
  refine con_of2 (plainFor_of_name (by decide)) rfl ?_
  intro F R Q RF RL RC RS hQ O hnh hnm
  obtain ⟨resm, hresm⟩ : ∃ z, z = m_ground_s μ a b ht := ⟨_, rfl⟩
  rw [← hresm] at hQ
  unfold m_ground_s at hresm
  refine x_eq (L' := [(0, .ref (adr 0)), (1, .int a), (2, .int b), (3, .int ht)]) ?_ rfl rfl rfl
  refine x_aload_n O 0 dX6_ground_0 rfl rfl ?_
  refine x_iconst O (nI 0) dX6_ground_1 (by decide) ?_
  refine x_mput O p_X6_3_6 (mp_0 _ _ _) rfl dX6_ground_2 ?_
  refine x_aload_n O 0 dX6_ground_5 rfl rfl ?_
  refine x_iload_n O 1 dX6_ground_6 rfl rfl ?_
  refine x_cS O 1 (c_m_noCell a) (lw_S q1768 q1769 q111 q1770) hd_X6_noCell rfl (by rw [RF]; rfl) (by rw [RL]; rfl) ⟨Nat.zero_le _, Nat.zero_le _⟩ rfl rfl dX6_ground_7 ?_
  have J4 : ∀ (y1 : Bool), y1 = (if m_noCell a = true then true else (if m_noCell b = true then true else false)) → X G F R Q 5 25 [(0, .ref (adr 0)), (1, .int a), (2, .int b), (3, .int ht)] [.int (b2i y1), .ref (adr 0)] (MS G adr h0 ((mset μ 0 0 (nI 0)))) 0 0 := by
    intro y1 e5
    subst e5
    refine x_iconst O (nI 1) dX6_ground_25 (by decide) ?_
    refine x_bc ((if m_noCell a = true then true else (if m_noCell b = true then true else false))) (fun c26 => ?_) (fun c26 => ?_)
    · have hr6 := hresm.trans (if_pos c26)
      refine x_eq (st' := [.int (nI 1), .int (b2i true), .ref (adr 0)]) ?_ rfl rfl (by rw [c26] <;> rfl)
      refine x_cV O 2 (c_m_throwsIf_t (μ := (mset μ 0 0 (nI 0))) 1) MS.obj uc6 (lw_V q1774 q1776 qs34 q111 q1777) rfl hd_X6_throwsIf rfl (by rw [RF]; rfl) (by rw [RL]; rfl) ⟨Nat.zero_le _, Nat.zero_le _⟩ rfl rfl dX6_ground_26 ?_
      refine x_top (v' := b2i true) rfl ?_
      refine x_ifneB O 55 dX6_ground_29 (by decide) (fun _ => ?_) (fun c => absurd rfl c)
      refine x_sub [0] (L' := [(0, .ref (adr 0))]) rfl ?_
      exact x_vretQ O hQ rfl dX6_ground_55 (fun h m => ⟨rfl, by rw [hr6]; exact m⟩)
    · have hr7 := hresm.trans (if_neg c26)
      refine x_eq (st' := [.int (nI 1), .int (b2i false), .ref (adr 0)]) ?_ rfl rfl (by rw [bfalse c26] <;> rfl)
      refine x_cV O 2 (c_m_throwsIf_f (μ := (mset μ 0 0 (nI 0))) 1) MS.obj uc6 (lw_V q1774 q1776 qs34 q111 q1777) rfl hd_X6_throwsIf rfl (by rw [RF]; rfl) (by rw [RL]; rfl) ⟨Nat.zero_le _, Nat.zero_le _⟩ rfl rfl dX6_ground_26 ?_
      refine x_top (v' := b2i false) rfl ?_
      refine x_ifneB O 55 dX6_ground_29 (by decide) (fun c => absurd c (by decide)) (fun _ => ?_)
      refine x_aload_n O 0 dX6_ground_32 rfl rfl ?_
      refine x_iload_n O 3 dX6_ground_33 rfl rfl ?_
      refine x_iconst O (nI 0) dX6_ground_34 (by decide) ?_
      refine x_bipush O (nI 9) dX6_ground_35 (by decide) ?_
      refine x_cS O 3 (c_m_in ht (nI 0) (nI 9)) (lw_S q1771 q1772 q111 q1773) hd_X6_in rfl (by rw [RF]; rfl) (by rw [RL]; rfl) ⟨Nat.zero_le _, Nat.zero_le _⟩ rfl rfl dX6_ground_37 ?_
      have J8 : ∀ (y2 : Bool), y2 = (if m_in ht (nI 0) (nI 9) = true then false else true) → X G F R Q 5 48 [(0, .ref (adr 0)), (1, .int a), (2, .int b), (3, .int ht)] [.int (b2i y2), .ref (adr 0)] (MS G adr h0 ((mset μ 0 0 (nI 0)))) 0 0 := by
        intro y2 e9
        subst e9
        refine x_iconst O (nI 2) dX6_ground_48 (by decide) ?_
        refine x_bc ((if m_in ht (nI 0) (nI 9) = true then false else true)) (fun c49 => ?_) (fun c49 => ?_)
        · have hr10 := hr7.trans (if_pos c49)
          refine x_eq (st' := [.int (nI 2), .int (b2i true), .ref (adr 0)]) ?_ rfl rfl (by rw [c49] <;> rfl)
          refine x_cV O 2 (c_m_throwsIf_t (μ := (mset μ 0 0 (nI 0))) 2) MS.obj uc6 (lw_V q1774 q1776 qs34 q111 q1777) rfl hd_X6_throwsIf rfl (by rw [RF]; rfl) (by rw [RL]; rfl) ⟨Nat.zero_le _, Nat.zero_le _⟩ rfl rfl dX6_ground_49 ?_
          refine x_top (v' := b2i true) rfl ?_
          refine x_ifeqB O 56 dX6_ground_52 (by decide) (fun c => absurd rfl c) (fun _ => ?_)
          refine x_sub [0] (L' := [(0, .ref (adr 0))]) rfl ?_
          exact x_vretQ O hQ rfl dX6_ground_55 (fun h m => ⟨rfl, by rw [hr10]; exact m⟩)
        · have hr11 := hr7.trans (if_neg c49)
          refine x_eq (st' := [.int (nI 2), .int (b2i false), .ref (adr 0)]) ?_ rfl rfl (by rw [bfalse c49] <;> rfl)
          refine x_cV O 2 (c_m_throwsIf_f (μ := (mset μ 0 0 (nI 0))) 2) MS.obj uc6 (lw_V q1774 q1776 qs34 q111 q1777) rfl hd_X6_throwsIf rfl (by rw [RF]; rfl) (by rw [RL]; rfl) ⟨Nat.zero_le _, Nat.zero_le _⟩ rfl rfl dX6_ground_49 ?_
          refine x_top (v' := b2i false) rfl ?_
          refine x_ifeqB O 56 dX6_ground_52 (by decide) (fun _ => ?_) (fun c => absurd c (by decide))
          refine x_iconst O (nI 0) dX6_ground_56 (by decide) ?_
          refine x_istore O [(4, .int (nI 0)), (0, .ref (adr 0)), (1, .int a), (2, .int b), (3, .int ht)] dX6_ground_57 rfl rfl ?_
          have LOOP59 : ∀ (cc_ : Nat) (i4_59 : Nat) (mu_59 : Mu), cc_ = 256 - i4_59 → i4_59 < 2147483648 → (∀ (y0 : Mu), y0 = fr (fun i s => m_ground_b59 a b ht i s) cc_ i4_59 mu_59 → X G F R Q 5 94 [(0, .ref (adr 0))] [] (MS G adr h0 y0) 0 0) → X G F R Q 5 59 [(4, .int (nI i4_59)), (0, .ref (adr 0)), (1, .int a), (2, .int b), (3, .int ht)] [] (MS G adr h0 mu_59) 0 0 := by
            intro cc_
            induction cc_ using Nat.strongRecOn with
            | ind cc_ IH_ =>
              intro i4_59 mu_59 hc_ hb_  K_
              refine x_iload O 0 dX6_ground_59 rfl ?_
              refine x_sipush O (nI 256) dX6_ground_61 (by decide) ?_
              refine x_icmpgeN O 94 (by omega) (by omega) dX6_ground_64 (by decide) (fun c64 => ?_) (fun c64 => ?_)
              · refine x_sub [1] (L' := [(0, .ref (adr 0))]) rfl ?_
                obtain rfl : cc_ = 0 := by omega
                exact K_ _ rfl
              · refine x_iload O 0 dX6_ground_67 rfl ?_
                refine x_iload_n O 2 dX6_ground_69 rfl rfl ?_
                refine x_iload_n O 3 dX6_ground_70 rfl rfl ?_
                refine x_cS O 3 (c_m_isIn (nI i4_59) a b) (lw_S q1778 q1779 q111 q1780) hd_X6_isInArea rfl (by rw [RF]; rfl) (by rw [RL]; rfl) ⟨Nat.zero_le _, Nat.zero_le _⟩ rfl rfl dX6_ground_71 ?_
                have J12 : ∀ (mu3 : Mu), mu3 = (if m_isIn (nI i4_59) a b = true then (mset mu_59 1 (13 + i4_59) ht) else mu_59) → X G F R Q 5 88 [(4, .int (nI i4_59)), (0, .ref (adr 0)), (1, .int a), (2, .int b), (3, .int ht)] [] (MS G adr h0 mu3) 0 0 := by
                  intro mu3 e13
                  subst e13
                  refine x_iincN O 0 [(4, .int (nI (i4_59 + 1))), (0, .ref (adr 0)), (1, .int a), (2, .int b), (3, .int ht)] dX6_ground_88 rfl rfl rfl ?_
                  refine x_goto O 59 dX6_ground_91 (by decide) ?_
                  obtain ⟨c2_, rfl⟩ : ∃ z, cc_ = z + 1 := ⟨cc_ - 1, by omega⟩
                  have hs_ : (fun i s => m_ground_b59 a b ht i s) i4_59 mu_59 = (if m_isIn (nI i4_59) a b = true then (mset mu_59 1 (13 + i4_59) ht) else mu_59) := by show m_ground_b59 a b ht i4_59 mu_59 = _; unfold m_ground_b59; rfl
                  exact IH_ c2_ (by omega) _ _ (by omega) (by omega) (fun y0 hy_ => K_ y0 (hy_.trans (fr_step hs_).symm))
                refine x_ifeqB O 88 dX6_ground_74 (by decide) (fun c74 => ?_) (fun c74 => ?_)
                · exact J12 mu_59 (by rw [if_neg c74])
                · refine x_aload_n O 1 dX6_ground_77 rfl rfl ?_
                  refine x_mget O k_X6_13_6 (mg_1 _ _) dX6_ground_78 ?_
                  refine x_bipush O (nI 13) dX6_ground_81 (by decide) ?_
                  refine x_iload O 0 dX6_ground_83 rfl ?_
                  refine x_iaddN O dX6_ground_85 ?_
                  refine x_iload_n O 4 dX6_ground_86 rfl rfl ?_
                  refine x_mast O 0 MS.c1 rfl rfl rfl (by omega) rfl dX6_ground_87 ?_
                  exact J12 ((mset mu_59 1 (13 + i4_59) ht)) (by rw [if_pos c74])
          refine LOOP59 256 0 ((mset μ 0 0 (nI 0))) rfl (by omega) (fun y0 hy_59 => ?_)
          subst hy_59
          exact x_vretQ O hQ rfl dX6_ground_94 (fun h m => ⟨rfl, by rw [hr11]; exact m⟩)
      refine x_ifneB O 47 dX6_ground_40 (by decide) (fun c40 => ?_) (fun c40 => ?_)
      · refine x_iconst O (nI 0) dX6_ground_47 (by decide) ?_
        refine x_top (v' := b2i false) (by decide) ?_
        exact J8 false (by rw [if_pos c40])
      · refine x_iconst O (nI 1) dX6_ground_43 (by decide) ?_
        refine x_goto O 48 dX6_ground_44 (by decide) ?_
        refine x_top (v' := b2i true) (by decide) ?_
        exact J8 true (by rw [if_neg c40])
  refine x_ifneB O 20 dX6_ground_10 (by decide) (fun c10 => ?_) (fun c10 => ?_)
  · refine x_iconst O (nI 1) dX6_ground_20 (by decide) ?_
    refine x_goto O 25 dX6_ground_21 (by decide) ?_
    refine x_top (v' := b2i true) (by decide) ?_
    exact J4 true (by rw [if_pos c10])
  · refine x_iload_n O 2 dX6_ground_13 rfl rfl ?_
    refine x_cS O 1 (c_m_noCell b) (lw_S q1768 q1769 q111 q1770) hd_X6_noCell rfl (by rw [RF]; rfl) (by rw [RL]; rfl) ⟨Nat.zero_le _, Nat.zero_le _⟩ rfl rfl dX6_ground_14 ?_
    refine x_ifeqB O 24 dX6_ground_17 (by decide) (fun c17 => ?_) (fun c17 => ?_)
    · refine x_iconst O (nI 0) dX6_ground_24 (by decide) ?_
      refine x_top (v' := b2i false) (by decide) ?_
      exact J4 false (by rw [if_neg c10, if_neg c17])
    · refine x_iconst O (nI 1) dX6_ground_20 (by decide) ?_
      refine x_goto O 25 dX6_ground_21 (by decide) ?_
      refine x_top (v' := b2i true) (by decide) ?_
      exact J4 true (by rw [if_neg c10, if_pos c17])

def m_gun (W : Nat → Int32) (side : Int32) (mark : Int32) (year : Int32) (rounds : Int32) : Int32 :=
  (if (if m_in side (nI 0) (nI 1) = true then (if m_in mark (nI 0) (nI 15) = true then (if m_noYear year = true then true else (if m_in rounds (nI 0) (nI 40) = true then false else true)) else true) else true) = true then nI 0 else (if (if tn (W 0) = 8 then true else false) = true then nI 0 else (nI (tn (W 0) + 1)) - (nI 1)))
def m_gun_s (μ : Mu) (side : Int32) (mark : Int32) (year : Int32) (rounds : Int32) : Mu :=
  (if (if m_in side (nI 0) (nI 1) = true then (if m_in mark (nI 0) (nI 15) = true then (if m_noYear year = true then true else (if m_in rounds (nI 0) (nI 40) = true then false else true)) else true) else true) = true then (mset (mset μ 0 0 (nI 0)) 0 0 (nI 1)) else (if (if tn (μ 1 0) = 8 then true else false) = true then (mset (mset μ 0 0 (nI 0)) 0 0 (nI 2)) else (mset (mset (mset (mset (mset (mset μ 0 0 (nI 0)) 1 (269 + 4 * tn (μ 1 0)) side) 1 (269 + 4 * tn (μ 1 0) + 1) mark) 1 (269 + 4 * tn (μ 1 0) + 2) year) 1 (269 + 4 * tn (μ 1 0) + 3) rounds) 1 0 (nI (tn (μ 1 0) + 1)))))
set_option maxHeartbeats 4000000 in
set_option maxRecDepth 100000 in
theorem c_m_gun {G : UG} {adr : Nat → Nat} {h0 : Hp} {μ : Mu} (hI : MI (μ 1)) (side : Int32) (mark : Int32) (year : Int32) (rounds : Int32)  : Con G yX6_gun cX6_gun 6 (some .int) 2 42 0 0 [.ref (adr 0), .int side, .int mark, .int year, .int rounds] (MS G adr h0 μ) (fun vr_ h' => vr_ = some (.int (m_gun (μ 1) side mark year rounds)) ∧ MS G adr h0 (m_gun_s μ side mark year rounds) h') nX := by
  refine con_of2 (plainFor_of_name (by decide)) rfl ?_
  intro F R Q RF RL RC RS hQ O hnh hnm
  obtain ⟨res, hres⟩ : ∃ z, z = (m_gun (μ 1) side mark year rounds) := ⟨_, rfl⟩
  rw [← hres] at hQ
  unfold m_gun at hres
  obtain ⟨resm, hresm⟩ : ∃ z, z = m_gun_s μ side mark year rounds := ⟨_, rfl⟩
  rw [← hresm] at hQ
  unfold m_gun_s at hresm
  have hb0 : tn (μ 1 0) ≤ 8 := (hI 0 (by decide)).2
  refine x_eq (L' := [(0, .ref (adr 0)), (1, .int side), (2, .int mark), (3, .int year), (4, .int rounds)]) ?_ rfl rfl rfl
  refine x_aload_n O 0 dX6_gun_0 rfl rfl ?_
  refine x_iconst O (nI 0) dX6_gun_1 (by decide) ?_
  refine x_mput O p_X6_3_6 (mp_0 _ _ _) rfl dX6_gun_2 ?_
  refine x_aload_n O 0 dX6_gun_5 rfl rfl ?_
  refine x_iload_n O 1 dX6_gun_6 rfl rfl ?_
  refine x_iconst O (nI 0) dX6_gun_7 (by decide) ?_
  refine x_iconst O (nI 1) dX6_gun_8 (by decide) ?_
  refine x_cS O 3 (c_m_in side (nI 0) (nI 1)) (lw_S q1771 q1772 q111 q1773) hd_X6_in rfl (by rw [RF]; rfl) (by rw [RL]; rfl) ⟨Nat.zero_le _, Nat.zero_le _⟩ rfl rfl dX6_gun_9 ?_
  have J3 : ∀ (y1 : Bool), y1 = (if m_in side (nI 0) (nI 1) = true then (if m_in mark (nI 0) (nI 15) = true then (if m_noYear year = true then true else (if m_in rounds (nI 0) (nI 40) = true then false else true)) else true) else true) → X G F R Q 6 48 [(0, .ref (adr 0)), (1, .int side), (2, .int mark), (3, .int year), (4, .int rounds)] [.int (b2i y1), .ref (adr 0)] (MS G adr h0 ((mset μ 0 0 (nI 0)))) 0 0 := by
    intro y1 e4
    subst e4
    refine x_iconst O (nI 1) dX6_gun_48 (by decide) ?_
    refine x_bc ((if m_in side (nI 0) (nI 1) = true then (if m_in mark (nI 0) (nI 15) = true then (if m_noYear year = true then true else (if m_in rounds (nI 0) (nI 40) = true then false else true)) else true) else true)) (fun c49 => ?_) (fun c49 => ?_)
    · have hr5 := hres.trans (if_pos c49)
      have hr6 := hresm.trans (if_pos c49)
      refine x_eq (st' := [.int (nI 1), .int (b2i true), .ref (adr 0)]) ?_ rfl rfl (by rw [c49] <;> rfl)
      refine x_cV O 2 (c_m_throwsIf_t (μ := (mset μ 0 0 (nI 0))) 1) MS.obj uc6 (lw_V q1774 q1776 qs34 q111 q1777) rfl hd_X6_throwsIf rfl (by rw [RF]; rfl) (by rw [RL]; rfl) ⟨Nat.zero_le _, Nat.zero_le _⟩ rfl rfl dX6_gun_49 ?_
      refine x_top (v' := b2i true) rfl ?_
      refine x_ifneB O 79 dX6_gun_52 (by decide) (fun _ => ?_) (fun c => absurd rfl c)
      refine x_sub [0] (L' := [(0, .ref (adr 0))]) rfl ?_
      refine x_iconst O (nI 0) dX6_gun_79 (by decide) ?_
      exact x_iretQ O hQ rfl dX6_gun_80 (fun h m => ⟨by rw [hr5], by rw [hr6]; exact m⟩)
    · have hr7 := hres.trans (if_neg c49)
      have hr8 := hresm.trans (if_neg c49)
      refine x_eq (st' := [.int (nI 1), .int (b2i false), .ref (adr 0)]) ?_ rfl rfl (by rw [bfalse c49] <;> rfl)
      refine x_cV O 2 (c_m_throwsIf_f (μ := (mset μ 0 0 (nI 0))) 1) MS.obj uc6 (lw_V q1774 q1776 qs34 q111 q1777) rfl hd_X6_throwsIf rfl (by rw [RF]; rfl) (by rw [RL]; rfl) ⟨Nat.zero_le _, Nat.zero_le _⟩ rfl rfl dX6_gun_49 ?_
      refine x_top (v' := b2i false) rfl ?_
      refine x_ifneB O 79 dX6_gun_52 (by decide) (fun c => absurd c (by decide)) (fun _ => ?_)
      refine x_aload_n O 0 dX6_gun_55 rfl rfl ?_
      refine x_aload_n O 0 dX6_gun_56 rfl rfl ?_
      refine x_mget O k_X6_13_6 (mg_1 _ _) dX6_gun_57 ?_
      refine x_iconst O (nI 0) dX6_gun_60 (by decide) ?_
      refine x_ialdN O MS.c1 (by omega) rfl dX6_gun_61 ?_
      refine x_top (v' := μ 1 0) (rd_oth (by decide)) ?_
      refine x_top (v' := nI (tn (μ 1 0))) ((hI 0 (by decide)).1) ?_
      refine x_bipush O (nI 8) dX6_gun_62 (by decide) ?_
      have J9 : ∀ (y2 : Bool), y2 = (if tn (μ 1 0) = 8 then true else false) → X G F R Q 6 72 [(0, .ref (adr 0)), (1, .int side), (2, .int mark), (3, .int year), (4, .int rounds)] [.int (b2i y2), .ref (adr 0)] (MS G adr h0 ((mset μ 0 0 (nI 0)))) 0 0 := by
        intro y2 e10
        subst e10
        refine x_iconst O (nI 2) dX6_gun_72 (by decide) ?_
        refine x_bc ((if tn (μ 1 0) = 8 then true else false)) (fun c73 => ?_) (fun c73 => ?_)
        · have hr11 := hr7.trans (if_pos c73)
          have hr12 := hr8.trans (if_pos c73)
          refine x_eq (st' := [.int (nI 2), .int (b2i true), .ref (adr 0)]) ?_ rfl rfl (by rw [c73] <;> rfl)
          refine x_cV O 2 (c_m_throwsIf_t (μ := (mset μ 0 0 (nI 0))) 2) MS.obj uc6 (lw_V q1774 q1776 qs34 q111 q1777) rfl hd_X6_throwsIf rfl (by rw [RF]; rfl) (by rw [RL]; rfl) ⟨Nat.zero_le _, Nat.zero_le _⟩ rfl rfl dX6_gun_73 ?_
          refine x_top (v' := b2i true) rfl ?_
          refine x_ifeqB O 81 dX6_gun_76 (by decide) (fun c => absurd rfl c) (fun _ => ?_)
          refine x_sub [0] (L' := [(0, .ref (adr 0))]) rfl ?_
          refine x_iconst O (nI 0) dX6_gun_79 (by decide) ?_
          exact x_iretQ O hQ rfl dX6_gun_80 (fun h m => ⟨by rw [hr11], by rw [hr12]; exact m⟩)
        · have hr13 := hr7.trans (if_neg c73)
          have hr14 := hr8.trans (if_neg c73)
          refine x_eq (st' := [.int (nI 2), .int (b2i false), .ref (adr 0)]) ?_ rfl rfl (by rw [bfalse c73] <;> rfl)
          refine x_cV O 2 (c_m_throwsIf_f (μ := (mset μ 0 0 (nI 0))) 2) MS.obj uc6 (lw_V q1774 q1776 qs34 q111 q1777) rfl hd_X6_throwsIf rfl (by rw [RF]; rfl) (by rw [RL]; rfl) ⟨Nat.zero_le _, Nat.zero_le _⟩ rfl rfl dX6_gun_73 ?_
          refine x_top (v' := b2i false) rfl ?_
          refine x_ifeqB O 81 dX6_gun_76 (by decide) (fun _ => ?_) (fun c => absurd c (by decide))
          refine x_sipush O (nI 269) dX6_gun_81 (by decide) ?_
          refine x_iconst O (nI 4) dX6_gun_84 (by decide) ?_
          refine x_aload_n O 0 dX6_gun_85 rfl rfl ?_
          refine x_mget O k_X6_13_6 (mg_1 _ _) dX6_gun_86 ?_
          refine x_iconst O (nI 0) dX6_gun_89 (by decide) ?_
          refine x_ialdN O MS.c1 (by omega) rfl dX6_gun_90 ?_
          refine x_top (v' := μ 1 0) (rd_oth (by decide)) ?_
          refine x_top (v' := nI (tn (μ 1 0))) ((hI 0 (by decide)).1) ?_
          refine x_imulN O dX6_gun_91 ?_
          refine x_iaddN O dX6_gun_92 ?_
          refine x_istore O [(5, .int (nI (269 + 4 * tn (μ 1 0)))), (0, .ref (adr 0)), (1, .int side), (2, .int mark), (3, .int year), (4, .int rounds)] dX6_gun_93 rfl rfl ?_
          refine x_aload_n O 1 dX6_gun_95 rfl rfl ?_
          refine x_mget O k_X6_13_6 (mg_1 _ _) dX6_gun_96 ?_
          refine x_iload O 0 dX6_gun_99 rfl ?_
          refine x_iload_n O 2 dX6_gun_101 rfl rfl ?_
          refine x_mast O 0 MS.c1 rfl rfl rfl (by omega) rfl dX6_gun_102 ?_
          refine x_aload_n O 1 dX6_gun_103 rfl rfl ?_
          refine x_mget O k_X6_13_6 (mg_1 _ _) dX6_gun_104 ?_
          refine x_iload O 0 dX6_gun_107 rfl ?_
          refine x_iconst O (nI 1) dX6_gun_109 (by decide) ?_
          refine x_iaddN O dX6_gun_110 ?_
          refine x_iload_n O 3 dX6_gun_111 rfl rfl ?_
          refine x_mast O 0 MS.c1 rfl rfl rfl (by omega) rfl dX6_gun_112 ?_
          refine x_aload_n O 1 dX6_gun_113 rfl rfl ?_
          refine x_mget O k_X6_13_6 (mg_1 _ _) dX6_gun_114 ?_
          refine x_iload O 0 dX6_gun_117 rfl ?_
          refine x_iconst O (nI 2) dX6_gun_119 (by decide) ?_
          refine x_iaddN O dX6_gun_120 ?_
          refine x_iload_n O 4 dX6_gun_121 rfl rfl ?_
          refine x_mast O 0 MS.c1 rfl rfl rfl (by omega) rfl dX6_gun_122 ?_
          refine x_aload_n O 1 dX6_gun_123 rfl rfl ?_
          refine x_mget O k_X6_13_6 (mg_1 _ _) dX6_gun_124 ?_
          refine x_iload O 0 dX6_gun_127 rfl ?_
          refine x_iconst O (nI 3) dX6_gun_129 (by decide) ?_
          refine x_iaddN O dX6_gun_130 ?_
          refine x_iload O 5 dX6_gun_131 rfl ?_
          refine x_mast O 0 MS.c1 rfl rfl rfl (by omega) rfl dX6_gun_133 ?_
          refine x_aload_n O 1 dX6_gun_134 rfl rfl ?_
          refine x_mget O k_X6_13_6 (mg_1 _ _) dX6_gun_135 ?_
          refine x_iconst O (nI 0) dX6_gun_138 (by decide) ?_
          refine x_dup2 O dX6_gun_139 rfl rfl ?_
          refine x_ialdN O MS.c1 (by omega) rfl dX6_gun_140 ?_
          refine x_top (v' := μ 1 0) ((rd_skip (by omega)).trans ((rd_skip (by omega)).trans ((rd_skip (by omega)).trans ((rd_skip (by omega)).trans (rd_oth (by decide)))))) ?_
          refine x_top (v' := nI (tn (μ 1 0))) ((hI 0 (by decide)).1) ?_
          refine x_iconst O (nI 1) dX6_gun_141 (by decide) ?_
          refine x_iaddN O dX6_gun_142 ?_
          refine x_mast O 0 MS.c1 rfl rfl rfl (by omega) rfl dX6_gun_143 ?_
          refine x_aload_n O 1 dX6_gun_144 rfl rfl ?_
          refine x_mget O k_X6_13_6 (mg_1 _ _) dX6_gun_145 ?_
          refine x_iconst O (nI 0) dX6_gun_148 (by decide) ?_
          refine x_ialdN O MS.c1 (by omega) rfl dX6_gun_149 ?_
          refine x_top (v' := nI (tn (μ 1 0) + 1)) rd_hit ?_
          refine x_iconst O (nI 1) dX6_gun_150 (by decide) ?_
          refine x_isub O dX6_gun_151 ?_
          exact x_iretQ O hQ rfl dX6_gun_152 (fun h m => ⟨by rw [hr13], by rw [hr14]; exact m⟩)
      refine x_icmpneN O 71 (by omega) (by omega) dX6_gun_64 (by decide) (fun c64 => ?_) (fun c64 => ?_)
      · refine x_iconst O (nI 0) dX6_gun_71 (by decide) ?_
        refine x_top (v' := b2i false) (by decide) ?_
        exact J9 false (by rw [if_neg c64])
      · refine x_iconst O (nI 1) dX6_gun_67 (by decide) ?_
        refine x_goto O 72 dX6_gun_68 (by decide) ?_
        refine x_top (v' := b2i true) (by decide) ?_
        exact J9 true (by rw [if_pos c64])
  refine x_ifeqB O 43 dX6_gun_12 (by decide) (fun c12 => ?_) (fun c12 => ?_)
  · refine x_iconst O (nI 1) dX6_gun_43 (by decide) ?_
    refine x_goto O 48 dX6_gun_44 (by decide) ?_
    refine x_top (v' := b2i true) (by decide) ?_
    exact J3 true (by rw [if_neg c12])
  · refine x_iload_n O 2 dX6_gun_15 rfl rfl ?_
    refine x_iconst O (nI 0) dX6_gun_16 (by decide) ?_
    refine x_bipush O (nI 15) dX6_gun_17 (by decide) ?_
    refine x_cS O 3 (c_m_in mark (nI 0) (nI 15)) (lw_S q1771 q1772 q111 q1773) hd_X6_in rfl (by rw [RF]; rfl) (by rw [RL]; rfl) ⟨Nat.zero_le _, Nat.zero_le _⟩ rfl rfl dX6_gun_19 ?_
    refine x_ifeqB O 43 dX6_gun_22 (by decide) (fun c22 => ?_) (fun c22 => ?_)
    · refine x_iconst O (nI 1) dX6_gun_43 (by decide) ?_
      refine x_goto O 48 dX6_gun_44 (by decide) ?_
      refine x_top (v' := b2i true) (by decide) ?_
      exact J3 true (by rw [if_pos c12, if_neg c22])
    · refine x_iload_n O 3 dX6_gun_25 rfl rfl ?_
      refine x_cS O 1 (c_m_noYear year) (lw_S q1807 q1808 q111 q1809) hd_X6_noYear rfl (by rw [RF]; rfl) (by rw [RL]; rfl) ⟨Nat.zero_le _, Nat.zero_le _⟩ rfl rfl dX6_gun_26 ?_
      refine x_ifneB O 43 dX6_gun_29 (by decide) (fun c29 => ?_) (fun c29 => ?_)
      · refine x_iconst O (nI 1) dX6_gun_43 (by decide) ?_
        refine x_goto O 48 dX6_gun_44 (by decide) ?_
        refine x_top (v' := b2i true) (by decide) ?_
        exact J3 true (by rw [if_pos c12, if_pos c22, if_pos c29])
      · refine x_iload O 4 dX6_gun_32 rfl ?_
        refine x_iconst O (nI 0) dX6_gun_34 (by decide) ?_
        refine x_bipush O (nI 40) dX6_gun_35 (by decide) ?_
        refine x_cS O 3 (c_m_in rounds (nI 0) (nI 40)) (lw_S q1771 q1772 q111 q1773) hd_X6_in rfl (by rw [RF]; rfl) (by rw [RL]; rfl) ⟨Nat.zero_le _, Nat.zero_le _⟩ rfl rfl dX6_gun_37 ?_
        refine x_ifneB O 47 dX6_gun_40 (by decide) (fun c40 => ?_) (fun c40 => ?_)
        · refine x_iconst O (nI 0) dX6_gun_47 (by decide) ?_
          refine x_top (v' := b2i false) (by decide) ?_
          exact J3 false (by rw [if_pos c12, if_pos c22, if_neg c29, if_pos c40])
        · refine x_iconst O (nI 1) dX6_gun_43 (by decide) ?_
          refine x_goto O 48 dX6_gun_44 (by decide) ?_
          refine x_top (v' := b2i true) (by decide) ?_
          exact J3 true (by rw [if_pos c12, if_pos c22, if_neg c29, if_neg c40])

def m_day_s (μ : Mu) (y : Int32) : Mu :=
  (if m_noYear y = true then (mset (mset μ 0 0 (nI 0)) 0 0 (nI 1)) else (mset (mset μ 0 0 (nI 0)) 1 8 y))
set_option maxHeartbeats 4000000 in
set_option maxRecDepth 100000 in
theorem c_m_day {G : UG} {adr : Nat → Nat} {h0 : Hp} {μ : Mu}  (y : Int32)  : Con G yX6_day cX6_day 2 none 2 42 0 0 [.ref (adr 0), .int y] (MS G adr h0 μ) (fun vr_ h' => vr_ = none ∧ MS G adr h0 (m_day_s μ y) h') nX := by
  refine con_of2 (plainFor_of_name (by decide)) rfl ?_
  intro F R Q RF RL RC RS hQ O hnh hnm
  obtain ⟨resm, hresm⟩ : ∃ z, z = m_day_s μ y := ⟨_, rfl⟩
  rw [← hresm] at hQ
  unfold m_day_s at hresm
  refine x_eq (L' := [(0, .ref (adr 0)), (1, .int y)]) ?_ rfl rfl rfl
  refine x_aload_n O 0 dX6_day_0 rfl rfl ?_
  refine x_iconst O (nI 0) dX6_day_1 (by decide) ?_
  refine x_mput O p_X6_3_6 (mp_0 _ _ _) rfl dX6_day_2 ?_
  refine x_aload_n O 0 dX6_day_5 rfl rfl ?_
  refine x_iload_n O 1 dX6_day_6 rfl rfl ?_
  refine x_cS O 1 (c_m_noYear y) (lw_S q1807 q1808 q111 q1809) hd_X6_noYear rfl (by rw [RF]; rfl) (by rw [RL]; rfl) ⟨Nat.zero_le _, Nat.zero_le _⟩ rfl rfl dX6_day_7 ?_
  refine x_iconst O (nI 1) dX6_day_10 (by decide) ?_
  refine x_bc (m_noYear y) (fun c11 => ?_) (fun c11 => ?_)
  · have hr1 := hresm.trans (if_pos c11)
    refine x_eq (st' := [.int (nI 1), .int (b2i true), .ref (adr 0)]) ?_ rfl rfl (by rw [c11] <;> rfl)
    refine x_cV O 2 (c_m_throwsIf_t (μ := (mset μ 0 0 (nI 0))) 1) MS.obj uc6 (lw_V q1774 q1776 qs34 q111 q1777) rfl hd_X6_throwsIf rfl (by rw [RF]; rfl) (by rw [RL]; rfl) ⟨Nat.zero_le _, Nat.zero_le _⟩ rfl rfl dX6_day_11 ?_
    refine x_top (v' := b2i true) rfl ?_
    refine x_ifeqB O 18 dX6_day_14 (by decide) (fun c => absurd rfl c) (fun _ => ?_)
    refine x_sub [0] (L' := [(0, .ref (adr 0))]) rfl ?_
    exact x_vretQ O hQ rfl dX6_day_17 (fun h m => ⟨rfl, by rw [hr1]; exact m⟩)
  · have hr2 := hresm.trans (if_neg c11)
    refine x_eq (st' := [.int (nI 1), .int (b2i false), .ref (adr 0)]) ?_ rfl rfl (by rw [bfalse c11] <;> rfl)
    refine x_cV O 2 (c_m_throwsIf_f (μ := (mset μ 0 0 (nI 0))) 1) MS.obj uc6 (lw_V q1774 q1776 qs34 q111 q1777) rfl hd_X6_throwsIf rfl (by rw [RF]; rfl) (by rw [RL]; rfl) ⟨Nat.zero_le _, Nat.zero_le _⟩ rfl rfl dX6_day_11 ?_
    refine x_top (v' := b2i false) rfl ?_
    refine x_ifeqB O 18 dX6_day_14 (by decide) (fun _ => ?_) (fun c => absurd c (by decide))
    refine x_aload_n O 0 dX6_day_18 rfl rfl ?_
    refine x_mget O k_X6_13_6 (mg_1 _ _) dX6_day_19 ?_
    refine x_bipush O (nI 8) dX6_day_22 (by decide) ?_
    refine x_iload_n O 1 dX6_day_24 rfl rfl ?_
    refine x_mast O 0 MS.c1 rfl rfl rfl (by omega) rfl dX6_day_25 ?_
    exact x_vretQ O hQ rfl dX6_day_26 (fun h m => ⟨rfl, by rw [hr2]; exact m⟩)

def m_seed_s (μ : Mu) (n : Int32) : Mu :=
  (mset (mset μ 0 0 (nI 0)) 1 9 n)
set_option maxHeartbeats 4000000 in
set_option maxRecDepth 100000 in
theorem c_m_seed {G : UG} {adr : Nat → Nat} {h0 : Hp} {μ : Mu}  (n : Int32)  : Con G yX6_seed cX6_seed 2 none 0 0 0 0 [.ref (adr 0), .int n] (MS G adr h0 μ) (fun vr_ h' => vr_ = none ∧ MS G adr h0 (m_seed_s μ n) h') nX := by
  refine con_of2 (plainFor_of_name (by decide)) rfl ?_
  intro F R Q RF RL RC RS hQ O hnh hnm
  obtain ⟨resm, hresm⟩ : ∃ z, z = m_seed_s μ n := ⟨_, rfl⟩
  rw [← hresm] at hQ
  unfold m_seed_s at hresm
  refine x_eq (L' := [(0, .ref (adr 0)), (1, .int n)]) ?_ rfl rfl rfl
  refine x_aload_n O 0 dX6_seed_0 rfl rfl ?_
  refine x_iconst O (nI 0) dX6_seed_1 (by decide) ?_
  refine x_mput O p_X6_3_6 (mp_0 _ _ _) rfl dX6_seed_2 ?_
  refine x_aload_n O 0 dX6_seed_5 rfl rfl ?_
  refine x_mget O k_X6_13_6 (mg_1 _ _) dX6_seed_6 ?_
  refine x_bipush O (nI 9) dX6_seed_9 (by decide) ?_
  refine x_iload_n O 1 dX6_seed_11 rfl rfl ?_
  refine x_mast O 0 MS.c1 rfl rfl rfl (by omega) rfl dX6_seed_12 ?_
  exact x_vretQ O hQ rfl dX6_seed_13 (fun h m => ⟨rfl, by rw [hresm]; exact m⟩)

def m_fault (μ : Mu) : Int32 :=
  μ 0 10
def m_fault_s (μ : Mu) : Mu :=
  (mset μ 0 0 (nI 0))
set_option maxHeartbeats 4000000 in
set_option maxRecDepth 100000 in
theorem c_m_fault {G : UG} {adr : Nat → Nat} {h0 : Hp} {μ : Mu}    : Con G yX6_fault cX6_fault 1 (some .int) 0 0 0 0 [.ref (adr 0)] (MS G adr h0 μ) (fun vr_ h' => vr_ = some (.int (m_fault μ)) ∧ MS G adr h0 (m_fault_s μ) h') nX := by
  refine con_of2 (plainFor_of_name (by decide)) rfl ?_
  intro F R Q RF RL RC RS hQ O hnh hnm
  obtain ⟨res, hres⟩ : ∃ z, z = (m_fault μ) := ⟨_, rfl⟩
  rw [← hres] at hQ
  unfold m_fault at hres
  obtain ⟨resm, hresm⟩ : ∃ z, z = m_fault_s μ := ⟨_, rfl⟩
  rw [← hresm] at hQ
  unfold m_fault_s at hresm
  refine x_eq (L' := [(0, .ref (adr 0))]) ?_ rfl rfl rfl
  refine x_aload_n O 0 dX6_fault_0 rfl rfl ?_
  refine x_iconst O (nI 0) dX6_fault_1 (by decide) ?_
  refine x_mput O p_X6_3_6 (mp_0 _ _ _) rfl dX6_fault_2 ?_
  refine x_aload_n O 0 dX6_fault_5 rfl rfl ?_
  refine x_mget O k_X6_24_6 (mg_10 _ _) dX6_fault_6 ?_
  refine x_top (v' := μ 0 10) (rd_skip (by decide)) ?_
  exact x_iretQ O hQ rfl dX6_fault_9 (fun h m => ⟨by rw [hres], by rw [hresm]; exact m⟩)

def m_image_b7  (i1_7 : Nat) (mu_7 : Mu) : Mu :=
  (mset mu_7 2 i1_7 (mu_7 1 i1_7))
def m_image_s (μ : Mu) : Mu :=
  (mset (fr (fun i s => m_image_b7 i s) 8645 0 (mset μ 0 0 (nI 0))) 0 3 (b2i true))
set_option maxHeartbeats 4000000 in
set_option maxRecDepth 100000 in
theorem c_m_image {G : UG} {adr : Nat → Nat} {h0 : Hp} {μ : Mu}    : Con G yX6_image cX6_image 2 none 0 0 0 0 [.ref (adr 0)] (MS G adr h0 μ) (fun vr_ h' => vr_ = none ∧ MS G adr h0 (m_image_s μ) h') nX := by
  refine con_of2 (plainFor_of_name (by decide)) rfl ?_
  intro F R Q RF RL RC RS hQ O hnh hnm
  obtain ⟨resm, hresm⟩ : ∃ z, z = m_image_s μ := ⟨_, rfl⟩
  rw [← hresm] at hQ
  unfold m_image_s at hresm
  refine x_eq (L' := [(0, .ref (adr 0))]) ?_ rfl rfl rfl
  refine x_aload_n O 0 dX6_image_0 rfl rfl ?_
  refine x_iconst O (nI 0) dX6_image_1 (by decide) ?_
  refine x_mput O p_X6_3_6 (mp_0 _ _ _) rfl dX6_image_2 ?_
  refine x_iconst O (nI 0) dX6_image_5 (by decide) ?_
  refine x_istore_n O [(1, .int (nI 0)), (0, .ref (adr 0))] dX6_image_6 rfl rfl rfl ?_
  have LOOP7 : ∀ (cc_ : Nat) (i1_7 : Nat) (mu_7 : Mu), cc_ = 8645 - i1_7 → i1_7 < 2147483648 → (∀ (y0 : Mu), y0 = fr (fun i s => m_image_b7 i s) cc_ i1_7 mu_7 → X G F R Q 2 32 [(0, .ref (adr 0))] [] (MS G adr h0 y0) 0 0) → X G F R Q 2 7 [(1, .int (nI i1_7)), (0, .ref (adr 0))] [] (MS G adr h0 mu_7) 0 0 := by
    intro cc_
    induction cc_ using Nat.strongRecOn with
    | ind cc_ IH_ =>
      intro i1_7 mu_7 hc_ hb_  K_
      refine x_iload_n O 0 dX6_image_7 rfl rfl ?_
      refine x_sipush O (nI 8645) dX6_image_8 (by decide) ?_
      refine x_icmpgeN O 32 (by omega) (by omega) dX6_image_11 (by decide) (fun c11 => ?_) (fun c11 => ?_)
      · refine x_sub [1] (L' := [(0, .ref (adr 0))]) rfl ?_
        obtain rfl : cc_ = 0 := by omega
        exact K_ _ rfl
      · refine x_aload_n O 1 dX6_image_14 rfl rfl ?_
        refine x_mget O k_X6_17_6 (mg_2 _ _) dX6_image_15 ?_
        refine x_iload_n O 0 dX6_image_18 rfl rfl ?_
        refine x_aload_n O 1 dX6_image_19 rfl rfl ?_
        refine x_mget O k_X6_13_6 (mg_1 _ _) dX6_image_20 ?_
        refine x_iload_n O 0 dX6_image_23 rfl rfl ?_
        refine x_ialdN O MS.c1 (by omega) rfl dX6_image_24 ?_
        refine x_mast O 1 MS.c2 rfl rfl rfl (by omega) rfl dX6_image_25 ?_
        refine x_iincN O 0 [(1, .int (nI (i1_7 + 1))), (0, .ref (adr 0))] dX6_image_26 rfl rfl rfl ?_
        refine x_goto O 7 dX6_image_29 (by decide) ?_
        obtain ⟨c2_, rfl⟩ : ∃ z, cc_ = z + 1 := ⟨cc_ - 1, by omega⟩
        have hs_ : (fun i s => m_image_b7 i s) i1_7 mu_7 = (mset mu_7 2 i1_7 (mu_7 1 i1_7)) := by show m_image_b7 i1_7 mu_7 = _; unfold m_image_b7; rfl
        exact IH_ c2_ (by omega) _ _ (by omega) (by omega) (fun y0 hy_ => K_ y0 (hy_.trans (fr_step hs_).symm))
  refine LOOP7 8645 0 ((mset μ 0 0 (nI 0))) rfl (by omega) (fun y0 hy_7 => ?_)
  subst hy_7
  refine x_aload_n O 0 dX6_image_32 rfl rfl ?_
  refine x_iconst O (nI 1) dX6_image_33 (by decide) ?_
  refine x_top (v' := b2i true) (by decide) ?_
  refine x_mputB O p_X6_55_6 (mp_3 _ _ _) rfl dX6_image_34 ?_
  exact x_vretQ O hQ rfl dX6_image_37 (fun h m => ⟨rfl, by rw [hresm]; exact m⟩)

def m_back_b16  (i1_16 : Nat) (mu_16 : Mu) : Mu :=
  (mset mu_16 1 i1_16 (mu_16 2 i1_16))
def m_back (μ : Mu) : Bool :=
  (if (μ 0 3) = 0 then false else true)
def m_back_s (μ : Mu) : Mu :=
  (if (μ 0 3) = 0 then (mset μ 0 0 (nI 0)) else (fr (fun i s => m_back_b16 i s) 8645 0 (mset μ 0 0 (nI 0))))
set_option maxHeartbeats 4000000 in
set_option maxRecDepth 100000 in
theorem c_m_back {G : UG} {adr : Nat → Nat} {h0 : Hp} {μ : Mu}    : Con G yX6_back cX6_back 2 (some .boolean) 0 0 0 0 [.ref (adr 0)] (MS G adr h0 μ) (fun vr_ h' => vr_ = some (.int (b2i (m_back μ))) ∧ MS G adr h0 (m_back_s μ) h') nX := by
  refine con_of2 (plainFor_of_name (by decide)) rfl ?_
  intro F R Q RF RL RC RS hQ O hnh hnm
  obtain ⟨res, hres⟩ : ∃ z, z = (m_back μ) := ⟨_, rfl⟩
  rw [← hres] at hQ
  unfold m_back at hres
  obtain ⟨resm, hresm⟩ : ∃ z, z = m_back_s μ := ⟨_, rfl⟩
  rw [← hresm] at hQ
  unfold m_back_s at hresm
  refine x_eq (L' := [(0, .ref (adr 0))]) ?_ rfl rfl rfl
  refine x_aload_n O 0 dX6_back_0 rfl rfl ?_
  refine x_iconst O (nI 0) dX6_back_1 (by decide) ?_
  refine x_mput O p_X6_3_6 (mp_0 _ _ _) rfl dX6_back_2 ?_
  refine x_aload_n O 0 dX6_back_5 rfl rfl ?_
  refine x_mget O k_X6_55_6 (mg_3 _ _) dX6_back_6 ?_
  refine x_top (v' := μ 0 3) (rd_skip (by decide)) ?_
  refine x_ifne O 14 dX6_back_9 (by decide) (fun c9 => ?_) (fun c9 => ?_)
  · have hr1 := hres.trans (if_neg c9)
    have hr2 := hresm.trans (if_neg c9)
    refine x_iconst O (nI 0) dX6_back_14 (by decide) ?_
    refine x_istore_n O [(1, .int (nI 0)), (0, .ref (adr 0))] dX6_back_15 rfl rfl rfl ?_
    have LOOP16 : ∀ (cc_ : Nat) (i1_16 : Nat) (mu_16 : Mu), cc_ = 8645 - i1_16 → i1_16 < 2147483648 → (∀ (y0 : Mu), y0 = fr (fun i s => m_back_b16 i s) cc_ i1_16 mu_16 → X G F R Q 2 41 [(0, .ref (adr 0))] [] (MS G adr h0 y0) 0 0) → X G F R Q 2 16 [(1, .int (nI i1_16)), (0, .ref (adr 0))] [] (MS G adr h0 mu_16) 0 0 := by
      intro cc_
      induction cc_ using Nat.strongRecOn with
      | ind cc_ IH_ =>
        intro i1_16 mu_16 hc_ hb_  K_
        refine x_iload_n O 0 dX6_back_16 rfl rfl ?_
        refine x_sipush O (nI 8645) dX6_back_17 (by decide) ?_
        refine x_icmpgeN O 41 (by omega) (by omega) dX6_back_20 (by decide) (fun c20 => ?_) (fun c20 => ?_)
        · refine x_sub [1] (L' := [(0, .ref (adr 0))]) rfl ?_
          obtain rfl : cc_ = 0 := by omega
          exact K_ _ rfl
        · refine x_aload_n O 1 dX6_back_23 rfl rfl ?_
          refine x_mget O k_X6_13_6 (mg_1 _ _) dX6_back_24 ?_
          refine x_iload_n O 0 dX6_back_27 rfl rfl ?_
          refine x_aload_n O 1 dX6_back_28 rfl rfl ?_
          refine x_mget O k_X6_17_6 (mg_2 _ _) dX6_back_29 ?_
          refine x_iload_n O 0 dX6_back_32 rfl rfl ?_
          refine x_ialdN O MS.c2 (by omega) rfl dX6_back_33 ?_
          refine x_mast O 0 MS.c1 rfl rfl rfl (by omega) rfl dX6_back_34 ?_
          refine x_iincN O 0 [(1, .int (nI (i1_16 + 1))), (0, .ref (adr 0))] dX6_back_35 rfl rfl rfl ?_
          refine x_goto O 16 dX6_back_38 (by decide) ?_
          obtain ⟨c2_, rfl⟩ : ∃ z, cc_ = z + 1 := ⟨cc_ - 1, by omega⟩
          have hs_ : (fun i s => m_back_b16 i s) i1_16 mu_16 = (mset mu_16 1 i1_16 (mu_16 2 i1_16)) := by show m_back_b16 i1_16 mu_16 = _; unfold m_back_b16; rfl
          exact IH_ c2_ (by omega) _ _ (by omega) (by omega) (fun y0 hy_ => K_ y0 (hy_.trans (fr_step hs_).symm))
    refine LOOP16 8645 0 ((mset μ 0 0 (nI 0))) rfl (by omega) (fun y0 hy_16 => ?_)
    subst hy_16
    refine x_iconst O (nI 1) dX6_back_41 (by decide) ?_
    refine x_top (v' := b2i true) (by decide) ?_
    exact x_zretQ O hQ rfl dX6_back_42 (fun h m => ⟨by rw [hr1], by rw [hr2]; exact m⟩)
  · have hr3 := hres.trans (if_pos c9)
    have hr4 := hresm.trans (if_pos c9)
    refine x_iconst O (nI 0) dX6_back_12 (by decide) ?_
    refine x_top (v' := b2i false) (by decide) ?_
    exact x_zretQ O hQ rfl dX6_back_13 (fun h m => ⟨by rw [hr3], by rw [hr4]; exact m⟩)

def m_roundsOf (W : Nat → Int32) (p : Nat) : Int32 :=
  (if 0 ≤ (m_of W p 0) then W (269 + 4 * tn (m_of W p 0) + 3) else nI 0)
set_option maxHeartbeats 4000000 in
set_option maxRecDepth 100000 in
theorem c_m_roundsOf {G : UG} {adr : Nat → Nat} {h0 : Hp} {μ : Mu} (hJ : MJ (μ 1)) (p : Nat) (hp : p < 8) : Con G yX6_roundsOf cX6_roundsOf 2 (some .int) 1 22 0 0 [.ref (adr 0), .int (nI p)] (MS G adr h0 μ) (fun vr_ h' => vr_ = some (.int (m_roundsOf (μ 1) p)) ∧ MS G adr h0 μ h') nX := by
  refine con_of2 (plainFor_of_name (by decide)) rfl ?_
  intro F R Q RF RL RC RS hQ O hnh hnm
  obtain ⟨res, hres⟩ : ∃ z, z = (m_roundsOf (μ 1) p) := ⟨_, rfl⟩
  rw [← hres] at hQ
  unfold m_roundsOf at hres
  have hI := hJ.1
  have hb0 : tn (μ 1 0) ≤ 8 := (hI 0 (by decide)).2
  have hg := (hJ.2.1 p hp).1
  refine x_eq (L' := [(0, .ref (adr 0)), (1, .int (nI p))]) ?_ rfl rfl rfl
  refine x_aload_n O 0 dX6_roundsOf_0 rfl rfl ?_
  refine x_iload_n O 1 dX6_roundsOf_1 rfl rfl ?_
  refine x_iconst O (nI 0) dX6_roundsOf_2 (by decide) ?_
  refine x_cV O 2 (c_m_of (μ := μ) p 0 (by omega) (by omega)) MS.obj uc6 (lw_V q1968 q1970 qs60 q111 q1971) rfl hd_X6_of rfl (by rw [RF]; rfl) (by rw [RL]; rfl) ⟨Nat.zero_le _, Nat.zero_le _⟩ rfl rfl dX6_roundsOf_3 ?_
  have J2 : ∀ (y1 : Int32), y1 = (if 0 ≤ (m_of (μ 1) p 0) then μ 1 (269 + 4 * tn (m_of (μ 1) p 0) + 3) else nI 0) → X G F R Q 2 32 [(0, .ref (adr 0))] [.int y1] (MS G adr h0 μ) 0 0 := by
    intro y1 e3
    subst e3
    exact x_iretQ O hQ rfl dX6_roundsOf_32 (fun h m => ⟨by rw [hres], m⟩)
  refine x_ifge O 13 dX6_roundsOf_6 (by decide) (fun c6 => ?_) (fun c6 => ?_)
  · refine x_aload_n O 0 dX6_roundsOf_13 rfl rfl ?_
    refine x_mget O k_X6_13_6 (mg_1 _ _) dX6_roundsOf_14 ?_
    refine x_sipush O (nI 269) dX6_roundsOf_17 (by decide) ?_
    refine x_iconst O (nI 4) dX6_roundsOf_20 (by decide) ?_
    refine x_aload_n O 0 dX6_roundsOf_21 rfl rfl ?_
    refine x_iload_n O 1 dX6_roundsOf_22 rfl rfl ?_
    refine x_iconst O (nI 0) dX6_roundsOf_23 (by decide) ?_
    refine x_cV O 2 (c_m_of (μ := μ) p 0 (by omega) (by omega)) MS.obj uc6 (lw_V q1968 q1970 qs60 q111 q1971) rfl hd_X6_of rfl (by rw [RF]; rfl) (by rw [RL]; rfl) ⟨Nat.zero_le _, Nat.zero_le _⟩ rfl rfl dX6_roundsOf_24 ?_
    refine x_top (v' := nI (tn (m_of (μ 1) p 0))) ((gO_nn' hg c6).1) ?_
    refine x_imulN O dX6_roundsOf_27 ?_
    refine x_iaddN O dX6_roundsOf_28 ?_
    refine x_iconst O (nI 3) dX6_roundsOf_29 (by decide) ?_
    refine x_iaddN O dX6_roundsOf_30 ?_
    refine x_ialdN O MS.c1 (by have := (gO_nn' hg c6).2; omega) rfl dX6_roundsOf_31 ?_
    refine x_sub [0] rfl ?_
    exact J2 (μ 1 (269 + 4 * tn (m_of (μ 1) p 0) + 3)) (by rw [if_pos c6])
  · refine x_sub [0] (L' := [(0, .ref (adr 0))]) rfl ?_
    refine x_iconst O (nI 0) dX6_roundsOf_9 (by decide) ?_
    refine x_goto O 32 dX6_roundsOf_10 (by decide) ?_
    exact J2 (nI 0) (by rw [if_neg c6])

def m_leaves_s (μ : Mu) (kind : Int32) (cell : Int32) (depth : Int32) (n : Int32) : Mu :=
  (if tn (μ 1 3) = 120 then μ else (mset (mset (mset (mset (mset (mset (mset μ 1 (349 + 6 * tn (μ 1 3)) kind) 1 (349 + 6 * tn (μ 1 3) + 1) cell) 1 (349 + 6 * tn (μ 1 3) + 2) depth) 1 (349 + 6 * tn (μ 1 3) + 3) n) 1 (349 + 6 * tn (μ 1 3) + 4) (nI 0)) 1 (349 + 6 * tn (μ 1 3) + 5) (nI 239)) 1 3 (nI (tn (μ 1 3) + 1))))
set_option maxHeartbeats 4000000 in
set_option maxRecDepth 100000 in
theorem c_m_leaves {G : UG} {adr : Nat → Nat} {h0 : Hp} {μ : Mu} (hI : MI (μ 1)) (kind : Int32) (cell : Int32) (depth : Int32) (n : Int32)  : Con G yX6_leaves cX6_leaves 6 none 0 0 0 0 [.ref (adr 0), .int kind, .int cell, .int depth, .int n] (MS G adr h0 μ) (fun vr_ h' => vr_ = none ∧ MS G adr h0 (m_leaves_s μ kind cell depth n) h') nX := by
  refine con_of2 (plainFor_of_name (by decide)) rfl ?_
  intro F R Q RF RL RC RS hQ O hnh hnm
  obtain ⟨resm, hresm⟩ : ∃ z, z = m_leaves_s μ kind cell depth n := ⟨_, rfl⟩
  rw [← hresm] at hQ
  unfold m_leaves_s at hresm
  have hb3 : tn (μ 1 3) ≤ 120 := (hI 3 (by decide)).2
  refine x_eq (L' := [(0, .ref (adr 0)), (1, .int kind), (2, .int cell), (3, .int depth), (4, .int n)]) ?_ rfl rfl rfl
  refine x_aload_n O 0 dX6_leaves_0 rfl rfl ?_
  refine x_mget O k_X6_13_6 (mg_1 _ _) dX6_leaves_1 ?_
  refine x_iconst O (nI 3) dX6_leaves_4 (by decide) ?_
  refine x_ialdN O MS.c1 (by omega) rfl dX6_leaves_5 ?_
  refine x_top (v' := nI (tn (μ 1 3))) ((hI 3 (by decide)).1) ?_
  refine x_bipush O (nI 120) dX6_leaves_6 (by decide) ?_
  refine x_icmpneN O 12 (by omega) (by omega) dX6_leaves_8 (by decide) (fun c8 => ?_) (fun c8 => ?_)
  · have hr1 := hresm.trans (if_neg c8)
    refine x_sipush O (nI 349) dX6_leaves_12 (by decide) ?_
    refine x_bipush O (nI 6) dX6_leaves_15 (by decide) ?_
    refine x_aload_n O 0 dX6_leaves_17 rfl rfl ?_
    refine x_mget O k_X6_13_6 (mg_1 _ _) dX6_leaves_18 ?_
    refine x_iconst O (nI 3) dX6_leaves_21 (by decide) ?_
    refine x_ialdN O MS.c1 (by omega) rfl dX6_leaves_22 ?_
    refine x_top (v' := nI (tn (μ 1 3))) ((hI 3 (by decide)).1) ?_
    refine x_imulN O dX6_leaves_23 ?_
    refine x_iaddN O dX6_leaves_24 ?_
    refine x_istore O [(5, .int (nI (349 + 6 * tn (μ 1 3)))), (0, .ref (adr 0)), (1, .int kind), (2, .int cell), (3, .int depth), (4, .int n)] dX6_leaves_25 rfl rfl ?_
    refine x_aload_n O 1 dX6_leaves_27 rfl rfl ?_
    refine x_mget O k_X6_13_6 (mg_1 _ _) dX6_leaves_28 ?_
    refine x_iload O 0 dX6_leaves_31 rfl ?_
    refine x_iload_n O 2 dX6_leaves_33 rfl rfl ?_
    refine x_mast O 0 MS.c1 rfl rfl rfl (by omega) rfl dX6_leaves_34 ?_
    refine x_aload_n O 1 dX6_leaves_35 rfl rfl ?_
    refine x_mget O k_X6_13_6 (mg_1 _ _) dX6_leaves_36 ?_
    refine x_iload O 0 dX6_leaves_39 rfl ?_
    refine x_iconst O (nI 1) dX6_leaves_41 (by decide) ?_
    refine x_iaddN O dX6_leaves_42 ?_
    refine x_iload_n O 3 dX6_leaves_43 rfl rfl ?_
    refine x_mast O 0 MS.c1 rfl rfl rfl (by omega) rfl dX6_leaves_44 ?_
    refine x_aload_n O 1 dX6_leaves_45 rfl rfl ?_
    refine x_mget O k_X6_13_6 (mg_1 _ _) dX6_leaves_46 ?_
    refine x_iload O 0 dX6_leaves_49 rfl ?_
    refine x_iconst O (nI 2) dX6_leaves_51 (by decide) ?_
    refine x_iaddN O dX6_leaves_52 ?_
    refine x_iload_n O 4 dX6_leaves_53 rfl rfl ?_
    refine x_mast O 0 MS.c1 rfl rfl rfl (by omega) rfl dX6_leaves_54 ?_
    refine x_aload_n O 1 dX6_leaves_55 rfl rfl ?_
    refine x_mget O k_X6_13_6 (mg_1 _ _) dX6_leaves_56 ?_
    refine x_iload O 0 dX6_leaves_59 rfl ?_
    refine x_iconst O (nI 3) dX6_leaves_61 (by decide) ?_
    refine x_iaddN O dX6_leaves_62 ?_
    refine x_iload O 5 dX6_leaves_63 rfl ?_
    refine x_mast O 0 MS.c1 rfl rfl rfl (by omega) rfl dX6_leaves_65 ?_
    refine x_aload_n O 1 dX6_leaves_66 rfl rfl ?_
    refine x_mget O k_X6_13_6 (mg_1 _ _) dX6_leaves_67 ?_
    refine x_iload O 0 dX6_leaves_70 rfl ?_
    refine x_iconst O (nI 4) dX6_leaves_72 (by decide) ?_
    refine x_iaddN O dX6_leaves_73 ?_
    refine x_iconst O (nI 0) dX6_leaves_74 (by decide) ?_
    refine x_mast O 0 MS.c1 rfl rfl rfl (by omega) rfl dX6_leaves_75 ?_
    refine x_aload_n O 1 dX6_leaves_76 rfl rfl ?_
    refine x_mget O k_X6_13_6 (mg_1 _ _) dX6_leaves_77 ?_
    refine x_iload O 0 dX6_leaves_80 rfl ?_
    refine x_iconst O (nI 5) dX6_leaves_82 (by decide) ?_
    refine x_iaddN O dX6_leaves_83 ?_
    refine x_sipush O (nI 239) dX6_leaves_84 (by decide) ?_
    refine x_mast O 0 MS.c1 rfl rfl rfl (by omega) rfl dX6_leaves_87 ?_
    refine x_aload_n O 1 dX6_leaves_88 rfl rfl ?_
    refine x_mget O k_X6_13_6 (mg_1 _ _) dX6_leaves_89 ?_
    refine x_iconst O (nI 3) dX6_leaves_92 (by decide) ?_
    refine x_dup2 O dX6_leaves_93 rfl rfl ?_
    refine x_ialdN O MS.c1 (by omega) rfl dX6_leaves_94 ?_
    refine x_top (v' := μ 1 3) ((rd_skip (by omega)).trans ((rd_skip (by omega)).trans ((rd_skip (by omega)).trans ((rd_skip (by omega)).trans ((rd_skip (by omega)).trans (rd_skip (by omega))))))) ?_
    refine x_top (v' := nI (tn (μ 1 3))) ((hI 3 (by decide)).1) ?_
    refine x_iconst O (nI 1) dX6_leaves_95 (by decide) ?_
    refine x_iaddN O dX6_leaves_96 ?_
    refine x_mast O 0 MS.c1 rfl rfl rfl (by omega) rfl dX6_leaves_97 ?_
    exact x_vretQ O hQ rfl dX6_leaves_98 (fun h m => ⟨rfl, by rw [hr1]; exact m⟩)
  · have hr2 := hresm.trans (if_pos c8)
    refine x_sub [0] (L' := [(0, .ref (adr 0))]) rfl ?_
    exact x_vretQ O hQ rfl dX6_leaves_11 (fun h m => ⟨rfl, by rw [hr2]; exact m⟩)

def m_holdsStill_s (μ : Mu) (p : Nat) : Mu :=
  (mset μ 1 (301 + 6 * p + 2) (j_max (nI 0) ((m_of (μ 1) p 2) - (nI 1))))
set_option maxHeartbeats 4000000 in
set_option maxRecDepth 100000 in
theorem c_m_holdsStill {G : UG} {adr : Nat → Nat} {h0 : Hp} {μ : Mu}  (p : Nat) (hp : p < 8) : Con G yX6_holdsStill cX6_holdsStill 2 none 1 23 0 0 [.ref (adr 0), .int (nI p)] (MS G adr h0 μ) (fun vr_ h' => vr_ = none ∧ MS G adr h0 (m_holdsStill_s μ p) h') nX := by
  refine con_of2 (plainFor_of_name (by decide)) rfl ?_
  intro F R Q RF RL RC RS hQ O hnh hnm
  obtain ⟨resm, hresm⟩ : ∃ z, z = m_holdsStill_s μ p := ⟨_, rfl⟩
  rw [← hresm] at hQ
  unfold m_holdsStill_s at hresm
  refine x_eq (L' := [(0, .ref (adr 0)), (1, .int (nI p))]) ?_ rfl rfl rfl
  refine x_aload_n O 0 dX6_holdsStill_0 rfl rfl ?_
  refine x_iload_n O 1 dX6_holdsStill_1 rfl rfl ?_
  refine x_iconst O (nI 2) dX6_holdsStill_2 (by decide) ?_
  refine x_iconst O (nI 0) dX6_holdsStill_3 (by decide) ?_
  refine x_aload_n O 0 dX6_holdsStill_4 rfl rfl ?_
  refine x_iload_n O 1 dX6_holdsStill_5 rfl rfl ?_
  refine x_iconst O (nI 2) dX6_holdsStill_6 (by decide) ?_
  refine x_cV O 2 (c_m_of (μ := μ) p 2 (by omega) (by omega)) MS.obj uc6 (lw_V q1968 q1970 qs60 q111 q1971) rfl hd_X6_of rfl (by rw [RF]; rfl) (by rw [RL]; rfl) ⟨Nat.zero_le _, Nat.zero_le _⟩ rfl rfl dX6_holdsStill_7 ?_
  refine x_iconst O (nI 1) dX6_holdsStill_10 (by decide) ?_
  refine x_isub O dX6_holdsStill_11 ?_
  refine x_cS O 2 (c_j_max (nI 0) ((m_of (μ 1) p 2) - (nI 1))) (lw_S q1782 q558 q116 q559) hd_J7_max rfl (by rw [RF]; rfl) (by rw [RL]; rfl) ⟨Nat.zero_le _, Nat.zero_le _⟩ rfl rfl dX6_holdsStill_12 ?_
  refine x_cV O 3 (c_m_sets (μ := μ) p 2 (j_max (nI 0) ((m_of (μ 1) p 2) - (nI 1))) (by omega) (by omega)) MS.obj uc6 (lw_V q1972 q1974 qs61 q111 q1975) rfl hd_X6_sets rfl (by rw [RF]; rfl) (by rw [RL]; rfl) ⟨Nat.zero_le _, Nat.zero_le _⟩ rfl rfl dX6_holdsStill_15 ?_
  exact x_vretQ O hQ rfl dX6_holdsStill_18 (fun h m => ⟨rfl, by rw [hresm]; exact m⟩)

def m_nearestTo_b6 (W : Nat → Int32) (p : Nat) (foes : Bool) (cell : Int32) (i5_6 : Nat) (v4_6 : Int32) : Int32 :=
  (if foes = true then (if m_isFoe W p i5_6 = true then (if v4_6 < 0 then nI i5_6 else (if (g_far cell (m_of W (tn v4_6) 1)) ≤ (g_far cell (m_of W i5_6 1)) then v4_6 else nI i5_6)) else v4_6) else (if m_isFriend W p i5_6 = true then (if v4_6 < 0 then nI i5_6 else (if (g_far cell (m_of W (tn v4_6) 1)) ≤ (g_far cell (m_of W i5_6 1)) then v4_6 else nI i5_6)) else v4_6))
def m_nearestTo (W : Nat → Int32) (p : Nat) (foes : Bool) (cell : Int32) : Int32 :=
  (fr (fun i s => m_nearestTo_b6 W p foes cell i s) (tn (W 1)) 0 (-1))
set_option maxHeartbeats 4000000 in
set_option maxRecDepth 100000 in
theorem c_m_nearestTo {G : UG} {adr : Nat → Nat} {h0 : Hp} {μ : Mu} (hI : MI (μ 1)) (p : Nat) (foes : Bool) (cell : Int32) (hp : p < 8) : Con G yX6_nearestTo cX6_nearestTo 6 (some .int) 2 44 0 0 [.ref (adr 0), .int (nI p), .int (b2i foes), .int cell] (MS G adr h0 μ) (fun vr_ h' => vr_ = some (.int (m_nearestTo (μ 1) p foes cell)) ∧ MS G adr h0 μ h') nX := by
  refine con_of2 (plainFor_of_name (by decide)) rfl ?_
  intro F R Q RF RL RC RS hQ O hnh hnm
  obtain ⟨res, hres⟩ : ∃ z, z = (m_nearestTo (μ 1) p foes cell) := ⟨_, rfl⟩
  rw [← hres] at hQ
  unfold m_nearestTo at hres
  have hb1 : tn (μ 1 1) ≤ 8 := (hI 1 (by decide)).2
  refine x_eq (L' := [(0, .ref (adr 0)), (1, .int (nI p)), (2, .int (b2i foes)), (3, .int cell)]) ?_ rfl rfl rfl
  refine x_iconst O ((-1)) dX6_nearestTo_0 (by decide) ?_
  refine x_istore O [(4, .int ((-1))), (0, .ref (adr 0)), (1, .int (nI p)), (2, .int (b2i foes)), (3, .int cell)] dX6_nearestTo_1 rfl rfl ?_
  refine x_iconst O (nI 0) dX6_nearestTo_3 (by decide) ?_
  refine x_istore O [(5, .int (nI 0)), (4, .int ((-1))), (0, .ref (adr 0)), (1, .int (nI p)), (2, .int (b2i foes)), (3, .int cell)] dX6_nearestTo_4 rfl rfl ?_
  have LOOP6 : ∀ (cc_ : Nat) (i5_6 : Nat) (v4_6 : Int32), cc_ = tn (μ 1 1) - i5_6 → i5_6 < 2147483648 → gO v4_6 7 → (∀ (y0 : Int32), y0 = fr (fun i s => m_nearestTo_b6 (μ 1) p foes cell i s) cc_ i5_6 v4_6 → X G F R Q 6 84 [(4, .int y0), (0, .ref (adr 0))] [] (MS G adr h0 μ) 0 0) → X G F R Q 6 6 [(5, .int (nI i5_6)), (4, .int v4_6), (0, .ref (adr 0)), (1, .int (nI p)), (2, .int (b2i foes)), (3, .int cell)] [] (MS G adr h0 μ) 0 0 := by
    intro cc_
    induction cc_ using Nat.strongRecOn with
    | ind cc_ IH_ =>
      intro i5_6 v4_6 hc_ hb_ hv_ K_
      refine x_iload O 0 dX6_nearestTo_6 rfl ?_
      refine x_aload_n O 2 dX6_nearestTo_8 rfl rfl ?_
      refine x_mget O k_X6_13_6 (mg_1 _ _) dX6_nearestTo_9 ?_
      refine x_iconst O (nI 1) dX6_nearestTo_12 (by decide) ?_
      refine x_ialdN O MS.c1 (by omega) rfl dX6_nearestTo_13 ?_
      refine x_top (v' := nI (tn (μ 1 1))) ((hI 1 (by decide)).1) ?_
      refine x_icmpgeN O 84 (by omega) (by omega) dX6_nearestTo_14 (by decide) (fun c14 => ?_) (fun c14 => ?_)
      · refine x_sub [1, 2] (L' := [(4, .int v4_6), (0, .ref (adr 0))]) rfl ?_
        obtain rfl : cc_ = 0 := by omega
        exact K_ _ rfl
      · refine x_iload_n O 4 dX6_nearestTo_17 rfl rfl ?_
        have J2 : ∀ (y1 : Int32), y1 = (if foes = true then (if m_isFoe (μ 1) p i5_6 = true then (if v4_6 < 0 then nI i5_6 else (if (g_far cell (m_of (μ 1) (tn v4_6) 1)) ≤ (g_far cell (m_of (μ 1) i5_6 1)) then v4_6 else nI i5_6)) else v4_6) else (if m_isFriend (μ 1) p i5_6 = true then (if v4_6 < 0 then nI i5_6 else (if (g_far cell (m_of (μ 1) (tn v4_6) 1)) ≤ (g_far cell (m_of (μ 1) i5_6 1)) then v4_6 else nI i5_6)) else v4_6)) → X G F R Q 6 78 [(5, .int (nI i5_6)), (4, .int y1), (0, .ref (adr 0)), (1, .int (nI p)), (2, .int (b2i foes)), (3, .int cell)] [] (MS G adr h0 μ) 0 0 := by
          intro y1 e3
          subst e3
          refine x_iincN O 0 [(5, .int (nI (i5_6 + 1))), (4, .int ((if foes = true then (if m_isFoe (μ 1) p i5_6 = true then (if v4_6 < 0 then nI i5_6 else (if (g_far cell (m_of (μ 1) (tn v4_6) 1)) ≤ (g_far cell (m_of (μ 1) i5_6 1)) then v4_6 else nI i5_6)) else v4_6) else (if m_isFriend (μ 1) p i5_6 = true then (if v4_6 < 0 then nI i5_6 else (if (g_far cell (m_of (μ 1) (tn v4_6) 1)) ≤ (g_far cell (m_of (μ 1) i5_6 1)) then v4_6 else nI i5_6)) else v4_6)))), (0, .ref (adr 0)), (1, .int (nI p)), (2, .int (b2i foes)), (3, .int cell)] dX6_nearestTo_78 rfl rfl rfl ?_
          refine x_goto O 6 dX6_nearestTo_81 (by decide) ?_
          obtain ⟨c2_, rfl⟩ : ∃ z, cc_ = z + 1 := ⟨cc_ - 1, by omega⟩
          have hs_ : (fun i s => m_nearestTo_b6 (μ 1) p foes cell i s) i5_6 v4_6 = (if foes = true then (if m_isFoe (μ 1) p i5_6 = true then (if v4_6 < 0 then nI i5_6 else (if (g_far cell (m_of (μ 1) (tn v4_6) 1)) ≤ (g_far cell (m_of (μ 1) i5_6 1)) then v4_6 else nI i5_6)) else v4_6) else (if m_isFriend (μ 1) p i5_6 = true then (if v4_6 < 0 then nI i5_6 else (if (g_far cell (m_of (μ 1) (tn v4_6) 1)) ≤ (g_far cell (m_of (μ 1) i5_6 1)) then v4_6 else nI i5_6)) else v4_6)) := by show m_nearestTo_b6 (μ 1) p foes cell i5_6 v4_6 = _; unfold m_nearestTo_b6; rfl
          exact IH_ c2_ (by omega) _ _ (by omega) (by omega) (by (repeat' split) <;> first | exact hv_ | exact Or.inr (nn_nI (by omega) (by decide))) (fun y0 hy_ => K_ y0 (hy_.trans (fr_step hs_).symm))
        refine x_ifeqB O 34 dX6_nearestTo_18 (by decide) (fun c18 => ?_) (fun c18 => ?_)
        · refine x_aload_n O 2 dX6_nearestTo_34 rfl rfl ?_
          refine x_iload_n O 3 dX6_nearestTo_35 rfl rfl ?_
          refine x_iload O 0 dX6_nearestTo_36 rfl ?_
          refine x_cV O 2 (c_m_isFriend (μ := μ) p i5_6 (by omega) (by omega)) MS.obj uc6 (lw_V q1988 q1990 qs64 q111 q1991) rfl hd_X6_isFriend rfl (by rw [RF]; rfl) (by rw [RL]; rfl) ⟨Nat.zero_le _, Nat.zero_le _⟩ rfl rfl dX6_nearestTo_38 ?_
          refine x_ifeqB O 78 dX6_nearestTo_41 (by decide) (fun c41 => ?_) (fun c41 => ?_)
          · exact J2 v4_6 (by rw [if_neg c18, if_neg c41])
          · refine x_iload O 1 dX6_nearestTo_44 rfl ?_
            refine x_iflt O 74 dX6_nearestTo_46 (by decide) (fun c46 => ?_) (fun c46 => ?_)
            · refine x_sub [0, 2, 3, 4, 5] (L' := [(5, .int (nI i5_6)), (0, .ref (adr 0)), (1, .int (nI p)), (2, .int (b2i foes)), (3, .int cell)]) rfl ?_
              refine x_iload O 0 dX6_nearestTo_74 rfl ?_
              refine x_istore O [(4, .int (nI i5_6)), (5, .int (nI i5_6)), (0, .ref (adr 0)), (1, .int (nI p)), (2, .int (b2i foes)), (3, .int cell)] dX6_nearestTo_76 rfl rfl ?_
              refine x_sub [1, 0, 2, 3, 4, 5] rfl ?_
              exact J2 (nI i5_6) (by rw [if_neg c18, if_pos c41, if_pos c46])
            · refine x_iload_n O 5 dX6_nearestTo_49 rfl rfl ?_
              refine x_aload_n O 2 dX6_nearestTo_50 rfl rfl ?_
              refine x_iload O 0 dX6_nearestTo_51 rfl ?_
              refine x_iconst O (nI 1) dX6_nearestTo_53 (by decide) ?_
              refine x_cV O 2 (c_m_of (μ := μ) i5_6 1 (by omega) (by omega)) MS.obj uc6 (lw_V q1968 q1970 qs60 q111 q1971) rfl hd_X6_of rfl (by rw [RF]; rfl) (by rw [RL]; rfl) ⟨Nat.zero_le _, Nat.zero_le _⟩ rfl rfl dX6_nearestTo_54 ?_
              refine x_cS O 2 (c_g_far cell (m_of (μ 1) i5_6 1)) (lw_S q1795 q1796 q111 q1797) hd_X6_far rfl (by rw [RF]; rfl) (by rw [RL]; rfl) ⟨Nat.zero_le _, Nat.zero_le _⟩ rfl rfl dX6_nearestTo_57 ?_
              refine x_iload_n O 5 dX6_nearestTo_60 rfl rfl ?_
              refine x_aload_n O 2 dX6_nearestTo_61 rfl rfl ?_
              refine x_iload O 1 dX6_nearestTo_62 rfl ?_
              refine x_top (v' := nI (tn v4_6)) ((gO_nn hv_ c46).1) ?_
              refine x_iconst O (nI 1) dX6_nearestTo_64 (by decide) ?_
              refine x_cV O 2 (c_m_of (μ := μ) (tn v4_6) 1 (by have := (gO_nn hv_ c46).2; omega) (by omega)) MS.obj uc6 (lw_V q1968 q1970 qs60 q111 q1971) rfl hd_X6_of rfl (by rw [RF]; rfl) (by rw [RL]; rfl) ⟨Nat.zero_le _, Nat.zero_le _⟩ rfl rfl dX6_nearestTo_65 ?_
              refine x_cS O 2 (c_g_far cell (m_of (μ 1) (tn v4_6) 1)) (lw_S q1795 q1796 q111 q1797) hd_X6_far rfl (by rw [RF]; rfl) (by rw [RL]; rfl) ⟨Nat.zero_le _, Nat.zero_le _⟩ rfl rfl dX6_nearestTo_68 ?_
              refine x_icmpge O 78 dX6_nearestTo_71 (by decide) (fun c71 => ?_) (fun c71 => ?_)
              · exact J2 v4_6 (by rw [if_neg c18, if_pos c41, if_neg c46, if_pos c71])
              · refine x_sub [0, 2, 3, 4, 5] (L' := [(5, .int (nI i5_6)), (0, .ref (adr 0)), (1, .int (nI p)), (2, .int (b2i foes)), (3, .int cell)]) rfl ?_
                refine x_iload O 0 dX6_nearestTo_74 rfl ?_
                refine x_istore O [(4, .int (nI i5_6)), (5, .int (nI i5_6)), (0, .ref (adr 0)), (1, .int (nI p)), (2, .int (b2i foes)), (3, .int cell)] dX6_nearestTo_76 rfl rfl ?_
                refine x_sub [1, 0, 2, 3, 4, 5] rfl ?_
                exact J2 (nI i5_6) (by rw [if_neg c18, if_pos c41, if_neg c46, if_neg c71])
        · refine x_aload_n O 2 dX6_nearestTo_21 rfl rfl ?_
          refine x_iload_n O 3 dX6_nearestTo_22 rfl rfl ?_
          refine x_iload O 0 dX6_nearestTo_23 rfl ?_
          refine x_cV O 2 (c_m_isFoe (μ := μ) p i5_6 (by omega) (by omega)) MS.obj uc6 (lw_V q1984 q1986 qs63 q111 q1987) rfl hd_X6_isFoe rfl (by rw [RF]; rfl) (by rw [RL]; rfl) ⟨Nat.zero_le _, Nat.zero_le _⟩ rfl rfl dX6_nearestTo_25 ?_
          refine x_ifeqB O 78 dX6_nearestTo_28 (by decide) (fun c28 => ?_) (fun c28 => ?_)
          · exact J2 v4_6 (by rw [if_pos c18, if_neg c28])
          · refine x_goto O 44 dX6_nearestTo_31 (by decide) ?_
            refine x_iload O 1 dX6_nearestTo_44 rfl ?_
            refine x_iflt O 74 dX6_nearestTo_46 (by decide) (fun c46 => ?_) (fun c46 => ?_)
            · refine x_sub [0, 2, 3, 4, 5] (L' := [(5, .int (nI i5_6)), (0, .ref (adr 0)), (1, .int (nI p)), (2, .int (b2i foes)), (3, .int cell)]) rfl ?_
              refine x_iload O 0 dX6_nearestTo_74 rfl ?_
              refine x_istore O [(4, .int (nI i5_6)), (5, .int (nI i5_6)), (0, .ref (adr 0)), (1, .int (nI p)), (2, .int (b2i foes)), (3, .int cell)] dX6_nearestTo_76 rfl rfl ?_
              refine x_sub [1, 0, 2, 3, 4, 5] rfl ?_
              exact J2 (nI i5_6) (by rw [if_pos c18, if_pos c28, if_pos c46])
            · refine x_iload_n O 5 dX6_nearestTo_49 rfl rfl ?_
              refine x_aload_n O 2 dX6_nearestTo_50 rfl rfl ?_
              refine x_iload O 0 dX6_nearestTo_51 rfl ?_
              refine x_iconst O (nI 1) dX6_nearestTo_53 (by decide) ?_
              refine x_cV O 2 (c_m_of (μ := μ) i5_6 1 (by omega) (by omega)) MS.obj uc6 (lw_V q1968 q1970 qs60 q111 q1971) rfl hd_X6_of rfl (by rw [RF]; rfl) (by rw [RL]; rfl) ⟨Nat.zero_le _, Nat.zero_le _⟩ rfl rfl dX6_nearestTo_54 ?_
              refine x_cS O 2 (c_g_far cell (m_of (μ 1) i5_6 1)) (lw_S q1795 q1796 q111 q1797) hd_X6_far rfl (by rw [RF]; rfl) (by rw [RL]; rfl) ⟨Nat.zero_le _, Nat.zero_le _⟩ rfl rfl dX6_nearestTo_57 ?_
              refine x_iload_n O 5 dX6_nearestTo_60 rfl rfl ?_
              refine x_aload_n O 2 dX6_nearestTo_61 rfl rfl ?_
              refine x_iload O 1 dX6_nearestTo_62 rfl ?_
              refine x_top (v' := nI (tn v4_6)) ((gO_nn hv_ c46).1) ?_
              refine x_iconst O (nI 1) dX6_nearestTo_64 (by decide) ?_
              refine x_cV O 2 (c_m_of (μ := μ) (tn v4_6) 1 (by have := (gO_nn hv_ c46).2; omega) (by omega)) MS.obj uc6 (lw_V q1968 q1970 qs60 q111 q1971) rfl hd_X6_of rfl (by rw [RF]; rfl) (by rw [RL]; rfl) ⟨Nat.zero_le _, Nat.zero_le _⟩ rfl rfl dX6_nearestTo_65 ?_
              refine x_cS O 2 (c_g_far cell (m_of (μ 1) (tn v4_6) 1)) (lw_S q1795 q1796 q111 q1797) hd_X6_far rfl (by rw [RF]; rfl) (by rw [RL]; rfl) ⟨Nat.zero_le _, Nat.zero_le _⟩ rfl rfl dX6_nearestTo_68 ?_
              refine x_icmpge O 78 dX6_nearestTo_71 (by decide) (fun c71 => ?_) (fun c71 => ?_)
              · exact J2 v4_6 (by rw [if_pos c18, if_pos c28, if_neg c46, if_pos c71])
              · refine x_sub [0, 2, 3, 4, 5] (L' := [(5, .int (nI i5_6)), (0, .ref (adr 0)), (1, .int (nI p)), (2, .int (b2i foes)), (3, .int cell)]) rfl ?_
                refine x_iload O 0 dX6_nearestTo_74 rfl ?_
                refine x_istore O [(4, .int (nI i5_6)), (5, .int (nI i5_6)), (0, .ref (adr 0)), (1, .int (nI p)), (2, .int (b2i foes)), (3, .int cell)] dX6_nearestTo_76 rfl rfl ?_
                refine x_sub [1, 0, 2, 3, 4, 5] rfl ?_
                exact J2 (nI i5_6) (by rw [if_pos c18, if_pos c28, if_neg c46, if_neg c71])
  refine LOOP6 (tn (μ 1 1)) 0 ((-1)) rfl (by omega) (Or.inl rfl) (fun y0 hy_6 => ?_)
  subst hy_6
  refine x_iload O 0 dX6_nearestTo_84 rfl ?_
  exact x_iretQ O hQ rfl dX6_nearestTo_86 (fun h m => ⟨by rw [hres], m⟩)

def m_found (μ : Mu) (cell : Int32) (depth : Int32) (marks : Int32) : Int32 :=
  (if m_noCell cell = true then nI 0 else (if (if m_in depth (nI 0) (nI 9) = true then (if m_in marks (nI 1) ((65535)) = true then false else true) else true) = true then nI 0 else (if (if tn (μ 1 3) = 120 then true else false) = true then nI 0 else ((m_leaves_s ((mset μ 0 0 (nI 0))) (nI 0) cell depth marks) 1 3) - (nI 1))))
def m_found_s (μ : Mu) (cell : Int32) (depth : Int32) (marks : Int32) : Mu :=
  (if m_noCell cell = true then (mset (mset μ 0 0 (nI 0)) 0 0 (nI 1)) else (if (if m_in depth (nI 0) (nI 9) = true then (if m_in marks (nI 1) ((65535)) = true then false else true) else true) = true then (mset (mset μ 0 0 (nI 0)) 0 0 (nI 2)) else (if (if tn (μ 1 3) = 120 then true else false) = true then (mset (mset μ 0 0 (nI 0)) 0 0 (nI 3)) else (m_leaves_s ((mset μ 0 0 (nI 0))) (nI 0) cell depth marks))))
set_option maxHeartbeats 4000000 in
set_option maxRecDepth 100000 in
theorem c_m_found {G : UG} {adr : Nat → Nat} {h0 : Hp} {μ : Mu} (hI : MI (μ 1)) (cell : Int32) (depth : Int32) (marks : Int32)  : Con G yX6_found cX6_found 4 (some .int) 2 42 0 0 [.ref (adr 0), .int cell, .int depth, .int marks] (MS G adr h0 μ) (fun vr_ h' => vr_ = some (.int (m_found μ cell depth marks)) ∧ MS G adr h0 (m_found_s μ cell depth marks) h') nX := by
  refine con_of2 (plainFor_of_name (by decide)) rfl ?_
  intro F R Q RF RL RC RS hQ O hnh hnm
  obtain ⟨res, hres⟩ : ∃ z, z = (m_found μ cell depth marks) := ⟨_, rfl⟩
  rw [← hres] at hQ
  unfold m_found at hres
  obtain ⟨resm, hresm⟩ : ∃ z, z = m_found_s μ cell depth marks := ⟨_, rfl⟩
  rw [← hresm] at hQ
  unfold m_found_s at hresm
  have hb3 : tn (μ 1 3) ≤ 120 := (hI 3 (by decide)).2
  refine x_eq (L' := [(0, .ref (adr 0)), (1, .int cell), (2, .int depth), (3, .int marks)]) ?_ rfl rfl rfl
  refine x_aload_n O 0 dX6_found_0 rfl rfl ?_
  refine x_iconst O (nI 0) dX6_found_1 (by decide) ?_
  refine x_mput O p_X6_3_6 (mp_0 _ _ _) rfl dX6_found_2 ?_
  refine x_aload_n O 0 dX6_found_5 rfl rfl ?_
  refine x_iload_n O 1 dX6_found_6 rfl rfl ?_
  refine x_cS O 1 (c_m_noCell cell) (lw_S q1768 q1769 q111 q1770) hd_X6_noCell rfl (by rw [RF]; rfl) (by rw [RL]; rfl) ⟨Nat.zero_le _, Nat.zero_le _⟩ rfl rfl dX6_found_7 ?_
  refine x_iconst O (nI 1) dX6_found_10 (by decide) ?_
  refine x_bc (m_noCell cell) (fun c11 => ?_) (fun c11 => ?_)
  · have hr3 := hres.trans (if_pos c11)
    have hr4 := hresm.trans (if_pos c11)
    refine x_eq (st' := [.int (nI 1), .int (b2i true), .ref (adr 0)]) ?_ rfl rfl (by rw [c11] <;> rfl)
    refine x_cV O 2 (c_m_throwsIf_t (μ := (mset μ 0 0 (nI 0))) 1) MS.obj uc6 (lw_V q1774 q1776 qs34 q111 q1777) rfl hd_X6_throwsIf rfl (by rw [RF]; rfl) (by rw [RL]; rfl) ⟨Nat.zero_le _, Nat.zero_le _⟩ rfl rfl dX6_found_11 ?_
    refine x_top (v' := b2i true) rfl ?_
    refine x_ifneB O 73 dX6_found_14 (by decide) (fun _ => ?_) (fun c => absurd rfl c)
    refine x_sub [0] (L' := [(0, .ref (adr 0))]) rfl ?_
    refine x_iconst O (nI 0) dX6_found_73 (by decide) ?_
    exact x_iretQ O hQ rfl dX6_found_74 (fun h m => ⟨by rw [hr3], by rw [hr4]; exact m⟩)
  · have hr5 := hres.trans (if_neg c11)
    have hr6 := hresm.trans (if_neg c11)
    refine x_eq (st' := [.int (nI 1), .int (b2i false), .ref (adr 0)]) ?_ rfl rfl (by rw [bfalse c11] <;> rfl)
    refine x_cV O 2 (c_m_throwsIf_f (μ := (mset μ 0 0 (nI 0))) 1) MS.obj uc6 (lw_V q1774 q1776 qs34 q111 q1777) rfl hd_X6_throwsIf rfl (by rw [RF]; rfl) (by rw [RL]; rfl) ⟨Nat.zero_le _, Nat.zero_le _⟩ rfl rfl dX6_found_11 ?_
    refine x_top (v' := b2i false) rfl ?_
    refine x_ifneB O 73 dX6_found_14 (by decide) (fun c => absurd c (by decide)) (fun _ => ?_)
    refine x_aload_n O 0 dX6_found_17 rfl rfl ?_
    refine x_iload_n O 2 dX6_found_18 rfl rfl ?_
    refine x_iconst O (nI 0) dX6_found_19 (by decide) ?_
    refine x_bipush O (nI 9) dX6_found_20 (by decide) ?_
    refine x_cS O 3 (c_m_in depth (nI 0) (nI 9)) (lw_S q1771 q1772 q111 q1773) hd_X6_in rfl (by rw [RF]; rfl) (by rw [RL]; rfl) ⟨Nat.zero_le _, Nat.zero_le _⟩ rfl rfl dX6_found_22 ?_
    have J7 : ∀ (y1 : Bool), y1 = (if m_in depth (nI 0) (nI 9) = true then (if m_in marks (nI 1) ((65535)) = true then false else true) else true) → X G F R Q 4 44 [(0, .ref (adr 0)), (1, .int cell), (2, .int depth), (3, .int marks)] [.int (b2i y1), .ref (adr 0)] (MS G adr h0 ((mset μ 0 0 (nI 0)))) 0 0 := by
      intro y1 e8
      subst e8
      refine x_iconst O (nI 2) dX6_found_44 (by decide) ?_
      refine x_bc ((if m_in depth (nI 0) (nI 9) = true then (if m_in marks (nI 1) ((65535)) = true then false else true) else true)) (fun c45 => ?_) (fun c45 => ?_)
      · have hr9 := hr5.trans (if_pos c45)
        have hr10 := hr6.trans (if_pos c45)
        refine x_eq (st' := [.int (nI 2), .int (b2i true), .ref (adr 0)]) ?_ rfl rfl (by rw [c45] <;> rfl)
        refine x_cV O 2 (c_m_throwsIf_t (μ := (mset μ 0 0 (nI 0))) 2) MS.obj uc6 (lw_V q1774 q1776 qs34 q111 q1777) rfl hd_X6_throwsIf rfl (by rw [RF]; rfl) (by rw [RL]; rfl) ⟨Nat.zero_le _, Nat.zero_le _⟩ rfl rfl dX6_found_45 ?_
        refine x_top (v' := b2i true) rfl ?_
        refine x_ifneB O 73 dX6_found_48 (by decide) (fun _ => ?_) (fun c => absurd rfl c)
        refine x_sub [0] (L' := [(0, .ref (adr 0))]) rfl ?_
        refine x_iconst O (nI 0) dX6_found_73 (by decide) ?_
        exact x_iretQ O hQ rfl dX6_found_74 (fun h m => ⟨by rw [hr9], by rw [hr10]; exact m⟩)
      · have hr11 := hr5.trans (if_neg c45)
        have hr12 := hr6.trans (if_neg c45)
        refine x_eq (st' := [.int (nI 2), .int (b2i false), .ref (adr 0)]) ?_ rfl rfl (by rw [bfalse c45] <;> rfl)
        refine x_cV O 2 (c_m_throwsIf_f (μ := (mset μ 0 0 (nI 0))) 2) MS.obj uc6 (lw_V q1774 q1776 qs34 q111 q1777) rfl hd_X6_throwsIf rfl (by rw [RF]; rfl) (by rw [RL]; rfl) ⟨Nat.zero_le _, Nat.zero_le _⟩ rfl rfl dX6_found_45 ?_
        refine x_top (v' := b2i false) rfl ?_
        refine x_ifneB O 73 dX6_found_48 (by decide) (fun c => absurd c (by decide)) (fun _ => ?_)
        refine x_aload_n O 0 dX6_found_51 rfl rfl ?_
        refine x_aload_n O 0 dX6_found_52 rfl rfl ?_
        refine x_cV O 0 (c_m_finds (μ := (mset μ 0 0 (nI 0)))) MS.obj uc6 (lw_V q2042 q2044 qs74 q111 q2045) rfl hd_X6_finds rfl (by rw [RF]; rfl) (by rw [RL]; rfl) ⟨Nat.zero_le _, Nat.zero_le _⟩ rfl rfl dX6_found_53 ?_
        refine x_top (v' := μ 1 3) (m_finds_u _) ?_
        refine x_top (v' := nI (tn (μ 1 3))) ((hI 3 (by decide)).1) ?_
        refine x_bipush O (nI 120) dX6_found_56 (by decide) ?_
        have J13 : ∀ (y2 : Bool), y2 = (if tn (μ 1 3) = 120 then true else false) → X G F R Q 4 66 [(0, .ref (adr 0)), (1, .int cell), (2, .int depth), (3, .int marks)] [.int (b2i y2), .ref (adr 0)] (MS G adr h0 ((mset μ 0 0 (nI 0)))) 0 0 := by
          intro y2 e14
          subst e14
          refine x_iconst O (nI 3) dX6_found_66 (by decide) ?_
          refine x_bc ((if tn (μ 1 3) = 120 then true else false)) (fun c67 => ?_) (fun c67 => ?_)
          · have hr15 := hr11.trans (if_pos c67)
            have hr16 := hr12.trans (if_pos c67)
            refine x_eq (st' := [.int (nI 3), .int (b2i true), .ref (adr 0)]) ?_ rfl rfl (by rw [c67] <;> rfl)
            refine x_cV O 2 (c_m_throwsIf_t (μ := (mset μ 0 0 (nI 0))) 3) MS.obj uc6 (lw_V q1774 q1776 qs34 q111 q1777) rfl hd_X6_throwsIf rfl (by rw [RF]; rfl) (by rw [RL]; rfl) ⟨Nat.zero_le _, Nat.zero_le _⟩ rfl rfl dX6_found_67 ?_
            refine x_top (v' := b2i true) rfl ?_
            refine x_ifeqB O 75 dX6_found_70 (by decide) (fun c => absurd rfl c) (fun _ => ?_)
            refine x_sub [0] (L' := [(0, .ref (adr 0))]) rfl ?_
            refine x_iconst O (nI 0) dX6_found_73 (by decide) ?_
            exact x_iretQ O hQ rfl dX6_found_74 (fun h m => ⟨by rw [hr15], by rw [hr16]; exact m⟩)
          · have hr17 := hr11.trans (if_neg c67)
            have hr18 := hr12.trans (if_neg c67)
            refine x_eq (st' := [.int (nI 3), .int (b2i false), .ref (adr 0)]) ?_ rfl rfl (by rw [bfalse c67] <;> rfl)
            refine x_cV O 2 (c_m_throwsIf_f (μ := (mset μ 0 0 (nI 0))) 3) MS.obj uc6 (lw_V q1774 q1776 qs34 q111 q1777) rfl hd_X6_throwsIf rfl (by rw [RF]; rfl) (by rw [RL]; rfl) ⟨Nat.zero_le _, Nat.zero_le _⟩ rfl rfl dX6_found_67 ?_
            refine x_top (v' := b2i false) rfl ?_
            refine x_ifeqB O 75 dX6_found_70 (by decide) (fun _ => ?_) (fun c => absurd c (by decide))
            refine x_aload_n O 0 dX6_found_75 rfl rfl ?_
            refine x_iconst O (nI 0) dX6_found_76 (by decide) ?_
            refine x_iload_n O 1 dX6_found_77 rfl rfl ?_
            refine x_iload_n O 2 dX6_found_78 rfl rfl ?_
            refine x_iload_n O 3 dX6_found_79 rfl rfl ?_
            refine x_cV O 4 (c_m_leaves (μ := (mset μ 0 0 (nI 0))) hI (nI 0) cell depth marks) MS.obj uc6 (lw_V q2028 q2030 qs72 q111 q2031) rfl hd_X6_leaves rfl (by rw [RF]; rfl) (by rw [RL]; rfl) ⟨Nat.zero_le _, Nat.zero_le _⟩ rfl rfl dX6_found_80 ?_
            refine x_aload_n O 0 dX6_found_83 rfl rfl ?_
            refine x_cV O 0 (c_m_finds (μ := (m_leaves_s ((mset μ 0 0 (nI 0))) (nI 0) cell depth marks))) MS.obj uc6 (lw_V q2042 q2044 qs74 q111 q2045) rfl hd_X6_finds rfl (by rw [RF]; rfl) (by rw [RL]; rfl) ⟨Nat.zero_le _, Nat.zero_le _⟩ rfl rfl dX6_found_84 ?_
            refine x_top (v' := (m_leaves_s ((mset μ 0 0 (nI 0))) (nI 0) cell depth marks) 1 3) (m_finds_u _) ?_
            refine x_iconst O (nI 1) dX6_found_87 (by decide) ?_
            refine x_isub O dX6_found_88 ?_
            exact x_iretQ O hQ rfl dX6_found_89 (fun h m => ⟨by rw [hr17], by rw [hr18]; exact m⟩)
        refine x_icmpneN O 65 (by omega) (by omega) dX6_found_58 (by decide) (fun c58 => ?_) (fun c58 => ?_)
        · refine x_iconst O (nI 0) dX6_found_65 (by decide) ?_
          refine x_top (v' := b2i false) (by decide) ?_
          exact J13 false (by rw [if_neg c58])
        · refine x_iconst O (nI 1) dX6_found_61 (by decide) ?_
          refine x_goto O 66 dX6_found_62 (by decide) ?_
          refine x_top (v' := b2i true) (by decide) ?_
          exact J13 true (by rw [if_pos c58])
    refine x_ifeqB O 39 dX6_found_25 (by decide) (fun c25 => ?_) (fun c25 => ?_)
    · refine x_iconst O (nI 1) dX6_found_39 (by decide) ?_
      refine x_goto O 44 dX6_found_40 (by decide) ?_
      refine x_top (v' := b2i true) (by decide) ?_
      exact J7 true (by rw [if_neg c25])
    · refine x_iload_n O 3 dX6_found_28 rfl rfl ?_
      refine x_iconst O (nI 1) dX6_found_29 (by decide) ?_
      refine x_ldcw O q2041 dX6_found_30 ?_
      refine x_cS O 3 (c_m_in marks (nI 1) ((65535))) (lw_S q1771 q1772 q111 q1773) hd_X6_in rfl (by rw [RF]; rfl) (by rw [RL]; rfl) ⟨Nat.zero_le _, Nat.zero_le _⟩ rfl rfl dX6_found_33 ?_
      refine x_ifneB O 43 dX6_found_36 (by decide) (fun c36 => ?_) (fun c36 => ?_)
      · refine x_iconst O (nI 0) dX6_found_43 (by decide) ?_
        refine x_top (v' := b2i false) (by decide) ?_
        exact J7 false (by rw [if_pos c25, if_pos c36])
      · refine x_iconst O (nI 1) dX6_found_39 (by decide) ?_
        refine x_goto O 44 dX6_found_40 (by decide) ?_
        refine x_top (v' := b2i true) (by decide) ?_
        exact J7 true (by rw [if_pos c25, if_neg c36])
