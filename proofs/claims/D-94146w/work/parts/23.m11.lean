def m_isAt (C3 : Nat → Int32) (p : Nat) (l : Nat) (lo : Int32) (hi : Int32) : Bool :=
  (if l ≤ p then false else (if (C3 p) < lo then false else (if hi < (C3 p) then false else true)))
set_option maxHeartbeats 1000000 in
set_option maxRecDepth 100000 in
theorem c_m_isAt {G : UG} {adr : Nat → Nat} {h0 : Hp} {μ : Mu} (p : Nat) (h6 : μ 0 6 = nI p) (l : Nat) (h7 : μ 0 7 = nI l) (hl : l ≤ 400) (hpb : p ≤ l) (lo : Int32) (hi : Int32)  : Con G yX6_isAt cX6_isAt 3 (some .boolean) 0 0 0 0 [.ref (adr 0), .int lo, .int hi] (MS G adr h0 μ) (fun vr_ h' => vr_ = some (.int (b2i (m_isAt (μ 3) p l lo hi))) ∧ MS G adr h0 μ h') nX := by
  refine con_of2 (plainFor_of_name (by decide)) rfl ?_
  intro F R Q RF RL RC RS hQ O hnh hnm
  obtain ⟨res, hres⟩ : ∃ z, z = (m_isAt (μ 3) p l lo hi) := ⟨_, rfl⟩
  rw [← hres] at hQ
  unfold m_isAt at hres
  refine x_eq (L' := [(0, .ref (adr 0)), (1, .int lo), (2, .int hi)]) ?_ rfl rfl rfl
  refine x_aload_n O 0 dX6_isAt_0 rfl rfl ?_
  refine x_mget O k_X6_109_6 (mg_6 _ _) dX6_isAt_1 ?_
  refine x_top (v' := nI p) (h6) ?_
  refine x_aload_n O 0 dX6_isAt_4 rfl rfl ?_
  refine x_mget O k_X6_106_6 (mg_7 _ _) dX6_isAt_5 ?_
  refine x_top (v' := nI l) (h7) ?_
  have J2 : ∀ (y1 : Bool), y1 = (if l ≤ p then false else (if (μ 3 p) < lo then false else (if hi < (μ 3 p) then false else true))) → X G F R Q 3 42 [(0, .ref (adr 0))] [.int (b2i y1)] (MS G adr h0 μ) 0 0 := by
    intro y1 e3
    subst e3
    exact x_zretQ O hQ rfl dX6_isAt_42 (fun h m => ⟨by rw [hres], m⟩)
  refine x_icmpgeN O 41 (by omega) (by omega) dX6_isAt_8 (by decide) (fun c8 => ?_) (fun c8 => ?_)
  · refine x_sub [0] (L' := [(0, .ref (adr 0))]) rfl ?_
    refine x_iconst O (nI 0) dX6_isAt_41 (by decide) ?_
    refine x_top (v' := b2i false) (by decide) ?_
    exact J2 false (by rw [if_pos c8])
  · refine x_aload_n O 0 dX6_isAt_11 rfl rfl ?_
    refine x_mget O k_X6_20_6 (mg_4 _ _) dX6_isAt_12 ?_
    refine x_aload_n O 0 dX6_isAt_15 rfl rfl ?_
    refine x_mget O k_X6_109_6 (mg_6 _ _) dX6_isAt_16 ?_
    refine x_top (v' := nI p) (h6) ?_
    refine x_baldN O MS.c3 (by omega) rfl dX6_isAt_19 ?_
    refine x_top (v' := μ 3 p) rfl ?_
    refine x_iload_n O 1 dX6_isAt_20 rfl rfl ?_
    refine x_icmplt O 41 dX6_isAt_21 (by decide) (fun c21 => ?_) (fun c21 => ?_)
    · refine x_sub [0] (L' := [(0, .ref (adr 0))]) rfl ?_
      refine x_iconst O (nI 0) dX6_isAt_41 (by decide) ?_
      refine x_top (v' := b2i false) (by decide) ?_
      exact J2 false (by first | (rw [if_neg c8, if_pos c21]; done) | simp only [if_neg c8, if_pos c21])
    · refine x_sub [0, 2] (L' := [(0, .ref (adr 0)), (2, .int hi)]) rfl ?_
      refine x_aload_n O 0 dX6_isAt_24 rfl rfl ?_
      refine x_mget O k_X6_20_6 (mg_4 _ _) dX6_isAt_25 ?_
      refine x_aload_n O 0 dX6_isAt_28 rfl rfl ?_
      refine x_mget O k_X6_109_6 (mg_6 _ _) dX6_isAt_29 ?_
      refine x_top (v' := nI p) (h6) ?_
      refine x_baldN O MS.c3 (by omega) rfl dX6_isAt_32 ?_
      refine x_top (v' := μ 3 p) rfl ?_
      refine x_iload_n O 1 dX6_isAt_33 rfl rfl ?_
      refine x_icmpgt O 41 dX6_isAt_34 (by decide) (fun c34 => ?_) (fun c34 => ?_)
      · refine x_sub [0] (L' := [(0, .ref (adr 0))]) rfl ?_
        refine x_iconst O (nI 0) dX6_isAt_41 (by decide) ?_
        refine x_top (v' := b2i false) (by decide) ?_
        exact J2 false (by first | (rw [if_neg c8, if_neg c21, if_pos c34]; done) | simp only [if_neg c8, if_neg c21, if_pos c34])
      · refine x_sub [0] (L' := [(0, .ref (adr 0))]) rfl ?_
        refine x_iconst O (nI 1) dX6_isAt_37 (by decide) ?_
        refine x_goto O 42 dX6_isAt_38 (by decide) ?_
        refine x_top (v' := b2i true) (by decide) ?_
        exact J2 true (by first | (rw [if_neg c8, if_neg c21, if_neg c34]; done) | simp only [if_neg c8, if_neg c21, if_neg c34])

theorem isAt_lt {T : Nat → Int32} {p l : Nat} {lo hi : Int32} (h : m_isAt T p l lo hi = true) : p < l := by
  unfold m_isAt at h
  by_cases c : l ≤ p
  · rw [if_pos c] at h; cases h
  · omega

def m_blanks_b0 (C3 : Nat → Int32) (l : Nat) (iw_0 : Nat) (f6_0 : Nat) : (Nat) ⊕ (Nat) :=
  (if m_isAt C3 f6_0 l (nI 32) (nI 32) = true then .inl (f6_0 + 1) else .inr f6_0)
def m_blanks_f6 (C3 : Nat → Int32) (p : Nat) (l : Nat) : Nat :=
  (frb (fun i s => m_blanks_b0 C3 l i s) (l + 1) 0 p)
def m_blanks_f8 (C3 : Nat → Int32) (p : Nat) (l : Nat) : Nat :=
  (frb (fun i s => m_blanks_b0 C3 l i s) (l + 1) 0 p)
set_option maxHeartbeats 1000000 in
set_option maxRecDepth 100000 in
theorem c_m_blanks {G : UG} {adr : Nat → Nat} {h0 : Hp} {μ : Mu} (p : Nat) (h6 : μ 0 6 = nI p) (l : Nat) (h7 : μ 0 7 = nI l) (hl : l ≤ 400) (hpb : p ≤ l)   : Con G yX6_blanks cX6_blanks 1 none 1 22 0 0 [.ref (adr 0)] (MS G adr h0 μ) (fun vr_ h' => vr_ = none ∧ MS G adr h0 (mset (mset μ 0 6 (nI (m_blanks_f6 (μ 3) p l))) 0 8 (nI (m_blanks_f8 (μ 3) p l))) h') nX := by
  refine con_of2 (plainFor_of_name (by decide)) rfl ?_
  intro F R Q RF RL RC RS hQ O hnh hnm
  obtain ⟨rs0, hrs0⟩ : ∃ z, z = m_blanks_f6 (μ 3) p l := ⟨_, rfl⟩
  rw [← hrs0] at hQ
  unfold m_blanks_f6 at hrs0
  obtain ⟨rs1, hrs1⟩ : ∃ z, z = m_blanks_f8 (μ 3) p l := ⟨_, rfl⟩
  rw [← hrs1] at hQ
  unfold m_blanks_f8 at hrs1
  refine x_eq (L' := [(0, .ref (adr 0))]) ?_ rfl rfl rfl
  have LOOP0 : ∀ (cc_ : Nat) (iw_0 : Nat) (f6_0 : Nat), l - f6_0 < cc_ → True → (f6_0 ≤ l) → (p ≤ f6_0) → (∀ (y0 : Nat), y0 = frb (fun i s => m_blanks_b0 (μ 3) l i s) cc_ iw_0 f6_0 → X G F R Q 1 24 [(0, .ref (adr 0))] [] (MS G adr h0 ((mset μ 0 6 (nI y0)))) 0 0) → X G F R Q 1 0 [(0, .ref (adr 0))] [] (MS G adr h0 ((mset μ 0 6 (nI f6_0)))) 0 0 := by
    intro cc_
    induction cc_ using Nat.strongRecOn with
    | ind cc_ IH_ =>
      intro iw_0 f6_0 hc_ hb_ hq_ hqp_ K_
      refine x_aload_n O 0 dX6_blanks_0 rfl rfl ?_
      refine x_bipush O (nI 32) dX6_blanks_1 (by decide) ?_
      refine x_bipush O (nI 32) dX6_blanks_3 (by decide) ?_
      refine x_cV O 2 (c_m_isAt (μ := (mset μ 0 6 (nI f6_0))) f6_0 rd_hit l ((rd_skip (by decide)).trans (h7)) hl hq_ (nI 32) (nI 32)) MS.obj uc6 (lw_V q1868 q1870 qs44 q111 q1871) rfl hd_X6_isAt rfl (by rw [RF]; rfl) (by rw [RL]; rfl) ⟨Nat.zero_le _, Nat.zero_le _⟩ rfl rfl dX6_blanks_5 ?_
      refine x_top (v' := b2i (m_isAt (μ 3) f6_0 l (nI 32) (nI 32))) (by rw [show (mset μ 0 6 (nI f6_0)) 3 = μ 3 from (mset_n (by decide))]) ?_
      refine x_ifeqB O 24 dX6_blanks_8 (by decide) (fun c8 => ?_) (fun c8 => ?_)
      · obtain ⟨c2_, rfl⟩ : ∃ z, cc_ = z + 1 := ⟨cc_ - 1, by omega⟩
        have hs_ : (fun i s => m_blanks_b0 (μ 3) l i s) iw_0 f6_0 = .inr f6_0 := by show m_blanks_b0 (μ 3) l iw_0 f6_0 = _; unfold m_blanks_b0; rw [if_neg c8]
        exact K_ _ (frb_stop hs_).symm
      · refine x_aload_n O 0 dX6_blanks_11 rfl rfl ?_
        refine x_dup O dX6_blanks_12 rfl ?_
        refine x_mget O k_X6_109_6 (mg_6 _ _) dX6_blanks_13 ?_
        refine x_top (v' := nI f6_0) rd_hit ?_
        refine x_iconst O (nI 1) dX6_blanks_16 (by decide) ?_
        refine x_iaddN O dX6_blanks_17 ?_
        refine x_mputQ O p_X6_109_6 (mp_6 _ _ _) rfl dX6_blanks_18 (μ' := (mset μ 0 6 (nI (f6_0 + 1)))) ff_s ?_
        refine x_goto O 0 dX6_blanks_21 (by decide) ?_
        obtain ⟨c2_, rfl⟩ : ∃ z, cc_ = z + 1 := ⟨cc_ - 1, by omega⟩
        have hs_ : (fun i s => m_blanks_b0 (μ 3) l i s) iw_0 f6_0 = .inl (f6_0 + 1) := by show m_blanks_b0 (μ 3) l iw_0 f6_0 = _; unfold m_blanks_b0; rw [if_pos c8]
        exact IH_ c2_ (by omega) _ _ (by have := isAt_lt c8; omega) trivial (by have := isAt_lt c8; omega) (by omega) (fun y0 hy_ => K_ y0 (hy_.trans (frb_step hs_).symm))
  refine x_weak (Ω' := MS G adr h0 ((mset μ 0 6 (nI p)))) (fun _ m => m.eq (mf_id (k := 6) (v := nI p) (by exact (h6))).symm) ?_
  refine LOOP0 (l + 1) 0 p (by omega) trivial (by omega) (by omega) (fun y0 hy_0 => ?_)
  subst hy_0
  refine x_aload_n O 0 dX6_blanks_24 rfl rfl ?_
  refine x_aload_n O 0 dX6_blanks_25 rfl rfl ?_
  refine x_mget O k_X6_109_6 (mg_6 _ _) dX6_blanks_26 ?_
  refine x_top (v' := nI ((frb (fun i s => m_blanks_b0 (μ 3) l i s) (l + 1) 0 p))) rd_hit ?_
  refine x_mputQ O p_X6_121_6 (mp_8 _ _ _) rfl dX6_blanks_29 (μ' := (mset (mset μ 0 6 (nI ((frb (fun i s => m_blanks_b0 (μ 3) l i s) (l + 1) 0 p)))) 0 8 (nI ((frb (fun i s => m_blanks_b0 (μ 3) l i s) (l + 1) 0 p))))) rfl ?_
  exact x_vretQ O hQ rfl dX6_blanks_32 (fun h m => ⟨rfl, by rw [hrs0, hrs1]; exact m.eq rfl⟩)

/-- letters of a kind from p on -/
def skn (f : Nat → Bool) : Nat → Nat → Nat
  | 0, p => p
  | n + 1, p => if f p = true then skn f n (p + 1) else p
theorem frb_sk {f : Nat → Bool} {g : Nat → Nat → Nat ⊕ Nat} {l : Nat} (hg : ∀ i p, g i p = if f p = true then .inl (p + 1) else .inr p) (hf : ∀ p, f p = true → p < l) : ∀ c i p, l - p < c → frb g c i p = skn f (l - p) p
  | 0, _, _, h => absurd h (by omega)
  | c + 1, i, p, h => by
    by_cases q : f p = true
    · have hp := hf p q
      obtain ⟨m, hm⟩ : ∃ m, l - p = m + 1 := ⟨l - p - 1, by omega⟩
      rw [frb_step (by rw [hg, if_pos q]), frb_sk hg hf c (i + 1) (p + 1) (by omega), hm]
      show _ = if f p = true then skn f m (p + 1) else p
      rw [if_pos q, show l - (p + 1) = m by omega]
    · rw [frb_stop (by rw [hg, if_neg q])]
      cases l - p with
      | zero => rfl
      | succ m => exact (if_neg q).symm
theorem skn_le {f : Nat → Bool} {l : Nat} (hf : ∀ p, f p = true → p < l) : ∀ n p, p ≤ l → p ≤ skn f n p ∧ skn f n p ≤ l
  | 0, p, h => ⟨Nat.le_refl _, h⟩
  | n + 1, p, h => by
    show p ≤ (if f p = true then skn f n (p + 1) else p) ∧ (if f p = true then skn f n (p + 1) else p) ≤ l
    by_cases q : f p = true
    · rw [if_pos q]
      have := skn_le hf n (p + 1) (hf p q)
      omega
    · rw [if_neg q]; exact ⟨Nat.le_refl _, h⟩
theorem skn_stop {f : Nat → Bool} {l : Nat} (hf : ∀ p, f p = true → p < l) : ∀ n p, n = l - p → ¬ f (skn f n p) = true
  | 0, p, h => fun q => by
    have := hf _ q
    have e : skn f 0 p = p := rfl
    rw [e] at this; omega
  | n + 1, p, h => by
    show ¬ f (if f p = true then skn f n (p + 1) else p) = true
    by_cases q : f p = true
    · rw [if_pos q]; exact skn_stop hf n (p + 1) (by omega)
    · rw [if_neg q]; exact q
def bl (T : Nat → Int32) (p l : Nat) : Nat := skn (fun q => m_isAt T q l (nI 32) (nI 32)) (l - p) p
theorem bl_6 (T : Nat → Int32) (p l : Nat) : m_blanks_f6 T p l = bl T p l := frb_sk (fun _ _ => rfl) (fun _ h => isAt_lt h) _ _ _ (by omega)
theorem bl_8 (T : Nat → Int32) (p l : Nat) : m_blanks_f8 T p l = bl T p l := bl_6 T p l
theorem bl_le {T : Nat → Int32} {p l : Nat} (h : p ≤ l) : p ≤ bl T p l ∧ bl T p l ≤ l := skn_le (fun _ h => isAt_lt h) _ _ h
theorem bl6_le {T : Nat → Int32} {p l : Nat} (h : p ≤ l) : p ≤ m_blanks_f6 T p l ∧ m_blanks_f6 T p l ≤ l := by rw [bl_6]; exact bl_le h

def m_letters_b4 (C3 : Nat → Int32) (l : Nat) (iw_4 : Nat) (f6_4 : Nat) : (Nat) ⊕ (Nat) :=
  (if m_isAt C3 f6_4 l (nI 97) (nI 122) = true then .inl (f6_4 + 1) else .inr f6_4)
def m_letters_f6 (C3 : Nat → Int32) (p : Nat) (l : Nat) : Nat :=
  (frb (fun i s => m_letters_b4 C3 l i s) (l + 1) 0 (m_blanks_f6 C3 p l))
def m_letters_f8 (C3 : Nat → Int32) (p : Nat) (l : Nat) : Nat :=
  m_blanks_f8 C3 p l
set_option maxHeartbeats 1000000 in
set_option maxRecDepth 100000 in
theorem c_m_letters {G : UG} {adr : Nat → Nat} {h0 : Hp} {μ : Mu} (p : Nat) (h6 : μ 0 6 = nI p) (l : Nat) (h7 : μ 0 7 = nI l) (hl : l ≤ 400) (hpb : p ≤ l)   : Con G yX6_letters cX6_letters 1 none 2 42 0 0 [.ref (adr 0)] (MS G adr h0 μ) (fun vr_ h' => vr_ = none ∧ MS G adr h0 (mset (mset μ 0 6 (nI (m_letters_f6 (μ 3) p l))) 0 8 (nI (m_letters_f8 (μ 3) p l))) h') nX := by
  refine con_of2 (plainFor_of_name (by decide)) rfl ?_
  intro F R Q RF RL RC RS hQ O hnh hnm
  obtain ⟨rs0, hrs0⟩ : ∃ z, z = m_letters_f6 (μ 3) p l := ⟨_, rfl⟩
  rw [← hrs0] at hQ
  unfold m_letters_f6 at hrs0
  obtain ⟨rs1, hrs1⟩ : ∃ z, z = m_letters_f8 (μ 3) p l := ⟨_, rfl⟩
  rw [← hrs1] at hQ
  unfold m_letters_f8 at hrs1
  have hb := bl6_le (T := μ 3) hpb
  refine x_eq (L' := [(0, .ref (adr 0))]) ?_ rfl rfl rfl
  refine x_aload_n O 0 dX6_letters_0 rfl rfl ?_
  refine x_cV O 0 (c_m_blanks (μ := μ) p (h6) l (h7) hl hpb) MS.obj uc6 (lw_V q1864 q1866 qs43 q111 q1867) rfl hd_X6_blanks rfl (by rw [RF]; rfl) (by rw [RL]; rfl) ⟨Nat.zero_le _, Nat.zero_le _⟩ rfl rfl dX6_letters_1 ?_
  refine x_weak (Ω' := MS G adr h0 (mset (mset μ 0 6 (nI (m_blanks_f6 (μ 3) p l))) 0 8 (nI (m_blanks_f8 (μ 3) p l)))) (fun _ m => m.eq rfl) ?_
  have LOOP4 : ∀ (cc_ : Nat) (iw_4 : Nat) (f6_4 : Nat), l - f6_4 < cc_ → True → (f6_4 ≤ l) → (p ≤ f6_4) → (∀ (y0 : Nat), y0 = frb (fun i s => m_letters_b4 (μ 3) l i s) cc_ iw_4 f6_4 → X G F R Q 1 28 [(0, .ref (adr 0))] [] (MS G adr h0 ((mset (mset μ 0 6 (nI y0)) 0 8 (nI (m_blanks_f8 (μ 3) p l))))) 0 0) → X G F R Q 1 4 [(0, .ref (adr 0))] [] (MS G adr h0 ((mset (mset μ 0 6 (nI f6_4)) 0 8 (nI (m_blanks_f8 (μ 3) p l))))) 0 0 := by
    intro cc_
    induction cc_ using Nat.strongRecOn with
    | ind cc_ IH_ =>
      intro iw_4 f6_4 hc_ hb_ hq_ hqp_ K_
      refine x_aload_n O 0 dX6_letters_4 rfl rfl ?_
      refine x_bipush O (nI 97) dX6_letters_5 (by decide) ?_
      refine x_bipush O (nI 122) dX6_letters_7 (by decide) ?_
      refine x_cV O 2 (c_m_isAt (μ := (mset (mset μ 0 6 (nI f6_4)) 0 8 (nI (m_blanks_f8 (μ 3) p l)))) f6_4 ((rd_skip (by decide)).trans rd_hit) l ((rd_skip (by decide)).trans ((rd_skip (by decide)).trans (h7))) hl hq_ (nI 97) (nI 122)) MS.obj uc6 (lw_V q1868 q1870 qs44 q111 q1871) rfl hd_X6_isAt rfl (by rw [RF]; rfl) (by rw [RL]; rfl) ⟨Nat.zero_le _, Nat.zero_le _⟩ rfl rfl dX6_letters_9 ?_
      refine x_top (v' := b2i (m_isAt (μ 3) f6_4 l (nI 97) (nI 122))) (by rw [show (mset (mset μ 0 6 (nI f6_4)) 0 8 (nI (m_blanks_f8 (μ 3) p l))) 3 = μ 3 from ((mset_n (by decide)).trans (mset_n (by decide)))]) ?_
      refine x_ifeqB O 28 dX6_letters_12 (by decide) (fun c12 => ?_) (fun c12 => ?_)
      · obtain ⟨c2_, rfl⟩ : ∃ z, cc_ = z + 1 := ⟨cc_ - 1, by omega⟩
        have hs_ : (fun i s => m_letters_b4 (μ 3) l i s) iw_4 f6_4 = .inr f6_4 := by show m_letters_b4 (μ 3) l iw_4 f6_4 = _; unfold m_letters_b4; rw [if_neg c12]
        exact K_ _ (frb_stop hs_).symm
      · refine x_aload_n O 0 dX6_letters_15 rfl rfl ?_
        refine x_dup O dX6_letters_16 rfl ?_
        refine x_mget O k_X6_109_6 (mg_6 _ _) dX6_letters_17 ?_
        refine x_top (v' := nI f6_4) ((rd_skip (by decide)).trans rd_hit) ?_
        refine x_iconst O (nI 1) dX6_letters_20 (by decide) ?_
        refine x_iaddN O dX6_letters_21 ?_
        refine x_mputQ O p_X6_109_6 (mp_6 _ _ _) rfl dX6_letters_22 (μ' := (mset (mset μ 0 6 (nI (f6_4 + 1))) 0 8 (nI (m_blanks_f8 (μ 3) p l)))) ((ff_n (by decide)).trans (congrArg (fun m_ => mset m_ 0 8 _) ff_s)) ?_
        refine x_goto O 4 dX6_letters_25 (by decide) ?_
        obtain ⟨c2_, rfl⟩ : ∃ z, cc_ = z + 1 := ⟨cc_ - 1, by omega⟩
        have hs_ : (fun i s => m_letters_b4 (μ 3) l i s) iw_4 f6_4 = .inl (f6_4 + 1) := by show m_letters_b4 (μ 3) l iw_4 f6_4 = _; unfold m_letters_b4; rw [if_pos c12]
        exact IH_ c2_ (by omega) _ _ (by have := isAt_lt c12; omega) trivial (by have := isAt_lt c12; omega) (by omega) (fun y0 hy_ => K_ y0 (hy_.trans (frb_step hs_).symm))
  refine LOOP4 (l + 1) 0 (m_blanks_f6 (μ 3) p l) (by omega) trivial hb.2 hb.1 (fun y0 hy_4 => ?_)
  subst hy_4
  exact x_vretQ O hQ rfl dX6_letters_28 (fun h m => ⟨rfl, by rw [hrs0, hrs1]; exact m.eq rfl⟩)

def lt (T : Nat → Int32) (p l : Nat) : Nat := skn (fun q => m_isAt T q l (nI 97) (nI 122)) (l - bl T p l) (bl T p l)
theorem lt_6 (T : Nat → Int32) (p l : Nat) : m_letters_f6 T p l = lt T p l := by
  unfold m_letters_f6 lt
  rw [bl_6]
  exact frb_sk (fun _ _ => rfl) (fun _ h => isAt_lt h) _ _ _ (by omega)
theorem lt_8 (T : Nat → Int32) (p l : Nat) : m_letters_f8 T p l = bl T p l := bl_8 T p l
theorem lt_le {T : Nat → Int32} {p l : Nat} (h : p ≤ l) : bl T p l ≤ lt T p l ∧ lt T p l ≤ l := skn_le (fun _ h => isAt_lt h) _ _ (bl_le h).2

def m_isWord_b24 (C3 : Nat → Int32) (b : Nat) (w : Nat) (iw_24 : Nat) (v3_24 : Nat) (v2_24 : Bool) : (Nat × Bool) ⊕ (Nat × Bool) :=
  (if v2_24 = true then (if sN w ≤ v3_24 then .inr (v3_24, v2_24) else .inl (v3_24 + 1, (if (C3 (b + v3_24)) = (sB w v3_24) then true else false))) else .inr (v3_24, v2_24))
def m_isWord (C3 : Nat → Int32) (p : Nat) (b : Nat) (w : Nat) : Bool :=
  (frb (fun i s => m_isWord_b24 C3 b w i s.1 s.2) (sN w + 1) 0 (0, (if p - b = sN w then true else false))).2
set_option maxHeartbeats 1000000 in
set_option maxRecDepth 100000 in
theorem c_m_isWord {G : UG} {adr : Nat → Nat} {h0 : Hp} {μ : Mu} (p : Nat) (h6 : μ 0 6 = nI p) (b : Nat) (h8 : μ 0 8 = nI b) (hp4 : p ≤ 400) (hbp : b ≤ p) (w : Nat) (hw : w < uSN) : Con G yX6_isWord cX6_isWord 4 (some .boolean) 4 85 0 0 [.ref (adr 0), .ref (uK G w)] (MS G adr h0 μ) (fun vr_ h' => vr_ = some (.int (b2i (m_isWord (μ 3) p b w))) ∧ MS G adr h0 μ h') nX := by
  refine con_of2 (plainFor_of_name (by decide)) rfl ?_
  intro F R Q RF RL RC RS hQ O hnh hnm
  obtain ⟨res, hres⟩ : ∃ z, z = (m_isWord (μ 3) p b w) := ⟨_, rfl⟩
  rw [← hres] at hQ
  unfold m_isWord at hres
  have hw7 := sN_le w hw
  refine x_eq (L' := [(0, .ref (adr 0)), (1, .ref (uK G w))]) ?_ rfl rfl rfl
  refine x_aload_n O 0 dX6_isWord_0 rfl rfl ?_
  refine x_mget O k_X6_109_6 (mg_6 _ _) dX6_isWord_1 ?_
  refine x_top (v' := nI p) (h6) ?_
  refine x_aload_n O 0 dX6_isWord_4 rfl rfl ?_
  refine x_mget O k_X6_121_6 (mg_8 _ _) dX6_isWord_5 ?_
  refine x_top (v' := nI b) (h8) ?_
  refine x_isubN O hbp dX6_isWord_8 ?_
  refine x_aload_n O 1 dX6_isWord_9 rfl rfl ?_
  refine x_cVK O 0 (c_s_len (i := w) hw) hw (lw_V q1885 q853 q854 q114 q855) rfl hd_J5_length rfl (by rw [RF]; rfl) (by rw [RL]; rfl) ⟨Nat.zero_le _, Nat.zero_le _⟩ rfl rfl dX6_isWord_10 ?_
  refine x_top (v' := nI (sN w)) rfl ?_
  have J3 : ∀ (y1 : Bool), y1 = (if p - b = sN w then true else false) → X G F R Q 4 21 [(0, .ref (adr 0)), (1, .ref (uK G w))] [.int (b2i y1)] (MS G adr h0 μ) 0 0 := by
    intro y1 e4
    subst e4
    refine x_istore_n O [(2, .int (b2i ((if p - b = sN w then true else false)))), (0, .ref (adr 0)), (1, .ref (uK G w))] dX6_isWord_21 rfl rfl rfl ?_
    refine x_iconst O (nI 0) dX6_isWord_22 (by decide) ?_
    refine x_istore_n O [(3, .int (nI 0)), (2, .int (b2i ((if p - b = sN w then true else false)))), (0, .ref (adr 0)), (1, .ref (uK G w))] dX6_isWord_23 rfl rfl rfl ?_
    have LOOP24 : ∀ (cc_ : Nat) (iw_24 : Nat) (v3_24 : Nat) (v2_24 : Bool), sN w - v3_24 < cc_ → True → (v2_24 = true → p - b = sN w) → (v3_24 ≤ sN w) → (∀ (y0 : Nat) (y1 : Bool), (y0, y1) = frb (fun i s => m_isWord_b24 (μ 3) b w i s.1 s.2) cc_ iw_24 (v3_24, v2_24) → X G F R Q 4 67 [(2, .int (b2i y1)), (0, .ref (adr 0))] [] (MS G adr h0 μ) 0 0) → X G F R Q 4 24 [(3, .int (nI v3_24)), (2, .int (b2i v2_24)), (0, .ref (adr 0)), (1, .ref (uK G w))] [] (MS G adr h0 μ) 0 0 := by
      intro cc_
      induction cc_ using Nat.strongRecOn with
      | ind cc_ IH_ =>
        intro iw_24 v3_24 v2_24 hc_ hb_ hv_ hk_ K_
        refine x_iload_n O 1 dX6_isWord_24 rfl rfl ?_
        refine x_ifeqB O 67 dX6_isWord_25 (by decide) (fun c25 => ?_) (fun c25 => ?_)
        · refine x_sub [1, 2] (L' := [(2, .int (b2i v2_24)), (0, .ref (adr 0))]) rfl ?_
          obtain ⟨c2_, rfl⟩ : ∃ z, cc_ = z + 1 := ⟨cc_ - 1, by omega⟩
          have hs_ : (fun i s => m_isWord_b24 (μ 3) b w i s.1 s.2) iw_24 (v3_24, v2_24) = .inr (v3_24, v2_24) := by show m_isWord_b24 (μ 3) b w iw_24 v3_24 v2_24 = _; unfold m_isWord_b24; rw [if_neg c25]
          exact K_ _ _ (frb_stop hs_).symm
        · refine x_iload_n O 0 dX6_isWord_28 rfl rfl ?_
          refine x_aload_n O 3 dX6_isWord_29 rfl rfl ?_
          refine x_cVK O 0 (c_s_len (i := w) hw) hw (lw_V q1885 q853 q854 q114 q855) rfl hd_J5_length rfl (by rw [RF]; rfl) (by rw [RL]; rfl) ⟨Nat.zero_le _, Nat.zero_le _⟩ rfl rfl dX6_isWord_30 ?_
          refine x_top (v' := nI (sN w)) rfl ?_
          refine x_icmpgeN O 67 (by omega) (by omega) dX6_isWord_33 (by decide) (fun c33 => ?_) (fun c33 => ?_)
          · refine x_sub [1, 2] (L' := [(2, .int (b2i v2_24)), (0, .ref (adr 0))]) rfl ?_
            obtain ⟨c2_, rfl⟩ : ∃ z, cc_ = z + 1 := ⟨cc_ - 1, by omega⟩
            have hs_ : (fun i s => m_isWord_b24 (μ 3) b w i s.1 s.2) iw_24 (v3_24, v2_24) = .inr (v3_24, v2_24) := by show m_isWord_b24 (μ 3) b w iw_24 v3_24 v2_24 = _; unfold m_isWord_b24; rw [if_pos c25, if_pos c33]
            exact K_ _ _ (frb_stop hs_).symm
          · refine x_sub [0, 2, 3] (L' := [(3, .int (nI v3_24)), (0, .ref (adr 0)), (1, .ref (uK G w))]) rfl ?_
            refine x_aload_n O 1 dX6_isWord_36 rfl rfl ?_
            refine x_mget O k_X6_20_6 (mg_4 _ _) dX6_isWord_37 ?_
            refine x_aload_n O 1 dX6_isWord_40 rfl rfl ?_
            refine x_mget O k_X6_121_6 (mg_8 _ _) dX6_isWord_41 ?_
            refine x_top (v' := nI b) (h8) ?_
            refine x_iload_n O 0 dX6_isWord_44 rfl rfl ?_
            refine x_iaddN O dX6_isWord_45 ?_
            refine x_baldN O MS.c3 (by have := hv_ c25; omega) rfl dX6_isWord_46 ?_
            refine x_top (v' := μ 3 (b + v3_24)) rfl ?_
            refine x_aload_n O 2 dX6_isWord_47 rfl rfl ?_
            refine x_iload_n O 0 dX6_isWord_48 rfl rfl ?_
            refine x_cVK O 1 (c_s_charAt (i := w) (j := v3_24) hw (by omega)) hw (lw_V q1886 q863 q864 q114 q865) rfl hd_J5_charAt rfl (by rw [RF]; rfl) (by rw [RL]; rfl) ⟨Nat.zero_le _, Nat.zero_le _⟩ rfl rfl dX6_isWord_49 ?_
            refine x_top (v' := sB w v3_24) rfl ?_
            have J5 : ∀ (y2 : Bool), y2 = (if (μ 3 (b + v3_24)) = (sB w v3_24) then true else false) → X G F R Q 4 60 [(3, .int (nI v3_24)), (0, .ref (adr 0)), (1, .ref (uK G w))] [.int (b2i y2)] (MS G adr h0 μ) 0 0 := by
              intro y2 e6
              subst e6
              refine x_istore_n O [(2, .int (b2i ((if (μ 3 (b + v3_24)) = (sB w v3_24) then true else false)))), (3, .int (nI v3_24)), (0, .ref (adr 0)), (1, .ref (uK G w))] dX6_isWord_60 rfl rfl rfl ?_
              refine x_iincN O 1 [(3, .int (nI (v3_24 + 1))), (2, .int (b2i ((if (μ 3 (b + v3_24)) = (sB w v3_24) then true else false)))), (0, .ref (adr 0)), (1, .ref (uK G w))] dX6_isWord_61 rfl rfl rfl ?_
              refine x_goto O 24 dX6_isWord_64 (by decide) ?_
              obtain ⟨c2_, rfl⟩ : ∃ z, cc_ = z + 1 := ⟨cc_ - 1, by omega⟩
              have hs_ : (fun i s => m_isWord_b24 (μ 3) b w i s.1 s.2) iw_24 (v3_24, v2_24) = .inl (v3_24 + 1, (if (μ 3 (b + v3_24)) = (sB w v3_24) then true else false)) := by show m_isWord_b24 (μ 3) b w iw_24 v3_24 v2_24 = _; unfold m_isWord_b24; rw [if_pos c25, if_neg c33]
              exact IH_ c2_ (by omega) _ _ _ (by omega) trivial (fun _ => hv_ c25) (by omega) (fun y0 y1 hy_ => K_ y0 y1 (hy_.trans (frb_step hs_).symm))
            refine x_icmpne O 59 dX6_isWord_52 (by decide) (fun c52 => ?_) (fun c52 => ?_)
            · refine x_iconst O (nI 0) dX6_isWord_59 (by decide) ?_
              refine x_top (v' := b2i false) (by decide) ?_
              exact J5 false (by rw [if_neg c52])
            · refine x_iconst O (nI 1) dX6_isWord_55 (by decide) ?_
              refine x_goto O 60 dX6_isWord_56 (by decide) ?_
              refine x_top (v' := b2i true) (by decide) ?_
              exact J5 true (by rw [if_pos c52])
    refine LOOP24 (sN w + 1) 0 0 ((if p - b = sN w then true else false)) (by omega) trivial (fun h => by by_cases c : p - b = sN w; exact c; simp [c] at h) (Nat.zero_le _) (fun y0 y1 hy_24 => ?_)
    obtain rfl : y0 = (frb (fun i s => m_isWord_b24 (μ 3) b w i s.1 s.2) (sN w + 1) 0 (0, (if p - b = sN w then true else false))).1 := congrArg (fun z => z.1) hy_24
    obtain rfl : y1 = (frb (fun i s => m_isWord_b24 (μ 3) b w i s.1 s.2) (sN w + 1) 0 (0, (if p - b = sN w then true else false))).2 := congrArg (fun z => z.2) hy_24
    refine x_iload_n O 0 dX6_isWord_67 rfl rfl ?_
    exact x_zretQ O hQ rfl dX6_isWord_68 (fun h m => ⟨by rw [hres], m⟩)
  refine x_icmpneN O 20 (by omega) (by omega) dX6_isWord_13 (by decide) (fun c13 => ?_) (fun c13 => ?_)
  · refine x_iconst O (nI 0) dX6_isWord_20 (by decide) ?_
    refine x_top (v' := b2i false) (by decide) ?_
    exact J3 false (by rw [if_neg c13])
  · refine x_iconst O (nI 1) dX6_isWord_16 (by decide) ?_
    refine x_goto O 21 dX6_isWord_17 (by decide) ?_
    refine x_top (v' := b2i true) (by decide) ?_
    exact J3 true (by rw [if_pos c13])

def m_emits_f12 (W : Nat → Int32) (st : Nat) (step : Int32) (n : Int32) : Nat :=
  st + 1
def m_emits_c1 (W : Nat → Int32) (st : Nat) (step : Int32) (n : Int32) : Nat → Int32 :=
  ups (ups W (m_textAt 9 + 31 + 2 * st) step) (m_textAt 9 + 31 + 2 * st + 1) n
set_option maxHeartbeats 1000000 in
set_option maxRecDepth 100000 in
theorem c_m_emits {G : UG} {adr : Nat → Nat} {h0 : Hp} {μ : Mu} (st : Nat) (h12 : μ 0 12 = nI st) (hst : st < 400) (step : Int32) (n : Int32)  : Con G yX6_emits cX6_emits 4 none 1 20 0 0 [.ref (adr 0), .int step, .int n] (MS G adr h0 μ) (fun vr_ h' => vr_ = none ∧ MS G adr h0 (mc (mset μ 0 12 (nI (m_emits_f12 (μ 1) st step n))) 1 (m_emits_c1 (μ 1) st step n)) h') nX := by
  refine con_of2 (plainFor_of_name (by decide)) rfl ?_
  intro F R Q RF RL RC RS hQ O hnh hnm
  obtain ⟨rs0, hrs0⟩ : ∃ z, z = m_emits_f12 (μ 1) st step n := ⟨_, rfl⟩
  rw [← hrs0] at hQ
  unfold m_emits_f12 at hrs0
  obtain ⟨rs1, hrs1⟩ : ∃ z, z = m_emits_c1 (μ 1) st step n := ⟨_, rfl⟩
  rw [← hrs1] at hQ
  unfold m_emits_c1 at hrs1
  refine x_eq (L' := [(0, .ref (adr 0)), (1, .int step), (2, .int n)]) ?_ rfl rfl rfl
  refine x_bipush O (nI 9) dX6_emits_0 (by decide) ?_
  refine x_cS O 1 (c_m_textAt 9) (lw_S q1845 q1846 q111 q1847) hd_X6_textAt rfl (by rw [RF]; rfl) (by rw [RL]; rfl) ⟨Nat.zero_le _, Nat.zero_le _⟩ rfl rfl dX6_emits_2 ?_
  refine x_top (v' := nI (m_textAt 9)) rfl ?_
  refine x_bipush O (nI 31) dX6_emits_5 (by decide) ?_
  refine x_iaddN O dX6_emits_7 ?_
  refine x_iconst O (nI 2) dX6_emits_8 (by decide) ?_
  refine x_aload_n O 0 dX6_emits_9 rfl rfl ?_
  refine x_mget O k_X6_112_6 (mg_12 _ _) dX6_emits_10 ?_
  refine x_top (v' := nI st) (h12) ?_
  refine x_imulN O dX6_emits_13 ?_
  refine x_iaddN O dX6_emits_14 ?_
  refine x_istore_n O [(3, .int (nI (m_textAt 9 + 31 + 2 * st))), (0, .ref (adr 0)), (1, .int step), (2, .int n)] dX6_emits_15 rfl rfl rfl ?_
  refine x_aload_n O 1 dX6_emits_16 rfl rfl ?_
  refine x_mget O k_X6_13_6 (mg_1 _ _) dX6_emits_17 ?_
  refine x_iload_n O 0 dX6_emits_20 rfl rfl ?_
  refine x_iload_n O 2 dX6_emits_21 rfl rfl ?_
  refine x_mastQ O 0 MS.c1 rfl rfl rfl (by unfold m_textAt; omega) rfl dX6_emits_22 (μ' := (mc μ 1 (ups (μ 1) (m_textAt 9 + 31 + 2 * st) step))) (w_new (f := μ 1) (by rfl)) ?_
  refine x_aload_n O 1 dX6_emits_23 rfl rfl ?_
  refine x_mget O k_X6_13_6 (mg_1 _ _) dX6_emits_24 ?_
  refine x_iload_n O 0 dX6_emits_27 rfl rfl ?_
  refine x_iconst O (nI 1) dX6_emits_28 (by decide) ?_
  refine x_iaddN O dX6_emits_29 ?_
  refine x_iload_n O 3 dX6_emits_30 rfl rfl ?_
  refine x_mastQ O 0 MS.c1 rfl rfl rfl (by unfold m_textAt; omega) rfl dX6_emits_31 (μ' := (mc μ 1 (ups (ups (μ 1) (m_textAt 9 + 31 + 2 * st) step) (m_textAt 9 + 31 + 2 * st + 1) n))) wc_s ?_
  refine x_aload_n O 1 dX6_emits_32 rfl rfl ?_
  refine x_dup O dX6_emits_33 rfl ?_
  refine x_mget O k_X6_112_6 (mg_12 _ _) dX6_emits_34 ?_
  refine x_top (v' := nI st) ((congrFun (mc_n (by decide)) 12).trans (h12)) ?_
  refine x_iconst O (nI 1) dX6_emits_37 (by decide) ?_
  refine x_iaddN O dX6_emits_38 ?_
  refine x_mputQ O p_X6_112_6 (mp_12 _ _ _) rfl dX6_emits_39 (μ' := (mc (mset μ 0 12 (nI (st + 1))) 1 (ups (ups (μ 1) (m_textAt 9 + 31 + 2 * st) step) (m_textAt 9 + 31 + 2 * st + 1) n))) (wc_n (by decide)) ?_
  exact x_vretQ O hQ rfl dX6_emits_42 (fun h m => ⟨rfl, by rw [hrs0, hrs1]; exact m.eq rfl⟩)

def m_sign (C3 : Nat → Int32) (p : Nat) (l : Nat) (c : Int32) : Bool :=
  (if m_isAt C3 (m_blanks_f6 C3 p l) l c c = true then true else false)
def m_sign_f6 (C3 : Nat → Int32) (p : Nat) (l : Nat) (c : Int32) : Nat :=
  (if m_isAt C3 (m_blanks_f6 C3 p l) l c c = true then m_blanks_f6 C3 p l + 1 else m_blanks_f6 C3 p l)
def m_sign_f8 (C3 : Nat → Int32) (p : Nat) (l : Nat) (c : Int32) : Nat :=
  m_blanks_f8 C3 p l
set_option maxHeartbeats 1000000 in
set_option maxRecDepth 100000 in
theorem c_m_sign {G : UG} {adr : Nat → Nat} {h0 : Hp} {μ : Mu} (p : Nat) (h6 : μ 0 6 = nI p) (l : Nat) (h7 : μ 0 7 = nI l) (hl : l ≤ 400) (hpb : p ≤ l) (c : Int32)  : Con G yX6_sign cX6_sign 2 (some .boolean) 2 42 0 0 [.ref (adr 0), .int c] (MS G adr h0 μ) (fun vr_ h' => vr_ = some (.int (b2i (m_sign (μ 3) p l c))) ∧ MS G adr h0 (mset (mset μ 0 6 (nI (m_sign_f6 (μ 3) p l c))) 0 8 (nI (m_sign_f8 (μ 3) p l c))) h') nX := by
  refine con_of2 (plainFor_of_name (by decide)) rfl ?_
  intro F R Q RF RL RC RS hQ O hnh hnm
  obtain ⟨res, hres⟩ : ∃ z, z = (m_sign (μ 3) p l c) := ⟨_, rfl⟩
  rw [← hres] at hQ
  unfold m_sign at hres
  obtain ⟨rs0, hrs0⟩ : ∃ z, z = m_sign_f6 (μ 3) p l c := ⟨_, rfl⟩
  rw [← hrs0] at hQ
  unfold m_sign_f6 at hrs0
  obtain ⟨rs1, hrs1⟩ : ∃ z, z = m_sign_f8 (μ 3) p l c := ⟨_, rfl⟩
  rw [← hrs1] at hQ
  unfold m_sign_f8 at hrs1
  have hb := bl6_le (T := μ 3) hpb
  refine x_eq (L' := [(0, .ref (adr 0)), (1, .int c)]) ?_ rfl rfl rfl
  refine x_aload_n O 0 dX6_sign_0 rfl rfl ?_
  refine x_cV O 0 (c_m_blanks (μ := μ) p (h6) l (h7) hl hpb) MS.obj uc6 (lw_V q1864 q1866 qs43 q111 q1867) rfl hd_X6_blanks rfl (by rw [RF]; rfl) (by rw [RL]; rfl) ⟨Nat.zero_le _, Nat.zero_le _⟩ rfl rfl dX6_sign_1 ?_
  refine x_weak (Ω' := MS G adr h0 (mset (mset μ 0 6 (nI (m_blanks_f6 (μ 3) p l))) 0 8 (nI (m_blanks_f8 (μ 3) p l)))) (fun _ m => m.eq rfl) ?_
  refine x_aload_n O 0 dX6_sign_4 rfl rfl ?_
  refine x_iload_n O 1 dX6_sign_5 rfl rfl ?_
  refine x_iload_n O 1 dX6_sign_6 rfl rfl ?_
  refine x_cV O 2 (c_m_isAt (μ := (mset (mset μ 0 6 (nI (m_blanks_f6 (μ 3) p l))) 0 8 (nI (m_blanks_f8 (μ 3) p l)))) (m_blanks_f6 (μ 3) p l) ((rd_skip (by decide)).trans rd_hit) l ((rd_skip (by decide)).trans ((rd_skip (by decide)).trans (h7))) hl hb.2 c c) MS.obj uc6 (lw_V q1868 q1870 qs44 q111 q1871) rfl hd_X6_isAt rfl (by rw [RF]; rfl) (by rw [RL]; rfl) ⟨Nat.zero_le _, Nat.zero_le _⟩ rfl rfl dX6_sign_7 ?_
  refine x_top (v' := b2i (m_isAt (μ 3) (m_blanks_f6 (μ 3) p l) l c c)) (by rw [show (mset (mset μ 0 6 (nI (m_blanks_f6 (μ 3) p l))) 0 8 (nI (m_blanks_f8 (μ 3) p l))) 3 = μ 3 from ((mset_n (by decide)).trans (mset_n (by decide)))]) ?_
  refine x_ifneB O 15 dX6_sign_10 (by decide) (fun c10 => ?_) (fun c10 => ?_)
  · have hr1 := hres.trans (if_pos c10)
    have hr2 := hrs0.trans (if_pos c10)
    refine x_sub [0] (L' := [(0, .ref (adr 0))]) rfl ?_
    refine x_aload_n O 0 dX6_sign_15 rfl rfl ?_
    refine x_dup O dX6_sign_16 rfl ?_
    refine x_mget O k_X6_109_6 (mg_6 _ _) dX6_sign_17 ?_
    refine x_top (v' := nI (m_blanks_f6 (μ 3) p l)) ((rd_skip (by decide)).trans rd_hit) ?_
    refine x_iconst O (nI 1) dX6_sign_20 (by decide) ?_
    refine x_iaddN O dX6_sign_21 ?_
    refine x_mputQ O p_X6_109_6 (mp_6 _ _ _) rfl dX6_sign_22 (μ' := (mset (mset μ 0 6 (nI (m_blanks_f6 (μ 3) p l + 1))) 0 8 (nI (m_blanks_f8 (μ 3) p l)))) ((ff_n (by decide)).trans (congrArg (fun m_ => mset m_ 0 8 _) ff_s)) ?_
    refine x_iconst O (nI 1) dX6_sign_25 (by decide) ?_
    refine x_top (v' := b2i true) (by decide) ?_
    exact x_zretQ O hQ rfl dX6_sign_26 (fun h m => ⟨by rw [hr1], by rw [hr2, hrs1]; exact m.eq rfl⟩)
  · have hr3 := hres.trans (if_neg c10)
    have hr4 := hrs0.trans (if_neg c10)
    refine x_sub [0] (L' := [(0, .ref (adr 0))]) rfl ?_
    refine x_iconst O (nI 0) dX6_sign_13 (by decide) ?_
    refine x_top (v' := b2i false) (by decide) ?_
    exact x_zretQ O hQ rfl dX6_sign_14 (fun h m => ⟨by rw [hr3], by rw [hr4, hrs1]; exact m.eq rfl⟩)

def m_number_b6 (C3 : Nat → Int32) (p : Nat) (l : Nat) (iw_6 : Nat) (v1_6 : Int32) (f6_6 : Nat) : (Int32 × Nat) ⊕ (Int32 × Nat) :=
  (if m_isAt C3 f6_6 l (nI 48) (nI 57) = true then .inl ((if 3 ≤ f6_6 - m_blanks_f8 C3 p l then v1_6 else (((nI 10) * v1_6) + (C3 f6_6)) - (nI 48)), f6_6 + 1) else .inr (v1_6, f6_6))
def m_number (C3 : Nat → Int32) (p : Nat) (l : Nat) : Int32 :=
  (if (frb (fun i s => m_number_b6 C3 p l i s.1 s.2) (l + 1) 0 (nI 0, m_blanks_f6 C3 p l)).2 = m_blanks_f8 C3 p l then (-1) else (if ((frb (fun i s => m_number_b6 C3 p l i s.1 s.2) (l + 1) 0 (nI 0, m_blanks_f6 C3 p l)).2) - m_blanks_f8 C3 p l ≤ 3 then (frb (fun i s => m_number_b6 C3 p l i s.1 s.2) (l + 1) 0 (nI 0, m_blanks_f6 C3 p l)).1 else (-1)))
def m_number_f6 (C3 : Nat → Int32) (p : Nat) (l : Nat) : Nat :=
  (frb (fun i s => m_number_b6 C3 p l i s.1 s.2) (l + 1) 0 (nI 0, m_blanks_f6 C3 p l)).2
def m_number_f8 (C3 : Nat → Int32) (p : Nat) (l : Nat) : Nat :=
  m_blanks_f8 C3 p l
set_option maxHeartbeats 1000000 in
set_option maxRecDepth 100000 in
theorem c_m_number {G : UG} {adr : Nat → Nat} {h0 : Hp} {μ : Mu} (p : Nat) (h6 : μ 0 6 = nI p) (l : Nat) (h7 : μ 0 7 = nI l) (hl : l ≤ 400) (hpb : p ≤ l)   : Con G yX6_number cX6_number 2 (some .int) 2 42 0 0 [.ref (adr 0)] (MS G adr h0 μ) (fun vr_ h' => vr_ = some (.int (m_number (μ 3) p l)) ∧ MS G adr h0 (mset (mset μ 0 6 (nI (m_number_f6 (μ 3) p l))) 0 8 (nI (m_number_f8 (μ 3) p l))) h') nX := by
  refine con_of2 (plainFor_of_name (by decide)) rfl ?_
  intro F R Q RF RL RC RS hQ O hnh hnm
  obtain ⟨res, hres⟩ : ∃ z, z = (m_number (μ 3) p l) := ⟨_, rfl⟩
  rw [← hres] at hQ
  unfold m_number at hres
  obtain ⟨rs0, hrs0⟩ : ∃ z, z = m_number_f6 (μ 3) p l := ⟨_, rfl⟩
  rw [← hrs0] at hQ
  unfold m_number_f6 at hrs0
  obtain ⟨rs1, hrs1⟩ : ∃ z, z = m_number_f8 (μ 3) p l := ⟨_, rfl⟩
  rw [← hrs1] at hQ
  unfold m_number_f8 at hrs1
  have hb := bl6_le (T := μ 3) hpb
  have hb8 : m_blanks_f8 (μ 3) p l = m_blanks_f6 (μ 3) p l := rfl
  refine x_eq (L' := [(0, .ref (adr 0))]) ?_ rfl rfl rfl
  refine x_aload_n O 0 dX6_number_0 rfl rfl ?_
  refine x_cV O 0 (c_m_blanks (μ := μ) p (h6) l (h7) hl hpb) MS.obj uc6 (lw_V q1864 q1866 qs43 q111 q1867) rfl hd_X6_blanks rfl (by rw [RF]; rfl) (by rw [RL]; rfl) ⟨Nat.zero_le _, Nat.zero_le _⟩ rfl rfl dX6_number_1 ?_
  refine x_weak (Ω' := MS G adr h0 (mset (mset μ 0 6 (nI (m_blanks_f6 (μ 3) p l))) 0 8 (nI (m_blanks_f8 (μ 3) p l)))) (fun _ m => m.eq rfl) ?_
  refine x_iconst O (nI 0) dX6_number_4 (by decide) ?_
  refine x_istore_n O [(1, .int (nI 0)), (0, .ref (adr 0))] dX6_number_5 rfl rfl rfl ?_
  have LOOP6 : ∀ (cc_ : Nat) (iw_6 : Nat) (v1_6 : Int32) (f6_6 : Nat), l - f6_6 < cc_ → True → (f6_6 ≤ l) → (m_blanks_f6 (μ 3) p l ≤ f6_6) → (∀ (y0 : Int32) (y1 : Nat), (y0, y1) = frb (fun i s => m_number_b6 (μ 3) p l i s.1 s.2) cc_ iw_6 (v1_6, f6_6) → (y1 ≤ l) → (m_blanks_f6 (μ 3) p l ≤ y1) → X G F R Q 2 65 [(1, .int y0), (0, .ref (adr 0))] [] (MS G adr h0 ((mset (mset μ 0 6 (nI y1)) 0 8 (nI (m_blanks_f8 (μ 3) p l))))) 0 0) → X G F R Q 2 6 [(1, .int v1_6), (0, .ref (adr 0))] [] (MS G adr h0 ((mset (mset μ 0 6 (nI f6_6)) 0 8 (nI (m_blanks_f8 (μ 3) p l))))) 0 0 := by
    intro cc_
    induction cc_ using Nat.strongRecOn with
    | ind cc_ IH_ =>
      intro iw_6 v1_6 f6_6 hc_ hb_ hq_ hqp_ K_
      refine x_aload_n O 1 dX6_number_6 rfl rfl ?_
      refine x_bipush O (nI 48) dX6_number_7 (by decide) ?_
      refine x_bipush O (nI 57) dX6_number_9 (by decide) ?_
      refine x_cV O 2 (c_m_isAt (μ := (mset (mset μ 0 6 (nI f6_6)) 0 8 (nI (m_blanks_f8 (μ 3) p l)))) f6_6 ((rd_skip (by decide)).trans rd_hit) l ((rd_skip (by decide)).trans ((rd_skip (by decide)).trans (h7))) hl hq_ (nI 48) (nI 57)) MS.obj uc6 (lw_V q1868 q1870 qs44 q111 q1871) rfl hd_X6_isAt rfl (by rw [RF]; rfl) (by rw [RL]; rfl) ⟨Nat.zero_le _, Nat.zero_le _⟩ rfl rfl dX6_number_11 ?_
      refine x_top (v' := b2i (m_isAt (μ 3) f6_6 l (nI 48) (nI 57))) (by rw [show (mset (mset μ 0 6 (nI f6_6)) 0 8 (nI (m_blanks_f8 (μ 3) p l))) 3 = μ 3 from ((mset_n (by decide)).trans (mset_n (by decide)))]) ?_
      refine x_ifeqB O 65 dX6_number_14 (by decide) (fun c14 => ?_) (fun c14 => ?_)
      · obtain ⟨c2_, rfl⟩ : ∃ z, cc_ = z + 1 := ⟨cc_ - 1, by omega⟩
        have hs_ : (fun i s => m_number_b6 (μ 3) p l i s.1 s.2) iw_6 (v1_6, f6_6) = .inr (v1_6, f6_6) := by show m_number_b6 (μ 3) p l iw_6 v1_6 f6_6 = _; unfold m_number_b6; rw [if_neg c14]
        exact K_ _ _ (frb_stop hs_).symm hq_ hqp_
      · refine x_aload_n O 1 dX6_number_17 rfl rfl ?_
        refine x_mget O k_X6_109_6 (mg_6 _ _) dX6_number_18 ?_
        refine x_top (v' := nI f6_6) ((rd_skip (by decide)).trans rd_hit) ?_
        refine x_aload_n O 1 dX6_number_21 rfl rfl ?_
        refine x_mget O k_X6_121_6 (mg_8 _ _) dX6_number_22 ?_
        refine x_top (v' := nI (m_blanks_f8 (μ 3) p l)) rd_hit ?_
        refine x_isubN O hqp_ dX6_number_25 ?_
        refine x_iconst O (nI 3) dX6_number_26 (by decide) ?_
        have J3 : ∀ (y1 : Int32), y1 = (if 3 ≤ f6_6 - m_blanks_f8 (μ 3) p l then v1_6 else (((nI 10) * v1_6) + (μ 3 f6_6)) - (nI 48)) → X G F R Q 2 51 [(0, .ref (adr 0))] [.int y1] (MS G adr h0 ((mset (mset μ 0 6 (nI f6_6)) 0 8 (nI (m_blanks_f8 (μ 3) p l))))) 0 0 := by
          intro y1 e4
          subst e4
          refine x_istore_n O [(1, .int ((if 3 ≤ f6_6 - m_blanks_f8 (μ 3) p l then v1_6 else (((nI 10) * v1_6) + (μ 3 f6_6)) - (nI 48)))), (0, .ref (adr 0))] dX6_number_51 rfl rfl rfl ?_
          refine x_aload_n O 1 dX6_number_52 rfl rfl ?_
          refine x_dup O dX6_number_53 rfl ?_
          refine x_mget O k_X6_109_6 (mg_6 _ _) dX6_number_54 ?_
          refine x_top (v' := nI f6_6) ((rd_skip (by decide)).trans rd_hit) ?_
          refine x_iconst O (nI 1) dX6_number_57 (by decide) ?_
          refine x_iaddN O dX6_number_58 ?_
          refine x_mputQ O p_X6_109_6 (mp_6 _ _ _) rfl dX6_number_59 (μ' := (mset (mset μ 0 6 (nI (f6_6 + 1))) 0 8 (nI (m_blanks_f8 (μ 3) p l)))) ((ff_n (by decide)).trans (congrArg (fun m_ => mset m_ 0 8 _) ff_s)) ?_
          refine x_goto O 6 dX6_number_62 (by decide) ?_
          obtain ⟨c2_, rfl⟩ : ∃ z, cc_ = z + 1 := ⟨cc_ - 1, by omega⟩
          have hs_ : (fun i s => m_number_b6 (μ 3) p l i s.1 s.2) iw_6 (v1_6, f6_6) = .inl ((if 3 ≤ f6_6 - m_blanks_f8 (μ 3) p l then v1_6 else (((nI 10) * v1_6) + (μ 3 f6_6)) - (nI 48)), f6_6 + 1) := by show m_number_b6 (μ 3) p l iw_6 v1_6 f6_6 = _; unfold m_number_b6; rw [if_pos c14]
          exact IH_ c2_ (by omega) _ _ _ (by have := isAt_lt c14; omega) trivial (by have := isAt_lt c14; omega) (by omega) (fun y0 y1 hy_ => K_ y0 y1 (hy_.trans (frb_step hs_).symm))
        refine x_icmpgeN O 50 (by omega) (by omega) dX6_number_27 (by decide) (fun c27 => ?_) (fun c27 => ?_)
        · refine x_iload_n O 0 dX6_number_50 rfl rfl ?_
          refine x_sub [1] rfl ?_
          exact J3 v1_6 (by rw [if_pos c27])
        · refine x_bipush O (nI 10) dX6_number_30 (by decide) ?_
          refine x_iload_n O 0 dX6_number_32 rfl rfl ?_
          refine x_imul O dX6_number_33 ?_
          refine x_aload_n O 1 dX6_number_34 rfl rfl ?_
          refine x_mget O k_X6_20_6 (mg_4 _ _) dX6_number_35 ?_
          refine x_aload_n O 1 dX6_number_38 rfl rfl ?_
          refine x_mget O k_X6_109_6 (mg_6 _ _) dX6_number_39 ?_
          refine x_top (v' := nI f6_6) ((rd_skip (by decide)).trans rd_hit) ?_
          refine x_baldN O MS.c3 (by have := isAt_lt c14; omega) rfl dX6_number_42 ?_
          refine x_top (v' := μ 3 f6_6) ((congrFun (mset_n (by decide)) f6_6).trans (congrFun (mset_n (by decide)) f6_6)) ?_
          refine x_iadd O dX6_number_43 ?_
          refine x_bipush O (nI 48) dX6_number_44 (by decide) ?_
          refine x_isub O dX6_number_46 ?_
          refine x_goto O 51 dX6_number_47 (by decide) ?_
          refine x_sub [1] (L' := [(0, .ref (adr 0))]) rfl ?_
          exact J3 ((((nI 10) * v1_6) + (μ 3 f6_6)) - (nI 48)) (by rw [if_neg c27])
  refine LOOP6 (l + 1) 0 (nI 0) (m_blanks_f6 (μ 3) p l) (by omega) trivial hb.2 (Nat.le_refl _) (fun y0 y1 hy_6 hx1_ hx2_ => ?_)
  obtain rfl : y0 = (frb (fun i s => m_number_b6 (μ 3) p l i s.1 s.2) (l + 1) 0 (nI 0, m_blanks_f6 (μ 3) p l)).1 := congrArg (fun z => z.1) hy_6
  obtain rfl : y1 = (frb (fun i s => m_number_b6 (μ 3) p l i s.1 s.2) (l + 1) 0 (nI 0, m_blanks_f6 (μ 3) p l)).2 := congrArg (fun z => z.2) hy_6
  refine x_aload_n O 1 dX6_number_65 rfl rfl ?_
  refine x_mget O k_X6_109_6 (mg_6 _ _) dX6_number_66 ?_
  refine x_top (v' := nI ((frb (fun i s => m_number_b6 (μ 3) p l i s.1 s.2) (l + 1) 0 (nI 0, m_blanks_f6 (μ 3) p l)).2)) ((rd_skip (by decide)).trans rd_hit) ?_
  refine x_aload_n O 1 dX6_number_69 rfl rfl ?_
  refine x_mget O k_X6_121_6 (mg_8 _ _) dX6_number_70 ?_
  refine x_top (v' := nI (m_blanks_f8 (μ 3) p l)) rd_hit ?_
  have J5 : ∀ (y2 : Int32), y2 = (if (frb (fun i s => m_number_b6 (μ 3) p l i s.1 s.2) (l + 1) 0 (nI 0, m_blanks_f6 (μ 3) p l)).2 = m_blanks_f8 (μ 3) p l then (-1) else (if ((frb (fun i s => m_number_b6 (μ 3) p l i s.1 s.2) (l + 1) 0 (nI 0, m_blanks_f6 (μ 3) p l)).2) - m_blanks_f8 (μ 3) p l ≤ 3 then (frb (fun i s => m_number_b6 (μ 3) p l i s.1 s.2) (l + 1) 0 (nI 0, m_blanks_f6 (μ 3) p l)).1 else (-1))) → X G F R Q 2 94 [(0, .ref (adr 0))] [.int y2] (MS G adr h0 ((mset (mset μ 0 6 (nI ((frb (fun i s => m_number_b6 (μ 3) p l i s.1 s.2) (l + 1) 0 (nI 0, m_blanks_f6 (μ 3) p l)).2))) 0 8 (nI (m_blanks_f8 (μ 3) p l))))) 0 0 := by
    intro y2 e6
    subst e6
    exact x_iretQ O hQ rfl dX6_number_94 (fun h m => ⟨by rw [hres], by rw [hrs0, hrs1]; exact m.eq rfl⟩)
  refine x_icmpeqN O 89 (by omega) (by omega) dX6_number_73 (by decide) (fun c73 => ?_) (fun c73 => ?_)
  · refine x_sub [1] (L' := [(0, .ref (adr 0))]) rfl ?_
    refine x_iconst O ((-1)) dX6_number_89 (by decide) ?_
    refine x_goto O 94 dX6_number_90 (by decide) ?_
    exact J5 ((-1)) (by rw [if_pos c73])
  · refine x_aload_n O 1 dX6_number_76 rfl rfl ?_
    refine x_mget O k_X6_109_6 (mg_6 _ _) dX6_number_77 ?_
    refine x_top (v' := nI ((frb (fun i s => m_number_b6 (μ 3) p l i s.1 s.2) (l + 1) 0 (nI 0, m_blanks_f6 (μ 3) p l)).2)) ((rd_skip (by decide)).trans rd_hit) ?_
    refine x_aload_n O 1 dX6_number_80 rfl rfl ?_
    refine x_mget O k_X6_121_6 (mg_8 _ _) dX6_number_81 ?_
    refine x_top (v' := nI (m_blanks_f8 (μ 3) p l)) rd_hit ?_
    refine x_isubN O hx2_ dX6_number_84 ?_
    refine x_iconst O (nI 3) dX6_number_85 (by decide) ?_
    refine x_icmpleN O 93 (by omega) (by omega) dX6_number_86 (by decide) (fun c86 => ?_) (fun c86 => ?_)
    · refine x_iload_n O 0 dX6_number_93 rfl rfl ?_
      refine x_sub [1] rfl ?_
      exact J5 ((frb (fun i s => m_number_b6 (μ 3) p l i s.1 s.2) (l + 1) 0 (nI 0, m_blanks_f6 (μ 3) p l)).1) (by first | (rw [if_neg c73, if_pos c86]; done) | simp only [if_neg c73, if_pos c86])
    · refine x_sub [1] (L' := [(0, .ref (adr 0))]) rfl ?_
      refine x_iconst O ((-1)) dX6_number_89 (by decide) ?_
      refine x_goto O 94 dX6_number_90 (by decide) ?_
      exact J5 ((-1)) (by first | (rw [if_neg c73, if_neg c86]; done) | simp only [if_neg c73, if_neg c86])

def m_factAt (C3 : Nat → Int32) (p : Nat) (b : Nat) (story : Bool) : Int32 :=
  (if story = true then (if m_isWord C3 p b 7 = true then nI 0 else (if m_isWord C3 p b 8 = true then nI 1 else (if m_isWord C3 p b 9 = true then nI 2 else (if m_isWord C3 p b 10 = true then nI 3 else (if m_isWord C3 p b 11 = true then nI 4 else (if m_isWord C3 p b 12 = true then nI 5 else (if m_isWord C3 p b 13 = true then nI 6 else (-1)))))))) else (if m_isWord C3 p b 0 = true then nI 0 else (if m_isWord C3 p b 1 = true then nI 1 else (if m_isWord C3 p b 2 = true then nI 2 else (if m_isWord C3 p b 3 = true then nI 3 else (if m_isWord C3 p b 4 = true then nI 4 else (if m_isWord C3 p b 5 = true then nI 5 else (if m_isWord C3 p b 6 = true then nI 6 else (-1)))))))))
set_option maxHeartbeats 1000000 in
set_option maxRecDepth 100000 in
theorem c_m_factAt {G : UG} {adr : Nat → Nat} {h0 : Hp} {μ : Mu} (p : Nat) (h6 : μ 0 6 = nI p) (b : Nat) (h8 : μ 0 8 = nI b) (story : Bool) (h13 : μ 0 13 = b2i story) (hp4 : p ≤ 400) (hbp : b ≤ p)   : Con G yX6_factAt cX6_factAt 1 (some .int) 5 108 0 0 [.ref (adr 0)] (MS G adr h0 μ) (fun vr_ h' => vr_ = some (.int (m_factAt (μ 3) p b story)) ∧ MS G adr h0 μ h') nX := by
  refine con_of2 (plainFor_of_name (by decide)) rfl ?_
  intro F R Q RF RL RC RS hQ O hnh hnm
  obtain ⟨res, hres⟩ : ∃ z, z = (m_factAt (μ 3) p b story) := ⟨_, rfl⟩
  rw [← hres] at hQ
  unfold m_factAt at hres
  refine x_eq (L' := [(0, .ref (adr 0))]) ?_ rfl rfl rfl
  refine x_aload_n O 0 dX6_factAt_0 rfl rfl ?_
  refine x_mget O k_X6_151_6 (mg_13 _ _) dX6_factAt_1 ?_
  refine x_top (v' := b2i story) (h13) ?_
  refine x_ifeqB O 101 dX6_factAt_4 (by decide) (fun c4 => ?_) (fun c4 => ?_)
  · have hr3 := hres.trans (if_neg c4)
    refine x_aload_n O 0 dX6_factAt_101 rfl rfl ?_
    refine x_ldcS O (i := 0) (tx := "foes") (List.mem_of_getElem? (i := 37) rfl) dX6_factAt_102 ?_
    refine x_cV O 1 (c_m_isWord (μ := μ) p (h6) b (h8) hp4 hbp 0 (by decide)) MS.obj uc6 (lw_V q1881 q1883 qs47 q111 q1884) rfl hd_X6_isWord rfl (by rw [RF]; rfl) (by rw [RL]; rfl) ⟨Nat.zero_le _, Nat.zero_le _⟩ rfl rfl dX6_factAt_104 ?_
    refine x_top (v' := b2i (m_isWord (μ 3) p b 0)) rfl ?_
    have J4 : ∀ (y1 : Int32), y1 = (if m_isWord (μ 3) p b 0 = true then nI 0 else (if m_isWord (μ 3) p b 1 = true then nI 1 else (if m_isWord (μ 3) p b 2 = true then nI 2 else (if m_isWord (μ 3) p b 3 = true then nI 3 else (if m_isWord (μ 3) p b 4 = true then nI 4 else (if m_isWord (μ 3) p b 5 = true then nI 5 else (if m_isWord (μ 3) p b 6 = true then nI 6 else (-1)))))))) → X G F R Q 1 194 [(0, .ref (adr 0))] [.int y1] (MS G adr h0 μ) 0 0 := by
      intro y1 e5
      subst e5
      exact x_iretQ O hQ rfl dX6_factAt_194 (fun h m => ⟨by rw [hr3], m⟩)
    refine x_ifeqB O 114 dX6_factAt_107 (by decide) (fun c107 => ?_) (fun c107 => ?_)
    · refine x_aload_n O 0 dX6_factAt_114 rfl rfl ?_
      refine x_ldcS O (i := 1) (tx := "friends") (List.mem_of_getElem? (i := 38) rfl) dX6_factAt_115 ?_
      refine x_cV O 1 (c_m_isWord (μ := μ) p (h6) b (h8) hp4 hbp 1 (by decide)) MS.obj uc6 (lw_V q1881 q1883 qs47 q111 q1884) rfl hd_X6_isWord rfl (by rw [RF]; rfl) (by rw [RL]; rfl) ⟨Nat.zero_le _, Nat.zero_le _⟩ rfl rfl dX6_factAt_117 ?_
      refine x_top (v' := b2i (m_isWord (μ 3) p b 1)) rfl ?_
      refine x_ifeqB O 127 dX6_factAt_120 (by decide) (fun c120 => ?_) (fun c120 => ?_)
      · refine x_aload_n O 0 dX6_factAt_127 rfl rfl ?_
        refine x_ldcS O (i := 2) (tx := "fear") (List.mem_of_getElem? (i := 39) rfl) dX6_factAt_128 ?_
        refine x_cV O 1 (c_m_isWord (μ := μ) p (h6) b (h8) hp4 hbp 2 (by decide)) MS.obj uc6 (lw_V q1881 q1883 qs47 q111 q1884) rfl hd_X6_isWord rfl (by rw [RF]; rfl) (by rw [RL]; rfl) ⟨Nat.zero_le _, Nat.zero_le _⟩ rfl rfl dX6_factAt_130 ?_
        refine x_top (v' := b2i (m_isWord (μ 3) p b 2)) rfl ?_
        refine x_ifeqB O 140 dX6_factAt_133 (by decide) (fun c133 => ?_) (fun c133 => ?_)
        · refine x_aload_n O 0 dX6_factAt_140 rfl rfl ?_
          refine x_ldcS O (i := 3) (tx := "minute") (List.mem_of_getElem? (i := 40) rfl) dX6_factAt_141 ?_
          refine x_cV O 1 (c_m_isWord (μ := μ) p (h6) b (h8) hp4 hbp 3 (by decide)) MS.obj uc6 (lw_V q1881 q1883 qs47 q111 q1884) rfl hd_X6_isWord rfl (by rw [RF]; rfl) (by rw [RL]; rfl) ⟨Nat.zero_le _, Nat.zero_le _⟩ rfl rfl dX6_factAt_143 ?_
          refine x_top (v' := b2i (m_isWord (μ 3) p b 3)) rfl ?_
          refine x_ifeqB O 153 dX6_factAt_146 (by decide) (fun c146 => ?_) (fun c146 => ?_)
          · refine x_aload_n O 0 dX6_factAt_153 rfl rfl ?_
            refine x_ldcS O (i := 4) (tx := "height") (List.mem_of_getElem? (i := 41) rfl) dX6_factAt_154 ?_
            refine x_cV O 1 (c_m_isWord (μ := μ) p (h6) b (h8) hp4 hbp 4 (by decide)) MS.obj uc6 (lw_V q1881 q1883 qs47 q111 q1884) rfl hd_X6_isWord rfl (by rw [RF]; rfl) (by rw [RL]; rfl) ⟨Nat.zero_le _, Nat.zero_le _⟩ rfl rfl dX6_factAt_156 ?_
            refine x_top (v' := b2i (m_isWord (μ 3) p b 4)) rfl ?_
            refine x_ifeqB O 166 dX6_factAt_159 (by decide) (fun c159 => ?_) (fun c159 => ?_)
            · refine x_aload_n O 0 dX6_factAt_166 rfl rfl ?_
              refine x_ldcS O (i := 5) (tx := "rounds") (List.mem_of_getElem? (i := 42) rfl) dX6_factAt_167 ?_
              refine x_cV O 1 (c_m_isWord (μ := μ) p (h6) b (h8) hp4 hbp 5 (by decide)) MS.obj uc6 (lw_V q1881 q1883 qs47 q111 q1884) rfl hd_X6_isWord rfl (by rw [RF]; rfl) (by rw [RL]; rfl) ⟨Nat.zero_le _, Nat.zero_le _⟩ rfl rfl dX6_factAt_169 ?_
              refine x_top (v' := b2i (m_isWord (μ 3) p b 5)) rfl ?_
              refine x_ifeqB O 179 dX6_factAt_172 (by decide) (fun c172 => ?_) (fun c172 => ?_)
              · refine x_aload_n O 0 dX6_factAt_179 rfl rfl ?_
                refine x_ldcS O (i := 6) (tx := "far") (List.mem_of_getElem? (i := 43) rfl) dX6_factAt_180 ?_
                refine x_cV O 1 (c_m_isWord (μ := μ) p (h6) b (h8) hp4 hbp 6 (by decide)) MS.obj uc6 (lw_V q1881 q1883 qs47 q111 q1884) rfl hd_X6_isWord rfl (by rw [RF]; rfl) (by rw [RL]; rfl) ⟨Nat.zero_le _, Nat.zero_le _⟩ rfl rfl dX6_factAt_182 ?_
                refine x_top (v' := b2i (m_isWord (μ 3) p b 6)) rfl ?_
                refine x_ifeqB O 193 dX6_factAt_185 (by decide) (fun c185 => ?_) (fun c185 => ?_)
                · refine x_iconst O ((-1)) dX6_factAt_193 (by decide) ?_
                  exact J4 ((-1)) (by first | (rw [if_neg c107, if_neg c120, if_neg c133, if_neg c146, if_neg c159, if_neg c172, if_neg c185]; done) | simp only [if_neg c107, if_neg c120, if_neg c133, if_neg c146, if_neg c159, if_neg c172, if_neg c185])
                · refine x_bipush O (nI 6) dX6_factAt_188 (by decide) ?_
                  refine x_goto O 194 dX6_factAt_190 (by decide) ?_
                  exact J4 (nI 6) (by first | (rw [if_neg c107, if_neg c120, if_neg c133, if_neg c146, if_neg c159, if_neg c172, if_pos c185]; done) | simp only [if_neg c107, if_neg c120, if_neg c133, if_neg c146, if_neg c159, if_neg c172, if_pos c185])
              · refine x_iconst O (nI 5) dX6_factAt_175 (by decide) ?_
                refine x_goto O 194 dX6_factAt_176 (by decide) ?_
                exact J4 (nI 5) (by first | (rw [if_neg c107, if_neg c120, if_neg c133, if_neg c146, if_neg c159, if_pos c172]; done) | simp only [if_neg c107, if_neg c120, if_neg c133, if_neg c146, if_neg c159, if_pos c172])
            · refine x_iconst O (nI 4) dX6_factAt_162 (by decide) ?_
              refine x_goto O 194 dX6_factAt_163 (by decide) ?_
              exact J4 (nI 4) (by first | (rw [if_neg c107, if_neg c120, if_neg c133, if_neg c146, if_pos c159]; done) | simp only [if_neg c107, if_neg c120, if_neg c133, if_neg c146, if_pos c159])
          · refine x_iconst O (nI 3) dX6_factAt_149 (by decide) ?_
            refine x_goto O 194 dX6_factAt_150 (by decide) ?_
            exact J4 (nI 3) (by first | (rw [if_neg c107, if_neg c120, if_neg c133, if_pos c146]; done) | simp only [if_neg c107, if_neg c120, if_neg c133, if_pos c146])
        · refine x_iconst O (nI 2) dX6_factAt_136 (by decide) ?_
          refine x_goto O 194 dX6_factAt_137 (by decide) ?_
          exact J4 (nI 2) (by first | (rw [if_neg c107, if_neg c120, if_pos c133]; done) | simp only [if_neg c107, if_neg c120, if_pos c133])
      · refine x_iconst O (nI 1) dX6_factAt_123 (by decide) ?_
        refine x_goto O 194 dX6_factAt_124 (by decide) ?_
        exact J4 (nI 1) (by first | (rw [if_neg c107, if_pos c120]; done) | simp only [if_neg c107, if_pos c120])
    · refine x_iconst O (nI 0) dX6_factAt_110 (by decide) ?_
      refine x_goto O 194 dX6_factAt_111 (by decide) ?_
      exact J4 (nI 0) (by rw [if_pos c107])
  · have hr6 := hres.trans (if_pos c4)
    refine x_aload_n O 0 dX6_factAt_7 rfl rfl ?_
    refine x_ldcS O (i := 7) (tx := "cases") (List.mem_of_getElem? (i := 30) rfl) dX6_factAt_8 ?_
    refine x_cV O 1 (c_m_isWord (μ := μ) p (h6) b (h8) hp4 hbp 7 (by decide)) MS.obj uc6 (lw_V q1881 q1883 qs47 q111 q1884) rfl hd_X6_isWord rfl (by rw [RF]; rfl) (by rw [RL]; rfl) ⟨Nat.zero_le _, Nat.zero_le _⟩ rfl rfl dX6_factAt_10 ?_
    refine x_top (v' := b2i (m_isWord (μ 3) p b 7)) rfl ?_
    have J7 : ∀ (y2 : Int32), y2 = (if m_isWord (μ 3) p b 7 = true then nI 0 else (if m_isWord (μ 3) p b 8 = true then nI 1 else (if m_isWord (μ 3) p b 9 = true then nI 2 else (if m_isWord (μ 3) p b 10 = true then nI 3 else (if m_isWord (μ 3) p b 11 = true then nI 4 else (if m_isWord (μ 3) p b 12 = true then nI 5 else (if m_isWord (μ 3) p b 13 = true then nI 6 else (-1)))))))) → X G F R Q 1 100 [(0, .ref (adr 0))] [.int y2] (MS G adr h0 μ) 0 0 := by
      intro y2 e8
      subst e8
      exact x_iretQ O hQ rfl dX6_factAt_100 (fun h m => ⟨by rw [hr6], m⟩)
    refine x_ifeqB O 20 dX6_factAt_13 (by decide) (fun c13 => ?_) (fun c13 => ?_)
    · refine x_aload_n O 0 dX6_factAt_20 rfl rfl ?_
      refine x_ldcS O (i := 8) (tx := "balls") (List.mem_of_getElem? (i := 31) rfl) dX6_factAt_21 ?_
      refine x_cV O 1 (c_m_isWord (μ := μ) p (h6) b (h8) hp4 hbp 8 (by decide)) MS.obj uc6 (lw_V q1881 q1883 qs47 q111 q1884) rfl hd_X6_isWord rfl (by rw [RF]; rfl) (by rw [RL]; rfl) ⟨Nat.zero_le _, Nat.zero_le _⟩ rfl rfl dX6_factAt_23 ?_
      refine x_top (v' := b2i (m_isWord (μ 3) p b 8)) rfl ?_
      refine x_ifeqB O 33 dX6_factAt_26 (by decide) (fun c26 => ?_) (fun c26 => ?_)
      · refine x_aload_n O 0 dX6_factAt_33 rfl rfl ?_
        refine x_ldcS O (i := 9) (tx := "bones") (List.mem_of_getElem? (i := 32) rfl) dX6_factAt_34 ?_
        refine x_cV O 1 (c_m_isWord (μ := μ) p (h6) b (h8) hp4 hbp 9 (by decide)) MS.obj uc6 (lw_V q1881 q1883 qs47 q111 q1884) rfl hd_X6_isWord rfl (by rw [RF]; rfl) (by rw [RL]; rfl) ⟨Nat.zero_le _, Nat.zero_le _⟩ rfl rfl dX6_factAt_36 ?_
        refine x_top (v' := b2i (m_isWord (μ 3) p b 9)) rfl ?_
        refine x_ifeqB O 46 dX6_factAt_39 (by decide) (fun c39 => ?_) (fun c39 => ?_)
        · refine x_aload_n O 0 dX6_factAt_46 rfl rfl ?_
          refine x_ldcS O (i := 10) (tx := "later") (List.mem_of_getElem? (i := 33) rfl) dX6_factAt_47 ?_
          refine x_cV O 1 (c_m_isWord (μ := μ) p (h6) b (h8) hp4 hbp 10 (by decide)) MS.obj uc6 (lw_V q1881 q1883 qs47 q111 q1884) rfl hd_X6_isWord rfl (by rw [RF]; rfl) (by rw [RL]; rfl) ⟨Nat.zero_le _, Nat.zero_le _⟩ rfl rfl dX6_factAt_49 ?_
          refine x_top (v' := b2i (m_isWord (μ 3) p b 10)) rfl ?_
          refine x_ifeqB O 59 dX6_factAt_52 (by decide) (fun c52 => ?_) (fun c52 => ?_)
          · refine x_aload_n O 0 dX6_factAt_59 rfl rfl ?_
            refine x_ldcS O (i := 11) (tx := "guns") (List.mem_of_getElem? (i := 34) rfl) dX6_factAt_60 ?_
            refine x_cV O 1 (c_m_isWord (μ := μ) p (h6) b (h8) hp4 hbp 11 (by decide)) MS.obj uc6 (lw_V q1881 q1883 qs47 q111 q1884) rfl hd_X6_isWord rfl (by rw [RF]; rfl) (by rw [RL]; rfl) ⟨Nat.zero_le _, Nat.zero_le _⟩ rfl rfl dX6_factAt_62 ?_
            refine x_top (v' := b2i (m_isWord (μ 3) p b 11)) rfl ?_
            refine x_ifeqB O 72 dX6_factAt_65 (by decide) (fun c65 => ?_) (fun c65 => ?_)
            · refine x_aload_n O 0 dX6_factAt_72 rfl rfl ?_
              refine x_ldcS O (i := 12) (tx := "fits") (List.mem_of_getElem? (i := 35) rfl) dX6_factAt_73 ?_
              refine x_cV O 1 (c_m_isWord (μ := μ) p (h6) b (h8) hp4 hbp 12 (by decide)) MS.obj uc6 (lw_V q1881 q1883 qs47 q111 q1884) rfl hd_X6_isWord rfl (by rw [RF]; rfl) (by rw [RL]; rfl) ⟨Nat.zero_le _, Nat.zero_le _⟩ rfl rfl dX6_factAt_75 ?_
              refine x_top (v' := b2i (m_isWord (μ 3) p b 12)) rfl ?_
              refine x_ifeqB O 85 dX6_factAt_78 (by decide) (fun c78 => ?_) (fun c78 => ?_)
              · refine x_aload_n O 0 dX6_factAt_85 rfl rfl ?_
                refine x_ldcS O (i := 13) (tx := "heaps") (List.mem_of_getElem? (i := 36) rfl) dX6_factAt_86 ?_
                refine x_cV O 1 (c_m_isWord (μ := μ) p (h6) b (h8) hp4 hbp 13 (by decide)) MS.obj uc6 (lw_V q1881 q1883 qs47 q111 q1884) rfl hd_X6_isWord rfl (by rw [RF]; rfl) (by rw [RL]; rfl) ⟨Nat.zero_le _, Nat.zero_le _⟩ rfl rfl dX6_factAt_88 ?_
                refine x_top (v' := b2i (m_isWord (μ 3) p b 13)) rfl ?_
                refine x_ifeqB O 99 dX6_factAt_91 (by decide) (fun c91 => ?_) (fun c91 => ?_)
                · refine x_iconst O ((-1)) dX6_factAt_99 (by decide) ?_
                  exact J7 ((-1)) (by first | (rw [if_neg c13, if_neg c26, if_neg c39, if_neg c52, if_neg c65, if_neg c78, if_neg c91]; done) | simp only [if_neg c13, if_neg c26, if_neg c39, if_neg c52, if_neg c65, if_neg c78, if_neg c91])
                · refine x_bipush O (nI 6) dX6_factAt_94 (by decide) ?_
                  refine x_goto O 100 dX6_factAt_96 (by decide) ?_
                  exact J7 (nI 6) (by first | (rw [if_neg c13, if_neg c26, if_neg c39, if_neg c52, if_neg c65, if_neg c78, if_pos c91]; done) | simp only [if_neg c13, if_neg c26, if_neg c39, if_neg c52, if_neg c65, if_neg c78, if_pos c91])
              · refine x_iconst O (nI 5) dX6_factAt_81 (by decide) ?_
                refine x_goto O 100 dX6_factAt_82 (by decide) ?_
                exact J7 (nI 5) (by first | (rw [if_neg c13, if_neg c26, if_neg c39, if_neg c52, if_neg c65, if_pos c78]; done) | simp only [if_neg c13, if_neg c26, if_neg c39, if_neg c52, if_neg c65, if_pos c78])
            · refine x_iconst O (nI 4) dX6_factAt_68 (by decide) ?_
              refine x_goto O 100 dX6_factAt_69 (by decide) ?_
              exact J7 (nI 4) (by first | (rw [if_neg c13, if_neg c26, if_neg c39, if_neg c52, if_pos c65]; done) | simp only [if_neg c13, if_neg c26, if_neg c39, if_neg c52, if_pos c65])
          · refine x_iconst O (nI 3) dX6_factAt_55 (by decide) ?_
            refine x_goto O 100 dX6_factAt_56 (by decide) ?_
            exact J7 (nI 3) (by first | (rw [if_neg c13, if_neg c26, if_neg c39, if_pos c52]; done) | simp only [if_neg c13, if_neg c26, if_neg c39, if_pos c52])
        · refine x_iconst O (nI 2) dX6_factAt_42 (by decide) ?_
          refine x_goto O 100 dX6_factAt_43 (by decide) ?_
          exact J7 (nI 2) (by first | (rw [if_neg c13, if_neg c26, if_pos c39]; done) | simp only [if_neg c13, if_neg c26, if_pos c39])
      · refine x_iconst O (nI 1) dX6_factAt_29 (by decide) ?_
        refine x_goto O 100 dX6_factAt_30 (by decide) ?_
        exact J7 (nI 1) (by first | (rw [if_neg c13, if_pos c26]; done) | simp only [if_neg c13, if_pos c26])
    · refine x_iconst O (nI 0) dX6_factAt_16 (by decide) ?_
      refine x_goto O 100 dX6_factAt_17 (by decide) ?_
      exact J7 (nI 0) (by rw [if_pos c13])
