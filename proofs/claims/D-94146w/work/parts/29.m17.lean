def stW (W : Nat → Int32) (ls : List (Int32 × Int32)) : Nat → Int32 := ups (em (ups W (m_lineAt 9 0 + 1) (nI 0)) 0 ls) (m_lineAt 9 0 + 2) (nI (0 + ls.length))
theorem stW_low {j : Nat} (h : j < 8645) {W : Nat → Int32} {ls : List (Int32 × Int32)} : stW W ls j = W j := by
  unfold stW; rw [ln_low1 h, em_low h, ln_low1 h]
def pStory (T : Nat → Int32) (l : Nat) : List (Int32 × Int32) ⊕ Nat := match pCond T l true 6 0 with
  | .inl q => if m_blanks_f6 T q.1 l = l then .inl q.2.2 else .inr (m_blanks_f8 T q.1 l)
  | .inr b => .inr b
def PostO (G : UG) (adr : Nat → Nat) (h0 : Hp) (μ : Mu) (W : Nat → Int32) (r : List (Int32 × Int32) ⊕ Nat) (v : Option Value) (h' : Hp) : Prop := match r with
  | .inl ls => v = some (.int (nI 1)) ∧ 1 ≤ 10 ∧ ∃ p' b' d' : Nat, MS G adr h0 (ps μ p' b' d' (0 + ls.length) (stW W ls)) h'
  | .inr b' => v = some (.int (-1)) ∧ ∃ (p' d' s' : Nat) (W' : Nat → Int32), (∀ j, j < 8645 → W' j = W j) ∧ MS G adr h0 (ps μ p' b' d' s' W') h'
theorem post_okO {G : UG} {adr : Nat → Nat} {h0 : Hp} {μ : Mu} {W : Nat → Int32} {r : List (Int32 × Int32) ⊕ Nat} {h : Hp} {p' b' d' : Nat} {ls : List (Int32 × Int32)} (e : r = .inl ls) (m : MS G adr h0 (ps μ p' b' d' (0 + ls.length) (stW W ls)) h) : PostO G adr h0 μ W r (some (.int (nI 1))) h := by subst e; exact ⟨rfl, by decide, p', b', d', m⟩
theorem post_noO {G : UG} {adr : Nat → Nat} {h0 : Hp} {μ : Mu} {W : Nat → Int32} {r : List (Int32 × Int32) ⊕ Nat} {h : Hp} {p' b' d' s' : Nat} {W' : Nat → Int32} (e : r = .inr b') (hW : ∀ j, j < 8645 → W' j = W j) (m : MS G adr h0 (ps μ p' b' d' s' W') h) : PostO G adr h0 μ W r (some (.int (-1))) h := by subst e; exact ⟨rfl, p', d', s', W', hW, m⟩

set_option maxHeartbeats 1000000 in
set_option maxRecDepth 100000 in
theorem c_m_readOne {G : UG} {adr : Nat → Nat} {h0 : Hp} {μ : Mu} (l : Nat) (h7 : μ 0 7 = nI l) (hl : l ≤ 400) (h13 : μ 0 13 = b2i true) (b : Nat) (W : Nat → Int32) : Con G yX6_readOne cX6_readOne 2 (some .int) 34 1160 0 0 [.ref (adr 0)] (MS G adr h0 (ps μ 0 b 0 0 W)) (PostO G adr h0 μ W (pStory (μ 3) l)) nX := by
  refine con_of2 (plainFor_of_name (by decide)) rfl ?_
  intro F R Q RF RL RC RS hQ O hnh hnm
  refine x_eq (L' := [(0, .ref (adr 0))]) ?_ rfl rfl rfl
  refine x_bipush O (nI 9) dX6_readOne_0 (by decide) ?_
  refine x_iconst O (nI 0) dX6_readOne_2 (by decide) ?_
  refine x_cS O 2 (c_m_lineAt 9 0) (lw_S q1842 q1843 q111 q1844) hd_X6_lineAt rfl (by rw [RF]; rfl) (by rw [RL]; rfl) ⟨Nat.zero_le _, Nat.zero_le _⟩ rfl rfl dX6_readOne_3 ?_
  refine x_top (v' := nI (m_lineAt 9 0)) rfl ?_
  refine x_istore_n O [(1, .int (nI (m_lineAt 9 0))), (0, .ref (adr 0))] dX6_readOne_6 rfl rfl rfl ?_
  refine x_aload_n O 1 dX6_readOne_7 rfl rfl ?_
  refine x_mget O k_X6_13_6 (mg_1 _ _) dX6_readOne_8 ?_
  refine x_iload_n O 0 dX6_readOne_11 rfl rfl ?_
  refine x_iconst O (nI 1) dX6_readOne_12 (by decide) ?_
  refine x_iaddN O dX6_readOne_13 ?_
  refine x_iconst O (nI 0) dX6_readOne_14 (by decide) ?_
  refine x_mastQ O 0 MS.c1 rfl rfl rfl (by unfold m_lineAt m_textAt; omega) rfl dX6_readOne_15 (μ' := (mc (mset (mset (mset (mset μ 0 6 (nI 0)) 0 8 (nI b)) 0 9 (nI 0)) 0 12 (nI 0)) 1 (ups W (m_lineAt 9 0 + 1) (nI 0)))) wc_s ?_
  refine x_aload_n O 1 dX6_readOne_16 rfl rfl ?_
  rcases hr17 : pCond (μ 3) l true 6 0 with ⟨p1, b1, ls1⟩ | b1
  · refine x_cV O 0 (con_ok (c_m_cond (μ := μ) l h7 hl true h13 0 b 0 (ups W (m_lineAt 9 0 + 1) (nI 0)) (Nat.zero_le _) (Nat.le_refl _) (by decide)) hr17) MS.obj uc6 (lw_V q1848 q1850 qs39 q111 q1851) rfl hd_X6_readCond rfl (by rw [RF]; rfl) (by rw [RL]; rfl) ⟨Nat.zero_le _, Nat.zero_le _⟩ rfl rfl dX6_readOne_17 ?_
    refine x_top (v' := b2i true) rfl ?_
    have hF1 := PLl (pCond_le (T := μ 3) (story := true) 6 _ (Nat.zero_le _)) hr17
    refine x_ifneB O 25 dX6_readOne_20 (by decide) (fun _ => ?_) (fun c => absurd rfl c)
    refine x_aload_n O 1 dX6_readOne_25 rfl rfl ?_
    refine x_mget O k_X6_13_6 (mg_1 _ _) dX6_readOne_26 ?_
    refine x_iload_n O 0 dX6_readOne_29 rfl rfl ?_
    refine x_iconst O (nI 2) dX6_readOne_30 (by decide) ?_
    refine x_iaddN O dX6_readOne_31 ?_
    refine x_aload_n O 1 dX6_readOne_32 rfl rfl ?_
    refine x_mget O k_X6_112_6 (mg_12 _ _) dX6_readOne_33 ?_
    refine x_top (v' := nI (0 + ls1.length)) ((congrFun (mc_n (by decide)) 12).trans rd_hit) ?_
    refine x_mastQ O 0 MS.c1 rfl rfl rfl (by unfold m_lineAt m_textAt; omega) rfl dX6_readOne_36 (μ' := (mc (mset (mset (mset (mset μ 0 6 (nI p1)) 0 8 (nI b1)) 0 9 (nI 0)) 0 12 (nI (0 + ls1.length))) 1 (ups (em (ups W (m_lineAt 9 0 + 1) (nI 0)) 0 ls1) (m_lineAt 9 0 + 2) (nI (0 + ls1.length))))) wc_s ?_
    refine x_aload_n O 1 dX6_readOne_37 rfl rfl ?_
    refine x_cV O 0 (c_m_blanks (μ := (mc (mset (mset (mset (mset μ 0 6 (nI p1)) 0 8 (nI b1)) 0 9 (nI 0)) 0 12 (nI (0 + ls1.length))) 1 (ups (em (ups W (m_lineAt 9 0 + 1) (nI 0)) 0 ls1) (m_lineAt 9 0 + 2) (nI (0 + ls1.length))))) p1 ((congrFun (mc_n (by decide)) 6).trans ((rd_skip (by decide)).trans ((rd_skip (by decide)).trans ((rd_skip (by decide)).trans rd_hit)))) l ((congrFun (mc_n (by decide)) 7).trans ((rd_skip (by decide)).trans ((rd_skip (by decide)).trans ((rd_skip (by decide)).trans ((rd_skip (by decide)).trans h7))))) hl (by omega)) MS.obj uc6 (lw_V q1864 q1866 qs43 q111 q1867) rfl hd_X6_blanks rfl (by rw [RF]; rfl) (by rw [RL]; rfl) ⟨Nat.zero_le _, Nat.zero_le _⟩ rfl rfl dX6_readOne_38 ?_
    refine x_weak (Ω' := MS G adr h0 (mc (mset (mset (mset (mset μ 0 6 (nI (m_blanks_f6 (μ 3) p1 l))) 0 8 (nI (m_blanks_f8 (μ 3) p1 l))) 0 9 (nI 0)) 0 12 (nI (0 + ls1.length))) 1 (ups (em (ups W (m_lineAt 9 0 + 1) (nI 0)) 0 ls1) (m_lineAt 9 0 + 2) (nI (0 + ls1.length))))) (fun _ m => by rw [show (mc (mset (mset (mset (mset μ 0 6 (nI p1)) 0 8 (nI b1)) 0 9 (nI 0)) 0 12 (nI (0 + ls1.length))) 1 (ups (em (ups W (m_lineAt 9 0 + 1) (nI 0)) 0 ls1) (m_lineAt 9 0 + 2) (nI (0 + ls1.length)))) 3 = μ 3 from ((mc_n (by decide)).trans ((mset_n (by decide)).trans ((mset_n (by decide)).trans ((mset_n (by decide)).trans (mset_n (by decide))))))] at m; exact m.eq ((congrArg (fun m_ => mset m_ 0 8 _) (wc_n (by decide))).trans ((congrArg (fun m_ => mset m_ 0 8 _) (congrArg (fun m_ => mc m_ 1 _) (ff_n (by decide)))).trans ((congrArg (fun m_ => mset m_ 0 8 _) (congrArg (fun m_ => mc m_ 1 _) (congrArg (fun m_ => mset m_ 0 12 _) (ff_n (by decide))))).trans ((congrArg (fun m_ => mset m_ 0 8 _) (congrArg (fun m_ => mc m_ 1 _) (congrArg (fun m_ => mset m_ 0 12 _) (congrArg (fun m_ => mset m_ 0 9 _) (ff_n (by decide)))))).trans ((congrArg (fun m_ => mset m_ 0 8 _) (congrArg (fun m_ => mc m_ 1 _) (congrArg (fun m_ => mset m_ 0 12 _) (congrArg (fun m_ => mset m_ 0 9 _) (congrArg (fun m_ => mset m_ 0 8 _) ff_s))))).trans ((wc_n (by decide)).trans ((congrArg (fun m_ => mc m_ 1 _) (ff_n (by decide))).trans ((congrArg (fun m_ => mc m_ 1 _) (congrArg (fun m_ => mset m_ 0 12 _) (ff_n (by decide)))).trans (congrArg (fun m_ => mc m_ 1 _) (congrArg (fun m_ => mset m_ 0 12 _) (congrArg (fun m_ => mset m_ 0 9 _) ff_s)))))))))))) ?_
    have hb38 := bl6_le (T := μ 3) (p := p1) (l := l) (by omega)
    refine x_aload_n O 1 dX6_readOne_41 rfl rfl ?_
    refine x_mget O k_X6_109_6 (mg_6 _ _) dX6_readOne_42 ?_
    refine x_top (v' := nI (m_blanks_f6 (μ 3) p1 l)) ((congrFun (mc_n (by decide)) 6).trans ((rd_skip (by decide)).trans ((rd_skip (by decide)).trans ((rd_skip (by decide)).trans rd_hit)))) ?_
    refine x_aload_n O 1 dX6_readOne_45 rfl rfl ?_
    refine x_mget O k_X6_106_6 (mg_7 _ _) dX6_readOne_46 ?_
    refine x_top (v' := nI l) ((congrFun (mc_n (by decide)) 7).trans ((rd_skip (by decide)).trans ((rd_skip (by decide)).trans ((rd_skip (by decide)).trans ((rd_skip (by decide)).trans h7))))) ?_
    refine x_icmpneN O 56 (by omega) (by omega) dX6_readOne_49 (by decide) (fun c49 => ?_) (fun c49 => ?_)
    · refine x_sub [1] (L' := [(0, .ref (adr 0))]) rfl ?_
      refine x_iconst O ((-1)) dX6_readOne_56 (by decide) ?_
      exact x_iretQ O hQ rfl dX6_readOne_57 (fun h m => post_noO (by unfold pStory; simp only [hr17, if_neg c49]) (fun j hj => by first | rfl | simp only [ln_low1 hj, em_low hj]) m)
    · refine x_sub [1] (L' := [(0, .ref (adr 0))]) rfl ?_
      refine x_iconst O (nI 1) dX6_readOne_52 (by decide) ?_
      refine x_goto O 57 dX6_readOne_53 (by decide) ?_
      exact x_iretQ O hQ rfl dX6_readOne_57 (fun h m => post_okO (ls := ls1) (by unfold pStory; simp only [hr17, if_pos c49]) m)
  · refine x_cV O 0 (con_no (c_m_cond (μ := μ) l h7 hl true h13 0 b 0 (ups W (m_lineAt 9 0 + 1) (nI 0)) (Nat.zero_le _) (Nat.le_refl _) (by decide)) hr17) MS.obj uc6 (lw_V q1848 q1850 qs39 q111 q1851) rfl hd_X6_readCond rfl (by rw [RF]; rfl) (by rw [RL]; rfl) ⟨Nat.zero_le _, Nat.zero_le _⟩ rfl rfl dX6_readOne_17 ?_
    refine x_top (v' := b2i false) rfl ?_
    refine x_ex4 (fun p1 d1 s1 W1 hW1 => ?_)
    refine x_ifneB O 25 dX6_readOne_20 (by decide) (fun c => absurd c (by decide)) (fun _ => ?_)
    refine x_sub [1] (L' := [(0, .ref (adr 0))]) rfl ?_
    refine x_iconst O ((-1)) dX6_readOne_23 (by decide) ?_
    exact x_iretQ O hQ rfl dX6_readOne_24 (fun h m => post_noO (by unfold pStory; simp only [hr17]) (fun j hj => by first | rfl | simp only [ln_low1 hj, em_low hj, hW1 j hj]) m)

def n_uses_f0  (tp : Nat) : Nat :=
  0
def n_uses_f5  (tp : Nat) : Nat :=
  0
def n_uses_f6  (tp : Nat) : Nat :=
  0
def n_uses_f7  (tp : Nat) : Nat :=
  tp
def n_uses_f9  (tp : Nat) : Nat :=
  0
def n_uses_f12  (tp : Nat) : Nat :=
  0
set_option maxHeartbeats 1000000 in
set_option maxRecDepth 100000 in
theorem c_n_uses {G : UG} {adr : Nat → Nat} {h0 : Hp} {μ : Mu} (tp : Nat) (h5 : μ 0 5 = nI tp)   : Con G yX6_uses cX6_uses 1 none 0 0 0 0 [.ref (adr 0)] (MS G adr h0 μ) (fun vr_ h' => vr_ = none ∧ MS G adr h0 (mset (mset (mset (mset (mset (mset μ 0 0 (nI (n_uses_f0 tp))) 0 5 (nI (n_uses_f5 tp))) 0 6 (nI (n_uses_f6 tp))) 0 7 (nI (n_uses_f7 tp))) 0 9 (nI (n_uses_f9 tp))) 0 12 (nI (n_uses_f12 tp))) h') nX := by
  refine con_of2 (plainFor_of_name (by decide)) rfl ?_
  intro F R Q RF RL RC RS hQ O hnh hnm
  obtain ⟨rs0, hrs0⟩ : ∃ z, z = n_uses_f0 tp := ⟨_, rfl⟩
  rw [← hrs0] at hQ
  unfold n_uses_f0 at hrs0
  obtain ⟨rs1, hrs1⟩ : ∃ z, z = n_uses_f5 tp := ⟨_, rfl⟩
  rw [← hrs1] at hQ
  unfold n_uses_f5 at hrs1
  obtain ⟨rs2, hrs2⟩ : ∃ z, z = n_uses_f6 tp := ⟨_, rfl⟩
  rw [← hrs2] at hQ
  unfold n_uses_f6 at hrs2
  obtain ⟨rs3, hrs3⟩ : ∃ z, z = n_uses_f7 tp := ⟨_, rfl⟩
  rw [← hrs3] at hQ
  unfold n_uses_f7 at hrs3
  obtain ⟨rs4, hrs4⟩ : ∃ z, z = n_uses_f9 tp := ⟨_, rfl⟩
  rw [← hrs4] at hQ
  unfold n_uses_f9 at hrs4
  obtain ⟨rs5, hrs5⟩ : ∃ z, z = n_uses_f12 tp := ⟨_, rfl⟩
  rw [← hrs5] at hQ
  unfold n_uses_f12 at hrs5
  refine x_eq (L' := [(0, .ref (adr 0))]) ?_ rfl rfl rfl
  refine x_aload_n O 0 dX6_uses_0 rfl rfl ?_
  refine x_iconst O (nI 0) dX6_uses_1 (by decide) ?_
  refine x_mputQ O p_X6_3_6 (mp_0 _ _ _) rfl dX6_uses_2 (μ' := (mset μ 0 0 (nI 0))) rfl ?_
  refine x_aload_n O 0 dX6_uses_5 rfl rfl ?_
  refine x_aload_n O 0 dX6_uses_6 rfl rfl ?_
  refine x_mget O k_X6_103_6 (mg_5 _ _) dX6_uses_7 ?_
  refine x_top (v' := nI tp) ((rd_skip (by decide)).trans (h5)) ?_
  refine x_mputQ O p_X6_106_6 (mp_7 _ _ _) rfl dX6_uses_10 (μ' := (mset (mset μ 0 0 (nI 0)) 0 7 (nI tp))) rfl ?_
  refine x_aload_n O 0 dX6_uses_13 rfl rfl ?_
  refine x_iconst O (nI 0) dX6_uses_14 (by decide) ?_
  refine x_mputQ O p_X6_103_6 (mp_5 _ _ _) rfl dX6_uses_15 (μ' := (mset (mset (mset μ 0 0 (nI 0)) 0 5 (nI 0)) 0 7 (nI tp))) (ff_n (by decide)) ?_
  refine x_aload_n O 0 dX6_uses_18 rfl rfl ?_
  refine x_iconst O (nI 0) dX6_uses_19 (by decide) ?_
  refine x_mputQ O p_X6_109_6 (mp_6 _ _ _) rfl dX6_uses_20 (μ' := (mset (mset (mset (mset μ 0 0 (nI 0)) 0 5 (nI 0)) 0 6 (nI 0)) 0 7 (nI tp))) (ff_n (by decide)) ?_
  refine x_aload_n O 0 dX6_uses_23 rfl rfl ?_
  refine x_iconst O (nI 0) dX6_uses_24 (by decide) ?_
  refine x_mputQ O p_X6_112_6 (mp_12 _ _ _) rfl dX6_uses_25 (μ' := (mset (mset (mset (mset (mset μ 0 0 (nI 0)) 0 5 (nI 0)) 0 6 (nI 0)) 0 7 (nI tp)) 0 12 (nI 0))) rfl ?_
  refine x_aload_n O 0 dX6_uses_28 rfl rfl ?_
  refine x_iconst O (nI 0) dX6_uses_29 (by decide) ?_
  refine x_mputQ O p_X6_115_6 (mp_9 _ _ _) rfl dX6_uses_30 (μ' := (mset (mset (mset (mset (mset (mset μ 0 0 (nI 0)) 0 5 (nI 0)) 0 6 (nI 0)) 0 7 (nI tp)) 0 9 (nI 0)) 0 12 (nI 0))) (ff_n (by decide)) ?_
  exact x_vretQ O hQ rfl dX6_uses_33 (fun h m => ⟨rfl, by rw [hrs0, hrs1, hrs2, hrs3, hrs4, hrs5]; exact m.eq rfl⟩)

def n_keeps_b2 (W : Nat → Int32) (t : Nat) (i2_2 : Nat) (a1_2 : (Nat → Int32)) : (Nat → Int32) :=
  ups a1_2 (m_textAt t + i2_2) (a1_2 (m_textAt 9 + i2_2))
def n_keeps_c1 (W : Nat → Int32) (t : Nat) : Nat → Int32 :=
  (fr (fun i s => n_keeps_b2 W t i s) 831 0 W)
set_option maxHeartbeats 1000000 in
set_option maxRecDepth 100000 in
theorem c_n_keeps {G : UG} {adr : Nat → Nat} {h0 : Hp} {μ : Mu}  (t : Nat) (ht : t < 9) : Con G yX6_keeps cX6_keeps 3 none 1 20 0 0 [.ref (adr 0), .int (nI t)] (MS G adr h0 μ) (fun vr_ h' => vr_ = none ∧ MS G adr h0 (mc μ 1 (n_keeps_c1 (μ 1) t)) h') nX := by
  refine con_of2 (plainFor_of_name (by decide)) rfl ?_
  intro F R Q RF RL RC RS hQ O hnh hnm
  obtain ⟨rs0, hrs0⟩ : ∃ z, z = n_keeps_c1 (μ 1) t := ⟨_, rfl⟩
  rw [← hrs0] at hQ
  unfold n_keeps_c1 at hrs0
  refine x_eq (L' := [(0, .ref (adr 0)), (1, .int (nI t))]) ?_ rfl rfl rfl
  refine x_iconst O (nI 0) dX6_keeps_0 (by decide) ?_
  refine x_istore_n O [(2, .int (nI 0)), (0, .ref (adr 0)), (1, .int (nI t))] dX6_keeps_1 rfl rfl rfl ?_
  have LOOP2 : ∀ (cc_ : Nat) (i2_2 : Nat) (a1_2 : (Nat → Int32)), cc_ = 831 - i2_2 → i2_2 < 2147483648 → (∀ (y0 : (Nat → Int32)), y0 = fr (fun i s => n_keeps_b2 (μ 1) t i s) cc_ i2_2 a1_2 → X G F R Q 3 38 [(0, .ref (adr 0))] [] (MS G adr h0 ((mc μ 1 y0))) 0 0) → X G F R Q 3 2 [(2, .int (nI i2_2)), (0, .ref (adr 0)), (1, .int (nI t))] [] (MS G adr h0 ((mc μ 1 a1_2))) 0 0 := by
    intro cc_
    induction cc_ using Nat.strongRecOn with
    | ind cc_ IH_ =>
      intro i2_2 a1_2 hc_ hb_  K_
      refine x_iload_n O 0 dX6_keeps_2 rfl rfl ?_
      refine x_sipush O (nI 831) dX6_keeps_3 (by decide) ?_
      refine x_icmpgeN O 38 (by omega) (by omega) dX6_keeps_6 (by decide) (fun c6 => ?_) (fun c6 => ?_)
      · refine x_sub [1] (L' := [(0, .ref (adr 0))]) rfl ?_
        obtain rfl : cc_ = 0 := by omega
        exact K_ _ rfl
      · refine x_aload_n O 1 dX6_keeps_9 rfl rfl ?_
        refine x_mget O k_X6_13_6 (mg_1 _ _) dX6_keeps_10 ?_
        refine x_iload_n O 2 dX6_keeps_13 rfl rfl ?_
        refine x_cS O 1 (c_m_textAt t) (lw_S q1845 q1846 q111 q1847) hd_X6_textAt rfl (by rw [RF]; rfl) (by rw [RL]; rfl) ⟨Nat.zero_le _, Nat.zero_le _⟩ rfl rfl dX6_keeps_14 ?_
        refine x_top (v' := nI (m_textAt t)) rfl ?_
        refine x_iload_n O 0 dX6_keeps_17 rfl rfl ?_
        refine x_iaddN O dX6_keeps_18 ?_
        refine x_aload_n O 1 dX6_keeps_19 rfl rfl ?_
        refine x_mget O k_X6_13_6 (mg_1 _ _) dX6_keeps_20 ?_
        refine x_bipush O (nI 9) dX6_keeps_23 (by decide) ?_
        refine x_cS O 1 (c_m_textAt 9) (lw_S q1845 q1846 q111 q1847) hd_X6_textAt rfl (by rw [RF]; rfl) (by rw [RL]; rfl) ⟨Nat.zero_le _, Nat.zero_le _⟩ rfl rfl dX6_keeps_25 ?_
        refine x_top (v' := nI (m_textAt 9)) rfl ?_
        refine x_iload_n O 0 dX6_keeps_28 rfl rfl ?_
        refine x_iaddN O dX6_keeps_29 ?_
        refine x_ialdN O MS.c1 (by unfold m_textAt; omega) rfl dX6_keeps_30 ?_
        refine x_top (v' := a1_2 (m_textAt 9 + i2_2)) (congrFun mc_s (m_textAt 9 + i2_2)) ?_
        refine x_mastQ O 0 MS.c1 rfl rfl rfl (by unfold m_textAt; omega) rfl dX6_keeps_31 (μ' := (mc μ 1 (ups a1_2 (m_textAt t + i2_2) (a1_2 (m_textAt 9 + i2_2))))) wc_s ?_
        refine x_iincN O 0 [(2, .int (nI (i2_2 + 1))), (0, .ref (adr 0)), (1, .int (nI t))] dX6_keeps_32 rfl rfl rfl ?_
        refine x_goto O 2 dX6_keeps_35 (by decide) ?_
        obtain ⟨c2_, rfl⟩ : ∃ z, cc_ = z + 1 := ⟨cc_ - 1, by omega⟩
        have hs_ : (fun i s => n_keeps_b2 (μ 1) t i s) i2_2 a1_2 = ups a1_2 (m_textAt t + i2_2) (a1_2 (m_textAt 9 + i2_2)) := by show n_keeps_b2 (μ 1) t i2_2 a1_2 = _; unfold n_keeps_b2; rfl
        exact IH_ c2_ (by omega) _ _ (by omega) (by omega) (fun y0 hy_ => K_ y0 (hy_.trans (fr_step hs_).symm))
  refine x_weak (Ω' := MS G adr h0 ((mc μ 1 (μ 1)))) (fun _ m => m.eq (mc_id (c := 1) (f := μ 1) (by rfl)).symm) ?_
  refine LOOP2 831 0 (μ 1) rfl (by omega) (fun y0 hy_2 => ?_)
  subst hy_2
  exact x_vretQ O hQ rfl dX6_keeps_38 (fun h m => ⟨rfl, by rw [hrs0]; exact m.eq rfl⟩)
