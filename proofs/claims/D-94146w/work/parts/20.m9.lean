theorem mv_best {W : Nat → Int32} {p : Nat} {flees : Bool} (hJ : MJ W) (hp : p < 8) : nn ((fr (fun i s => m_moves_b45 W p flees i s.1 s.2) 256 0 (nI 0, (-1))).2) 255 := by
  obtain ⟨c0, hc0, e0⟩ : ∃ c0, c0 ≤ 255 ∧ m_of W p 1 = nI c0 := ⟨_, (hJ.2.1 p hp).2.1.2, (hJ.2.1 p hp).2.1.1⟩
  have key := fr_inv (e := 256) (f := fun i (s : Int32 × Int32) => m_moves_b45 W p flees i s.1 s.2) (fun (i : Nat) (s : Int32 × Int32) => gO s.2 255 ∧ (c0 < i → 0 ≤ s.2)) (fun i s hi hs => ?_) 256 0 (nI 0, (-1)) (by omega) ⟨Or.inl rfl, fun h => absurd h (Nat.not_lt_zero _)⟩
  · obtain ⟨h1, h2⟩ := key
    exact gO_nn' h1 (h2 (by omega))
  · have hi0 : (0 : Int32) ≤ nI i := nI_pos' (by omega)
    have hg : gO (nI i) 255 := Or.inr (nn_nI (by omega) (by decide))
    show gO (m_moves_b45 W p flees i s.1 s.2).2 255 ∧ (c0 < i + 1 → 0 ≤ (m_moves_b45 W p flees i s.1 s.2).2)
    unfold m_moves_b45
    dsimp only
    by_cases a : g_far (nI i) (m_of W p 1) ≤ nI 1
    · simp only [if_pos a]
      by_cases b : s.2 < 0
      · simp only [if_pos b]; exact ⟨hg, fun _ => hi0⟩
      · simp only [if_neg b]
        have b0 : 0 ≤ s.2 := Int32.not_lt.mp b
        (repeat' split) <;> first | exact ⟨hg, fun _ => hi0⟩ | exact ⟨hs.1, fun _ => b0⟩
    · simp only [if_neg a]
      refine ⟨hs.1, fun h => hs.2 ?_⟩
      by_cases q : i = c0
      · exfalso; apply a
        rw [e0, q, far_N (by omega) (by omega)]
        have : farN c0 c0 = 0 := by unfold farN; omega
        rw [this]; decide
      · omega
theorem moves_J {W : Nat → Int32} {p : Nat} {flees : Bool} (hJ : MJ W) (hp : p < 8) : MJ (m_moves_c1 W p flees) := by
  unfold m_moves_c1
  exact MJ_if (fun _ => MJ_u hJ (RJ_p hp (by omega) ⟨fun e => by omega, fun _ => mv_best hJ hp, fun e => by omega⟩)) (fun _ => hJ)
theorem moves_T {W : Nat → Int32} {p : Nat} {flees : Bool} (hp : p < 8) : ST W (m_moves_c1 W p flees) := by
  unfold m_moves_c1
  exact ST.c (fun _ => ST.u ST.r (by omega)) (fun _ => ST.r)
theorem still_J {W : Nat → Int32} {p : Nat} (hJ : MJ W) (hp : p < 8) : MJ (n_holdsStill_c1 W p) := by
  unfold n_holdsStill_c1
  exact MJ_u hJ (RJ_p hp (by omega) ⟨fun e => by omega, fun e => by omega, fun e => by omega⟩)
theorem still_T {W : Nat → Int32} {p : Nat} (hp : p < 8) : ST W (n_holdsStill_c1 W p) := by
  unfold n_holdsStill_c1
  exact ST.u ST.r (by omega)
theorem shA_T {W : Nat → Int32} {p : Nat} (hg : tn (m_of W p 0) ≤ 7) : ST W (sh_A W p) := ST.u ST.r (by omega)
theorem shB_T {W : Nat → Int32} {p : Nat} (hJ : MJ W) (hg : tn (m_of W p 0) ≤ 7) : ST W (sh_B W p) := (shA_T hg).t (leaves_ST (shA_J hJ hg).1)
theorem shC_T {W : Nat → Int32} {p f : Nat} (hJ : MJ W) (hp : p < 8) (hg : tn (m_of W p 0) ≤ 7) : ST W (sh_C W p f) := (shB_T hJ hg).t (leaves_ST (shB_J hJ hp hg).1)
theorem shD_T {W : Nat → Int32} {p f : Nat} (hJ : MJ W) (hp : p < 8) (hg : tn (m_of W p 0) ≤ 7) : ST W (sh_D W p f) := (shC_T hJ hp hg).u (by omega)
theorem shoots_J {W : Nat → Int32} {p : Nat} (hJ : MJ W) (hp : p < 8) : MJ (m_shoots_c1 W p) ∧ ST W (m_shoots_c1 W p) := by
  have hx := hJ.2.1 p hp
  unfold m_shoots_c1
  by_cases a : m_roundsOf W p = 0
  · simp only [if_pos a]; exact ⟨still_J hJ hp, still_T hp⟩
  · simp only [if_neg a]
    have hg := (gO_nn' hx.1 (ro_pos a)).2
    by_cases b : 0 ≤ m_nearestTo W p true (m_of W p 1)
    · simp only [if_pos b]
      have hf := (gO_nn' (near_gO hJ.1) b).2
      have hf8 : tn (m_nearestTo W p true (m_of W p 1)) < 8 := by omega
      have hD := shD_J (f := tn (m_nearestTo W p true (m_of W p 1))) hJ hp hf8 hg
      have hT := shD_T (f := tn (m_nearestTo W p true (m_of W p 1))) hJ hp hg
      split
      · exact ⟨MJ_u (leaves_MJ hD (nn_nI (by omega) (by decide)) (hJ.2.1 _ hf8).2.1) (RJ_p hf8 (by omega) ⟨fun e => by omega, fun e => by omega, fun e => by omega⟩), (hT.t (leaves_ST hD.1)).u (by omega)⟩
      · exact ⟨hD, hT⟩
    · simp only [if_neg b]; exact ⟨still_J hJ hp, still_T hp⟩
def ac_A (W : Nat → Int32) (p : Nat) : Nat → Int32 := ups W (301 + 6 * p + 2) (j_max (nI 0) (j_min (nI 9) (((m_of W p 2) + (nI (m_near W p true (nI 3)))) - (nI (m_near W p false (nI 2))))))
theorem acA {W : Nat → Int32} {p : Nat} (hJ : MJ W) (hp : p < 8) : MJ (ac_A W p) ∧ ST W (ac_A W p) := ⟨MJ_u hJ (RJ_p hp (by omega) ⟨fun e => by omega, fun e => by omega, fun e => by omega⟩), ST.u ST.r (by omega)⟩
def ac_B (W : Nat → Int32) (s : Int32) (p : Nat) : Nat → Int32 := if s = 0 then m_shoots_c1 W p else W
theorem acB {W : Nat → Int32} {s : Int32} {p : Nat} (hJ : MJ W) (hp : p < 8) : MJ (ac_B W s p) ∧ ST W (ac_B W s p) := by
  unfold ac_B
  split
  · exact shoots_J hJ hp
  · exact ⟨hJ, ST.r⟩

def ac_C (W : Nat → Int32) (s : Int32) (p : Nat) : Nat → Int32 := if s = nI 1 then m_moves_c1 W p (if s = nI 1 then true else false) else if s = nI 2 then m_moves_c1 W p (if s = nI 1 then true else false) else W
theorem acC {W : Nat → Int32} {s : Int32} {p : Nat} (hJ : MJ W) (hp : p < 8) : MJ (ac_C W s p) ∧ ST W (ac_C W s p) := by
  unfold ac_C
  split
  · exact ⟨moves_J hJ hp, moves_T hp⟩
  · split
    · exact ⟨moves_J hJ hp, moves_T hp⟩
    · exact ⟨hJ, ST.r⟩
def ac_D (W : Nat → Int32) (s : Int32) (p : Nat) : Nat → Int32 := if s = nI 3 then n_holdsStill_c1 W p else W
theorem acD {W : Nat → Int32} {s : Int32} {p : Nat} (hJ : MJ W) (hp : p < 8) : MJ (ac_D W s p) ∧ ST W (ac_D W s p) := by
  unfold ac_D
  split
  · exact ⟨still_J hJ hp, still_T hp⟩
  · exact ⟨hJ, ST.r⟩
def ac_s (W C5 C6 : Nat → Int32) (F15 F16 F17 : Int32) (p : Nat) : Int32 := m_sortOf (ac_A W p) C5 C6 F15 F16 F17 p

def m_acts_f15 (W : Nat → Int32) (C5 : Nat → Int32) (C6 : Nat → Int32) (F15 : Int32) (F16 : Int32) (F17 : Int32) (p : Nat) : Int32 :=
  m_sortOf_f15 (ac_A W p) C5 C6 F15 F16 F17 p
def m_acts_f16 (W : Nat → Int32) (C5 : Nat → Int32) (C6 : Nat → Int32) (F15 : Int32) (F16 : Int32) (F17 : Int32) (p : Nat) : Int32 :=
  m_sortOf_f16 (ac_A W p) C5 C6 F15 F16 F17 p
def m_acts_c1 (W : Nat → Int32) (C5 : Nat → Int32) (C6 : Nat → Int32) (F15 : Int32) (F16 : Int32) (F17 : Int32) (p : Nat) : Nat → Int32 :=
  (if ((ac_s W C5 C6 F15 F16 F17 p)) = (nI 4) then ups (ac_D (ac_C (ac_B (ac_A W p) (ac_s W C5 C6 F15 F16 F17 p) p) (ac_s W C5 C6 F15 F16 F17 p) p) (ac_s W C5 C6 F15 F16 F17 p) p) (301 + 6 * p + 0) ((-1)) else ac_D (ac_C (ac_B (ac_A W p) (ac_s W C5 C6 F15 F16 F17 p) p) (ac_s W C5 C6 F15 F16 F17 p) p) (ac_s W C5 C6 F15 F16 F17 p) p)
def m_acts_c5 (W : Nat → Int32) (C5 : Nat → Int32) (C6 : Nat → Int32) (F15 : Int32) (F16 : Int32) (F17 : Int32) (p : Nat) : Nat → Int32 :=
  m_sortOf_c5 (ac_A W p) C5 C6 F15 F16 F17 p
def m_acts_c6 (W : Nat → Int32) (C5 : Nat → Int32) (C6 : Nat → Int32) (F15 : Int32) (F16 : Int32) (F17 : Int32) (p : Nat) : Nat → Int32 :=
  m_sortOf_c6 (ac_A W p) C5 C6 F15 F16 F17 p
set_option maxHeartbeats 1000000 in
set_option maxRecDepth 100000 in
theorem c_m_acts {G : UG} {adr : Nat → Nat} {h0 : Hp} {μ : Mu} (hJ : MJ (μ 1)) (hT : TX (μ 1)) (p : Nat) (hp : p < 8) : Con G yX6_acts cX6_acts 3 none 4 97 0 0 [.ref (adr 0), .int (nI p)] (MS G adr h0 μ) (fun vr_ h' => vr_ = none ∧ MS G adr h0 (mc (mc (mc (mset (mset μ 0 15 (m_acts_f15 (μ 1) (μ 5) (μ 6) (μ 0 15) (μ 0 16) (μ 0 17) p)) 0 16 (m_acts_f16 (μ 1) (μ 5) (μ 6) (μ 0 15) (μ 0 16) (μ 0 17) p)) 1 (m_acts_c1 (μ 1) (μ 5) (μ 6) (μ 0 15) (μ 0 16) (μ 0 17) p)) 5 (m_acts_c5 (μ 1) (μ 5) (μ 6) (μ 0 15) (μ 0 16) (μ 0 17) p)) 6 (m_acts_c6 (μ 1) (μ 5) (μ 6) (μ 0 15) (μ 0 16) (μ 0 17) p)) h') nX := by
  refine con_of2 (plainFor_of_name (by decide)) rfl ?_
  intro F R Q RF RL RC RS hQ O hnh hnm
  obtain ⟨rs0, hrs0⟩ : ∃ z, z = m_acts_f15 (μ 1) (μ 5) (μ 6) (μ 0 15) (μ 0 16) (μ 0 17) p := ⟨_, rfl⟩
  rw [← hrs0] at hQ
  unfold m_acts_f15 at hrs0
  obtain ⟨rs1, hrs1⟩ : ∃ z, z = m_acts_f16 (μ 1) (μ 5) (μ 6) (μ 0 15) (μ 0 16) (μ 0 17) p := ⟨_, rfl⟩
  rw [← hrs1] at hQ
  unfold m_acts_f16 at hrs1
  obtain ⟨rs2, hrs2⟩ : ∃ z, z = m_acts_c1 (μ 1) (μ 5) (μ 6) (μ 0 15) (μ 0 16) (μ 0 17) p := ⟨_, rfl⟩
  rw [← hrs2] at hQ
  unfold m_acts_c1 at hrs2
  obtain ⟨rs3, hrs3⟩ : ∃ z, z = m_acts_c5 (μ 1) (μ 5) (μ 6) (μ 0 15) (μ 0 16) (μ 0 17) p := ⟨_, rfl⟩
  rw [← hrs3] at hQ
  unfold m_acts_c5 at hrs3
  obtain ⟨rs4, hrs4⟩ : ∃ z, z = m_acts_c6 (μ 1) (μ 5) (μ 6) (μ 0 15) (μ 0 16) (μ 0 17) p := ⟨_, rfl⟩
  rw [← hrs4] at hQ
  unfold m_acts_c6 at hrs4
  have hI := hJ.1
  have hA := acA hJ hp
  refine x_eq (L' := [(0, .ref (adr 0)), (1, .int (nI p))]) ?_ rfl rfl rfl
  refine x_aload_n O 0 dX6_acts_0 rfl rfl ?_
  refine x_iload_n O 1 dX6_acts_1 rfl rfl ?_
  refine x_iconst O (nI 2) dX6_acts_2 (by decide) ?_
  refine x_iconst O (nI 0) dX6_acts_3 (by decide) ?_
  refine x_bipush O (nI 9) dX6_acts_4 (by decide) ?_
  refine x_aload_n O 0 dX6_acts_6 rfl rfl ?_
  refine x_iload_n O 1 dX6_acts_7 rfl rfl ?_
  refine x_iconst O (nI 2) dX6_acts_8 (by decide) ?_
  refine x_cV O 2 (c_m_of (μ := μ) p 2 (by omega) (by omega)) MS.obj uc6 (lw_V q1968 q1970 qs60 q111 q1971) rfl hd_X6_of rfl (by rw [RF]; rfl) (by rw [RL]; rfl) ⟨Nat.zero_le _, Nat.zero_le _⟩ rfl rfl dX6_acts_9 ?_
  refine x_top (v' := m_of (μ 1) p 2) rfl ?_
  refine x_aload_n O 0 dX6_acts_12 rfl rfl ?_
  refine x_iload_n O 1 dX6_acts_13 rfl rfl ?_
  refine x_iconst O (nI 1) dX6_acts_14 (by decide) ?_
  refine x_iconst O (nI 3) dX6_acts_15 (by decide) ?_
  refine x_eqS (st' := [.int (nI 3), .int (b2i true), .int (nI p), .ref (adr 0), .int (m_of (μ 1) p 2), .int (nI 9), .int (nI 0), .int (nI 2), .int (nI p), .ref (adr 0)]) (by rw [show b2i true = nI 1 by decide] <;> rfl) ?_
  refine x_cV O 3 (c_m_near (μ := μ) hI p true (nI 3) (by omega)) MS.obj uc6 (lw_V q1980 q1982 qs62 q111 q1983) rfl hd_X6_near rfl (by rw [RF]; rfl) (by rw [RL]; rfl) ⟨Nat.zero_le _, Nat.zero_le _⟩ rfl rfl dX6_acts_16 ?_
  refine x_top (v' := nI (m_near (μ 1) p true (nI 3))) rfl ?_
  refine x_iadd O dX6_acts_19 ?_
  refine x_aload_n O 0 dX6_acts_20 rfl rfl ?_
  refine x_iload_n O 1 dX6_acts_21 rfl rfl ?_
  refine x_iconst O (nI 0) dX6_acts_22 (by decide) ?_
  refine x_iconst O (nI 2) dX6_acts_23 (by decide) ?_
  refine x_eqS (st' := [.int (nI 2), .int (b2i false), .int (nI p), .ref (adr 0), .int ((m_of (μ 1) p 2) + (nI (m_near (μ 1) p true (nI 3)))), .int (nI 9), .int (nI 0), .int (nI 2), .int (nI p), .ref (adr 0)]) (by rw [show b2i false = nI 0 by decide] <;> rfl) ?_
  refine x_cV O 3 (c_m_near (μ := μ) hI p false (nI 2) (by omega)) MS.obj uc6 (lw_V q1980 q1982 qs62 q111 q1983) rfl hd_X6_near rfl (by rw [RF]; rfl) (by rw [RL]; rfl) ⟨Nat.zero_le _, Nat.zero_le _⟩ rfl rfl dX6_acts_24 ?_
  refine x_top (v' := nI (m_near (μ 1) p false (nI 2))) rfl ?_
  refine x_isub O dX6_acts_27 ?_
  refine x_cS O 2 (c_j_min (nI 9) (((m_of (μ 1) p 2) + (nI (m_near (μ 1) p true (nI 3)))) - (nI (m_near (μ 1) p false (nI 2))))) (lw_S q1781 q760 q116 q761) hd_J7_min rfl (by rw [RF]; rfl) (by rw [RL]; rfl) ⟨Nat.zero_le _, Nat.zero_le _⟩ rfl rfl dX6_acts_28 ?_
  refine x_top (v' := j_min (nI 9) (((m_of (μ 1) p 2) + (nI (m_near (μ 1) p true (nI 3)))) - (nI (m_near (μ 1) p false (nI 2))))) rfl ?_
  refine x_cS O 2 (c_j_max (nI 0) (j_min (nI 9) (((m_of (μ 1) p 2) + (nI (m_near (μ 1) p true (nI 3)))) - (nI (m_near (μ 1) p false (nI 2)))))) (lw_S q1782 q558 q116 q559) hd_J7_max rfl (by rw [RF]; rfl) (by rw [RL]; rfl) ⟨Nat.zero_le _, Nat.zero_le _⟩ rfl rfl dX6_acts_31 ?_
  refine x_top (v' := j_max (nI 0) (j_min (nI 9) (((m_of (μ 1) p 2) + (nI (m_near (μ 1) p true (nI 3)))) - (nI (m_near (μ 1) p false (nI 2)))))) rfl ?_
  refine x_cV O 3 (c_m_sets (μ := μ) p 2 (j_max (nI 0) (j_min (nI 9) (((m_of (μ 1) p 2) + (nI (m_near (μ 1) p true (nI 3)))) - (nI (m_near (μ 1) p false (nI 2)))))) (by omega) (by omega)) MS.obj uc6 (lw_V q1972 q1974 qs61 q111 q1975) rfl hd_X6_sets rfl (by rw [RF]; rfl) (by rw [RL]; rfl) ⟨Nat.zero_le _, Nat.zero_le _⟩ rfl rfl dX6_acts_34 ?_
  refine x_weak (Ω' := MS G adr h0 (mc μ 1 (ups (μ 1) (301 + 6 * p + 2) (j_max (nI 0) (j_min (nI 9) (((m_of (μ 1) p 2) + (nI (m_near (μ 1) p true (nI 3)))) - (nI (m_near (μ 1) p false (nI 2))))))))) (fun _ m => m.eq (w_new (f := μ 1) (by rfl))) ?_
  refine x_weak (Ω' := MS G adr h0 ((mc μ 1 (ac_A (μ 1) p)))) (fun _ m => m.eq (congrArg (fun f_ => mc _ 1 f_) (show ups (μ 1) (301 + 6 * p + 2) (j_max (nI 0) (j_min (nI 9) (((m_of (μ 1) p 2) + (nI (m_near (μ 1) p true (nI 3)))) - (nI (m_near (μ 1) p false (nI 2)))))) = ac_A (μ 1) p from rfl))) ?_
  refine x_aload_n O 0 dX6_acts_37 rfl rfl ?_
  refine x_iload_n O 1 dX6_acts_38 rfl rfl ?_
  refine x_cV O 1 (c_m_sortOf (μ := (mc μ 1 (ac_A (μ 1) p))) hA.1 (hA.2.x hT) p (by omega)) MS.obj uc6 (lw_V q2004 q2006 qs66 q111 q2007) rfl hd_X6_sortOf rfl (by rw [RF]; rfl) (by rw [RL]; rfl) ⟨Nat.zero_le _, Nat.zero_le _⟩ rfl rfl dX6_acts_39 ?_
  refine x_top (v' := m_sortOf (ac_A (μ 1) p) (μ 5) (μ 6) (μ 0 15) (μ 0 16) (μ 0 17) p) (by rw [show (mc μ 1 (ac_A (μ 1) p)) 1 = ac_A (μ 1) p from mc_s, show (mc μ 1 (ac_A (μ 1) p)) 5 = μ 5 from (mc_n (by decide)), show (mc μ 1 (ac_A (μ 1) p)) 6 = μ 6 from (mc_n (by decide)), show (mc μ 1 (ac_A (μ 1) p)) 0 15 = μ 0 15 from (congrFun (mc_n (by decide)) 15), show (mc μ 1 (ac_A (μ 1) p)) 0 16 = μ 0 16 from (congrFun (mc_n (by decide)) 16), show (mc μ 1 (ac_A (μ 1) p)) 0 17 = μ 0 17 from (congrFun (mc_n (by decide)) 17)]) ?_
  refine x_weak (Ω' := MS G adr h0 (mc (mc (mc (mset (mset μ 0 15 (m_sortOf_f15 (ac_A (μ 1) p) (μ 5) (μ 6) (μ 0 15) (μ 0 16) (μ 0 17) p)) 0 16 (m_sortOf_f16 (ac_A (μ 1) p) (μ 5) (μ 6) (μ 0 15) (μ 0 16) (μ 0 17) p)) 1 (ac_A (μ 1) p)) 5 (m_sortOf_c5 (ac_A (μ 1) p) (μ 5) (μ 6) (μ 0 15) (μ 0 16) (μ 0 17) p)) 6 (m_sortOf_c6 (ac_A (μ 1) p) (μ 5) (μ 6) (μ 0 15) (μ 0 16) (μ 0 17) p))) (fun _ m => by rw [show (mc μ 1 (ac_A (μ 1) p)) 1 = ac_A (μ 1) p from mc_s, show (mc μ 1 (ac_A (μ 1) p)) 5 = μ 5 from (mc_n (by decide)), show (mc μ 1 (ac_A (μ 1) p)) 6 = μ 6 from (mc_n (by decide)), show (mc μ 1 (ac_A (μ 1) p)) 0 15 = μ 0 15 from (congrFun (mc_n (by decide)) 15), show (mc μ 1 (ac_A (μ 1) p)) 0 16 = μ 0 16 from (congrFun (mc_n (by decide)) 16), show (mc μ 1 (ac_A (μ 1) p)) 0 17 = μ 0 17 from (congrFun (mc_n (by decide)) 17)] at m; exact m.eq ((congrArg (fun m_ => mc m_ 6 _) (congrArg (fun m_ => mc m_ 5 _) (congrArg (fun m_ => mset m_ 0 16 _) (wc_n (by decide))))).trans (congrArg (fun m_ => mc m_ 6 _) (congrArg (fun m_ => mc m_ 5 _) (wc_n (by decide)))))) ?_
  refine x_top (v' := (ac_s (μ 1) (μ 5) (μ 6) (μ 0 15) (μ 0 16) (μ 0 17) p)) (rfl) ?_
  refine x_istore_n O [(2, .int ((ac_s (μ 1) (μ 5) (μ 6) (μ 0 15) (μ 0 16) (μ 0 17) p))), (0, .ref (adr 0)), (1, .int (nI p))] dX6_acts_42 rfl rfl rfl ?_
  refine x_iload_n O 0 dX6_acts_43 rfl rfl ?_
  have J7 : ∀ (y1 : Nat → Int32), y1 = (if ((ac_s (μ 1) (μ 5) (μ 6) (μ 0 15) (μ 0 16) (μ 0 17) p)) = 0 then m_shoots_c1 (ac_A (μ 1) p) p else ac_A (μ 1) p) → X G F R Q 3 52 [(2, .int ((ac_s (μ 1) (μ 5) (μ 6) (μ 0 15) (μ 0 16) (μ 0 17) p))), (0, .ref (adr 0)), (1, .int (nI p))] [] (MS G adr h0 ((mc (mc (mc (mset (mset μ 0 15 (m_sortOf_f15 (ac_A (μ 1) p) (μ 5) (μ 6) (μ 0 15) (μ 0 16) (μ 0 17) p)) 0 16 (m_sortOf_f16 (ac_A (μ 1) p) (μ 5) (μ 6) (μ 0 15) (μ 0 16) (μ 0 17) p)) 1 y1) 5 (m_sortOf_c5 (ac_A (μ 1) p) (μ 5) (μ 6) (μ 0 15) (μ 0 16) (μ 0 17) p)) 6 (m_sortOf_c6 (ac_A (μ 1) p) (μ 5) (μ 6) (μ 0 15) (μ 0 16) (μ 0 17) p)))) 0 0 := by
    intro y1 e8
    subst e8
    refine x_iload_n O 0 dX6_acts_52 rfl rfl ?_
    refine x_weak (Ω' := MS G adr h0 ((mc (mc (mc (mset (mset μ 0 15 (m_sortOf_f15 (ac_A (μ 1) p) (μ 5) (μ 6) (μ 0 15) (μ 0 16) (μ 0 17) p)) 0 16 (m_sortOf_f16 (ac_A (μ 1) p) (μ 5) (μ 6) (μ 0 15) (μ 0 16) (μ 0 17) p)) 1 (ac_B (ac_A (μ 1) p) (ac_s (μ 1) (μ 5) (μ 6) (μ 0 15) (μ 0 16) (μ 0 17) p) p)) 5 (m_sortOf_c5 (ac_A (μ 1) p) (μ 5) (μ 6) (μ 0 15) (μ 0 16) (μ 0 17) p)) 6 (m_sortOf_c6 (ac_A (μ 1) p) (μ 5) (μ 6) (μ 0 15) (μ 0 16) (μ 0 17) p)))) (fun _ m => m.eq (congrArg (fun m_ => mc m_ 6 _) (congrArg (fun m_ => mc m_ 5 _) (congrArg (fun f_ => mc _ 1 f_) (show (if ((ac_s (μ 1) (μ 5) (μ 6) (μ 0 15) (μ 0 16) (μ 0 17) p)) = 0 then m_shoots_c1 (ac_A (μ 1) p) p else ac_A (μ 1) p) = ac_B (ac_A (μ 1) p) (ac_s (μ 1) (μ 5) (μ 6) (μ 0 15) (μ 0 16) (μ 0 17) p) p from rfl))))) ?_
    refine x_iconst O (nI 1) dX6_acts_53 (by decide) ?_
    have J9 : ∀ (y4 : Nat → Int32), y4 = (if ((ac_s (μ 1) (μ 5) (μ 6) (μ 0 15) (μ 0 16) (μ 0 17) p)) = (nI 1) then m_moves_c1 (ac_B (ac_A (μ 1) p) (ac_s (μ 1) (μ 5) (μ 6) (μ 0 15) (μ 0 16) (μ 0 17) p) p) p ((if ((ac_s (μ 1) (μ 5) (μ 6) (μ 0 15) (μ 0 16) (μ 0 17) p)) = (nI 1) then true else false)) else (if ((ac_s (μ 1) (μ 5) (μ 6) (μ 0 15) (μ 0 16) (μ 0 17) p)) = (nI 2) then m_moves_c1 (ac_B (ac_A (μ 1) p) (ac_s (μ 1) (μ 5) (μ 6) (μ 0 15) (μ 0 16) (μ 0 17) p) p) p ((if ((ac_s (μ 1) (μ 5) (μ 6) (μ 0 15) (μ 0 16) (μ 0 17) p)) = (nI 1) then true else false)) else ac_B (ac_A (μ 1) p) (ac_s (μ 1) (μ 5) (μ 6) (μ 0 15) (μ 0 16) (μ 0 17) p) p)) → X G F R Q 3 77 [(2, .int ((ac_s (μ 1) (μ 5) (μ 6) (μ 0 15) (μ 0 16) (μ 0 17) p))), (0, .ref (adr 0)), (1, .int (nI p))] [] (MS G adr h0 ((mc (mc (mc (mset (mset μ 0 15 (m_sortOf_f15 (ac_A (μ 1) p) (μ 5) (μ 6) (μ 0 15) (μ 0 16) (μ 0 17) p)) 0 16 (m_sortOf_f16 (ac_A (μ 1) p) (μ 5) (μ 6) (μ 0 15) (μ 0 16) (μ 0 17) p)) 1 y4) 5 (m_sortOf_c5 (ac_A (μ 1) p) (μ 5) (μ 6) (μ 0 15) (μ 0 16) (μ 0 17) p)) 6 (m_sortOf_c6 (ac_A (μ 1) p) (μ 5) (μ 6) (μ 0 15) (μ 0 16) (μ 0 17) p)))) 0 0 := by
      intro y4 e10
      subst e10
      refine x_iload_n O 0 dX6_acts_77 rfl rfl ?_
      refine x_weak (Ω' := MS G adr h0 ((mc (mc (mc (mset (mset μ 0 15 (m_sortOf_f15 (ac_A (μ 1) p) (μ 5) (μ 6) (μ 0 15) (μ 0 16) (μ 0 17) p)) 0 16 (m_sortOf_f16 (ac_A (μ 1) p) (μ 5) (μ 6) (μ 0 15) (μ 0 16) (μ 0 17) p)) 1 (ac_C (ac_B (ac_A (μ 1) p) (ac_s (μ 1) (μ 5) (μ 6) (μ 0 15) (μ 0 16) (μ 0 17) p) p) (ac_s (μ 1) (μ 5) (μ 6) (μ 0 15) (μ 0 16) (μ 0 17) p) p)) 5 (m_sortOf_c5 (ac_A (μ 1) p) (μ 5) (μ 6) (μ 0 15) (μ 0 16) (μ 0 17) p)) 6 (m_sortOf_c6 (ac_A (μ 1) p) (μ 5) (μ 6) (μ 0 15) (μ 0 16) (μ 0 17) p)))) (fun _ m => m.eq (congrArg (fun m_ => mc m_ 6 _) (congrArg (fun m_ => mc m_ 5 _) (congrArg (fun f_ => mc _ 1 f_) (show (if ((ac_s (μ 1) (μ 5) (μ 6) (μ 0 15) (μ 0 16) (μ 0 17) p)) = (nI 1) then m_moves_c1 (ac_B (ac_A (μ 1) p) (ac_s (μ 1) (μ 5) (μ 6) (μ 0 15) (μ 0 16) (μ 0 17) p) p) p ((if ((ac_s (μ 1) (μ 5) (μ 6) (μ 0 15) (μ 0 16) (μ 0 17) p)) = (nI 1) then true else false)) else (if ((ac_s (μ 1) (μ 5) (μ 6) (μ 0 15) (μ 0 16) (μ 0 17) p)) = (nI 2) then m_moves_c1 (ac_B (ac_A (μ 1) p) (ac_s (μ 1) (μ 5) (μ 6) (μ 0 15) (μ 0 16) (μ 0 17) p) p) p ((if ((ac_s (μ 1) (μ 5) (μ 6) (μ 0 15) (μ 0 16) (μ 0 17) p)) = (nI 1) then true else false)) else ac_B (ac_A (μ 1) p) (ac_s (μ 1) (μ 5) (μ 6) (μ 0 15) (μ 0 16) (μ 0 17) p) p)) = ac_C (ac_B (ac_A (μ 1) p) (ac_s (μ 1) (μ 5) (μ 6) (μ 0 15) (μ 0 16) (μ 0 17) p) p) (ac_s (μ 1) (μ 5) (μ 6) (μ 0 15) (μ 0 16) (μ 0 17) p) p from rfl))))) ?_
      refine x_iconst O (nI 3) dX6_acts_78 (by decide) ?_
      have J11 : ∀ (y5 : Nat → Int32), y5 = (if ((ac_s (μ 1) (μ 5) (μ 6) (μ 0 15) (μ 0 16) (μ 0 17) p)) = (nI 3) then n_holdsStill_c1 (ac_C (ac_B (ac_A (μ 1) p) (ac_s (μ 1) (μ 5) (μ 6) (μ 0 15) (μ 0 16) (μ 0 17) p) p) (ac_s (μ 1) (μ 5) (μ 6) (μ 0 15) (μ 0 16) (μ 0 17) p) p) p else ac_C (ac_B (ac_A (μ 1) p) (ac_s (μ 1) (μ 5) (μ 6) (μ 0 15) (μ 0 16) (μ 0 17) p) p) (ac_s (μ 1) (μ 5) (μ 6) (μ 0 15) (μ 0 16) (μ 0 17) p) p) → X G F R Q 3 87 [(2, .int ((ac_s (μ 1) (μ 5) (μ 6) (μ 0 15) (μ 0 16) (μ 0 17) p))), (0, .ref (adr 0)), (1, .int (nI p))] [] (MS G adr h0 ((mc (mc (mc (mset (mset μ 0 15 (m_sortOf_f15 (ac_A (μ 1) p) (μ 5) (μ 6) (μ 0 15) (μ 0 16) (μ 0 17) p)) 0 16 (m_sortOf_f16 (ac_A (μ 1) p) (μ 5) (μ 6) (μ 0 15) (μ 0 16) (μ 0 17) p)) 1 y5) 5 (m_sortOf_c5 (ac_A (μ 1) p) (μ 5) (μ 6) (μ 0 15) (μ 0 16) (μ 0 17) p)) 6 (m_sortOf_c6 (ac_A (μ 1) p) (μ 5) (μ 6) (μ 0 15) (μ 0 16) (μ 0 17) p)))) 0 0 := by
        intro y5 e12
        subst e12
        refine x_iload_n O 0 dX6_acts_87 rfl rfl ?_
        refine x_weak (Ω' := MS G adr h0 ((mc (mc (mc (mset (mset μ 0 15 (m_sortOf_f15 (ac_A (μ 1) p) (μ 5) (μ 6) (μ 0 15) (μ 0 16) (μ 0 17) p)) 0 16 (m_sortOf_f16 (ac_A (μ 1) p) (μ 5) (μ 6) (μ 0 15) (μ 0 16) (μ 0 17) p)) 1 (ac_D (ac_C (ac_B (ac_A (μ 1) p) (ac_s (μ 1) (μ 5) (μ 6) (μ 0 15) (μ 0 16) (μ 0 17) p) p) (ac_s (μ 1) (μ 5) (μ 6) (μ 0 15) (μ 0 16) (μ 0 17) p) p) (ac_s (μ 1) (μ 5) (μ 6) (μ 0 15) (μ 0 16) (μ 0 17) p) p)) 5 (m_sortOf_c5 (ac_A (μ 1) p) (μ 5) (μ 6) (μ 0 15) (μ 0 16) (μ 0 17) p)) 6 (m_sortOf_c6 (ac_A (μ 1) p) (μ 5) (μ 6) (μ 0 15) (μ 0 16) (μ 0 17) p)))) (fun _ m => m.eq (congrArg (fun m_ => mc m_ 6 _) (congrArg (fun m_ => mc m_ 5 _) (congrArg (fun f_ => mc _ 1 f_) (show (if ((ac_s (μ 1) (μ 5) (μ 6) (μ 0 15) (μ 0 16) (μ 0 17) p)) = (nI 3) then n_holdsStill_c1 (ac_C (ac_B (ac_A (μ 1) p) (ac_s (μ 1) (μ 5) (μ 6) (μ 0 15) (μ 0 16) (μ 0 17) p) p) (ac_s (μ 1) (μ 5) (μ 6) (μ 0 15) (μ 0 16) (μ 0 17) p) p) p else ac_C (ac_B (ac_A (μ 1) p) (ac_s (μ 1) (μ 5) (μ 6) (μ 0 15) (μ 0 16) (μ 0 17) p) p) (ac_s (μ 1) (μ 5) (μ 6) (μ 0 15) (μ 0 16) (μ 0 17) p) p) = ac_D (ac_C (ac_B (ac_A (μ 1) p) (ac_s (μ 1) (μ 5) (μ 6) (μ 0 15) (μ 0 16) (μ 0 17) p) p) (ac_s (μ 1) (μ 5) (μ 6) (μ 0 15) (μ 0 16) (μ 0 17) p) p) (ac_s (μ 1) (μ 5) (μ 6) (μ 0 15) (μ 0 16) (μ 0 17) p) p from rfl))))) ?_
        refine x_iconst O (nI 4) dX6_acts_88 (by decide) ?_
        have J13 : ∀ (y6 : Nat → Int32), y6 = (if ((ac_s (μ 1) (μ 5) (μ 6) (μ 0 15) (μ 0 16) (μ 0 17) p)) = (nI 4) then ups (ac_D (ac_C (ac_B (ac_A (μ 1) p) (ac_s (μ 1) (μ 5) (μ 6) (μ 0 15) (μ 0 16) (μ 0 17) p) p) (ac_s (μ 1) (μ 5) (μ 6) (μ 0 15) (μ 0 16) (μ 0 17) p) p) (ac_s (μ 1) (μ 5) (μ 6) (μ 0 15) (μ 0 16) (μ 0 17) p) p) (301 + 6 * p + 0) ((-1)) else ac_D (ac_C (ac_B (ac_A (μ 1) p) (ac_s (μ 1) (μ 5) (μ 6) (μ 0 15) (μ 0 16) (μ 0 17) p) p) (ac_s (μ 1) (μ 5) (μ 6) (μ 0 15) (μ 0 16) (μ 0 17) p) p) (ac_s (μ 1) (μ 5) (μ 6) (μ 0 15) (μ 0 16) (μ 0 17) p) p) → X G F R Q 3 99 [(0, .ref (adr 0))] [] (MS G adr h0 ((mc (mc (mc (mset (mset μ 0 15 (m_sortOf_f15 (ac_A (μ 1) p) (μ 5) (μ 6) (μ 0 15) (μ 0 16) (μ 0 17) p)) 0 16 (m_sortOf_f16 (ac_A (μ 1) p) (μ 5) (μ 6) (μ 0 15) (μ 0 16) (μ 0 17) p)) 1 y6) 5 (m_sortOf_c5 (ac_A (μ 1) p) (μ 5) (μ 6) (μ 0 15) (μ 0 16) (μ 0 17) p)) 6 (m_sortOf_c6 (ac_A (μ 1) p) (μ 5) (μ 6) (μ 0 15) (μ 0 16) (μ 0 17) p)))) 0 0 := by
          intro y6 e14
          subst e14
          exact x_vretQ O hQ rfl dX6_acts_99 (fun h m => ⟨rfl, by rw [hrs0, hrs1, hrs2, hrs3, hrs4]; exact m.eq rfl⟩)
        refine x_icmpne O 99 dX6_acts_89 (by decide) (fun c89 => ?_) (fun c89 => ?_)
        · refine x_sub [1] (L' := [(0, .ref (adr 0))]) rfl ?_
          exact J13 (ac_D (ac_C (ac_B (ac_A (μ 1) p) (ac_s (μ 1) (μ 5) (μ 6) (μ 0 15) (μ 0 16) (μ 0 17) p) p) (ac_s (μ 1) (μ 5) (μ 6) (μ 0 15) (μ 0 16) (μ 0 17) p) p) (ac_s (μ 1) (μ 5) (μ 6) (μ 0 15) (μ 0 16) (μ 0 17) p) p) (by rw [if_neg c89])
        · refine x_sub [1, 2] (L' := [(0, .ref (adr 0)), (1, .int (nI p))]) rfl ?_
          refine x_aload_n O 0 dX6_acts_92 rfl rfl ?_
          refine x_iload_n O 1 dX6_acts_93 rfl rfl ?_
          refine x_iconst O (nI 0) dX6_acts_94 (by decide) ?_
          refine x_iconst O ((-1)) dX6_acts_95 (by decide) ?_
          refine x_cV O 3 (c_m_sets (μ := (mc (mc (mc (mset (mset μ 0 15 (m_sortOf_f15 (ac_A (μ 1) p) (μ 5) (μ 6) (μ 0 15) (μ 0 16) (μ 0 17) p)) 0 16 (m_sortOf_f16 (ac_A (μ 1) p) (μ 5) (μ 6) (μ 0 15) (μ 0 16) (μ 0 17) p)) 1 (ac_D (ac_C (ac_B (ac_A (μ 1) p) (ac_s (μ 1) (μ 5) (μ 6) (μ 0 15) (μ 0 16) (μ 0 17) p) p) (ac_s (μ 1) (μ 5) (μ 6) (μ 0 15) (μ 0 16) (μ 0 17) p) p) (ac_s (μ 1) (μ 5) (μ 6) (μ 0 15) (μ 0 16) (μ 0 17) p) p)) 5 (m_sortOf_c5 (ac_A (μ 1) p) (μ 5) (μ 6) (μ 0 15) (μ 0 16) (μ 0 17) p)) 6 (m_sortOf_c6 (ac_A (μ 1) p) (μ 5) (μ 6) (μ 0 15) (μ 0 16) (μ 0 17) p))) p 0 ((-1)) (by omega) (by omega)) MS.obj uc6 (lw_V q1972 q1974 qs61 q111 q1975) rfl hd_X6_sets rfl (by rw [RF]; rfl) (by rw [RL]; rfl) ⟨Nat.zero_le _, Nat.zero_le _⟩ rfl rfl dX6_acts_96 ?_
          refine x_weak (Ω' := MS G adr h0 (mc (mc (mc (mset (mset μ 0 15 (m_sortOf_f15 (ac_A (μ 1) p) (μ 5) (μ 6) (μ 0 15) (μ 0 16) (μ 0 17) p)) 0 16 (m_sortOf_f16 (ac_A (μ 1) p) (μ 5) (μ 6) (μ 0 15) (μ 0 16) (μ 0 17) p)) 1 (ups (ac_D (ac_C (ac_B (ac_A (μ 1) p) (ac_s (μ 1) (μ 5) (μ 6) (μ 0 15) (μ 0 16) (μ 0 17) p) p) (ac_s (μ 1) (μ 5) (μ 6) (μ 0 15) (μ 0 16) (μ 0 17) p) p) (ac_s (μ 1) (μ 5) (μ 6) (μ 0 15) (μ 0 16) (μ 0 17) p) p) (301 + 6 * p + 0) ((-1)))) 5 (m_sortOf_c5 (ac_A (μ 1) p) (μ 5) (μ 6) (μ 0 15) (μ 0 16) (μ 0 17) p)) 6 (m_sortOf_c6 (ac_A (μ 1) p) (μ 5) (μ 6) (μ 0 15) (μ 0 16) (μ 0 17) p))) (fun _ m => m.eq ((wc_n (by decide)).trans ((congrArg (fun m_ => mc m_ 6 _) (wc_n (by decide))).trans (congrArg (fun m_ => mc m_ 6 _) (congrArg (fun m_ => mc m_ 5 _) wc_s))))) ?_
          refine x_sub [0] rfl ?_
          exact J13 (ups (ac_D (ac_C (ac_B (ac_A (μ 1) p) (ac_s (μ 1) (μ 5) (μ 6) (μ 0 15) (μ 0 16) (μ 0 17) p) p) (ac_s (μ 1) (μ 5) (μ 6) (μ 0 15) (μ 0 16) (μ 0 17) p) p) (ac_s (μ 1) (μ 5) (μ 6) (μ 0 15) (μ 0 16) (μ 0 17) p) p) (301 + 6 * p + 0) ((-1))) (by rw [if_pos c89])
      refine x_icmpne O 87 dX6_acts_79 (by decide) (fun c79 => ?_) (fun c79 => ?_)
      · exact J11 (ac_C (ac_B (ac_A (μ 1) p) (ac_s (μ 1) (μ 5) (μ 6) (μ 0 15) (μ 0 16) (μ 0 17) p) p) (ac_s (μ 1) (μ 5) (μ 6) (μ 0 15) (μ 0 16) (μ 0 17) p) p) (by rw [if_neg c79])
      · refine x_aload_n O 1 dX6_acts_82 rfl rfl ?_
        refine x_iload_n O 2 dX6_acts_83 rfl rfl ?_
        refine x_cV O 1 (c_n_holdsStill (μ := (mc (mc (mc (mset (mset μ 0 15 (m_sortOf_f15 (ac_A (μ 1) p) (μ 5) (μ 6) (μ 0 15) (μ 0 16) (μ 0 17) p)) 0 16 (m_sortOf_f16 (ac_A (μ 1) p) (μ 5) (μ 6) (μ 0 15) (μ 0 16) (μ 0 17) p)) 1 (ac_C (ac_B (ac_A (μ 1) p) (ac_s (μ 1) (μ 5) (μ 6) (μ 0 15) (μ 0 16) (μ 0 17) p) p) (ac_s (μ 1) (μ 5) (μ 6) (μ 0 15) (μ 0 16) (μ 0 17) p) p)) 5 (m_sortOf_c5 (ac_A (μ 1) p) (μ 5) (μ 6) (μ 0 15) (μ 0 16) (μ 0 17) p)) 6 (m_sortOf_c6 (ac_A (μ 1) p) (μ 5) (μ 6) (μ 0 15) (μ 0 16) (μ 0 17) p))) p (by omega)) MS.obj uc6 (lw_V q2024 q2026 qs71 q111 q2027) rfl hd_X6_holdsStill rfl (by rw [RF]; rfl) (by rw [RL]; rfl) ⟨Nat.zero_le _, Nat.zero_le _⟩ rfl rfl dX6_acts_84 ?_
        refine x_weak (Ω' := MS G adr h0 (mc (mc (mc (mset (mset μ 0 15 (m_sortOf_f15 (ac_A (μ 1) p) (μ 5) (μ 6) (μ 0 15) (μ 0 16) (μ 0 17) p)) 0 16 (m_sortOf_f16 (ac_A (μ 1) p) (μ 5) (μ 6) (μ 0 15) (μ 0 16) (μ 0 17) p)) 1 (n_holdsStill_c1 (ac_C (ac_B (ac_A (μ 1) p) (ac_s (μ 1) (μ 5) (μ 6) (μ 0 15) (μ 0 16) (μ 0 17) p) p) (ac_s (μ 1) (μ 5) (μ 6) (μ 0 15) (μ 0 16) (μ 0 17) p) p) p)) 5 (m_sortOf_c5 (ac_A (μ 1) p) (μ 5) (μ 6) (μ 0 15) (μ 0 16) (μ 0 17) p)) 6 (m_sortOf_c6 (ac_A (μ 1) p) (μ 5) (μ 6) (μ 0 15) (μ 0 16) (μ 0 17) p))) (fun _ m => by rw [show (mc (mc (mc (mset (mset μ 0 15 (m_sortOf_f15 (ac_A (μ 1) p) (μ 5) (μ 6) (μ 0 15) (μ 0 16) (μ 0 17) p)) 0 16 (m_sortOf_f16 (ac_A (μ 1) p) (μ 5) (μ 6) (μ 0 15) (μ 0 16) (μ 0 17) p)) 1 (ac_C (ac_B (ac_A (μ 1) p) (ac_s (μ 1) (μ 5) (μ 6) (μ 0 15) (μ 0 16) (μ 0 17) p) p) (ac_s (μ 1) (μ 5) (μ 6) (μ 0 15) (μ 0 16) (μ 0 17) p) p)) 5 (m_sortOf_c5 (ac_A (μ 1) p) (μ 5) (μ 6) (μ 0 15) (μ 0 16) (μ 0 17) p)) 6 (m_sortOf_c6 (ac_A (μ 1) p) (μ 5) (μ 6) (μ 0 15) (μ 0 16) (μ 0 17) p)) 1 = ac_C (ac_B (ac_A (μ 1) p) (ac_s (μ 1) (μ 5) (μ 6) (μ 0 15) (μ 0 16) (μ 0 17) p) p) (ac_s (μ 1) (μ 5) (μ 6) (μ 0 15) (μ 0 16) (μ 0 17) p) p from ((mc_n (by decide)).trans ((mc_n (by decide)).trans mc_s))] at m; exact m.eq ((cc_n (by decide)).trans ((congrArg (fun m_ => mc m_ 6 _) (cc_n (by decide))).trans (congrArg (fun m_ => mc m_ 6 _) (congrArg (fun m_ => mc m_ 5 _) cc_s))))) ?_
        exact J11 (n_holdsStill_c1 (ac_C (ac_B (ac_A (μ 1) p) (ac_s (μ 1) (μ 5) (μ 6) (μ 0 15) (μ 0 16) (μ 0 17) p) p) (ac_s (μ 1) (μ 5) (μ 6) (μ 0 15) (μ 0 16) (μ 0 17) p) p) p) (by rw [if_pos c79])
    refine x_icmpeq O 62 dX6_acts_54 (by decide) (fun c54 => ?_) (fun c54 => ?_)
    · refine x_aload_n O 1 dX6_acts_62 rfl rfl ?_
      refine x_iload_n O 2 dX6_acts_63 rfl rfl ?_
      refine x_iload_n O 0 dX6_acts_64 rfl rfl ?_
      refine x_iconst O (nI 1) dX6_acts_65 (by decide) ?_
      have J15 : ∀ (y2 : Bool), y2 = (if ((ac_s (μ 1) (μ 5) (μ 6) (μ 0 15) (μ 0 16) (μ 0 17) p)) = (nI 1) then true else false) → X G F R Q 3 74 [(2, .int ((ac_s (μ 1) (μ 5) (μ 6) (μ 0 15) (μ 0 16) (μ 0 17) p))), (0, .ref (adr 0)), (1, .int (nI p))] [.int (b2i y2), .int (nI p), .ref (adr 0)] (MS G adr h0 ((mc (mc (mc (mset (mset μ 0 15 (m_sortOf_f15 (ac_A (μ 1) p) (μ 5) (μ 6) (μ 0 15) (μ 0 16) (μ 0 17) p)) 0 16 (m_sortOf_f16 (ac_A (μ 1) p) (μ 5) (μ 6) (μ 0 15) (μ 0 16) (μ 0 17) p)) 1 (ac_B (ac_A (μ 1) p) (ac_s (μ 1) (μ 5) (μ 6) (μ 0 15) (μ 0 16) (μ 0 17) p) p)) 5 (m_sortOf_c5 (ac_A (μ 1) p) (μ 5) (μ 6) (μ 0 15) (μ 0 16) (μ 0 17) p)) 6 (m_sortOf_c6 (ac_A (μ 1) p) (μ 5) (μ 6) (μ 0 15) (μ 0 16) (μ 0 17) p)))) 0 0 := by
        intro y2 e16
        subst e16
        refine x_cV O 2 (c_m_moves (μ := (mc (mc (mc (mset (mset μ 0 15 (m_sortOf_f15 (ac_A (μ 1) p) (μ 5) (μ 6) (μ 0 15) (μ 0 16) (μ 0 17) p)) 0 16 (m_sortOf_f16 (ac_A (μ 1) p) (μ 5) (μ 6) (μ 0 15) (μ 0 16) (μ 0 17) p)) 1 (ac_B (ac_A (μ 1) p) (ac_s (μ 1) (μ 5) (μ 6) (μ 0 15) (μ 0 16) (μ 0 17) p) p)) 5 (m_sortOf_c5 (ac_A (μ 1) p) (μ 5) (μ 6) (μ 0 15) (μ 0 16) (μ 0 17) p)) 6 (m_sortOf_c6 (ac_A (μ 1) p) (μ 5) (μ 6) (μ 0 15) (μ 0 16) (μ 0 17) p))) (acB hA.1 hp).1 p ((if ((ac_s (μ 1) (μ 5) (μ 6) (μ 0 15) (μ 0 16) (μ 0 17) p)) = (nI 1) then true else false)) (by omega)) MS.obj uc6 (lw_V q2033 q2035 qs73 q111 q2036) rfl hd_X6_moves rfl (by rw [RF]; rfl) (by rw [RL]; rfl) ⟨Nat.zero_le _, Nat.zero_le _⟩ rfl rfl dX6_acts_74 ?_
        refine x_weak (Ω' := MS G adr h0 (mc (mc (mc (mset (mset μ 0 15 (m_sortOf_f15 (ac_A (μ 1) p) (μ 5) (μ 6) (μ 0 15) (μ 0 16) (μ 0 17) p)) 0 16 (m_sortOf_f16 (ac_A (μ 1) p) (μ 5) (μ 6) (μ 0 15) (μ 0 16) (μ 0 17) p)) 1 (m_moves_c1 (ac_B (ac_A (μ 1) p) (ac_s (μ 1) (μ 5) (μ 6) (μ 0 15) (μ 0 16) (μ 0 17) p) p) p ((if ((ac_s (μ 1) (μ 5) (μ 6) (μ 0 15) (μ 0 16) (μ 0 17) p)) = (nI 1) then true else false)))) 5 (m_sortOf_c5 (ac_A (μ 1) p) (μ 5) (μ 6) (μ 0 15) (μ 0 16) (μ 0 17) p)) 6 (m_sortOf_c6 (ac_A (μ 1) p) (μ 5) (μ 6) (μ 0 15) (μ 0 16) (μ 0 17) p))) (fun _ m => by rw [show (mc (mc (mc (mset (mset μ 0 15 (m_sortOf_f15 (ac_A (μ 1) p) (μ 5) (μ 6) (μ 0 15) (μ 0 16) (μ 0 17) p)) 0 16 (m_sortOf_f16 (ac_A (μ 1) p) (μ 5) (μ 6) (μ 0 15) (μ 0 16) (μ 0 17) p)) 1 (ac_B (ac_A (μ 1) p) (ac_s (μ 1) (μ 5) (μ 6) (μ 0 15) (μ 0 16) (μ 0 17) p) p)) 5 (m_sortOf_c5 (ac_A (μ 1) p) (μ 5) (μ 6) (μ 0 15) (μ 0 16) (μ 0 17) p)) 6 (m_sortOf_c6 (ac_A (μ 1) p) (μ 5) (μ 6) (μ 0 15) (μ 0 16) (μ 0 17) p)) 1 = ac_B (ac_A (μ 1) p) (ac_s (μ 1) (μ 5) (μ 6) (μ 0 15) (μ 0 16) (μ 0 17) p) p from ((mc_n (by decide)).trans ((mc_n (by decide)).trans mc_s))] at m; exact m.eq ((cc_n (by decide)).trans ((congrArg (fun m_ => mc m_ 6 _) (cc_n (by decide))).trans (congrArg (fun m_ => mc m_ 6 _) (congrArg (fun m_ => mc m_ 5 _) cc_s))))) ?_
        exact J9 (m_moves_c1 (ac_B (ac_A (μ 1) p) (ac_s (μ 1) (μ 5) (μ 6) (μ 0 15) (μ 0 16) (μ 0 17) p) p) p ((if ((ac_s (μ 1) (μ 5) (μ 6) (μ 0 15) (μ 0 16) (μ 0 17) p)) = (nI 1) then true else false))) (by first | (rw [if_pos c54]; done) | simp only [if_pos c54])
      refine x_icmpne O 73 dX6_acts_66 (by decide) (fun c66 => ?_) (fun c66 => ?_)
      · refine x_iconst O (nI 0) dX6_acts_73 (by decide) ?_
        refine x_top (v' := b2i false) (by decide) ?_
        exact J15 false (by rw [if_neg c66])
      · refine x_iconst O (nI 1) dX6_acts_69 (by decide) ?_
        refine x_goto O 74 dX6_acts_70 (by decide) ?_
        refine x_top (v' := b2i true) (by decide) ?_
        exact J15 true (by rw [if_pos c66])
    · refine x_iload_n O 0 dX6_acts_57 rfl rfl ?_
      refine x_iconst O (nI 2) dX6_acts_58 (by decide) ?_
      refine x_icmpne O 77 dX6_acts_59 (by decide) (fun c59 => ?_) (fun c59 => ?_)
      · exact J9 (ac_B (ac_A (μ 1) p) (ac_s (μ 1) (μ 5) (μ 6) (μ 0 15) (μ 0 16) (μ 0 17) p) p) (by first | (rw [if_neg c54, if_neg c59]; done) | simp only [if_neg c54, if_neg c59])
      · refine x_aload_n O 1 dX6_acts_62 rfl rfl ?_
        refine x_iload_n O 2 dX6_acts_63 rfl rfl ?_
        refine x_iload_n O 0 dX6_acts_64 rfl rfl ?_
        refine x_iconst O (nI 1) dX6_acts_65 (by decide) ?_
        have J17 : ∀ (y3 : Bool), y3 = (if ((ac_s (μ 1) (μ 5) (μ 6) (μ 0 15) (μ 0 16) (μ 0 17) p)) = (nI 1) then true else false) → X G F R Q 3 74 [(2, .int ((ac_s (μ 1) (μ 5) (μ 6) (μ 0 15) (μ 0 16) (μ 0 17) p))), (0, .ref (adr 0)), (1, .int (nI p))] [.int (b2i y3), .int (nI p), .ref (adr 0)] (MS G adr h0 ((mc (mc (mc (mset (mset μ 0 15 (m_sortOf_f15 (ac_A (μ 1) p) (μ 5) (μ 6) (μ 0 15) (μ 0 16) (μ 0 17) p)) 0 16 (m_sortOf_f16 (ac_A (μ 1) p) (μ 5) (μ 6) (μ 0 15) (μ 0 16) (μ 0 17) p)) 1 (ac_B (ac_A (μ 1) p) (ac_s (μ 1) (μ 5) (μ 6) (μ 0 15) (μ 0 16) (μ 0 17) p) p)) 5 (m_sortOf_c5 (ac_A (μ 1) p) (μ 5) (μ 6) (μ 0 15) (μ 0 16) (μ 0 17) p)) 6 (m_sortOf_c6 (ac_A (μ 1) p) (μ 5) (μ 6) (μ 0 15) (μ 0 16) (μ 0 17) p)))) 0 0 := by
          intro y3 e18
          subst e18
          refine x_cV O 2 (c_m_moves (μ := (mc (mc (mc (mset (mset μ 0 15 (m_sortOf_f15 (ac_A (μ 1) p) (μ 5) (μ 6) (μ 0 15) (μ 0 16) (μ 0 17) p)) 0 16 (m_sortOf_f16 (ac_A (μ 1) p) (μ 5) (μ 6) (μ 0 15) (μ 0 16) (μ 0 17) p)) 1 (ac_B (ac_A (μ 1) p) (ac_s (μ 1) (μ 5) (μ 6) (μ 0 15) (μ 0 16) (μ 0 17) p) p)) 5 (m_sortOf_c5 (ac_A (μ 1) p) (μ 5) (μ 6) (μ 0 15) (μ 0 16) (μ 0 17) p)) 6 (m_sortOf_c6 (ac_A (μ 1) p) (μ 5) (μ 6) (μ 0 15) (μ 0 16) (μ 0 17) p))) (acB hA.1 hp).1 p ((if ((ac_s (μ 1) (μ 5) (μ 6) (μ 0 15) (μ 0 16) (μ 0 17) p)) = (nI 1) then true else false)) (by omega)) MS.obj uc6 (lw_V q2033 q2035 qs73 q111 q2036) rfl hd_X6_moves rfl (by rw [RF]; rfl) (by rw [RL]; rfl) ⟨Nat.zero_le _, Nat.zero_le _⟩ rfl rfl dX6_acts_74 ?_
          refine x_weak (Ω' := MS G adr h0 (mc (mc (mc (mset (mset μ 0 15 (m_sortOf_f15 (ac_A (μ 1) p) (μ 5) (μ 6) (μ 0 15) (μ 0 16) (μ 0 17) p)) 0 16 (m_sortOf_f16 (ac_A (μ 1) p) (μ 5) (μ 6) (μ 0 15) (μ 0 16) (μ 0 17) p)) 1 (m_moves_c1 (ac_B (ac_A (μ 1) p) (ac_s (μ 1) (μ 5) (μ 6) (μ 0 15) (μ 0 16) (μ 0 17) p) p) p ((if ((ac_s (μ 1) (μ 5) (μ 6) (μ 0 15) (μ 0 16) (μ 0 17) p)) = (nI 1) then true else false)))) 5 (m_sortOf_c5 (ac_A (μ 1) p) (μ 5) (μ 6) (μ 0 15) (μ 0 16) (μ 0 17) p)) 6 (m_sortOf_c6 (ac_A (μ 1) p) (μ 5) (μ 6) (μ 0 15) (μ 0 16) (μ 0 17) p))) (fun _ m => by rw [show (mc (mc (mc (mset (mset μ 0 15 (m_sortOf_f15 (ac_A (μ 1) p) (μ 5) (μ 6) (μ 0 15) (μ 0 16) (μ 0 17) p)) 0 16 (m_sortOf_f16 (ac_A (μ 1) p) (μ 5) (μ 6) (μ 0 15) (μ 0 16) (μ 0 17) p)) 1 (ac_B (ac_A (μ 1) p) (ac_s (μ 1) (μ 5) (μ 6) (μ 0 15) (μ 0 16) (μ 0 17) p) p)) 5 (m_sortOf_c5 (ac_A (μ 1) p) (μ 5) (μ 6) (μ 0 15) (μ 0 16) (μ 0 17) p)) 6 (m_sortOf_c6 (ac_A (μ 1) p) (μ 5) (μ 6) (μ 0 15) (μ 0 16) (μ 0 17) p)) 1 = ac_B (ac_A (μ 1) p) (ac_s (μ 1) (μ 5) (μ 6) (μ 0 15) (μ 0 16) (μ 0 17) p) p from ((mc_n (by decide)).trans ((mc_n (by decide)).trans mc_s))] at m; exact m.eq ((cc_n (by decide)).trans ((congrArg (fun m_ => mc m_ 6 _) (cc_n (by decide))).trans (congrArg (fun m_ => mc m_ 6 _) (congrArg (fun m_ => mc m_ 5 _) cc_s))))) ?_
          exact J9 (m_moves_c1 (ac_B (ac_A (μ 1) p) (ac_s (μ 1) (μ 5) (μ 6) (μ 0 15) (μ 0 16) (μ 0 17) p) p) p ((if ((ac_s (μ 1) (μ 5) (μ 6) (μ 0 15) (μ 0 16) (μ 0 17) p)) = (nI 1) then true else false))) (by first | (rw [if_neg c54, if_pos c59]; done) | simp only [if_neg c54, if_pos c59])
        refine x_icmpne O 73 dX6_acts_66 (by decide) (fun c66 => ?_) (fun c66 => ?_)
        · refine x_iconst O (nI 0) dX6_acts_73 (by decide) ?_
          refine x_top (v' := b2i false) (by decide) ?_
          exact J17 false (by rw [if_neg c66])
        · refine x_iconst O (nI 1) dX6_acts_69 (by decide) ?_
          refine x_goto O 74 dX6_acts_70 (by decide) ?_
          refine x_top (v' := b2i true) (by decide) ?_
          exact J17 true (by rw [if_pos c66])
  refine x_ifne O 52 dX6_acts_44 (by decide) (fun c44 => ?_) (fun c44 => ?_)
  · exact J7 (ac_A (μ 1) p) (by rw [if_neg c44])
  · refine x_aload_n O 1 dX6_acts_47 rfl rfl ?_
    refine x_iload_n O 2 dX6_acts_48 rfl rfl ?_
    refine x_cV O 1 (c_m_shoots (μ := (mc (mc (mc (mset (mset μ 0 15 (m_sortOf_f15 (ac_A (μ 1) p) (μ 5) (μ 6) (μ 0 15) (μ 0 16) (μ 0 17) p)) 0 16 (m_sortOf_f16 (ac_A (μ 1) p) (μ 5) (μ 6) (μ 0 15) (μ 0 16) (μ 0 17) p)) 1 (ac_A (μ 1) p)) 5 (m_sortOf_c5 (ac_A (μ 1) p) (μ 5) (μ 6) (μ 0 15) (μ 0 16) (μ 0 17) p)) 6 (m_sortOf_c6 (ac_A (μ 1) p) (μ 5) (μ 6) (μ 0 15) (μ 0 16) (μ 0 17) p))) hA.1 p (by omega)) MS.obj uc6 (lw_V q2020 q2022 qs70 q111 q2023) rfl hd_X6_shoots rfl (by rw [RF]; rfl) (by rw [RL]; rfl) ⟨Nat.zero_le _, Nat.zero_le _⟩ rfl rfl dX6_acts_49 ?_
    refine x_weak (Ω' := MS G adr h0 (mc (mc (mc (mset (mset μ 0 15 (m_sortOf_f15 (ac_A (μ 1) p) (μ 5) (μ 6) (μ 0 15) (μ 0 16) (μ 0 17) p)) 0 16 (m_sortOf_f16 (ac_A (μ 1) p) (μ 5) (μ 6) (μ 0 15) (μ 0 16) (μ 0 17) p)) 1 (m_shoots_c1 (ac_A (μ 1) p) p)) 5 (m_sortOf_c5 (ac_A (μ 1) p) (μ 5) (μ 6) (μ 0 15) (μ 0 16) (μ 0 17) p)) 6 (m_sortOf_c6 (ac_A (μ 1) p) (μ 5) (μ 6) (μ 0 15) (μ 0 16) (μ 0 17) p))) (fun _ m => by rw [show (mc (mc (mc (mset (mset μ 0 15 (m_sortOf_f15 (ac_A (μ 1) p) (μ 5) (μ 6) (μ 0 15) (μ 0 16) (μ 0 17) p)) 0 16 (m_sortOf_f16 (ac_A (μ 1) p) (μ 5) (μ 6) (μ 0 15) (μ 0 16) (μ 0 17) p)) 1 (ac_A (μ 1) p)) 5 (m_sortOf_c5 (ac_A (μ 1) p) (μ 5) (μ 6) (μ 0 15) (μ 0 16) (μ 0 17) p)) 6 (m_sortOf_c6 (ac_A (μ 1) p) (μ 5) (μ 6) (μ 0 15) (μ 0 16) (μ 0 17) p)) 1 = ac_A (μ 1) p from ((mc_n (by decide)).trans ((mc_n (by decide)).trans mc_s))] at m; exact m.eq ((cc_n (by decide)).trans ((congrArg (fun m_ => mc m_ 6 _) (cc_n (by decide))).trans (congrArg (fun m_ => mc m_ 6 _) (congrArg (fun m_ => mc m_ 5 _) cc_s))))) ?_
    exact J7 (m_shoots_c1 (ac_A (μ 1) p) p) (by rw [if_pos c44])

theorem acts_J {W C5 C6 : Nat → Int32} {F15 F16 F17 : Int32} {p : Nat} (hJ : MJ W) (hp : p < 8) : MJ (m_acts_c1 W C5 C6 F15 F16 F17 p) ∧ ST W (m_acts_c1 W C5 C6 F15 F16 F17 p) := by
  have hA := acA hJ hp
  have hB := acB (s := ac_s W C5 C6 F15 F16 F17 p) hA.1 hp
  have hC := acC (s := ac_s W C5 C6 F15 F16 F17 p) hB.1 hp
  have hD := acD (s := ac_s W C5 C6 F15 F16 F17 p) hC.1 hp
  have hS := ((hA.2.t hB.2).t hC.2).t hD.2
  unfold m_acts_c1
  split
  · exact ⟨MJ_u hD.1 (RJ_p hp (by omega) ⟨fun _ => Or.inl rfl, fun e => by omega, fun e => by omega⟩), hS.u (by omega)⟩
  · exact ⟨hD.1, hS⟩
theorem if_j {c : Prop} [Decidable c] {A B : Nat → Int32} {j : Nat} {v : Int32} (a : A j = v) (b : B j = v) : (if c then A else B) j = v := by
  by_cases h : c
  · rw [if_pos h]; exact a
  · rw [if_neg h]; exact b
theorem moves_n {W : Nat → Int32} {p j : Nat} {flees : Bool} (h : j < 301) : m_moves_c1 W p flees j = W j := by
  unfold m_moves_c1
  exact if_j (ups_n (by omega)) rfl
theorem still_n {W : Nat → Int32} {p j : Nat} (h : j < 301) : n_holdsStill_c1 W p j = W j := ups_n (by omega)
theorem shoots_n {W : Nat → Int32} {p j : Nat} (hJ : MJ W) (hp : p < 8) (h3 : j ≠ 3) (h9 : j ≠ 9) (h : j < 269) : m_shoots_c1 W p j = W j := by
  have hx := hJ.2.1 p hp
  unfold m_shoots_c1
  by_cases a : m_roundsOf W p = 0
  · simp only [if_pos a]; exact still_n (by omega)
  · simp only [if_neg a]
    have hg := (gO_nn' hx.1 (ro_pos a)).2
    by_cases b : 0 ≤ m_nearestTo W p true (m_of W p 1)
    · simp only [if_pos b]
      have hf := (gO_nn' (near_gO hJ.1) b).2
      have hf8 : tn (m_nearestTo W p true (m_of W p 1)) < 8 := by omega
      have hD := shD_J (f := tn (m_nearestTo W p true (m_of W p 1))) hJ hp hf8 hg
      split
      · rw [ups_n (by omega), leaves_n hD.1 h3 (by omega), shD_n hJ hp hg h3 h9 (by omega)]
      · exact shD_n hJ hp hg h3 h9 (by omega)
    · simp only [if_neg b]; exact still_n (by omega)
theorem acts_n {W C5 C6 : Nat → Int32} {F15 F16 F17 : Int32} {p j : Nat} (hJ : MJ W) (hp : p < 8) (h3 : j ≠ 3) (h9 : j ≠ 9) (h : j < 269) : m_acts_c1 W C5 C6 F15 F16 F17 p j = W j := by
  have hA := acA hJ hp
  have e1 : ac_A W p j = W j := ups_n (by omega)
  have e2 : ∀ s, ac_B (ac_A W p) s p j = W j := fun s => by
    unfold ac_B; split
    · rw [shoots_n hA.1 hp h3 h9 h, e1]
    · exact e1
  have e3 : ∀ s, ac_C (ac_B (ac_A W p) s p) s p j = W j := fun s => by
    unfold ac_C; split
    · rw [moves_n (by omega), e2]
    · split
      · rw [moves_n (by omega), e2]
      · exact e2 s
  have e4 : ∀ s, ac_D (ac_C (ac_B (ac_A W p) s p) s p) s p j = W j := fun s => by
    unfold ac_D; split
    · rw [still_n (by omega), e3]
    · exact e3 s
  unfold m_acts_c1
  split
  · rw [ups_n (by omega), e4]
  · exact e4 _
theorem run_ok {W : Nat → Int32} {m : Int32} (h7 : nn (W 7) 239) (h : ¬ (if m_in m (nI 1) (nI 60) = true then (if ((nI (tn (W 7))) + m) ≤ (nI 239) then false else true) else true) = true) : nn m 60 ∧ tn (W 7) + tn m ≤ 239 := by
  by_cases c : m_in m (nI 1) (nI 60) = true
  · rw [if_pos c] at h
    obtain ⟨a, b⟩ := in_spec.mp c
    have hm : nn m 60 := nn_of (Int32.le_trans (by decide) a) b (by decide)
    refine ⟨hm, ?_⟩
    have hb := hm.2
    have h7b := h7.2
    by_cases q : ((nI (tn (W 7))) + m) ≤ (nI 239)
    · rw [hm.1, nI_add] at q
      have := (nI_leI (by omega) (by decide)).mp q
      omega
    · exact absurd (by rw [if_neg q]) h
  · exact absurd (by rw [if_neg c]) h

def m_run_b65 (W : Nat → Int32) (C5 : Nat → Int32) (C6 : Nat → Int32) (F15 : Int32) (F16 : Int32) (F17 : Int32)  (i3_65 : Nat) (f15_65 : Int32) (f16_65 : Int32) (a1_65 : (Nat → Int32)) (a5_65 : (Nat → Int32)) (a6_65 : (Nat → Int32)) : Int32 × Int32 × (Nat → Int32) × (Nat → Int32) × (Nat → Int32) :=
  ((if (m_of a1_65 i3_65 3) = (nI 1) then m_acts_f15 a1_65 a5_65 a6_65 f15_65 f16_65 F17 i3_65 else f15_65), (if (m_of a1_65 i3_65 3) = (nI 1) then m_acts_f16 a1_65 a5_65 a6_65 f15_65 f16_65 F17 i3_65 else f16_65), (if (m_of a1_65 i3_65 3) = (nI 1) then m_acts_c1 a1_65 a5_65 a6_65 f15_65 f16_65 F17 i3_65 else a1_65), (if (m_of a1_65 i3_65 3) = (nI 1) then m_acts_c5 a1_65 a5_65 a6_65 f15_65 f16_65 F17 i3_65 else a5_65), (if (m_of a1_65 i3_65 3) = (nI 1) then m_acts_c6 a1_65 a5_65 a6_65 f15_65 f16_65 F17 i3_65 else a6_65))
def m_run_b47 (W : Nat → Int32) (C5 : Nat → Int32) (C6 : Nat → Int32) (F15 : Int32) (F16 : Int32) (F17 : Int32)  (i2_47 : Nat) (f15_47 : Int32) (f16_47 : Int32) (a1_47 : (Nat → Int32)) (a5_47 : (Nat → Int32)) (a6_47 : (Nat → Int32)) : Int32 × Int32 × (Nat → Int32) × (Nat → Int32) × (Nat → Int32) :=
  ((fr (fun i s => m_run_b65 W C5 C6 F15 F16 F17 i s.1 s.2.1 s.2.2.1 s.2.2.2.1 s.2.2.2.2) (tn (W 1)) 0 (f15_47, f16_47, ups a1_47 7 ((a1_47 7) + (nI 1)), a5_47, a6_47)).1, (fr (fun i s => m_run_b65 W C5 C6 F15 F16 F17 i s.1 s.2.1 s.2.2.1 s.2.2.2.1 s.2.2.2.2) (tn (W 1)) 0 (f15_47, f16_47, ups a1_47 7 ((a1_47 7) + (nI 1)), a5_47, a6_47)).2.1, (fr (fun i s => m_run_b65 W C5 C6 F15 F16 F17 i s.1 s.2.1 s.2.2.1 s.2.2.2.1 s.2.2.2.2) (tn (W 1)) 0 (f15_47, f16_47, ups a1_47 7 ((a1_47 7) + (nI 1)), a5_47, a6_47)).2.2.1, (fr (fun i s => m_run_b65 W C5 C6 F15 F16 F17 i s.1 s.2.1 s.2.2.1 s.2.2.2.1 s.2.2.2.2) (tn (W 1)) 0 (f15_47, f16_47, ups a1_47 7 ((a1_47 7) + (nI 1)), a5_47, a6_47)).2.2.2.1, (fr (fun i s => m_run_b65 W C5 C6 F15 F16 F17 i s.1 s.2.1 s.2.2.1 s.2.2.2.1 s.2.2.2.2) (tn (W 1)) 0 (f15_47, f16_47, ups a1_47 7 ((a1_47 7) + (nI 1)), a5_47, a6_47)).2.2.2.2)
def m_run (W : Nat → Int32) (C5 : Nat → Int32) (C6 : Nat → Int32) (F15 : Int32) (F16 : Int32) (F17 : Int32) (m : Int32) : Int32 :=
  (if (if m_in m (nI 1) (nI 60) = true then (if ((nI (tn (W 7))) + m) ≤ (nI 239) then false else true) else true) = true then nI 0 else ((fr (fun i s => m_run_b47 W C5 C6 F15 F16 F17 i s.1 s.2.1 s.2.2.1 s.2.2.2.1 s.2.2.2.2) (tn m) 0 (F15, F16, W, C5, C6)).2.2.1) 7)
def m_run_f0 (W : Nat → Int32) (C5 : Nat → Int32) (C6 : Nat → Int32) (F15 : Int32) (F16 : Int32) (F17 : Int32) (m : Int32) : Nat :=
  (if (if m_in m (nI 1) (nI 60) = true then (if ((nI (tn (W 7))) + m) ≤ (nI 239) then false else true) else true) = true then 1 else 0)
def m_run_f15 (W : Nat → Int32) (C5 : Nat → Int32) (C6 : Nat → Int32) (F15 : Int32) (F16 : Int32) (F17 : Int32) (m : Int32) : Int32 :=
  (if (if m_in m (nI 1) (nI 60) = true then (if ((nI (tn (W 7))) + m) ≤ (nI 239) then false else true) else true) = true then F15 else (fr (fun i s => m_run_b47 W C5 C6 F15 F16 F17 i s.1 s.2.1 s.2.2.1 s.2.2.2.1 s.2.2.2.2) (tn m) 0 (F15, F16, W, C5, C6)).1)
def m_run_f16 (W : Nat → Int32) (C5 : Nat → Int32) (C6 : Nat → Int32) (F15 : Int32) (F16 : Int32) (F17 : Int32) (m : Int32) : Int32 :=
  (if (if m_in m (nI 1) (nI 60) = true then (if ((nI (tn (W 7))) + m) ≤ (nI 239) then false else true) else true) = true then F16 else (fr (fun i s => m_run_b47 W C5 C6 F15 F16 F17 i s.1 s.2.1 s.2.2.1 s.2.2.2.1 s.2.2.2.2) (tn m) 0 (F15, F16, W, C5, C6)).2.1)
def m_run_c1 (W : Nat → Int32) (C5 : Nat → Int32) (C6 : Nat → Int32) (F15 : Int32) (F16 : Int32) (F17 : Int32) (m : Int32) : Nat → Int32 :=
  (if (if m_in m (nI 1) (nI 60) = true then (if ((nI (tn (W 7))) + m) ≤ (nI 239) then false else true) else true) = true then W else (fr (fun i s => m_run_b47 W C5 C6 F15 F16 F17 i s.1 s.2.1 s.2.2.1 s.2.2.2.1 s.2.2.2.2) (tn m) 0 (F15, F16, W, C5, C6)).2.2.1)
def m_run_c5 (W : Nat → Int32) (C5 : Nat → Int32) (C6 : Nat → Int32) (F15 : Int32) (F16 : Int32) (F17 : Int32) (m : Int32) : Nat → Int32 :=
  (if (if m_in m (nI 1) (nI 60) = true then (if ((nI (tn (W 7))) + m) ≤ (nI 239) then false else true) else true) = true then C5 else (fr (fun i s => m_run_b47 W C5 C6 F15 F16 F17 i s.1 s.2.1 s.2.2.1 s.2.2.2.1 s.2.2.2.2) (tn m) 0 (F15, F16, W, C5, C6)).2.2.2.1)
def m_run_c6 (W : Nat → Int32) (C5 : Nat → Int32) (C6 : Nat → Int32) (F15 : Int32) (F16 : Int32) (F17 : Int32) (m : Int32) : Nat → Int32 :=
  (if (if m_in m (nI 1) (nI 60) = true then (if ((nI (tn (W 7))) + m) ≤ (nI 239) then false else true) else true) = true then C6 else (fr (fun i s => m_run_b47 W C5 C6 F15 F16 F17 i s.1 s.2.1 s.2.2.1 s.2.2.2.1 s.2.2.2.2) (tn m) 0 (F15, F16, W, C5, C6)).2.2.2.2)
set_option maxHeartbeats 1000000 in
set_option maxRecDepth 100000 in
theorem c_m_run {G : UG} {adr : Nat → Nat} {h0 : Hp} {μ : Mu} (hJ : MJ (μ 1)) (hT : TX (μ 1)) (m : Int32)  : Con G yX6_run cX6_run 4 (some .int) 5 119 0 0 [.ref (adr 0), .int m] (MS G adr h0 μ) (fun vr_ h' => vr_ = some (.int (m_run (μ 1) (μ 5) (μ 6) (μ 0 15) (μ 0 16) (μ 0 17) m)) ∧ MS G adr h0 (mc (mc (mc (mset (mset (mset μ 0 0 (nI (m_run_f0 (μ 1) (μ 5) (μ 6) (μ 0 15) (μ 0 16) (μ 0 17) m))) 0 15 (m_run_f15 (μ 1) (μ 5) (μ 6) (μ 0 15) (μ 0 16) (μ 0 17) m)) 0 16 (m_run_f16 (μ 1) (μ 5) (μ 6) (μ 0 15) (μ 0 16) (μ 0 17) m)) 1 (m_run_c1 (μ 1) (μ 5) (μ 6) (μ 0 15) (μ 0 16) (μ 0 17) m)) 5 (m_run_c5 (μ 1) (μ 5) (μ 6) (μ 0 15) (μ 0 16) (μ 0 17) m)) 6 (m_run_c6 (μ 1) (μ 5) (μ 6) (μ 0 15) (μ 0 16) (μ 0 17) m)) h') nX := by
  refine con_of2 (plainFor_of_name (by decide)) rfl ?_
  intro F R Q RF RL RC RS hQ O hnh hnm
  obtain ⟨res, hres⟩ : ∃ z, z = (m_run (μ 1) (μ 5) (μ 6) (μ 0 15) (μ 0 16) (μ 0 17) m) := ⟨_, rfl⟩
  rw [← hres] at hQ
  unfold m_run at hres
  obtain ⟨rs0, hrs0⟩ : ∃ z, z = m_run_f0 (μ 1) (μ 5) (μ 6) (μ 0 15) (μ 0 16) (μ 0 17) m := ⟨_, rfl⟩
  rw [← hrs0] at hQ
  unfold m_run_f0 at hrs0
  obtain ⟨rs1, hrs1⟩ : ∃ z, z = m_run_f15 (μ 1) (μ 5) (μ 6) (μ 0 15) (μ 0 16) (μ 0 17) m := ⟨_, rfl⟩
  rw [← hrs1] at hQ
  unfold m_run_f15 at hrs1
  obtain ⟨rs2, hrs2⟩ : ∃ z, z = m_run_f16 (μ 1) (μ 5) (μ 6) (μ 0 15) (μ 0 16) (μ 0 17) m := ⟨_, rfl⟩
  rw [← hrs2] at hQ
  unfold m_run_f16 at hrs2
  obtain ⟨rs3, hrs3⟩ : ∃ z, z = m_run_c1 (μ 1) (μ 5) (μ 6) (μ 0 15) (μ 0 16) (μ 0 17) m := ⟨_, rfl⟩
  rw [← hrs3] at hQ
  unfold m_run_c1 at hrs3
  obtain ⟨rs4, hrs4⟩ : ∃ z, z = m_run_c5 (μ 1) (μ 5) (μ 6) (μ 0 15) (μ 0 16) (μ 0 17) m := ⟨_, rfl⟩
  rw [← hrs4] at hQ
  unfold m_run_c5 at hrs4
  obtain ⟨rs5, hrs5⟩ : ∃ z, z = m_run_c6 (μ 1) (μ 5) (μ 6) (μ 0 15) (μ 0 16) (μ 0 17) m := ⟨_, rfl⟩
  rw [← hrs5] at hQ
  unfold m_run_c6 at hrs5
  have h7 := (hJ.1 7 (by decide))
  have h7b : tn (μ 1 7) ≤ 239 := h7.2
  have h1 := (hJ.1 1 (by decide))
  have h1b : tn (μ 1 1) ≤ 8 := h1.2
  refine x_eq (L' := [(0, .ref (adr 0)), (1, .int m)]) ?_ rfl rfl rfl
  refine x_aload_n O 0 dX6_run_0 rfl rfl ?_
  refine x_iconst O (nI 0) dX6_run_1 (by decide) ?_
  refine x_mputQ O p_X6_3_6 (mp_0 _ _ _) rfl dX6_run_2 (μ' := (mset μ 0 0 (nI 0))) rfl ?_
  refine x_aload_n O 0 dX6_run_5 rfl rfl ?_
  refine x_iload_n O 1 dX6_run_6 rfl rfl ?_
  refine x_iconst O (nI 1) dX6_run_7 (by decide) ?_
  refine x_bipush O (nI 60) dX6_run_8 (by decide) ?_
  refine x_cS O 3 (c_m_in m (nI 1) (nI 60)) (lw_S q1771 q1772 q111 q1773) hd_X6_in rfl (by rw [RF]; rfl) (by rw [RL]; rfl) ⟨Nat.zero_le _, Nat.zero_le _⟩ rfl rfl dX6_run_10 ?_
  refine x_top (v' := b2i (m_in m (nI 1) (nI 60))) rfl ?_
  have J7 : ∀ (y1 : Bool), y1 = (if m_in m (nI 1) (nI 60) = true then (if ((nI (tn (μ 1 7))) + m) ≤ (nI 239) then false else true) else true) → X G F R Q 4 36 [(0, .ref (adr 0)), (1, .int m)] [.int (b2i y1), .ref (adr 0)] (MS G adr h0 ((mset μ 0 0 (nI 0)))) 0 0 := by
    intro y1 e8
    subst e8
    refine x_iconst O (nI 1) dX6_run_36 (by decide) ?_
    refine x_bc ((if m_in m (nI 1) (nI 60) = true then (if ((nI (tn (μ 1 7))) + m) ≤ (nI 239) then false else true) else true)) (fun c37 => ?_) (fun c37 => ?_)
    · have hr9 := hres.trans (if_pos c37)
      have hr10 := hrs0.trans (if_pos c37)
      have hr11 := hrs1.trans (if_pos c37)
      have hr12 := hrs2.trans (if_pos c37)
      have hr13 := hrs3.trans (if_pos c37)
      have hr14 := hrs4.trans (if_pos c37)
      have hr15 := hrs5.trans (if_pos c37)
      refine x_eq (st' := [.int (nI 1), .int (b2i true), .ref (adr 0)]) ?_ rfl rfl (by rw [c37] <;> rfl)
      refine x_cV O 2 (c_m_throwsIf_t (μ := (mset μ 0 0 (nI 0))) 1) MS.obj uc6 (lw_V q1774 q1776 qs34 q111 q1777) rfl hd_X6_throwsIf rfl (by rw [RF]; rfl) (by rw [RL]; rfl) ⟨Nat.zero_le _, Nat.zero_le _⟩ rfl rfl dX6_run_37 ?_
      refine x_top (v' := b2i true) rfl ?_
      refine x_weak (Ω' := MS G adr h0 (mset μ 0 0 (nI 1))) (fun _ m => m.eq ff_s) ?_
      refine x_ifeqB O 45 dX6_run_40 (by decide) (fun c => absurd rfl c) (fun _ => ?_)
      refine x_sub [0] (L' := [(0, .ref (adr 0))]) rfl ?_
      refine x_iconst O (nI 0) dX6_run_43 (by decide) ?_
      exact x_iretQ O hQ rfl dX6_run_44 (fun h m => ⟨by rw [hr9], by rw [hr10, hr11, hr12, hr13, hr14, hr15]; exact m.eq ((mf_id (k := 15) (v := μ 0 15) (by rfl)).symm.trans ((mf_id (k := 16) (v := μ 0 16) (by rfl)).symm.trans ((mc_id (c := 1) (f := μ 1) (by rfl)).symm.trans ((mc_id (c := 5) (f := μ 5) (by rfl)).symm.trans (mc_id (c := 6) (f := μ 6) (by rfl)).symm))))⟩)
    · have hr16 := hres.trans (if_neg c37)
      have hr17 := hrs0.trans (if_neg c37)
      have hr18 := hrs1.trans (if_neg c37)
      have hr19 := hrs2.trans (if_neg c37)
      have hr20 := hrs3.trans (if_neg c37)
      have hr21 := hrs4.trans (if_neg c37)
      have hr22 := hrs5.trans (if_neg c37)
      refine x_eq (st' := [.int (nI 1), .int (b2i false), .ref (adr 0)]) ?_ rfl rfl (by rw [bfalse c37] <;> rfl)
      refine x_cV O 2 (c_m_throwsIf_f (μ := (mset μ 0 0 (nI 0))) 1) MS.obj uc6 (lw_V q1774 q1776 qs34 q111 q1777) rfl hd_X6_throwsIf rfl (by rw [RF]; rfl) (by rw [RL]; rfl) ⟨Nat.zero_le _, Nat.zero_le _⟩ rfl rfl dX6_run_37 ?_
      refine x_top (v' := b2i false) rfl ?_
      refine x_ifeqB O 45 dX6_run_40 (by decide) (fun _ => ?_) (fun c => absurd c (by decide))
      have hm := (run_ok (hJ.1 7 (by decide)) c37)
      refine x_iconst O (nI 0) dX6_run_45 (by decide) ?_
      have hmb := hm.1.2
      refine x_istore_n O [(2, .int (nI 0)), (0, .ref (adr 0)), (1, .int m)] dX6_run_46 rfl rfl rfl ?_
      have LOOP47 : ∀ (cc_ : Nat) (i2_47 : Nat) (f15_47 : Int32) (f16_47 : Int32) (a1_47 : (Nat → Int32)) (a5_47 : (Nat → Int32)) (a6_47 : (Nat → Int32)), cc_ = tn m - i2_47 → i2_47 < 2147483648 → (MJ a1_47) → (TX a1_47) → (a1_47 7 = nI (tn (μ 1 7) + i2_47)) → (a1_47 1 = μ 1 1) → (i2_47 ≤ tn m) → (∀ (y0 : Int32) (y1 : Int32) (y2 : (Nat → Int32)) (y3 : (Nat → Int32)) (y4 : (Nat → Int32)), (y0, y1, y2, y3, y4) = fr (fun i s => m_run_b47 (μ 1) (μ 5) (μ 6) (μ 0 15) (μ 0 16) (μ 0 17) i s.1 s.2.1 s.2.2.1 s.2.2.2.1 s.2.2.2.2) cc_ i2_47 (f15_47, f16_47, a1_47, a5_47, a6_47) → X G F R Q 4 102 [(0, .ref (adr 0))] [] (MS G adr h0 ((mc (mc (mc (mset (mset (mset μ 0 0 (nI 0)) 0 15 y0) 0 16 y1) 1 y2) 5 y3) 6 y4))) 0 0) → X G F R Q 4 47 [(2, .int (nI i2_47)), (0, .ref (adr 0)), (1, .int m)] [] (MS G adr h0 ((mc (mc (mc (mset (mset (mset μ 0 0 (nI 0)) 0 15 f15_47) 0 16 f16_47) 1 a1_47) 5 a5_47) 6 a6_47))) 0 0 := by
        intro cc_
        induction cc_ using Nat.strongRecOn with
        | ind cc_ IH_ =>
          intro i2_47 f15_47 f16_47 a1_47 a5_47 a6_47 hc_ hb_ hj_ ht_ q7_ q1_ qi_ K_
          refine x_iload_n O 0 dX6_run_47 rfl rfl ?_
          refine x_iload_n O 2 dX6_run_48 rfl rfl ?_
          refine x_top (v' := nI (tn m)) (hm.1.1) ?_
          refine x_icmpgeN O 102 (by omega) (by omega) dX6_run_49 (by decide) (fun c49 => ?_) (fun c49 => ?_)
          · refine x_sub [1] (L' := [(0, .ref (adr 0))]) rfl ?_
            obtain rfl : cc_ = 0 := by omega
            exact K_ _ _ _ _ _ rfl
          · refine x_aload_n O 1 dX6_run_52 rfl rfl ?_
            refine x_mget O k_X6_13_6 (mg_1 _ _) dX6_run_53 ?_
            refine x_bipush O (nI 7) dX6_run_56 (by decide) ?_
            refine x_dup2 O dX6_run_58 rfl rfl ?_
            refine x_ialdN O MS.c1 (by omega) rfl dX6_run_59 ?_
            refine x_top (v' := a1_47 7) ((congrFun (mc_n (by decide)) 7).trans ((congrFun (mc_n (by decide)) 7).trans (congrFun mc_s 7))) ?_
            refine x_iconst O (nI 1) dX6_run_60 (by decide) ?_
            refine x_iadd O dX6_run_61 ?_
            refine x_mastQ O 0 MS.c1 rfl rfl rfl (by omega) rfl dX6_run_62 (μ' := (mc (mc (mc (mset (mset (mset μ 0 0 (nI 0)) 0 15 f15_47) 0 16 f16_47) 1 (ups a1_47 7 ((a1_47 7) + (nI 1)))) 5 a5_47) 6 a6_47)) ((wc_n (by decide)).trans ((congrArg (fun m_ => mc m_ 6 _) (wc_n (by decide))).trans (congrArg (fun m_ => mc m_ 6 _) (congrArg (fun m_ => mc m_ 5 _) wc_s)))) ?_
            refine x_iconst O (nI 0) dX6_run_63 (by decide) ?_
            refine x_istore_n O [(3, .int (nI 0)), (2, .int (nI i2_47)), (0, .ref (adr 0)), (1, .int m)] dX6_run_64 rfl rfl rfl ?_
            have LOOP65 : ∀ (cc_ : Nat) (i3_65 : Nat) (f15_65 : Int32) (f16_65 : Int32) (a1_65 : (Nat → Int32)) (a5_65 : (Nat → Int32)) (a6_65 : (Nat → Int32)), cc_ = tn (μ 1 1) - i3_65 → i3_65 < 2147483648 → (MJ a1_65) → (TX a1_65) → (a1_65 7 = nI (tn (μ 1 7) + (i2_47 + 1))) → (a1_65 1 = μ 1 1) → (∀ (y0 : Int32) (y1 : Int32) (y2 : (Nat → Int32)) (y3 : (Nat → Int32)) (y4 : (Nat → Int32)), (y0, y1, y2, y3, y4) = fr (fun i s => m_run_b65 (μ 1) (μ 5) (μ 6) (μ 0 15) (μ 0 16) (μ 0 17) i s.1 s.2.1 s.2.2.1 s.2.2.2.1 s.2.2.2.2) cc_ i3_65 (f15_65, f16_65, a1_65, a5_65, a6_65) → (MJ y2) → (TX y2) → (y2 7 = nI (tn (μ 1 7) + (i2_47 + 1))) → (y2 1 = μ 1 1) → X G F R Q 4 96 [(2, .int (nI i2_47)), (0, .ref (adr 0)), (1, .int m)] [] (MS G adr h0 ((mc (mc (mc (mset (mset (mset μ 0 0 (nI 0)) 0 15 y0) 0 16 y1) 1 y2) 5 y3) 6 y4))) 0 0) → X G F R Q 4 65 [(3, .int (nI i3_65)), (2, .int (nI i2_47)), (0, .ref (adr 0)), (1, .int m)] [] (MS G adr h0 ((mc (mc (mc (mset (mset (mset μ 0 0 (nI 0)) 0 15 f15_65) 0 16 f16_65) 1 a1_65) 5 a5_65) 6 a6_65))) 0 0 := by
              intro cc_
              induction cc_ using Nat.strongRecOn with
              | ind cc_ IH_ =>
                intro i3_65 f15_65 f16_65 a1_65 a5_65 a6_65 hc_ hb_ hj_ ht_ q7_ q1_ K_
                refine x_iload_n O 0 dX6_run_65 rfl rfl ?_
                refine x_aload_n O 2 dX6_run_66 rfl rfl ?_
                refine x_mget O k_X6_13_6 (mg_1 _ _) dX6_run_67 ?_
                refine x_iconst O (nI 1) dX6_run_70 (by decide) ?_
                refine x_ialdN O MS.c1 (by omega) rfl dX6_run_71 ?_
                refine x_top (v' := a1_65 1) ((congrFun (mc_n (by decide)) 1).trans ((congrFun (mc_n (by decide)) 1).trans (congrFun mc_s 1))) ?_
                refine x_top (v' := nI (tn (μ 1 1))) ((by rw [q1_]; exact h1.1)) ?_
                refine x_icmpgeN O 96 (by omega) (by omega) dX6_run_72 (by decide) (fun c72 => ?_) (fun c72 => ?_)
                · refine x_sub [1, 2, 3] (L' := [(2, .int (nI i2_47)), (0, .ref (adr 0)), (1, .int m)]) rfl ?_
                  obtain rfl : cc_ = 0 := by omega
                  exact K_ _ _ _ _ _ rfl hj_ ht_ q7_ q1_
                · refine x_aload_n O 2 dX6_run_75 rfl rfl ?_
                  refine x_iload_n O 0 dX6_run_76 rfl rfl ?_
                  refine x_iconst O (nI 3) dX6_run_77 (by decide) ?_
                  refine x_cV O 2 (c_m_of (μ := (mc (mc (mc (mset (mset (mset μ 0 0 (nI 0)) 0 15 f15_65) 0 16 f16_65) 1 a1_65) 5 a5_65) 6 a6_65)) i3_65 3 (by omega) (by omega)) MS.obj uc6 (lw_V q1968 q1970 qs60 q111 q1971) rfl hd_X6_of rfl (by rw [RF]; rfl) (by rw [RL]; rfl) ⟨Nat.zero_le _, Nat.zero_le _⟩ rfl rfl dX6_run_78 ?_
                  refine x_top (v' := m_of a1_65 i3_65 3) (by rw [show (mc (mc (mc (mset (mset (mset μ 0 0 (nI 0)) 0 15 f15_65) 0 16 f16_65) 1 a1_65) 5 a5_65) 6 a6_65) 1 = a1_65 from ((mc_n (by decide)).trans ((mc_n (by decide)).trans mc_s))]) ?_
                  refine x_iconst O (nI 1) dX6_run_81 (by decide) ?_
                  have J23 : ∀ (y2 : Int32) (y3 : Int32) (y4 : Nat → Int32) (y5 : Nat → Int32) (y6 : Nat → Int32), y2 = (if (m_of a1_65 i3_65 3) = (nI 1) then m_acts_f15 a1_65 a5_65 a6_65 f15_65 f16_65 (μ 0 17) i3_65 else f15_65) → y3 = (if (m_of a1_65 i3_65 3) = (nI 1) then m_acts_f16 a1_65 a5_65 a6_65 f15_65 f16_65 (μ 0 17) i3_65 else f16_65) → y4 = (if (m_of a1_65 i3_65 3) = (nI 1) then m_acts_c1 a1_65 a5_65 a6_65 f15_65 f16_65 (μ 0 17) i3_65 else a1_65) → y5 = (if (m_of a1_65 i3_65 3) = (nI 1) then m_acts_c5 a1_65 a5_65 a6_65 f15_65 f16_65 (μ 0 17) i3_65 else a5_65) → y6 = (if (m_of a1_65 i3_65 3) = (nI 1) then m_acts_c6 a1_65 a5_65 a6_65 f15_65 f16_65 (μ 0 17) i3_65 else a6_65) → X G F R Q 4 90 [(3, .int (nI i3_65)), (2, .int (nI i2_47)), (0, .ref (adr 0)), (1, .int m)] [] (MS G adr h0 ((mc (mc (mc (mset (mset (mset μ 0 0 (nI 0)) 0 15 y2) 0 16 y3) 1 y4) 5 y5) 6 y6))) 0 0 := by
                    intro y2 y3 y4 y5 y6 e24 e25 e26 e27 e28
                    subst e24; subst e25; subst e26; subst e27; subst e28
                    refine x_iincN O 0 [(3, .int (nI (i3_65 + 1))), (2, .int (nI i2_47)), (0, .ref (adr 0)), (1, .int m)] dX6_run_90 rfl rfl rfl ?_
                    refine x_goto O 65 dX6_run_93 (by decide) ?_
                    obtain ⟨c2_, rfl⟩ : ∃ z, cc_ = z + 1 := ⟨cc_ - 1, by omega⟩
                    have hs_ : (fun i s => m_run_b65 (μ 1) (μ 5) (μ 6) (μ 0 15) (μ 0 16) (μ 0 17) i s.1 s.2.1 s.2.2.1 s.2.2.2.1 s.2.2.2.2) i3_65 (f15_65, f16_65, a1_65, a5_65, a6_65) = ((if (m_of a1_65 i3_65 3) = (nI 1) then m_acts_f15 a1_65 a5_65 a6_65 f15_65 f16_65 (μ 0 17) i3_65 else f15_65), (if (m_of a1_65 i3_65 3) = (nI 1) then m_acts_f16 a1_65 a5_65 a6_65 f15_65 f16_65 (μ 0 17) i3_65 else f16_65), (if (m_of a1_65 i3_65 3) = (nI 1) then m_acts_c1 a1_65 a5_65 a6_65 f15_65 f16_65 (μ 0 17) i3_65 else a1_65), (if (m_of a1_65 i3_65 3) = (nI 1) then m_acts_c5 a1_65 a5_65 a6_65 f15_65 f16_65 (μ 0 17) i3_65 else a5_65), (if (m_of a1_65 i3_65 3) = (nI 1) then m_acts_c6 a1_65 a5_65 a6_65 f15_65 f16_65 (μ 0 17) i3_65 else a6_65)) := by show m_run_b65 (μ 1) (μ 5) (μ 6) (μ 0 15) (μ 0 16) (μ 0 17) i3_65 f15_65 f16_65 a1_65 a5_65 a6_65 = _; unfold m_run_b65; rfl
                    exact IH_ c2_ (by omega) _ _ _ _ _ _ (by omega) (by omega) (by (repeat' split) <;> first | exact hj_ | exact (acts_J hj_ (by omega)).1) (by (repeat' split) <;> first | exact ht_ | exact (acts_J hj_ (by omega)).2.x ht_) (by (repeat' split) <;> first | exact q7_ | (rw [acts_n hj_ (by omega) (by decide) (by decide) (by decide)]; exact q7_)) (by (repeat' split) <;> first | exact q1_ | (rw [acts_n hj_ (by omega) (by decide) (by decide) (by decide)]; exact q1_)) (fun y0 y1 y2 y3 y4 hy_ => K_ y0 y1 y2 y3 y4 (hy_.trans (fr_step hs_).symm))
                  refine x_icmpne O 90 dX6_run_82 (by decide) (fun c82 => ?_) (fun c82 => ?_)
                  · exact J23 f15_65 f16_65 a1_65 a5_65 a6_65 (by rw [if_neg c82]) (by rw [if_neg c82]) (by rw [if_neg c82]) (by rw [if_neg c82]) (by rw [if_neg c82])
                  · refine x_aload_n O 2 dX6_run_85 rfl rfl ?_
                    refine x_iload_n O 0 dX6_run_86 rfl rfl ?_
                    refine x_cV O 1 (c_m_acts (μ := (mc (mc (mc (mset (mset (mset μ 0 0 (nI 0)) 0 15 f15_65) 0 16 f16_65) 1 a1_65) 5 a5_65) 6 a6_65)) hj_ ht_ i3_65 (by omega)) MS.obj uc6 (lw_V q2000 q2002 qs65 q111 q2003) rfl hd_X6_acts rfl (by rw [RF]; rfl) (by rw [RL]; rfl) ⟨Nat.zero_le _, Nat.zero_le _⟩ rfl rfl dX6_run_87 ?_
                    refine x_weak (Ω' := MS G adr h0 (mc (mc (mc (mset (mset (mset μ 0 0 (nI 0)) 0 15 (m_acts_f15 a1_65 a5_65 a6_65 f15_65 f16_65 (μ 0 17) i3_65)) 0 16 (m_acts_f16 a1_65 a5_65 a6_65 f15_65 f16_65 (μ 0 17) i3_65)) 1 (m_acts_c1 a1_65 a5_65 a6_65 f15_65 f16_65 (μ 0 17) i3_65)) 5 (m_acts_c5 a1_65 a5_65 a6_65 f15_65 f16_65 (μ 0 17) i3_65)) 6 (m_acts_c6 a1_65 a5_65 a6_65 f15_65 f16_65 (μ 0 17) i3_65))) (fun _ m => by rw [show (mc (mc (mc (mset (mset (mset μ 0 0 (nI 0)) 0 15 f15_65) 0 16 f16_65) 1 a1_65) 5 a5_65) 6 a6_65) 1 = a1_65 from ((mc_n (by decide)).trans ((mc_n (by decide)).trans mc_s)), show (mc (mc (mc (mset (mset (mset μ 0 0 (nI 0)) 0 15 f15_65) 0 16 f16_65) 1 a1_65) 5 a5_65) 6 a6_65) 5 = a5_65 from ((mc_n (by decide)).trans mc_s), show (mc (mc (mc (mset (mset (mset μ 0 0 (nI 0)) 0 15 f15_65) 0 16 f16_65) 1 a1_65) 5 a5_65) 6 a6_65) 6 = a6_65 from mc_s, show (mc (mc (mc (mset (mset (mset μ 0 0 (nI 0)) 0 15 f15_65) 0 16 f16_65) 1 a1_65) 5 a5_65) 6 a6_65) 0 15 = f15_65 from ((congrFun (mc_n (by decide)) 15).trans ((congrFun (mc_n (by decide)) 15).trans ((congrFun (mc_n (by decide)) 15).trans ((rd_skip (by decide)).trans rd_hit)))), show (mc (mc (mc (mset (mset (mset μ 0 0 (nI 0)) 0 15 f15_65) 0 16 f16_65) 1 a1_65) 5 a5_65) 6 a6_65) 0 16 = f16_65 from ((congrFun (mc_n (by decide)) 16).trans ((congrFun (mc_n (by decide)) 16).trans ((congrFun (mc_n (by decide)) 16).trans rd_hit))), show (mc (mc (mc (mset (mset (mset μ 0 0 (nI 0)) 0 15 f15_65) 0 16 f16_65) 1 a1_65) 5 a5_65) 6 a6_65) 0 17 = μ 0 17 from ((congrFun (mc_n (by decide)) 17).trans ((congrFun (mc_n (by decide)) 17).trans ((congrFun (mc_n (by decide)) 17).trans ((rd_skip (by decide)).trans ((rd_skip (by decide)).trans (rd_skip (by decide)))))))] at m; exact m.eq ((congrArg (fun m_ => mc m_ 6 _) (congrArg (fun m_ => mc m_ 5 _) (congrArg (fun m_ => mc m_ 1 _) (congrArg (fun m_ => mset m_ 0 16 _) (wc_n (by decide)))))).trans ((congrArg (fun m_ => mc m_ 6 _) (congrArg (fun m_ => mc m_ 5 _) (congrArg (fun m_ => mc m_ 1 _) (congrArg (fun m_ => mset m_ 0 16 _) (congrArg (fun m_ => mc m_ 6 _) (wc_n (by decide))))))).trans ((congrArg (fun m_ => mc m_ 6 _) (congrArg (fun m_ => mc m_ 5 _) (congrArg (fun m_ => mc m_ 1 _) (congrArg (fun m_ => mset m_ 0 16 _) (congrArg (fun m_ => mc m_ 6 _) (congrArg (fun m_ => mc m_ 5 _) (wc_n (by decide)))))))).trans ((congrArg (fun m_ => mc m_ 6 _) (congrArg (fun m_ => mc m_ 5 _) (congrArg (fun m_ => mc m_ 1 _) (congrArg (fun m_ => mset m_ 0 16 _) (congrArg (fun m_ => mc m_ 6 _) (congrArg (fun m_ => mc m_ 5 _) (congrArg (fun m_ => mc m_ 1 _) (ff_n (by decide))))))))).trans ((congrArg (fun m_ => mc m_ 6 _) (congrArg (fun m_ => mc m_ 5 _) (congrArg (fun m_ => mc m_ 1 _) (congrArg (fun m_ => mset m_ 0 16 _) (congrArg (fun m_ => mc m_ 6 _) (congrArg (fun m_ => mc m_ 5 _) (congrArg (fun m_ => mc m_ 1 _) (congrArg (fun m_ => mset m_ 0 16 _) ff_s)))))))).trans ((congrArg (fun m_ => mc m_ 6 _) (congrArg (fun m_ => mc m_ 5 _) (congrArg (fun m_ => mc m_ 1 _) (wc_n (by decide))))).trans ((congrArg (fun m_ => mc m_ 6 _) (congrArg (fun m_ => mc m_ 5 _) (congrArg (fun m_ => mc m_ 1 _) (congrArg (fun m_ => mc m_ 6 _) (wc_n (by decide)))))).trans ((congrArg (fun m_ => mc m_ 6 _) (congrArg (fun m_ => mc m_ 5 _) (congrArg (fun m_ => mc m_ 1 _) (congrArg (fun m_ => mc m_ 6 _) (congrArg (fun m_ => mc m_ 5 _) (wc_n (by decide))))))).trans ((congrArg (fun m_ => mc m_ 6 _) (congrArg (fun m_ => mc m_ 5 _) (congrArg (fun m_ => mc m_ 1 _) (congrArg (fun m_ => mc m_ 6 _) (congrArg (fun m_ => mc m_ 5 _) (congrArg (fun m_ => mc m_ 1 _) ff_s)))))).trans ((congrArg (fun m_ => mc m_ 6 _) (congrArg (fun m_ => mc m_ 5 _) (cc_n (by decide)))).trans ((congrArg (fun m_ => mc m_ 6 _) (congrArg (fun m_ => mc m_ 5 _) (congrArg (fun m_ => mc m_ 6 _) (cc_n (by decide))))).trans ((congrArg (fun m_ => mc m_ 6 _) (congrArg (fun m_ => mc m_ 5 _) (congrArg (fun m_ => mc m_ 6 _) (congrArg (fun m_ => mc m_ 5 _) cc_s)))).trans ((congrArg (fun m_ => mc m_ 6 _) (cc_n (by decide))).trans ((congrArg (fun m_ => mc m_ 6 _) (congrArg (fun m_ => mc m_ 6 _) cc_s)).trans cc_s))))))))))))))) ?_
                    exact J23 (m_acts_f15 a1_65 a5_65 a6_65 f15_65 f16_65 (μ 0 17) i3_65) (m_acts_f16 a1_65 a5_65 a6_65 f15_65 f16_65 (μ 0 17) i3_65) (m_acts_c1 a1_65 a5_65 a6_65 f15_65 f16_65 (μ 0 17) i3_65) (m_acts_c5 a1_65 a5_65 a6_65 f15_65 f16_65 (μ 0 17) i3_65) (m_acts_c6 a1_65 a5_65 a6_65 f15_65 f16_65 (μ 0 17) i3_65) (by rw [if_pos c82]) (by rw [if_pos c82]) (by rw [if_pos c82]) (by rw [if_pos c82]) (by rw [if_pos c82])
            refine LOOP65 (tn (μ 1 1)) 0 f15_47 f16_47 (ups a1_47 7 ((a1_47 7) + (nI 1))) a5_47 a6_47 rfl (by omega) (MJ_u hj_ (RJ_cnt (by decide) (by rw [q7_, nI_add]; exact nn_nI (by show tn (μ 1 7) + i2_47 + 1 ≤ 239; omega) (by decide)))) ((ST.u ST.r (by decide)).x ht_) (by rw [ups_s, q7_, nI_add, Nat.add_assoc]) (by rw [ups_n (by decide)]; exact q1_) (fun y0 y1 y2 y3 y4 hy_65 hx1_ hx2_ hx3_ hx4_ => ?_)
            obtain rfl : y0 = (fr (fun i s => m_run_b65 (μ 1) (μ 5) (μ 6) (μ 0 15) (μ 0 16) (μ 0 17) i s.1 s.2.1 s.2.2.1 s.2.2.2.1 s.2.2.2.2) (tn (μ 1 1)) 0 (f15_47, f16_47, ups a1_47 7 ((a1_47 7) + (nI 1)), a5_47, a6_47)).1 := congrArg (fun z => z.1) hy_65
            obtain rfl : y1 = (fr (fun i s => m_run_b65 (μ 1) (μ 5) (μ 6) (μ 0 15) (μ 0 16) (μ 0 17) i s.1 s.2.1 s.2.2.1 s.2.2.2.1 s.2.2.2.2) (tn (μ 1 1)) 0 (f15_47, f16_47, ups a1_47 7 ((a1_47 7) + (nI 1)), a5_47, a6_47)).2.1 := congrArg (fun z => z.2.1) hy_65
            obtain rfl : y2 = (fr (fun i s => m_run_b65 (μ 1) (μ 5) (μ 6) (μ 0 15) (μ 0 16) (μ 0 17) i s.1 s.2.1 s.2.2.1 s.2.2.2.1 s.2.2.2.2) (tn (μ 1 1)) 0 (f15_47, f16_47, ups a1_47 7 ((a1_47 7) + (nI 1)), a5_47, a6_47)).2.2.1 := congrArg (fun z => z.2.2.1) hy_65
            obtain rfl : y3 = (fr (fun i s => m_run_b65 (μ 1) (μ 5) (μ 6) (μ 0 15) (μ 0 16) (μ 0 17) i s.1 s.2.1 s.2.2.1 s.2.2.2.1 s.2.2.2.2) (tn (μ 1 1)) 0 (f15_47, f16_47, ups a1_47 7 ((a1_47 7) + (nI 1)), a5_47, a6_47)).2.2.2.1 := congrArg (fun z => z.2.2.2.1) hy_65
            obtain rfl : y4 = (fr (fun i s => m_run_b65 (μ 1) (μ 5) (μ 6) (μ 0 15) (μ 0 16) (μ 0 17) i s.1 s.2.1 s.2.2.1 s.2.2.2.1 s.2.2.2.2) (tn (μ 1 1)) 0 (f15_47, f16_47, ups a1_47 7 ((a1_47 7) + (nI 1)), a5_47, a6_47)).2.2.2.2 := congrArg (fun z => z.2.2.2.2) hy_65
            refine x_iincN O 0 [(2, .int (nI (i2_47 + 1))), (0, .ref (adr 0)), (1, .int m)] dX6_run_96 rfl rfl rfl ?_
            refine x_goto O 47 dX6_run_99 (by decide) ?_
            obtain ⟨c2_, rfl⟩ : ∃ z, cc_ = z + 1 := ⟨cc_ - 1, by omega⟩
            have hs_ : (fun i s => m_run_b47 (μ 1) (μ 5) (μ 6) (μ 0 15) (μ 0 16) (μ 0 17) i s.1 s.2.1 s.2.2.1 s.2.2.2.1 s.2.2.2.2) i2_47 (f15_47, f16_47, a1_47, a5_47, a6_47) = ((fr (fun i s => m_run_b65 (μ 1) (μ 5) (μ 6) (μ 0 15) (μ 0 16) (μ 0 17) i s.1 s.2.1 s.2.2.1 s.2.2.2.1 s.2.2.2.2) (tn (μ 1 1)) 0 (f15_47, f16_47, ups a1_47 7 ((a1_47 7) + (nI 1)), a5_47, a6_47)).1, (fr (fun i s => m_run_b65 (μ 1) (μ 5) (μ 6) (μ 0 15) (μ 0 16) (μ 0 17) i s.1 s.2.1 s.2.2.1 s.2.2.2.1 s.2.2.2.2) (tn (μ 1 1)) 0 (f15_47, f16_47, ups a1_47 7 ((a1_47 7) + (nI 1)), a5_47, a6_47)).2.1, (fr (fun i s => m_run_b65 (μ 1) (μ 5) (μ 6) (μ 0 15) (μ 0 16) (μ 0 17) i s.1 s.2.1 s.2.2.1 s.2.2.2.1 s.2.2.2.2) (tn (μ 1 1)) 0 (f15_47, f16_47, ups a1_47 7 ((a1_47 7) + (nI 1)), a5_47, a6_47)).2.2.1, (fr (fun i s => m_run_b65 (μ 1) (μ 5) (μ 6) (μ 0 15) (μ 0 16) (μ 0 17) i s.1 s.2.1 s.2.2.1 s.2.2.2.1 s.2.2.2.2) (tn (μ 1 1)) 0 (f15_47, f16_47, ups a1_47 7 ((a1_47 7) + (nI 1)), a5_47, a6_47)).2.2.2.1, (fr (fun i s => m_run_b65 (μ 1) (μ 5) (μ 6) (μ 0 15) (μ 0 16) (μ 0 17) i s.1 s.2.1 s.2.2.1 s.2.2.2.1 s.2.2.2.2) (tn (μ 1 1)) 0 (f15_47, f16_47, ups a1_47 7 ((a1_47 7) + (nI 1)), a5_47, a6_47)).2.2.2.2) := by show m_run_b47 (μ 1) (μ 5) (μ 6) (μ 0 15) (μ 0 16) (μ 0 17) i2_47 f15_47 f16_47 a1_47 a5_47 a6_47 = _; unfold m_run_b47; rfl
            exact IH_ c2_ (by omega) _ _ _ _ _ _ (by omega) (by omega) hx1_ hx2_ hx3_ hx4_ (by omega) (fun y0 y1 y2 y3 y4 hy_ => K_ y0 y1 y2 y3 y4 (hy_.trans (fr_step hs_).symm))
      refine x_weak (Ω' := MS G adr h0 ((mc (mc (mc (mset (mset (mset μ 0 0 (nI 0)) 0 15 (μ 0 15)) 0 16 (μ 0 16)) 1 (μ 1)) 5 (μ 5)) 6 (μ 6)))) (fun _ m => m.eq ((mf_id (k := 15) (v := μ 0 15) (by rfl)).symm.trans ((mf_id (k := 16) (v := μ 0 16) (by rfl)).symm.trans ((mc_id (c := 1) (f := μ 1) (by rfl)).symm.trans ((mc_id (c := 5) (f := μ 5) (by rfl)).symm.trans (mc_id (c := 6) (f := μ 6) (by rfl)).symm))))) ?_
      refine LOOP47 (tn m) 0 (μ 0 15) (μ 0 16) (μ 1) (μ 5) (μ 6) rfl (by omega) hJ hT h7.1 rfl (by omega) (fun y0 y1 y2 y3 y4 hy_47 => ?_)
      obtain rfl : y0 = (fr (fun i s => m_run_b47 (μ 1) (μ 5) (μ 6) (μ 0 15) (μ 0 16) (μ 0 17) i s.1 s.2.1 s.2.2.1 s.2.2.2.1 s.2.2.2.2) (tn m) 0 (μ 0 15, μ 0 16, μ 1, μ 5, μ 6)).1 := congrArg (fun z => z.1) hy_47
      obtain rfl : y1 = (fr (fun i s => m_run_b47 (μ 1) (μ 5) (μ 6) (μ 0 15) (μ 0 16) (μ 0 17) i s.1 s.2.1 s.2.2.1 s.2.2.2.1 s.2.2.2.2) (tn m) 0 (μ 0 15, μ 0 16, μ 1, μ 5, μ 6)).2.1 := congrArg (fun z => z.2.1) hy_47
      obtain rfl : y2 = (fr (fun i s => m_run_b47 (μ 1) (μ 5) (μ 6) (μ 0 15) (μ 0 16) (μ 0 17) i s.1 s.2.1 s.2.2.1 s.2.2.2.1 s.2.2.2.2) (tn m) 0 (μ 0 15, μ 0 16, μ 1, μ 5, μ 6)).2.2.1 := congrArg (fun z => z.2.2.1) hy_47
      obtain rfl : y3 = (fr (fun i s => m_run_b47 (μ 1) (μ 5) (μ 6) (μ 0 15) (μ 0 16) (μ 0 17) i s.1 s.2.1 s.2.2.1 s.2.2.2.1 s.2.2.2.2) (tn m) 0 (μ 0 15, μ 0 16, μ 1, μ 5, μ 6)).2.2.2.1 := congrArg (fun z => z.2.2.2.1) hy_47
      obtain rfl : y4 = (fr (fun i s => m_run_b47 (μ 1) (μ 5) (μ 6) (μ 0 15) (μ 0 16) (μ 0 17) i s.1 s.2.1 s.2.2.1 s.2.2.2.1 s.2.2.2.2) (tn m) 0 (μ 0 15, μ 0 16, μ 1, μ 5, μ 6)).2.2.2.2 := congrArg (fun z => z.2.2.2.2) hy_47
      refine x_aload_n O 0 dX6_run_102 rfl rfl ?_
      refine x_mget O k_X6_13_6 (mg_1 _ _) dX6_run_103 ?_
      refine x_bipush O (nI 7) dX6_run_106 (by decide) ?_
      refine x_ialdN O MS.c1 (by omega) rfl dX6_run_108 ?_
      refine x_top (v' := ((fr (fun i s => m_run_b47 (μ 1) (μ 5) (μ 6) (μ 0 15) (μ 0 16) (μ 0 17) i s.1 s.2.1 s.2.2.1 s.2.2.2.1 s.2.2.2.2) (tn m) 0 (μ 0 15, μ 0 16, μ 1, μ 5, μ 6)).2.2.1) 7) ((congrFun (mc_n (by decide)) 7).trans ((congrFun (mc_n (by decide)) 7).trans (congrFun mc_s 7))) ?_
      exact x_iretQ O hQ rfl dX6_run_109 (fun h m => ⟨by rw [hr16], by rw [hr17, hr18, hr19, hr20, hr21, hr22]; exact m.eq rfl⟩)
  refine x_ifeqB O 31 dX6_run_13 (by decide) (fun c13 => ?_) (fun c13 => ?_)
  · refine x_iconst O (nI 1) dX6_run_31 (by decide) ?_
    refine x_goto O 36 dX6_run_32 (by decide) ?_
    refine x_top (v' := b2i true) (by decide) ?_
    exact J7 true (by rw [if_neg c13])
  · refine x_aload_n O 0 dX6_run_16 rfl rfl ?_
    refine x_mget O k_X6_13_6 (mg_1 _ _) dX6_run_17 ?_
    refine x_bipush O (nI 7) dX6_run_20 (by decide) ?_
    refine x_ialdN O MS.c1 (by omega) rfl dX6_run_22 ?_
    refine x_top (v' := μ 1 7) (congrFun (mset_n (by decide)) 7) ?_
    refine x_top (v' := nI (tn (μ 1 7))) ((hJ.1 7 (by decide)).1) ?_
    refine x_iload_n O 1 dX6_run_23 rfl rfl ?_
    refine x_iadd O dX6_run_24 ?_
    refine x_sipush O (nI 239) dX6_run_25 (by decide) ?_
    refine x_icmple O 35 dX6_run_28 (by decide) (fun c28 => ?_) (fun c28 => ?_)
    · refine x_iconst O (nI 0) dX6_run_35 (by decide) ?_
      refine x_top (v' := b2i false) (by decide) ?_
      exact J7 false (by first | (rw [if_pos c13, if_pos c28]; done) | simp only [if_pos c13, if_pos c28])
    · refine x_iconst O (nI 1) dX6_run_31 (by decide) ?_
      refine x_goto O 36 dX6_run_32 (by decide) ?_
      refine x_top (v' := b2i true) (by decide) ?_
      exact J7 true (by first | (rw [if_pos c13, if_neg c28]; done) | simp only [if_pos c13, if_neg c28])
