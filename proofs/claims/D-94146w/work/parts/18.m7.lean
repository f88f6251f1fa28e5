/-- what stands at place j of the world -/
def RJ (j : Nat) (x : Int32) : Prop := (j < 8 → nn x (mB j)) ∧ (∀ p, p < 8 → (j = 301 + 6 * p + 0 → gO x 7) ∧ (j = 301 + 6 * p + 1 → nn x 255) ∧ (j = 301 + 6 * p + 5 → gO x 3)) ∧ (∀ f, f < 120 → (j = 349 + 6 * f + 0 → nn x 3) ∧ (j = 349 + 6 * f + 1 → nn x 255) ∧ (j = 349 + 6 * f + 4 → nn x 239) ∧ (j = 349 + 6 * f + 5 → nn x 239)) ∧ (∀ t, t < 20 → (j = 1101 + 3 * t + 0 → nn x 7) ∧ (j = 1101 + 3 * t + 1 → nn x 255)) ∧ (∀ t, t < 8 → (j = 1069 + 4 * t + 0 → nn x 255))
theorem MJ_R {W : Nat → Int32} : MJ W ↔ ∀ j, RJ j (W j) := by
  constructor
  · intro h j
    refine ⟨fun c => h.1 j c, fun p hp => ⟨?_, ?_, ?_⟩, fun f hf => ⟨?_, ?_, ?_, ?_⟩, fun t ht => ⟨?_, ?_⟩, fun t ht => ?_⟩
    · rintro rfl; exact (h.2.1 p hp).1
    · rintro rfl; exact (h.2.1 p hp).2.1
    · rintro rfl; exact (h.2.1 p hp).2.2
    · rintro rfl; exact (h.2.2.1 f hf).1
    · rintro rfl; exact (h.2.2.1 f hf).2.1
    · rintro rfl; exact (h.2.2.1 f hf).2.2.1
    · rintro rfl; exact (h.2.2.1 f hf).2.2.2
    · rintro rfl; exact (h.2.2.2.1 t ht).1
    · rintro rfl; exact (h.2.2.2.1 t ht).2
    · rintro rfl; exact h.2.2.2.2 t ht
  · intro h
    refine ⟨fun c hc => (h c).1 hc, fun p hp => ⟨((h _).2.1 p hp).1 rfl, ((h _).2.1 p hp).2.1 rfl, ((h _).2.1 p hp).2.2 rfl⟩, fun f hf => ⟨((h _).2.2.1 f hf).1 rfl, ((h _).2.2.1 f hf).2.1 rfl, ((h _).2.2.1 f hf).2.2.1 rfl, ((h _).2.2.1 f hf).2.2.2 rfl⟩, fun t ht => ⟨((h _).2.2.2.1 t ht).1 rfl, ((h _).2.2.2.1 t ht).2 rfl⟩, fun t ht => (h _).2.2.2.2 t ht rfl⟩
theorem MJ_u {W : Nat → Int32} {j : Nat} {v : Int32} (h : MJ W) (hr : RJ j v) : MJ (ups W j v) := MJ_R.mpr fun k => by
  by_cases c : k = j
  · subst c; rw [ups_s]; exact hr
  · rw [ups_n c]; exact MJ_R.mp h k
theorem RJ_free {j : Nat} {v : Int32} (h0 : 8 ≤ j) (hp : ∀ p, p < 8 → j ≠ 301 + 6 * p + 0 ∧ j ≠ 301 + 6 * p + 1 ∧ j ≠ 301 + 6 * p + 5) (hf : ∀ f, f < 120 → j ≠ 349 + 6 * f + 0 ∧ j ≠ 349 + 6 * f + 1 ∧ j ≠ 349 + 6 * f + 4 ∧ j ≠ 349 + 6 * f + 5) (ht : ∀ t, t < 20 → j ≠ 1101 + 3 * t + 0 ∧ j ≠ 1101 + 3 * t + 1) (hs : ∀ t, t < 8 → j ≠ 1069 + 4 * t + 0) : RJ j v :=
  ⟨fun c => absurd c (by omega), fun p c => ⟨fun e => absurd e (hp p c).1, fun e => absurd e (hp p c).2.1, fun e => absurd e (hp p c).2.2⟩, fun f c => ⟨fun e => absurd e (hf f c).1, fun e => absurd e (hf f c).2.1, fun e => absurd e (hf f c).2.2.1, fun e => absurd e (hf f c).2.2.2⟩, fun t c => ⟨fun e => absurd e (ht t c).1, fun e => absurd e (ht t c).2⟩, fun t c e => absurd e (hs t c)⟩
theorem RJ_low {j : Nat} {v : Int32} (h0 : 8 ≤ j) (h1 : j < 301) : RJ j v := RJ_free h0 (fun p hp => by omega) (fun p hp => by omega) (fun p hp => by omega) (fun p hp => by omega)
theorem RJ_high {j : Nat} {v : Int32} (h1 : 1161 ≤ j) : RJ j v := RJ_free (by omega) (fun p hp => by omega) (fun p hp => by omega) (fun p hp => by omega) (fun p hp => by omega)
theorem RJ_cnt {j : Nat} {v : Int32} (h : j < 8) (hv : nn v (mB j)) : RJ j v := ⟨fun _ => hv, fun p c => ⟨fun e => by omega, fun e => by omega, fun e => by omega⟩, fun f c => ⟨fun e => by omega, fun e => by omega, fun e => by omega, fun e => by omega⟩, fun t c => ⟨fun e => by omega, fun e => by omega⟩, fun t c e => by omega⟩
theorem RJ_p {p w : Nat} {v : Int32} (hp : p < 8) (hw : w < 6) (h : (w = 0 → gO v 7) ∧ (w = 1 → nn v 255) ∧ (w = 5 → gO v 3)) : RJ (301 + 6 * p + w) v :=
  ⟨fun c => by omega, fun q c => ⟨fun e => h.1 (by omega), fun e => h.2.1 (by omega), fun e => h.2.2 (by omega)⟩, fun f c => ⟨fun e => by omega, fun e => by omega, fun e => by omega, fun e => by omega⟩, fun t c => ⟨fun e => by omega, fun e => by omega⟩, fun t c e => by omega⟩
theorem RJ_f {f w : Nat} {v : Int32} (hf : f < 120) (hw : w < 6) (h : (w = 0 → nn v 3) ∧ (w = 1 → nn v 255) ∧ (w = 4 → nn v 239) ∧ (w = 5 → nn v 239)) : RJ (349 + 6 * f + w) v :=
  ⟨fun c => by omega, fun q c => ⟨fun e => by omega, fun e => by omega, fun e => by omega⟩, fun g c => ⟨fun e => h.1 (by omega), fun e => h.2.1 (by omega), fun e => h.2.2.1 (by omega), fun e => h.2.2.2 (by omega)⟩, fun t c => ⟨fun e => by omega, fun e => by omega⟩, fun t c e => by omega⟩
theorem MJ_if {c : Prop} [Decidable c] {A B : Nat → Int32} (a : c → MJ A) (b : ¬ c → MJ B) : MJ (if c then A else B) := by
  by_cases h : c
  · rw [if_pos h]; exact a h
  · rw [if_neg h]; exact b h
/-! the texts of the world -/
def SW (W : Nat → Int32) (t i d d' : Nat) : Prop := nn (W (m_textAt t + 31 + 2 * i)) 17 ∧ (¬ 10 < tn (W (m_textAt t + 31 + 2 * i)) → d' = d + 1 ∧ d < 400) ∧ (tn (W (m_textAt t + 31 + 2 * i)) = 15 → 1 ≤ d ∧ d' = d) ∧ (10 < tn (W (m_textAt t + 31 + 2 * i)) → ¬ tn (W (m_textAt t + 31 + 2 * i)) = 15 → 2 ≤ d ∧ d' = d - 1) ∧ d ≤ 400
def LW (W : Nat → Int32) (t n : Nat) : Prop := nn (W (m_lineAt t n + 1)) 400 ∧ nn (W (m_lineAt t n + 2)) 400 ∧ ∃ D : Nat → Nat, D (tn (W (m_lineAt t n + 1))) = 0 ∧ ∀ i, tn (W (m_lineAt t n + 1)) ≤ i → i < tn (W (m_lineAt t n + 2)) → SW W t i (D i) (D (i + 1))
def TX (W : Nat → Int32) : Prop := ∀ t, t < 9 → nn (W (m_textAt t)) 10 ∧ ∀ n, n < tn (W (m_textAt t)) → LW W t n
def ST (W W' : Nat → Int32) : Prop := ∀ j, 1166 ≤ j → W' j = W j
theorem ST.r {W : Nat → Int32} : ST W W := fun _ _ => rfl
theorem ST.t {A B C : Nat → Int32} (a : ST A B) (b : ST B C) : ST A C := fun j h => (b j h).trans (a j h)
theorem ST.u {A B : Nat → Int32} {j : Nat} {v : Int32} (a : ST A B) (h : j < 1166) : ST A (ups B j v) := fun k hk => by rw [ups_n (by omega)]; exact a k hk
theorem ST.c {A B C : Nat → Int32} {c : Prop} [Decidable c] (a : c → ST A B) (b : ¬ c → ST A C) : ST A (if c then B else C) := by
  by_cases h : c
  · rw [if_pos h]; exact a h
  · rw [if_neg h]; exact b h
theorem ST.x {W W' : Nat → Int32} (s : ST W W') (h : TX W) : TX W' := by
  intro t ht
  have ea : ∀ k, W' (m_textAt t + k) = W (m_textAt t + k) := fun k => s _ (by unfold m_textAt; omega)
  have el : ∀ n k, W' (m_lineAt t n + k) = W (m_lineAt t n + k) := fun n k => s _ (by unfold m_lineAt m_textAt; omega)
  have e0 := ea 0
  have e1 : ∀ i, W' (m_textAt t + 31 + 2 * i) = W (m_textAt t + 31 + 2 * i) := fun i => by rw [Nat.add_assoc]; exact ea _
  obtain ⟨h1, h2⟩ := h t ht
  rw [Nat.add_zero] at e0
  rw [e0]
  refine ⟨h1, fun n hn => ?_⟩
  obtain ⟨a, b, D, d0, dd⟩ := h2 n hn
  refine ⟨by rw [el]; exact a, by rw [el]; exact b, D, by rw [el]; exact d0, ?_⟩
  intro i hi hi2
  rw [el] at hi hi2
  have := dd i hi hi2
  unfold SW at this ⊢
  rw [e1]; exact this
/-! nearest ones -/
theorem near_gO {W : Nat → Int32} {p : Nat} {foes : Bool} {cell : Int32} (hI : MI W) : gO (m_nearestTo W p foes cell) 7 := by
  have h1 : tn (W 1) ≤ 8 := (hI 1 (by decide)).2
  refine fr_inv (e := 8) (fun (_ : Nat) (s : Int32) => gO s 7) (fun i s hi hs => ?_) _ 0 _ (by omega) (Or.inl rfl)
  unfold m_nearestTo_b6
  (repeat' split) <;> first | exact hs | exact Or.inr (nn_nI (by omega) (by decide))
theorem fr_rel {S T : Type} {f : Nat → S → S} {g : Nat → T → T} {e : Nat} (R : Nat → S → T → Prop) (h : ∀ i s t, i < e → R i s t → R (i + 1) (f i s) (g i t)) : ∀ c i s t, i + c ≤ e → R i s t → R (i + c) (fr f c i s) (fr g c i t)
  | 0, _, _, _, _, q => q
  | c + 1, i, s, t, hc, q => by
    have := fr_rel R h c (i + 1) (f i s) (g i t) (by omega) (h i s t (by omega) q)
    rw [show i + 1 + c = i + (c + 1) by omega] at this
    exact this
theorem nI_nlt0 {n : Nat} (h : n < 2 ^ 31) : ¬ nI n < 0 := nI_pos h
theorem near_ex {W : Nat → Int32} {p : Nat} {foes : Bool} {c1 c2 : Int32} (hI : MI W) : m_nearestTo W p foes c1 < 0 ↔ m_nearestTo W p foes c2 < 0 := by
  have h1 : tn (W 1) ≤ 8 := (hI 1 (by decide)).2
  refine fr_rel (e := 8) (fun (_ : Nat) (s t : Int32) => s < 0 ↔ t < 0) (fun i s t hi hs => ?_) _ 0 _ _ (by omega) Iff.rfl
  have hq : ¬ nI i < 0 := nI_pos (by omega)
  unfold m_nearestTo_b6
  by_cases a : s < 0
  · have b := hs.mp a
    simp only [if_pos a, if_pos b]
    (repeat' split) <;> first | exact Iff.rfl | exact hs
  · have b : ¬ t < 0 := fun z => a (hs.mpr z)
    simp only [if_neg a, if_neg b]
    (repeat' split) <;> first | exact Iff.rfl | exact ⟨fun z => absurd z (by first | exact a | exact hq), fun z => absurd z (by first | exact b | exact hq)⟩
theorem ro_pos {W : Nat → Int32} {p : Nat} (h : ¬ m_roundsOf W p = 0) : 0 ≤ m_of W p 0 := by
  unfold m_roundsOf at h
  by_cases c : 0 ≤ m_of W p 0
  · exact c
  · exact absurd (by rw [if_neg c]; rfl) h

def n_leaves_c1 (W : Nat → Int32) (kind : Int32) (cell : Int32) (depth : Int32) (n : Int32) : Nat → Int32 :=
  (if tn (W 3) = 120 then W else ups (ups (ups (ups (ups (ups (ups W (349 + 6 * tn (W 3)) kind) (349 + 6 * tn (W 3) + 1) cell) (349 + 6 * tn (W 3) + 2) depth) (349 + 6 * tn (W 3) + 3) n) (349 + 6 * tn (W 3) + 4) (nI 0)) (349 + 6 * tn (W 3) + 5) (nI 239)) 3 (nI (tn (W 3) + 1)))
set_option maxHeartbeats 1000000 in
set_option maxRecDepth 100000 in
theorem c_n_leaves {G : UG} {adr : Nat → Nat} {h0 : Hp} {μ : Mu} (hI : MI (μ 1)) (kind : Int32) (cell : Int32) (depth : Int32) (n : Int32)  : Con G yX6_leaves cX6_leaves 6 none 0 0 0 0 [.ref (adr 0), .int kind, .int cell, .int depth, .int n] (MS G adr h0 μ) (fun vr_ h' => vr_ = none ∧ MS G adr h0 (mc μ 1 (n_leaves_c1 (μ 1) kind cell depth n)) h') nX := by
  refine con_of2 (plainFor_of_name (by decide)) rfl ?_
  intro F R Q RF RL RC RS hQ O hnh hnm
  obtain ⟨rs0, hrs0⟩ : ∃ z, z = n_leaves_c1 (μ 1) kind cell depth n := ⟨_, rfl⟩
  rw [← hrs0] at hQ
  unfold n_leaves_c1 at hrs0
  have hb3 : tn (μ 1 3) ≤ 120 := (hI 3 (by decide)).2
  refine x_eq (L' := [(0, .ref (adr 0)), (1, .int kind), (2, .int cell), (3, .int depth), (4, .int n)]) ?_ rfl rfl rfl
  refine x_aload_n O 0 dX6_leaves_0 rfl rfl ?_
  refine x_mget O k_X6_13_6 (mg_1 _ _) dX6_leaves_1 ?_
  refine x_iconst O (nI 3) dX6_leaves_4 (by decide) ?_
  refine x_ialdN O MS.c1 (by omega) rfl dX6_leaves_5 ?_
  refine x_top (v' := μ 1 3) rfl ?_
  refine x_top (v' := nI (tn (μ 1 3))) ((hI 3 (by decide)).1) ?_
  refine x_bipush O (nI 120) dX6_leaves_6 (by decide) ?_
  refine x_icmpneN O 12 (by omega) (by omega) dX6_leaves_8 (by decide) (fun c8 => ?_) (fun c8 => ?_)
  · have hr1 := hrs0.trans (if_neg c8)
    refine x_sipush O (nI 349) dX6_leaves_12 (by decide) ?_
    refine x_bipush O (nI 6) dX6_leaves_15 (by decide) ?_
    refine x_aload_n O 0 dX6_leaves_17 rfl rfl ?_
    refine x_mget O k_X6_13_6 (mg_1 _ _) dX6_leaves_18 ?_
    refine x_iconst O (nI 3) dX6_leaves_21 (by decide) ?_
    refine x_ialdN O MS.c1 (by omega) rfl dX6_leaves_22 ?_
    refine x_top (v' := μ 1 3) rfl ?_
    refine x_top (v' := nI (tn (μ 1 3))) ((hI 3 (by decide)).1) ?_
    refine x_imulN O dX6_leaves_23 ?_
    refine x_iaddN O dX6_leaves_24 ?_
    refine x_istore O [(5, .int (nI (349 + 6 * tn (μ 1 3)))), (0, .ref (adr 0)), (1, .int kind), (2, .int cell), (3, .int depth), (4, .int n)] dX6_leaves_25 rfl rfl ?_
    refine x_aload_n O 1 dX6_leaves_27 rfl rfl ?_
    refine x_mget O k_X6_13_6 (mg_1 _ _) dX6_leaves_28 ?_
    refine x_iload O 0 dX6_leaves_31 rfl ?_
    refine x_iload_n O 2 dX6_leaves_33 rfl rfl ?_
    refine x_mastQ O 0 MS.c1 rfl rfl rfl (by omega) rfl dX6_leaves_34 (μ' := (mc μ 1 (ups (μ 1) (349 + 6 * tn (μ 1 3)) kind))) (w_new (f := μ 1) (by rfl)) ?_
    refine x_aload_n O 1 dX6_leaves_35 rfl rfl ?_
    refine x_mget O k_X6_13_6 (mg_1 _ _) dX6_leaves_36 ?_
    refine x_iload O 0 dX6_leaves_39 rfl ?_
    refine x_iconst O (nI 1) dX6_leaves_41 (by decide) ?_
    refine x_iaddN O dX6_leaves_42 ?_
    refine x_iload_n O 3 dX6_leaves_43 rfl rfl ?_
    refine x_mastQ O 0 MS.c1 rfl rfl rfl (by omega) rfl dX6_leaves_44 (μ' := (mc μ 1 (ups (ups (μ 1) (349 + 6 * tn (μ 1 3)) kind) (349 + 6 * tn (μ 1 3) + 1) cell))) wc_s ?_
    refine x_aload_n O 1 dX6_leaves_45 rfl rfl ?_
    refine x_mget O k_X6_13_6 (mg_1 _ _) dX6_leaves_46 ?_
    refine x_iload O 0 dX6_leaves_49 rfl ?_
    refine x_iconst O (nI 2) dX6_leaves_51 (by decide) ?_
    refine x_iaddN O dX6_leaves_52 ?_
    refine x_iload_n O 4 dX6_leaves_53 rfl rfl ?_
    refine x_mastQ O 0 MS.c1 rfl rfl rfl (by omega) rfl dX6_leaves_54 (μ' := (mc μ 1 (ups (ups (ups (μ 1) (349 + 6 * tn (μ 1 3)) kind) (349 + 6 * tn (μ 1 3) + 1) cell) (349 + 6 * tn (μ 1 3) + 2) depth))) wc_s ?_
    refine x_aload_n O 1 dX6_leaves_55 rfl rfl ?_
    refine x_mget O k_X6_13_6 (mg_1 _ _) dX6_leaves_56 ?_
    refine x_iload O 0 dX6_leaves_59 rfl ?_
    refine x_iconst O (nI 3) dX6_leaves_61 (by decide) ?_
    refine x_iaddN O dX6_leaves_62 ?_
    refine x_iload O 5 dX6_leaves_63 rfl ?_
    refine x_mastQ O 0 MS.c1 rfl rfl rfl (by omega) rfl dX6_leaves_65 (μ' := (mc μ 1 (ups (ups (ups (ups (μ 1) (349 + 6 * tn (μ 1 3)) kind) (349 + 6 * tn (μ 1 3) + 1) cell) (349 + 6 * tn (μ 1 3) + 2) depth) (349 + 6 * tn (μ 1 3) + 3) n))) wc_s ?_
    refine x_aload_n O 1 dX6_leaves_66 rfl rfl ?_
    refine x_mget O k_X6_13_6 (mg_1 _ _) dX6_leaves_67 ?_
    refine x_iload O 0 dX6_leaves_70 rfl ?_
    refine x_iconst O (nI 4) dX6_leaves_72 (by decide) ?_
    refine x_iaddN O dX6_leaves_73 ?_
    refine x_iconst O (nI 0) dX6_leaves_74 (by decide) ?_
    refine x_mastQ O 0 MS.c1 rfl rfl rfl (by omega) rfl dX6_leaves_75 (μ' := (mc μ 1 (ups (ups (ups (ups (ups (μ 1) (349 + 6 * tn (μ 1 3)) kind) (349 + 6 * tn (μ 1 3) + 1) cell) (349 + 6 * tn (μ 1 3) + 2) depth) (349 + 6 * tn (μ 1 3) + 3) n) (349 + 6 * tn (μ 1 3) + 4) (nI 0)))) wc_s ?_
    refine x_aload_n O 1 dX6_leaves_76 rfl rfl ?_
    refine x_mget O k_X6_13_6 (mg_1 _ _) dX6_leaves_77 ?_
    refine x_iload O 0 dX6_leaves_80 rfl ?_
    refine x_iconst O (nI 5) dX6_leaves_82 (by decide) ?_
    refine x_iaddN O dX6_leaves_83 ?_
    refine x_sipush O (nI 239) dX6_leaves_84 (by decide) ?_
    refine x_mastQ O 0 MS.c1 rfl rfl rfl (by omega) rfl dX6_leaves_87 (μ' := (mc μ 1 (ups (ups (ups (ups (ups (ups (μ 1) (349 + 6 * tn (μ 1 3)) kind) (349 + 6 * tn (μ 1 3) + 1) cell) (349 + 6 * tn (μ 1 3) + 2) depth) (349 + 6 * tn (μ 1 3) + 3) n) (349 + 6 * tn (μ 1 3) + 4) (nI 0)) (349 + 6 * tn (μ 1 3) + 5) (nI 239)))) wc_s ?_
    refine x_aload_n O 1 dX6_leaves_88 rfl rfl ?_
    refine x_mget O k_X6_13_6 (mg_1 _ _) dX6_leaves_89 ?_
    refine x_iconst O (nI 3) dX6_leaves_92 (by decide) ?_
    refine x_dup2 O dX6_leaves_93 rfl rfl ?_
    refine x_ialdN O MS.c1 (by omega) rfl dX6_leaves_94 ?_
    refine x_top (v' := (ups (ups (ups (ups (ups (ups (μ 1) (349 + 6 * tn (μ 1 3)) kind) (349 + 6 * tn (μ 1 3) + 1) cell) (349 + 6 * tn (μ 1 3) + 2) depth) (349 + 6 * tn (μ 1 3) + 3) n) (349 + 6 * tn (μ 1 3) + 4) (nI 0)) (349 + 6 * tn (μ 1 3) + 5) (nI 239)) 3) (congrFun mc_s 3) ?_
    refine x_top (v' := μ 1 3) ((ups_n (by omega)).trans ((ups_n (by omega)).trans ((ups_n (by omega)).trans ((ups_n (by omega)).trans ((ups_n (by omega)).trans (ups_n (by omega))))))) ?_
    refine x_top (v' := nI (tn (μ 1 3))) ((hI 3 (by decide)).1) ?_
    refine x_iconst O (nI 1) dX6_leaves_95 (by decide) ?_
    refine x_iaddN O dX6_leaves_96 ?_
    refine x_mastQ O 0 MS.c1 rfl rfl rfl (by omega) rfl dX6_leaves_97 (μ' := (mc μ 1 (ups (ups (ups (ups (ups (ups (ups (μ 1) (349 + 6 * tn (μ 1 3)) kind) (349 + 6 * tn (μ 1 3) + 1) cell) (349 + 6 * tn (μ 1 3) + 2) depth) (349 + 6 * tn (μ 1 3) + 3) n) (349 + 6 * tn (μ 1 3) + 4) (nI 0)) (349 + 6 * tn (μ 1 3) + 5) (nI 239)) 3 (nI (tn (μ 1 3) + 1))))) wc_s ?_
    exact x_vretQ O hQ rfl dX6_leaves_98 (fun h m => ⟨rfl, by rw [hr1]; exact m.eq rfl⟩)
  · have hr2 := hrs0.trans (if_pos c8)
    refine x_sub [0] (L' := [(0, .ref (adr 0))]) rfl ?_
    exact x_vretQ O hQ rfl dX6_leaves_11 (fun h m => ⟨rfl, by rw [hr2]; exact m.eq (mc_id (c := 1) (f := μ 1) (by rfl)).symm⟩)

theorem leaves_MJ {W : Nat → Int32} {kind cell depth n : Int32} (h : MJ W) (hk : nn kind 3) (hc : nn cell 255) : MJ (n_leaves_c1 W kind cell depth n) := by
  have h3 : tn (W 3) ≤ 120 := (h.1 3 (by decide)).2
  unfold n_leaves_c1
  refine MJ_if (fun _ => h) (fun q => ?_)
  refine MJ_u (MJ_u (MJ_u (MJ_u (MJ_u (MJ_u (MJ_u h ?_) ?_) ?_) ?_) ?_) ?_) ?_
  · exact RJ_f (w := 0) (by omega) (by omega) ⟨fun _ => hk, fun e => by omega, fun e => by omega, fun e => by omega⟩
  · exact RJ_f (by omega) (by omega) ⟨fun e => by omega, fun _ => hc, fun e => by omega, fun e => by omega⟩
  · exact RJ_f (by omega) (by omega) ⟨fun e => by omega, fun e => by omega, fun e => by omega, fun e => by omega⟩
  · exact RJ_f (by omega) (by omega) ⟨fun e => by omega, fun e => by omega, fun e => by omega, fun e => by omega⟩
  · exact RJ_f (by omega) (by omega) ⟨fun e => by omega, fun e => by omega, fun _ => nn_nI (by omega) (by decide), fun e => by omega⟩
  · exact RJ_f (by omega) (by omega) ⟨fun e => by omega, fun e => by omega, fun e => by omega, fun _ => nn_nI (by omega) (by decide)⟩
  · exact RJ_cnt (by decide) (nn_nI (by show tn (W 3) + 1 ≤ 120; omega) (by decide))
theorem leaves_ST {W : Nat → Int32} {kind cell depth n : Int32} (h : MI W) : ST W (n_leaves_c1 W kind cell depth n) := by
  have h3 : tn (W 3) ≤ 120 := (h 3 (by decide)).2
  unfold n_leaves_c1
  refine ST.c (fun _ => ST.r) (fun q => ?_)
  exact ST.u (ST.u (ST.u (ST.u (ST.u (ST.u (ST.u ST.r (by omega)) (by omega)) (by omega)) (by omega)) (by omega)) (by omega)) (by omega)

def n_holdsStill_c1 (W : Nat → Int32) (p : Nat) : Nat → Int32 :=
  ups W (301 + 6 * p + 2) (j_max (nI 0) ((m_of W p 2) - (nI 1)))
set_option maxHeartbeats 1000000 in
set_option maxRecDepth 100000 in
theorem c_n_holdsStill {G : UG} {adr : Nat → Nat} {h0 : Hp} {μ : Mu}  (p : Nat) (hp : p < 8) : Con G yX6_holdsStill cX6_holdsStill 2 none 1 23 0 0 [.ref (adr 0), .int (nI p)] (MS G adr h0 μ) (fun vr_ h' => vr_ = none ∧ MS G adr h0 (mc μ 1 (n_holdsStill_c1 (μ 1) p)) h') nX := by
  refine con_of2 (plainFor_of_name (by decide)) rfl ?_
  intro F R Q RF RL RC RS hQ O hnh hnm
  obtain ⟨rs0, hrs0⟩ : ∃ z, z = n_holdsStill_c1 (μ 1) p := ⟨_, rfl⟩
  rw [← hrs0] at hQ
  unfold n_holdsStill_c1 at hrs0
  refine x_eq (L' := [(0, .ref (adr 0)), (1, .int (nI p))]) ?_ rfl rfl rfl
  refine x_aload_n O 0 dX6_holdsStill_0 rfl rfl ?_
  refine x_iload_n O 1 dX6_holdsStill_1 rfl rfl ?_
  refine x_iconst O (nI 2) dX6_holdsStill_2 (by decide) ?_
  refine x_iconst O (nI 0) dX6_holdsStill_3 (by decide) ?_
  refine x_aload_n O 0 dX6_holdsStill_4 rfl rfl ?_
  refine x_iload_n O 1 dX6_holdsStill_5 rfl rfl ?_
  refine x_iconst O (nI 2) dX6_holdsStill_6 (by decide) ?_
  refine x_cV O 2 (c_m_of (μ := μ) p 2 (by omega) (by omega)) MS.obj uc6 (lw_V q1968 q1970 qs60 q111 q1971) rfl hd_X6_of rfl (by rw [RF]; rfl) (by rw [RL]; rfl) ⟨Nat.zero_le _, Nat.zero_le _⟩ rfl rfl dX6_holdsStill_7 ?_
  refine x_top (v' := m_of (μ 1) p 2) rfl ?_
  refine x_iconst O (nI 1) dX6_holdsStill_10 (by decide) ?_
  refine x_isub O dX6_holdsStill_11 ?_
  refine x_cS O 2 (c_j_max (nI 0) ((m_of (μ 1) p 2) - (nI 1))) (lw_S q1782 q558 q116 q559) hd_J7_max rfl (by rw [RF]; rfl) (by rw [RL]; rfl) ⟨Nat.zero_le _, Nat.zero_le _⟩ rfl rfl dX6_holdsStill_12 ?_
  refine x_top (v' := j_max (nI 0) ((m_of (μ 1) p 2) - (nI 1))) rfl ?_
  refine x_cV O 3 (c_m_sets (μ := μ) p 2 (j_max (nI 0) ((m_of (μ 1) p 2) - (nI 1))) (by omega) (by omega)) MS.obj uc6 (lw_V q1972 q1974 qs61 q111 q1975) rfl hd_X6_sets rfl (by rw [RF]; rfl) (by rw [RL]; rfl) ⟨Nat.zero_le _, Nat.zero_le _⟩ rfl rfl dX6_holdsStill_15 ?_
  refine x_weak (Ω' := MS G adr h0 (mc μ 1 (ups (μ 1) (301 + 6 * p + 2) (j_max (nI 0) ((m_of (μ 1) p 2) - (nI 1)))))) (fun _ m => m.eq (w_new (f := μ 1) (by rfl))) ?_
  exact x_vretQ O hQ rfl dX6_holdsStill_18 (fun h m => ⟨rfl, by rw [hrs0]; exact m.eq rfl⟩)

theorem leaves_n {W : Nat → Int32} {kind cell depth n : Int32} {j : Nat} (hI : MI W) (h : j ≠ 3) (h2 : j < 349 ∨ 1069 ≤ j) : n_leaves_c1 W kind cell depth n j = W j := by
  have h3 : tn (W 3) ≤ 120 := (hI 3 (by decide)).2
  unfold n_leaves_c1
  split
  · rfl
  · rw [ups_n h, ups_n (by omega), ups_n (by omega), ups_n (by omega), ups_n (by omega), ups_n (by omega), ups_n (by omega)]
def sh_d (W : Nat → Int32) : Int32 := (nI (tn (W 7))) - (nI (tn (W 7))) / (nI 10) * (nI 10)
def sh_A (W : Nat → Int32) (p : Nat) : Nat → Int32 := ups W (269 + 4 * tn (m_of W p 0) + 3) ((W (269 + 4 * tn (m_of W p 0) + 3)) - (nI 1))
def sh_B (W : Nat → Int32) (p : Nat) : Nat → Int32 := n_leaves_c1 (sh_A W p) (nI 0) (m_of W p 1) (sh_d W) ((nI 1) <<< ((W (269 + 4 * tn (m_of W p 0) + 1)) &&& 31))
def sh_C (W : Nat → Int32) (p f : Nat) : Nat → Int32 := n_leaves_c1 (sh_B W p) (nI 1) (m_of W f 1) (sh_d W) (m_of W p 4)
def sh_r (W : Nat → Int32) : Int32 := ((1103515245)) * (W 9) + (nI 12345)
def sh_D (W : Nat → Int32) (p f : Nat) : Nat → Int32 := ups (sh_C W p f) 9 (sh_r W)
theorem shA_n {W : Nat → Int32} {p j : Nat} (h : j < 269 ∨ 301 ≤ j) (hg : tn (m_of W p 0) ≤ 7) : sh_A W p j = W j := ups_n (by omega)
theorem shA_J {W : Nat → Int32} {p : Nat} (hJ : MJ W) (hg : tn (m_of W p 0) ≤ 7) : MJ (sh_A W p) := MJ_u hJ (RJ_low (by omega) (by omega))
theorem shB_J {W : Nat → Int32} {p : Nat} (hJ : MJ W) (hp : p < 8) (hg : tn (m_of W p 0) ≤ 7) : MJ (sh_B W p) := leaves_MJ (shA_J hJ hg) (nn_nI (by omega) (by decide)) (hJ.2.1 p hp).2.1
theorem shC_J {W : Nat → Int32} {p f : Nat} (hJ : MJ W) (hp : p < 8) (hf : f < 8) (hg : tn (m_of W p 0) ≤ 7) : MJ (sh_C W p f) := leaves_MJ (shB_J hJ hp hg) (nn_nI (by omega) (by decide)) (hJ.2.1 f hf).2.1
theorem shD_J {W : Nat → Int32} {p f : Nat} (hJ : MJ W) (hp : p < 8) (hf : f < 8) (hg : tn (m_of W p 0) ≤ 7) : MJ (sh_D W p f) := MJ_u (shC_J hJ hp hf hg) (RJ_low (by omega) (by omega))
theorem shB_n {W : Nat → Int32} {p j : Nat} (hJ : MJ W) (hg : tn (m_of W p 0) ≤ 7) (h : j ≠ 3) (h2 : j < 269 ∨ 301 ≤ j ∧ j < 349 ∨ 1069 ≤ j) : sh_B W p j = W j := by
  unfold sh_B; rw [leaves_n (shA_J hJ hg).1 h (by omega), shA_n (by omega) hg]
theorem shC_n {W : Nat → Int32} {p f j : Nat} (hJ : MJ W) (hp : p < 8) (hg : tn (m_of W p 0) ≤ 7) (h : j ≠ 3) (h2 : j < 269 ∨ 301 ≤ j ∧ j < 349 ∨ 1069 ≤ j) : sh_C W p f j = W j := by
  unfold sh_C; rw [leaves_n (shB_J hJ hp hg).1 h (by omega), shB_n hJ hg h h2]
theorem shD_n {W : Nat → Int32} {p f j : Nat} (hJ : MJ W) (hp : p < 8) (hg : tn (m_of W p 0) ≤ 7) (h : j ≠ 3) (h9 : j ≠ 9) (h2 : j < 269 ∨ 301 ≤ j ∧ j < 349 ∨ 1069 ≤ j) : sh_D W p f j = W j := by
  unfold sh_D; rw [ups_n h9, shC_n hJ hp hg h h2]

def m_shoots_c1 (W : Nat → Int32) (p : Nat) : Nat → Int32 :=
  (if (m_roundsOf W p) = 0 then n_holdsStill_c1 W p else (if 0 ≤ (m_nearestTo W p true (m_of W p 1)) then (if ((((sh_r W) >>> ((nI 16) &&& 31)) &&& (nI 32767)) - (((sh_r W) >>> ((nI 16) &&& 31)) &&& (nI 32767)) / (nI 12) * (nI 12)) < ((nI 10) - (g_far (m_of W p 1) (m_of W (tn (m_nearestTo W p true (m_of W p 1))) 1))) then ups (n_leaves_c1 (sh_D W p (tn (m_nearestTo W p true (m_of W p 1)))) (nI 2) (m_of W (tn (m_nearestTo W p true (m_of W p 1))) 1) (sh_d W) ((nI 1) <<< ((m_nearestTo W p true (m_of W p 1)) &&& 31))) (301 + 6 * (tn (m_nearestTo W p true (m_of W p 1))) + 3) (nI 0) else sh_D W p (tn (m_nearestTo W p true (m_of W p 1)))) else n_holdsStill_c1 W p))
set_option maxHeartbeats 1000000 in
set_option maxRecDepth 100000 in
theorem c_m_shoots {G : UG} {adr : Nat → Nat} {h0 : Hp} {μ : Mu} (hJ : MJ (μ 1)) (p : Nat) (hp : p < 8) : Con G yX6_shoots cX6_shoots 5 none 3 69 0 0 [.ref (adr 0), .int (nI p)] (MS G adr h0 μ) (fun vr_ h' => vr_ = none ∧ MS G adr h0 (mc μ 1 (m_shoots_c1 (μ 1) p)) h') nX := by
  refine con_of2 (plainFor_of_name (by decide)) rfl ?_
  intro F R Q RF RL RC RS hQ O hnh hnm
  obtain ⟨rs0, hrs0⟩ : ∃ z, z = m_shoots_c1 (μ 1) p := ⟨_, rfl⟩
  rw [← hrs0] at hQ
  unfold m_shoots_c1 at hrs0
  have hI := hJ.1
  have hx := (hJ.2.1 p hp)
  refine x_eq (L' := [(0, .ref (adr 0)), (1, .int (nI p))]) ?_ rfl rfl rfl
  refine x_aload_n O 0 dX6_shoots_0 rfl rfl ?_
  refine x_iload_n O 1 dX6_shoots_1 rfl rfl ?_
  refine x_iconst O (nI 1) dX6_shoots_2 (by decide) ?_
  refine x_aload_n O 0 dX6_shoots_3 rfl rfl ?_
  refine x_iload_n O 1 dX6_shoots_4 rfl rfl ?_
  refine x_iconst O (nI 1) dX6_shoots_5 (by decide) ?_
  refine x_cV O 2 (c_m_of (μ := μ) p 1 (by omega) (by omega)) MS.obj uc6 (lw_V q1968 q1970 qs60 q111 q1971) rfl hd_X6_of rfl (by rw [RF]; rfl) (by rw [RL]; rfl) ⟨Nat.zero_le _, Nat.zero_le _⟩ rfl rfl dX6_shoots_6 ?_
  refine x_top (v' := m_of (μ 1) p 1) rfl ?_
  refine x_eqS (st' := [.int (m_of (μ 1) p 1), .int (b2i true), .int (nI p), .ref (adr 0)]) (by rw [show b2i true = nI 1 by decide] <;> rfl) ?_
  refine x_cV O 3 (c_m_nearestTo (μ := μ) hI p true (m_of (μ 1) p 1) (by omega)) MS.obj uc6 (lw_V q2012 q2014 qs68 q111 q2015) rfl hd_X6_nearestTo rfl (by rw [RF]; rfl) (by rw [RL]; rfl) ⟨Nat.zero_le _, Nat.zero_le _⟩ rfl rfl dX6_shoots_9 ?_
  refine x_top (v' := m_nearestTo (μ 1) p true (m_of (μ 1) p 1)) rfl ?_
  refine x_istore_n O [(2, .int (m_nearestTo (μ 1) p true (m_of (μ 1) p 1))), (0, .ref (adr 0)), (1, .int (nI p))] dX6_shoots_12 rfl rfl rfl ?_
  refine x_aload_n O 1 dX6_shoots_13 rfl rfl ?_
  refine x_iload_n O 2 dX6_shoots_14 rfl rfl ?_
  refine x_cV O 1 (c_m_roundsOf (μ := μ) hJ p (by omega)) MS.obj uc6 (lw_V q2008 q2010 qs67 q111 q2011) rfl hd_X6_roundsOf rfl (by rw [RF]; rfl) (by rw [RL]; rfl) ⟨Nat.zero_le _, Nat.zero_le _⟩ rfl rfl dX6_shoots_15 ?_
  refine x_top (v' := m_roundsOf (μ 1) p) rfl ?_
  refine x_ifeq O 25 dX6_shoots_18 (by decide) (fun c18 => ?_) (fun c18 => ?_)
  · have hr1 := hrs0.trans (if_pos c18)
    refine x_sub [1, 2] (L' := [(0, .ref (adr 0)), (1, .int (nI p))]) rfl ?_
    refine x_aload_n O 0 dX6_shoots_25 rfl rfl ?_
    refine x_iload_n O 1 dX6_shoots_26 rfl rfl ?_
    refine x_cV O 1 (c_n_holdsStill (μ := μ) p (by omega)) MS.obj uc6 (lw_V q2024 q2026 qs71 q111 q2027) rfl hd_X6_holdsStill rfl (by rw [RF]; rfl) (by rw [RL]; rfl) ⟨Nat.zero_le _, Nat.zero_le _⟩ rfl rfl dX6_shoots_27 ?_
    refine x_weak (Ω' := MS G adr h0 (mc μ 1 (n_holdsStill_c1 (μ 1) p))) (fun _ m => m.eq rfl) ?_
    exact x_vretQ O hQ rfl dX6_shoots_30 (fun h m => ⟨rfl, by rw [hr1]; exact m.eq rfl⟩)
  · have hr2 := hrs0.trans (if_neg c18)
    refine x_iload_n O 0 dX6_shoots_21 rfl rfl ?_
    refine x_ifge O 31 dX6_shoots_22 (by decide) (fun c22 => ?_) (fun c22 => ?_)
    · have hr3 := hr2.trans (if_pos c22)
      refine x_sipush O (nI 269) dX6_shoots_31 (by decide) ?_
      refine x_iconst O (nI 4) dX6_shoots_34 (by decide) ?_
      refine x_aload_n O 1 dX6_shoots_35 rfl rfl ?_
      refine x_iload_n O 2 dX6_shoots_36 rfl rfl ?_
      refine x_iconst O (nI 0) dX6_shoots_37 (by decide) ?_
      refine x_cV O 2 (c_m_of (μ := μ) p 0 (by omega) (by omega)) MS.obj uc6 (lw_V q1968 q1970 qs60 q111 q1971) rfl hd_X6_of rfl (by rw [RF]; rfl) (by rw [RL]; rfl) ⟨Nat.zero_le _, Nat.zero_le _⟩ rfl rfl dX6_shoots_38 ?_
      refine x_top (v' := m_of (μ 1) p 0) rfl ?_
      refine x_top (v' := nI (tn (m_of (μ 1) p 0))) ((gO_nn' hx.1 (ro_pos c18)).1) ?_
      refine x_imulN O dX6_shoots_41 ?_
      refine x_iaddN O dX6_shoots_42 ?_
      refine x_istore_n O [(3, .int (nI (269 + 4 * tn (m_of (μ 1) p 0)))), (2, .int (m_nearestTo (μ 1) p true (m_of (μ 1) p 1))), (0, .ref (adr 0)), (1, .int (nI p))] dX6_shoots_43 rfl rfl rfl ?_
      refine x_aload_n O 2 dX6_shoots_44 rfl rfl ?_
      refine x_mget O k_X6_13_6 (mg_1 _ _) dX6_shoots_45 ?_
      refine x_bipush O (nI 7) dX6_shoots_48 (by decide) ?_
      refine x_ialdN O MS.c1 (by omega) rfl dX6_shoots_50 ?_
      refine x_top (v' := μ 1 7) rfl ?_
      refine x_top (v' := nI (tn (μ 1 7))) ((hJ.1 7 (by decide)).1) ?_
      refine x_bipush O (nI 10) dX6_shoots_51 (by decide) ?_
      refine x_irem O dX6_shoots_53 (by decide) ?_
      refine x_top (v' := sh_d (μ 1)) (rfl) ?_
      refine x_istore O [(4, .int (sh_d (μ 1))), (3, .int (nI (269 + 4 * tn (m_of (μ 1) p 0)))), (2, .int (m_nearestTo (μ 1) p true (m_of (μ 1) p 1))), (0, .ref (adr 0)), (1, .int (nI p))] dX6_shoots_54 rfl rfl ?_
      refine x_aload_n O 3 dX6_shoots_56 rfl rfl ?_
      refine x_mget O k_X6_13_6 (mg_1 _ _) dX6_shoots_57 ?_
      refine x_iload_n O 1 dX6_shoots_60 rfl rfl ?_
      refine x_iconst O (nI 3) dX6_shoots_61 (by decide) ?_
      refine x_iaddN O dX6_shoots_62 ?_
      refine x_dup2 O dX6_shoots_63 rfl rfl ?_
      refine x_ialdN O MS.c1 (by have := (gO_nn' hx.1 (ro_pos c18)).2; omega) rfl dX6_shoots_64 ?_
      refine x_top (v' := μ 1 (269 + 4 * tn (m_of (μ 1) p 0) + 3)) rfl ?_
      refine x_iconst O (nI 1) dX6_shoots_65 (by decide) ?_
      refine x_isub O dX6_shoots_66 ?_
      refine x_mastQ O 0 MS.c1 rfl rfl rfl (by have := (gO_nn' hx.1 (ro_pos c18)).2; omega) rfl dX6_shoots_67 (μ' := (mc μ 1 (ups (μ 1) (269 + 4 * tn (m_of (μ 1) p 0) + 3) ((μ 1 (269 + 4 * tn (m_of (μ 1) p 0) + 3)) - (nI 1))))) (w_new (f := μ 1) (by rfl)) ?_
      refine x_weak (Ω' := MS G adr h0 ((mc μ 1 (sh_A (μ 1) p)))) (fun _ m => m.eq (congrArg (fun f_ => mc _ 1 f_) (show ups (μ 1) (269 + 4 * tn (m_of (μ 1) p 0) + 3) ((μ 1 (269 + 4 * tn (m_of (μ 1) p 0) + 3)) - (nI 1)) = sh_A (μ 1) p from rfl))) ?_
      refine x_aload_n O 3 dX6_shoots_68 rfl rfl ?_
      refine x_iconst O (nI 0) dX6_shoots_69 (by decide) ?_
      refine x_aload_n O 3 dX6_shoots_70 rfl rfl ?_
      refine x_iload_n O 4 dX6_shoots_71 rfl rfl ?_
      refine x_iconst O (nI 1) dX6_shoots_72 (by decide) ?_
      refine x_cV O 2 (c_m_of (μ := (mc μ 1 (sh_A (μ 1) p))) p 1 (by omega) (by omega)) MS.obj uc6 (lw_V q1968 q1970 qs60 q111 q1971) rfl hd_X6_of rfl (by rw [RF]; rfl) (by rw [RL]; rfl) ⟨Nat.zero_le _, Nat.zero_le _⟩ rfl rfl dX6_shoots_73 ?_
      refine x_top (v' := m_of (sh_A (μ 1) p) p 1) (by rw [show (mc μ 1 (sh_A (μ 1) p)) 1 = sh_A (μ 1) p from mc_s]) ?_
      refine x_top (v' := m_of (μ 1) p 1) (shA_n (by omega) (gO_nn' hx.1 (ro_pos c18)).2) ?_
      refine x_iload O 0 dX6_shoots_76 rfl ?_
      refine x_iconst O (nI 1) dX6_shoots_78 (by decide) ?_
      refine x_aload_n O 3 dX6_shoots_79 rfl rfl ?_
      refine x_mget O k_X6_13_6 (mg_1 _ _) dX6_shoots_80 ?_
      refine x_iload_n O 1 dX6_shoots_83 rfl rfl ?_
      refine x_iconst O (nI 1) dX6_shoots_84 (by decide) ?_
      refine x_iaddN O dX6_shoots_85 ?_
      refine x_ialdN O MS.c1 (by have := (gO_nn' hx.1 (ro_pos c18)).2; omega) rfl dX6_shoots_86 ?_
      refine x_top (v' := (sh_A (μ 1) p) (269 + 4 * tn (m_of (μ 1) p 0) + 1)) (congrFun mc_s (269 + 4 * tn (m_of (μ 1) p 0) + 1)) ?_
      refine x_top (v' := μ 1 (269 + 4 * tn (m_of (μ 1) p 0) + 1)) (ups_n (by omega)) ?_
      refine x_ishl O dX6_shoots_87 ?_
      refine x_cV O 4 (c_n_leaves (μ := (mc μ 1 (sh_A (μ 1) p))) (shA_J hJ (gO_nn' hx.1 (ro_pos c18)).2).1 (nI 0) (m_of (μ 1) p 1) (sh_d (μ 1)) ((nI 1) <<< ((μ 1 (269 + 4 * tn (m_of (μ 1) p 0) + 1)) &&& 31))) MS.obj uc6 (lw_V q2028 q2030 qs72 q111 q2031) rfl hd_X6_leaves rfl (by rw [RF]; rfl) (by rw [RL]; rfl) ⟨Nat.zero_le _, Nat.zero_le _⟩ rfl rfl dX6_shoots_88 ?_
      refine x_weak (Ω' := MS G adr h0 (mc μ 1 (n_leaves_c1 (sh_A (μ 1) p) (nI 0) (m_of (μ 1) p 1) (sh_d (μ 1)) ((nI 1) <<< ((μ 1 (269 + 4 * tn (m_of (μ 1) p 0) + 1)) &&& 31))))) (fun _ m => by rw [show (mc μ 1 (sh_A (μ 1) p)) 1 = sh_A (μ 1) p from mc_s] at m; exact m.eq cc_s) ?_
      refine x_weak (Ω' := MS G adr h0 ((mc μ 1 (sh_B (μ 1) p)))) (fun _ m => m.eq (congrArg (fun f_ => mc _ 1 f_) (show n_leaves_c1 (sh_A (μ 1) p) (nI 0) (m_of (μ 1) p 1) (sh_d (μ 1)) ((nI 1) <<< ((μ 1 (269 + 4 * tn (m_of (μ 1) p 0) + 1)) &&& 31)) = sh_B (μ 1) p from rfl))) ?_
      refine x_aload_n O 3 dX6_shoots_91 rfl rfl ?_
      refine x_iconst O (nI 1) dX6_shoots_92 (by decide) ?_
      refine x_aload_n O 3 dX6_shoots_93 rfl rfl ?_
      refine x_iload_n O 2 dX6_shoots_94 rfl rfl ?_
      refine x_top (v' := nI (tn (m_nearestTo (μ 1) p true (m_of (μ 1) p 1)))) ((gO_nn' (near_gO hI) c22).1) ?_
      refine x_iconst O (nI 1) dX6_shoots_95 (by decide) ?_
      refine x_cV O 2 (c_m_of (μ := (mc μ 1 (sh_B (μ 1) p))) (tn (m_nearestTo (μ 1) p true (m_of (μ 1) p 1))) 1 (by have := (gO_nn' (near_gO hI) c22).2; omega) (by omega)) MS.obj uc6 (lw_V q1968 q1970 qs60 q111 q1971) rfl hd_X6_of rfl (by rw [RF]; rfl) (by rw [RL]; rfl) ⟨Nat.zero_le _, Nat.zero_le _⟩ rfl rfl dX6_shoots_96 ?_
      refine x_top (v' := m_of (sh_B (μ 1) p) (tn (m_nearestTo (μ 1) p true (m_of (μ 1) p 1))) 1) (by rw [show (mc μ 1 (sh_B (μ 1) p)) 1 = sh_B (μ 1) p from mc_s]) ?_
      refine x_top (v' := m_of (μ 1) (tn (m_nearestTo (μ 1) p true (m_of (μ 1) p 1))) 1) (shB_n hJ (gO_nn' hx.1 (ro_pos c18)).2 (by omega) (by have := (gO_nn' (near_gO (p := p) (foes := true) (cell := m_of (μ 1) p 1) hI) c22).2; omega)) ?_
      refine x_iload O 0 dX6_shoots_99 rfl ?_
      refine x_aload_n O 3 dX6_shoots_101 rfl rfl ?_
      refine x_iload_n O 4 dX6_shoots_102 rfl rfl ?_
      refine x_iconst O (nI 4) dX6_shoots_103 (by decide) ?_
      refine x_cV O 2 (c_m_of (μ := (mc μ 1 (sh_B (μ 1) p))) p 4 (by omega) (by omega)) MS.obj uc6 (lw_V q1968 q1970 qs60 q111 q1971) rfl hd_X6_of rfl (by rw [RF]; rfl) (by rw [RL]; rfl) ⟨Nat.zero_le _, Nat.zero_le _⟩ rfl rfl dX6_shoots_104 ?_
      refine x_top (v' := m_of (sh_B (μ 1) p) p 4) (by rw [show (mc μ 1 (sh_B (μ 1) p)) 1 = sh_B (μ 1) p from mc_s]) ?_
      refine x_top (v' := m_of (μ 1) p 4) (shB_n hJ (gO_nn' hx.1 (ro_pos c18)).2 (by omega) (by omega)) ?_
      refine x_cV O 4 (c_n_leaves (μ := (mc μ 1 (sh_B (μ 1) p))) (shB_J hJ hp (gO_nn' hx.1 (ro_pos c18)).2).1 (nI 1) (m_of (μ 1) (tn (m_nearestTo (μ 1) p true (m_of (μ 1) p 1))) 1) (sh_d (μ 1)) (m_of (μ 1) p 4)) MS.obj uc6 (lw_V q2028 q2030 qs72 q111 q2031) rfl hd_X6_leaves rfl (by rw [RF]; rfl) (by rw [RL]; rfl) ⟨Nat.zero_le _, Nat.zero_le _⟩ rfl rfl dX6_shoots_107 ?_
      refine x_weak (Ω' := MS G adr h0 (mc μ 1 (n_leaves_c1 (sh_B (μ 1) p) (nI 1) (m_of (μ 1) (tn (m_nearestTo (μ 1) p true (m_of (μ 1) p 1))) 1) (sh_d (μ 1)) (m_of (μ 1) p 4)))) (fun _ m => by rw [show (mc μ 1 (sh_B (μ 1) p)) 1 = sh_B (μ 1) p from mc_s] at m; exact m.eq cc_s) ?_
      refine x_weak (Ω' := MS G adr h0 ((mc μ 1 (sh_C (μ 1) p (tn (m_nearestTo (μ 1) p true (m_of (μ 1) p 1))))))) (fun _ m => m.eq (congrArg (fun f_ => mc _ 1 f_) (show n_leaves_c1 (sh_B (μ 1) p) (nI 1) (m_of (μ 1) (tn (m_nearestTo (μ 1) p true (m_of (μ 1) p 1))) 1) (sh_d (μ 1)) (m_of (μ 1) p 4) = sh_C (μ 1) p (tn (m_nearestTo (μ 1) p true (m_of (μ 1) p 1))) from rfl))) ?_
      refine x_aload_n O 3 dX6_shoots_110 rfl rfl ?_
      refine x_mget O k_X6_13_6 (mg_1 _ _) dX6_shoots_111 ?_
      refine x_bipush O (nI 9) dX6_shoots_114 (by decide) ?_
      refine x_ldcw O q2032 dX6_shoots_116 ?_
      refine x_aload_n O 3 dX6_shoots_119 rfl rfl ?_
      refine x_mget O k_X6_13_6 (mg_1 _ _) dX6_shoots_120 ?_
      refine x_bipush O (nI 9) dX6_shoots_123 (by decide) ?_
      refine x_ialdN O MS.c1 (by omega) rfl dX6_shoots_125 ?_
      refine x_top (v' := (sh_C (μ 1) p (tn (m_nearestTo (μ 1) p true (m_of (μ 1) p 1)))) 9) (congrFun mc_s 9) ?_
      refine x_top (v' := μ 1 9) (shC_n hJ hp (gO_nn' hx.1 (ro_pos c18)).2 (by omega) (by omega)) ?_
      refine x_imul O dX6_shoots_126 ?_
      refine x_sipush O (nI 12345) dX6_shoots_127 (by decide) ?_
      refine x_iadd O dX6_shoots_130 ?_
      refine x_top (v' := sh_r (μ 1)) (rfl) ?_
      refine x_mastQ O 0 MS.c1 rfl rfl rfl (by omega) rfl dX6_shoots_131 (μ' := (mc μ 1 (ups (sh_C (μ 1) p (tn (m_nearestTo (μ 1) p true (m_of (μ 1) p 1)))) 9 (sh_r (μ 1))))) wc_s ?_
      refine x_weak (Ω' := MS G adr h0 ((mc μ 1 (sh_D (μ 1) p (tn (m_nearestTo (μ 1) p true (m_of (μ 1) p 1))))))) (fun _ m => m.eq (congrArg (fun f_ => mc _ 1 f_) (show ups (sh_C (μ 1) p (tn (m_nearestTo (μ 1) p true (m_of (μ 1) p 1)))) 9 (sh_r (μ 1)) = sh_D (μ 1) p (tn (m_nearestTo (μ 1) p true (m_of (μ 1) p 1))) from rfl))) ?_
      refine x_aload_n O 3 dX6_shoots_132 rfl rfl ?_
      refine x_mget O k_X6_13_6 (mg_1 _ _) dX6_shoots_133 ?_
      refine x_bipush O (nI 9) dX6_shoots_136 (by decide) ?_
      refine x_ialdN O MS.c1 (by omega) rfl dX6_shoots_138 ?_
      refine x_top (v' := (sh_D (μ 1) p (tn (m_nearestTo (μ 1) p true (m_of (μ 1) p 1)))) 9) (congrFun mc_s 9) ?_
      refine x_top (v' := sh_r (μ 1)) (ups_s) ?_
      refine x_bipush O (nI 16) dX6_shoots_139 (by decide) ?_
      refine x_ishr O dX6_shoots_141 ?_
      refine x_sipush O (nI 32767) dX6_shoots_142 (by decide) ?_
      refine x_iand O dX6_shoots_145 ?_
      refine x_bipush O (nI 12) dX6_shoots_146 (by decide) ?_
      refine x_irem O dX6_shoots_148 (by decide) ?_
      refine x_bipush O (nI 10) dX6_shoots_149 (by decide) ?_
      refine x_aload_n O 3 dX6_shoots_151 rfl rfl ?_
      refine x_iload_n O 4 dX6_shoots_152 rfl rfl ?_
      refine x_iconst O (nI 1) dX6_shoots_153 (by decide) ?_
      refine x_cV O 2 (c_m_of (μ := (mc μ 1 (sh_D (μ 1) p (tn (m_nearestTo (μ 1) p true (m_of (μ 1) p 1)))))) p 1 (by omega) (by omega)) MS.obj uc6 (lw_V q1968 q1970 qs60 q111 q1971) rfl hd_X6_of rfl (by rw [RF]; rfl) (by rw [RL]; rfl) ⟨Nat.zero_le _, Nat.zero_le _⟩ rfl rfl dX6_shoots_154 ?_
      refine x_top (v' := m_of (sh_D (μ 1) p (tn (m_nearestTo (μ 1) p true (m_of (μ 1) p 1)))) p 1) (by rw [show (mc μ 1 (sh_D (μ 1) p (tn (m_nearestTo (μ 1) p true (m_of (μ 1) p 1))))) 1 = sh_D (μ 1) p (tn (m_nearestTo (μ 1) p true (m_of (μ 1) p 1))) from mc_s]) ?_
      refine x_top (v' := m_of (μ 1) p 1) (shD_n hJ hp (gO_nn' hx.1 (ro_pos c18)).2 (by omega) (by omega) (by omega)) ?_
      refine x_aload_n O 3 dX6_shoots_157 rfl rfl ?_
      refine x_iload_n O 2 dX6_shoots_158 rfl rfl ?_
      refine x_top (v' := nI (tn (m_nearestTo (μ 1) p true (m_of (μ 1) p 1)))) ((gO_nn' (near_gO hI) c22).1) ?_
      refine x_iconst O (nI 1) dX6_shoots_159 (by decide) ?_
      refine x_cV O 2 (c_m_of (μ := (mc μ 1 (sh_D (μ 1) p (tn (m_nearestTo (μ 1) p true (m_of (μ 1) p 1)))))) (tn (m_nearestTo (μ 1) p true (m_of (μ 1) p 1))) 1 (by have := (gO_nn' (near_gO hI) c22).2; omega) (by omega)) MS.obj uc6 (lw_V q1968 q1970 qs60 q111 q1971) rfl hd_X6_of rfl (by rw [RF]; rfl) (by rw [RL]; rfl) ⟨Nat.zero_le _, Nat.zero_le _⟩ rfl rfl dX6_shoots_160 ?_
      refine x_top (v' := m_of (sh_D (μ 1) p (tn (m_nearestTo (μ 1) p true (m_of (μ 1) p 1)))) (tn (m_nearestTo (μ 1) p true (m_of (μ 1) p 1))) 1) (by rw [show (mc μ 1 (sh_D (μ 1) p (tn (m_nearestTo (μ 1) p true (m_of (μ 1) p 1))))) 1 = sh_D (μ 1) p (tn (m_nearestTo (μ 1) p true (m_of (μ 1) p 1))) from mc_s]) ?_
      refine x_top (v' := m_of (μ 1) (tn (m_nearestTo (μ 1) p true (m_of (μ 1) p 1))) 1) (shD_n hJ hp (gO_nn' hx.1 (ro_pos c18)).2 (by omega) (by omega) (by have := (gO_nn' (near_gO (p := p) (foes := true) (cell := m_of (μ 1) p 1) hI) c22).2; omega)) ?_
      refine x_cS O 2 (c_g_far (m_of (μ 1) p 1) (m_of (μ 1) (tn (m_nearestTo (μ 1) p true (m_of (μ 1) p 1))) 1)) (lw_S q1795 q1796 q111 q1797) hd_X6_far rfl (by rw [RF]; rfl) (by rw [RL]; rfl) ⟨Nat.zero_le _, Nat.zero_le _⟩ rfl rfl dX6_shoots_163 ?_
      refine x_top (v' := g_far (m_of (μ 1) p 1) (m_of (μ 1) (tn (m_nearestTo (μ 1) p true (m_of (μ 1) p 1))) 1)) rfl ?_
      refine x_isub O dX6_shoots_166 ?_
      refine x_icmplt O 171 dX6_shoots_167 (by decide) (fun c167 => ?_) (fun c167 => ?_)
      · have hr4 := hr3.trans (if_pos c167)
        refine x_sub [0, 2, 3] (L' := [(4, .int (sh_d (μ 1))), (2, .int (m_nearestTo (μ 1) p true (m_of (μ 1) p 1))), (0, .ref (adr 0))]) rfl ?_
        refine x_aload_n O 2 dX6_shoots_171 rfl rfl ?_
        refine x_iconst O (nI 2) dX6_shoots_172 (by decide) ?_
        refine x_aload_n O 2 dX6_shoots_173 rfl rfl ?_
        refine x_iload_n O 1 dX6_shoots_174 rfl rfl ?_
        refine x_top (v' := nI (tn (m_nearestTo (μ 1) p true (m_of (μ 1) p 1)))) ((gO_nn' (near_gO hI) c22).1) ?_
        refine x_iconst O (nI 1) dX6_shoots_175 (by decide) ?_
        refine x_cV O 2 (c_m_of (μ := (mc μ 1 (sh_D (μ 1) p (tn (m_nearestTo (μ 1) p true (m_of (μ 1) p 1)))))) (tn (m_nearestTo (μ 1) p true (m_of (μ 1) p 1))) 1 (by have := (gO_nn' (near_gO hI) c22).2; omega) (by omega)) MS.obj uc6 (lw_V q1968 q1970 qs60 q111 q1971) rfl hd_X6_of rfl (by rw [RF]; rfl) (by rw [RL]; rfl) ⟨Nat.zero_le _, Nat.zero_le _⟩ rfl rfl dX6_shoots_176 ?_
        refine x_top (v' := m_of (sh_D (μ 1) p (tn (m_nearestTo (μ 1) p true (m_of (μ 1) p 1)))) (tn (m_nearestTo (μ 1) p true (m_of (μ 1) p 1))) 1) (by rw [show (mc μ 1 (sh_D (μ 1) p (tn (m_nearestTo (μ 1) p true (m_of (μ 1) p 1))))) 1 = sh_D (μ 1) p (tn (m_nearestTo (μ 1) p true (m_of (μ 1) p 1))) from mc_s]) ?_
        refine x_top (v' := m_of (μ 1) (tn (m_nearestTo (μ 1) p true (m_of (μ 1) p 1))) 1) (shD_n hJ hp (gO_nn' hx.1 (ro_pos c18)).2 (by omega) (by omega) (by have := (gO_nn' (near_gO (p := p) (foes := true) (cell := m_of (μ 1) p 1) hI) c22).2; omega)) ?_
        refine x_iload O 0 dX6_shoots_179 rfl ?_
        refine x_iconst O (nI 1) dX6_shoots_181 (by decide) ?_
        refine x_iload_n O 1 dX6_shoots_182 rfl rfl ?_
        refine x_ishl O dX6_shoots_183 ?_
        refine x_cV O 4 (c_n_leaves (μ := (mc μ 1 (sh_D (μ 1) p (tn (m_nearestTo (μ 1) p true (m_of (μ 1) p 1)))))) (shD_J hJ hp (by have := (gO_nn' (near_gO hI) c22).2; omega) (gO_nn' hx.1 (ro_pos c18)).2).1 (nI 2) (m_of (μ 1) (tn (m_nearestTo (μ 1) p true (m_of (μ 1) p 1))) 1) (sh_d (μ 1)) ((nI 1) <<< ((m_nearestTo (μ 1) p true (m_of (μ 1) p 1)) &&& 31))) MS.obj uc6 (lw_V q2028 q2030 qs72 q111 q2031) rfl hd_X6_leaves rfl (by rw [RF]; rfl) (by rw [RL]; rfl) ⟨Nat.zero_le _, Nat.zero_le _⟩ rfl rfl dX6_shoots_184 ?_
        refine x_weak (Ω' := MS G adr h0 (mc μ 1 (n_leaves_c1 (sh_D (μ 1) p (tn (m_nearestTo (μ 1) p true (m_of (μ 1) p 1)))) (nI 2) (m_of (μ 1) (tn (m_nearestTo (μ 1) p true (m_of (μ 1) p 1))) 1) (sh_d (μ 1)) ((nI 1) <<< ((m_nearestTo (μ 1) p true (m_of (μ 1) p 1)) &&& 31))))) (fun _ m => by rw [show (mc μ 1 (sh_D (μ 1) p (tn (m_nearestTo (μ 1) p true (m_of (μ 1) p 1))))) 1 = sh_D (μ 1) p (tn (m_nearestTo (μ 1) p true (m_of (μ 1) p 1))) from mc_s] at m; exact m.eq cc_s) ?_
        refine x_aload_n O 2 dX6_shoots_187 rfl rfl ?_
        refine x_iload_n O 1 dX6_shoots_188 rfl rfl ?_
        refine x_top (v' := nI (tn (m_nearestTo (μ 1) p true (m_of (μ 1) p 1)))) ((gO_nn' (near_gO hI) c22).1) ?_
        refine x_iconst O (nI 3) dX6_shoots_189 (by decide) ?_
        refine x_iconst O (nI 0) dX6_shoots_190 (by decide) ?_
        refine x_cV O 3 (c_m_sets (μ := (mc μ 1 (n_leaves_c1 (sh_D (μ 1) p (tn (m_nearestTo (μ 1) p true (m_of (μ 1) p 1)))) (nI 2) (m_of (μ 1) (tn (m_nearestTo (μ 1) p true (m_of (μ 1) p 1))) 1) (sh_d (μ 1)) ((nI 1) <<< ((m_nearestTo (μ 1) p true (m_of (μ 1) p 1)) &&& 31))))) (tn (m_nearestTo (μ 1) p true (m_of (μ 1) p 1))) 3 (nI 0) (by have := (gO_nn' (near_gO hI) c22).2; omega) (by omega)) MS.obj uc6 (lw_V q1972 q1974 qs61 q111 q1975) rfl hd_X6_sets rfl (by rw [RF]; rfl) (by rw [RL]; rfl) ⟨Nat.zero_le _, Nat.zero_le _⟩ rfl rfl dX6_shoots_191 ?_
        refine x_weak (Ω' := MS G adr h0 (mc μ 1 (ups (n_leaves_c1 (sh_D (μ 1) p (tn (m_nearestTo (μ 1) p true (m_of (μ 1) p 1)))) (nI 2) (m_of (μ 1) (tn (m_nearestTo (μ 1) p true (m_of (μ 1) p 1))) 1) (sh_d (μ 1)) ((nI 1) <<< ((m_nearestTo (μ 1) p true (m_of (μ 1) p 1)) &&& 31))) (301 + 6 * (tn (m_nearestTo (μ 1) p true (m_of (μ 1) p 1))) + 3) (nI 0)))) (fun _ m => m.eq wc_s) ?_
        exact x_vretQ O hQ rfl dX6_shoots_194 (fun h m => ⟨rfl, by rw [hr4]; exact m.eq rfl⟩)
      · have hr5 := hr3.trans (if_neg c167)
        refine x_sub [3] (L' := [(0, .ref (adr 0))]) rfl ?_
        exact x_vretQ O hQ rfl dX6_shoots_170 (fun h m => ⟨rfl, by rw [hr5]; exact m.eq rfl⟩)
    · have hr6 := hr2.trans (if_neg c22)
      refine x_sub [1, 2] (L' := [(0, .ref (adr 0)), (1, .int (nI p))]) rfl ?_
      refine x_aload_n O 0 dX6_shoots_25 rfl rfl ?_
      refine x_iload_n O 1 dX6_shoots_26 rfl rfl ?_
      refine x_cV O 1 (c_n_holdsStill (μ := μ) p (by omega)) MS.obj uc6 (lw_V q2024 q2026 qs71 q111 q2027) rfl hd_X6_holdsStill rfl (by rw [RF]; rfl) (by rw [RL]; rfl) ⟨Nat.zero_le _, Nat.zero_le _⟩ rfl rfl dX6_shoots_27 ?_
      refine x_weak (Ω' := MS G adr h0 (mc μ 1 (n_holdsStill_c1 (μ 1) p))) (fun _ m => m.eq rfl) ?_
      exact x_vretQ O hQ rfl dX6_shoots_30 (fun h m => ⟨rfl, by rw [hr6]; exact m.eq rfl⟩)
