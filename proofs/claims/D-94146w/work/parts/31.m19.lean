theorem keeps_low {W : Nat → Int32} {t j : Nat} (h : j < 1166) : n_keeps_c1 W t j = W j := by
  unfold n_keeps_c1
  refine fr_inv (e := 831) (fun _ (s : Nat → Int32) => s j = W j) (fun i s _ hs => ?_) 831 0 W (by omega) rfl
  show n_keeps_b2 W t i s j = W j
  unfold n_keeps_b2
  rw [ups_n (by unfold m_textAt; omega)]; exact hs
abbrev rdt (μ : Mu) (th : Nat) (l : Nat) (st : Bool) (fa : Int32) (p b d s : Nat) (W : Nat → Int32) : Mu := (mc (mset (mset (mset (mset (mset (mset (mset (mset (mset μ 0 0 (nI th)) 0 5 (nI 0)) 0 6 (nI p)) 0 7 (nI l)) 0 8 (nI b)) 0 9 (nI d)) 0 10 fa) 0 12 (nI s)) 0 13 (b2i st)) 1 W)
/-- a text's call has come back with v, told th, the world W -/
def RT (G : UG) (adr : Nat → Nat) (h0 : Hp) (μ : Mu) (l : Nat) (st : Bool) (v : Int32) (th : Nat) (fa : Int32) (W : Nat → Int32) (r : Option Value) (h' : Hp) : Prop := r = some (.int v) ∧ ∃ p b d s : Nat, MS G adr h0 (rdt μ th l st fa p b d s W) h'
section RTs
variable {α : Type} {G : UG} {adr : Nat → Nat} {h0 : Hp} {μ : Mu} {W : Nat → Int32} {l : Nat} {st : Bool} {Fn : α → Nat → Int32} {C : α → Nat} {r : α ⊕ Nat}
theorem con_okR {Ω : Hp → Prop} {y : MethodName} {code : ByteArray} {maxL : Nat} {ret : Option FieldType} {fr lo mc ms : Nat} {av : List Value} {a : α} (c : Con G y code maxL ret fr lo mc ms av Ω (PostR G adr h0 μ W l st Fn C r) nX) (e : r = .inl a) : Con G y code maxL ret fr lo mc ms av Ω (fun v h' => v = some (.int (b2i true)) ∧ (C a ≤ 10 ∧ ∃ p b d s : Nat, MS G adr h0 (rdm μ l st (-1) p b d s (ups (Fn a) (m_textAt 9) (nI (C a)))) h')) nX := by subst e; exact c
theorem con_noR {Ω : Hp → Prop} {y : MethodName} {code : ByteArray} {maxL : Nat} {ret : Option FieldType} {fr lo mc ms : Nat} {av : List Value} {bb : Nat} (c : Con G y code maxL ret fr lo mc ms av Ω (PostR G adr h0 μ W l st Fn C r) nX) (e : r = .inr bb) : Con G y code maxL ret fr lo mc ms av Ω (fun v h' => v = some (.int (b2i false)) ∧ ∃ (p d s : Nat) (W' : Nat → Int32), (∀ j, j < 8645 → W' j = W j) ∧ MS G adr h0 (rdm μ l st (nI bb) p bb d s W') h') nX := by subst e; exact c
theorem x_exR {F : UF} {R : Room} {Q : State → Prop} {nL pc : Nat} {L : List (Nat × Value)} {sk : List Value} {k n c : Nat} {fa : Int32} {W1 : Nat → Int32} (kk : c ≤ 10 → ∀ (p b d s : Nat), X G F R Q nL pc L sk (MS G adr h0 (rdm μ l st fa p b d s W1)) k n) : X G F R Q nL pc L sk (fun h' => c ≤ 10 ∧ ∃ p b d s : Nat, MS G adr h0 (rdm μ l st fa p b d s W1) h') k n := by
  rintro h H locs ls ⟨hc, p', b', d', s', m⟩ hR hS hl
  exact kk hc p' b' d' s' h H locs ls m hR hS hl
theorem x_exN {F : UF} {R : Room} {Q : State → Prop} {nL pc : Nat} {L : List (Nat × Value)} {sk : List Value} {k n bb : Nat} (kk : ∀ (p d s : Nat) (W' : Nat → Int32), (∀ j, j < 8645 → W' j = W j) → X G F R Q nL pc L sk (MS G adr h0 (rdm μ l st (nI bb) p bb d s W')) k n) : X G F R Q nL pc L sk (fun h' => ∃ (p d s : Nat) (W' : Nat → Int32), (∀ j, j < 8645 → W' j = W j) ∧ MS G adr h0 (rdm μ l st (nI bb) p bb d s W') h') k n := by
  rintro h H locs ls ⟨p', d', s', W', hW, m⟩ hR hS hl
  exact kk p' d' s' W' hW h H locs ls m hR hS hl
end RTs
def lawW (W : Nat → Int32) (ls : LN) : Nat → Int32 := ups (lsW W 0 0 ls) (m_textAt 9) (nI ls.length)
def storyW (W : Nat → Int32) (ls : List (Int32 × Int32)) : Nat → Int32 := ups (stW W ls) (m_textAt 9) (nI 1)
theorem lawW_low {W : Nat → Int32} {ls : LN} {j : Nat} (h : j < 8645) : lawW W ls j = W j := by unfold lawW; rw [ups_n (by unfold m_textAt; omega), lsW_low h]
theorem storyW_low {W : Nat → Int32} {ls : List (Int32 × Int32)} {j : Nat} (h : j < 8645) : storyW W ls j = W j := by unfold storyW; rw [ups_n (by unfold m_textAt; omega), stW_low h]
def PostLaw (G : UG) (adr : Nat → Nat) (h0 : Hp) (μ : Mu) (W : Nat → Int32) (l : Nat) (r : LN ⊕ Nat) (v : Option Value) (h' : Hp) : Prop := match r with
  | .inr b => ∃ W' : Nat → Int32, (∀ j, j < 8645 → W' j = W j) ∧ RT G adr h0 μ l false (nI 0) 1 (nI b) W' v h'
  | .inl ls => ls.length ≤ 10 ∧ (tn (W 2) = 4 → RT G adr h0 μ l false (nI 0) 2 (-1) (lawW W ls) v h') ∧ (¬ tn (W 2) = 4 → RT G adr h0 μ l false (nI (tn (W 2))) 0 (-1) (ups (n_keeps_c1 (lawW W ls) (tn (W 2))) 2 (nI (tn (W 2) + 1))) v h')
def PostStory (G : UG) (adr : Nat → Nat) (h0 : Hp) (μ : Mu) (W : Nat → Int32) (l : Nat) (w : Int32) (r : List (Int32 × Int32) ⊕ Nat) (v : Option Value) (h' : Hp) : Prop := match r with
  | .inr b => ∃ W' : Nat → Int32, (∀ j, j < 8645 → W' j = W j) ∧ RT G adr h0 μ l true (nI 0) 1 (nI b) W' v h'
  | .inl ls => (¬ m_in w (nI 1) (nI 99) = true → RT G adr h0 μ l true (nI 0) 1 (-1) (storyW W ls) v h') ∧ (m_in w (nI 1) (nI 99) = true → tn (W 6) = 5 → RT G adr h0 μ l true (nI 0) 2 (-1) (storyW W ls) v h') ∧ (m_in w (nI 1) (nI 99) = true → ¬ tn (W 6) = 5 → RT G adr h0 μ l true (nI (tn (W 6))) 0 (-1) (ups (ups (n_keeps_c1 (storyW W ls) (4 + tn (W 6))) (1161 + tn (W 6)) w) 6 (nI (tn (W 6) + 1))) v h')

set_option maxHeartbeats 1000000 in
set_option maxRecDepth 100000 in
theorem c_m_law {G : UG} {adr : Nat → Nat} {h0 : Hp} {μ : Mu} (hI : MI (μ 1)) (tp : Nat) (h5 : μ 0 5 = nI tp) (htp : tp ≤ 400) (b0 : Nat) (h8 : μ 0 8 = nI b0) : Con G yX6_law cX6_law 1 (some .int) 37 1225 0 0 [.ref (adr 0)] (MS G adr h0 μ) (PostLaw G adr h0 μ (μ 1) tp (pLaw (μ 3) tp)) nX := by
  refine con_of2 (plainFor_of_name (by decide)) rfl ?_
  intro F R Q RF RL RC RS hQ O hnh hnm
  have hb2 : tn (μ 1 2) ≤ 4 := (hI 2 (by decide)).2
  refine x_eq (L' := [(0, .ref (adr 0))]) ?_ rfl rfl rfl
  refine x_aload_n O 0 dX6_law_0 rfl rfl ?_
  refine x_aload_n O 0 dX6_law_1 rfl rfl ?_
  refine x_iconst O (nI 0) dX6_law_2 (by decide) ?_
  refine x_eqS (st' := [.int (b2i false), .ref (adr 0), .ref (adr 0)]) (by rw [show b2i false = nI 0 by decide] <;> rfl) ?_
  rcases hr3 : pLaw (μ 3) tp with ls1 | b1
  · refine x_cV O 1 (con_okR (c_m_readsL (μ := μ) tp h5 htp b0 h8) hr3) MS.obj uc6 (lw_V q1830 q1832 qs36 q111 q1833) rfl hd_X6_reads rfl (by rw [RF]; rfl) (by rw [RL]; rfl) ⟨Nat.zero_le _, Nat.zero_le _⟩ rfl rfl dX6_law_3 ?_
    refine x_top (v' := b2i true) rfl ?_
    refine x_exR (fun hc1 p1 b1 d1 s1 => ?_)
    refine x_weak (Ω' := MS G adr h0 ((mc (mset (mset (mset (mset (mset (mset (mset (mset (mset μ 0 0 (nI 0)) 0 5 (nI 0)) 0 6 (nI p1)) 0 7 (nI tp)) 0 8 (nI b1)) 0 9 (nI d1)) 0 10 ((-1))) 0 12 (nI s1)) 0 13 (b2i false)) 1 (lawW (μ 1) ls1)))) (fun _ m => m) ?_
    refine x_ifneB O 13 dX6_law_6 (by decide) (fun _ => ?_) (fun c => absurd rfl c)
    refine x_iconst O (nI 0) dX6_law_13 (by decide) ?_
    refine x_iconst O (nI 1) dX6_law_14 (by decide) ?_
    refine x_eqS (st' := [.int (nI 1), .int (b2i false), .ref (adr 0)]) (by rw [show b2i false = nI 0 by decide] <;> rfl) ?_
    refine x_cV O 2 (c_m_throwsIf_f (μ := (mc (mset (mset (mset (mset (mset (mset (mset (mset (mset μ 0 0 (nI 0)) 0 5 (nI 0)) 0 6 (nI p1)) 0 7 (nI tp)) 0 8 (nI b1)) 0 9 (nI d1)) 0 10 ((-1))) 0 12 (nI s1)) 0 13 (b2i false)) 1 (lawW (μ 1) ls1))) 1) MS.obj uc6 (lw_V q1774 q1776 qs34 q111 q1777) rfl hd_X6_throwsIf rfl (by rw [RF]; rfl) (by rw [RL]; rfl) ⟨Nat.zero_le _, Nat.zero_le _⟩ rfl rfl dX6_law_15 ?_
    refine x_top (v' := b2i false) rfl ?_
    refine x_ifneB O 44 dX6_law_18 (by decide) (fun c => absurd c (by decide)) (fun _ => ?_)
    refine x_aload_n O 0 dX6_law_21 rfl rfl ?_
    refine x_aload_n O 0 dX6_law_22 rfl rfl ?_
    refine x_mget O k_X6_13_6 (mg_1 _ _) dX6_law_23 ?_
    refine x_iconst O (nI 2) dX6_law_26 (by decide) ?_
    refine x_ialdN O MS.c1 (by omega) rfl dX6_law_27 ?_
    refine x_top (v' := (lawW (μ 1) ls1) 2) (congrFun mc_s 2) ?_
    refine x_top (v' := nI (tn (μ 1 2))) ((lawW_low (by decide)).trans (hI 2 (by decide)).1) ?_
    refine x_iconst O (nI 4) dX6_law_28 (by decide) ?_
    refine x_icmpneN O 36 (by omega) (by omega) dX6_law_29 (by decide) (fun c29 => ?_) (fun c29 => ?_)
    · refine x_iconst O (nI 0) dX6_law_36 (by decide) ?_
      refine x_iconst O (nI 2) dX6_law_37 (by decide) ?_
      refine x_eqS (st' := [.int (nI 2), .int (b2i false), .ref (adr 0)]) (by rw [show b2i false = nI 0 by decide] <;> rfl) ?_
      refine x_cV O 2 (c_m_throwsIf_f (μ := (mc (mset (mset (mset (mset (mset (mset (mset (mset (mset μ 0 0 (nI 0)) 0 5 (nI 0)) 0 6 (nI p1)) 0 7 (nI tp)) 0 8 (nI b1)) 0 9 (nI d1)) 0 10 ((-1))) 0 12 (nI s1)) 0 13 (b2i false)) 1 (lawW (μ 1) ls1))) 2) MS.obj uc6 (lw_V q1774 q1776 qs34 q111 q1777) rfl hd_X6_throwsIf rfl (by rw [RF]; rfl) (by rw [RL]; rfl) ⟨Nat.zero_le _, Nat.zero_le _⟩ rfl rfl dX6_law_38 ?_
      refine x_top (v' := b2i false) rfl ?_
      refine x_ifeqB O 46 dX6_law_41 (by decide) (fun _ => ?_) (fun c => absurd c (by decide))
      refine x_aload_n O 0 dX6_law_46 rfl rfl ?_
      refine x_aload_n O 0 dX6_law_47 rfl rfl ?_
      refine x_mget O k_X6_13_6 (mg_1 _ _) dX6_law_48 ?_
      refine x_iconst O (nI 2) dX6_law_51 (by decide) ?_
      refine x_ialdN O MS.c1 (by omega) rfl dX6_law_52 ?_
      refine x_top (v' := (lawW (μ 1) ls1) 2) (congrFun mc_s 2) ?_
      refine x_top (v' := nI (tn (μ 1 2))) ((lawW_low (by decide)).trans (hI 2 (by decide)).1) ?_
      refine x_cV O 1 (c_n_keeps (μ := (mc (mset (mset (mset (mset (mset (mset (mset (mset (mset μ 0 0 (nI 0)) 0 5 (nI 0)) 0 6 (nI p1)) 0 7 (nI tp)) 0 8 (nI b1)) 0 9 (nI d1)) 0 10 ((-1))) 0 12 (nI s1)) 0 13 (b2i false)) 1 (lawW (μ 1) ls1))) (tn (μ 1 2)) (by omega)) MS.obj uc6 (lw_V q1952 q1954 qs58 q111 q1955) rfl hd_X6_keeps rfl (by rw [RF]; rfl) (by rw [RL]; rfl) ⟨Nat.zero_le _, Nat.zero_le _⟩ rfl rfl dX6_law_53 ?_
      refine x_weak (Ω' := MS G adr h0 (mc (mset (mset (mset (mset (mset (mset (mset (mset (mset μ 0 0 (nI 0)) 0 5 (nI 0)) 0 6 (nI p1)) 0 7 (nI tp)) 0 8 (nI b1)) 0 9 (nI d1)) 0 10 ((-1))) 0 12 (nI s1)) 0 13 (b2i false)) 1 (n_keeps_c1 (lawW (μ 1) ls1) (tn (μ 1 2))))) (fun _ m => by rw [show (mc (mset (mset (mset (mset (mset (mset (mset (mset (mset μ 0 0 (nI 0)) 0 5 (nI 0)) 0 6 (nI p1)) 0 7 (nI tp)) 0 8 (nI b1)) 0 9 (nI d1)) 0 10 ((-1))) 0 12 (nI s1)) 0 13 (b2i false)) 1 (lawW (μ 1) ls1)) 1 = lawW (μ 1) ls1 from mc_s] at m; exact m.eq cc_s) ?_
      refine x_aload_n O 0 dX6_law_56 rfl rfl ?_
      refine x_mget O k_X6_13_6 (mg_1 _ _) dX6_law_57 ?_
      refine x_iconst O (nI 2) dX6_law_60 (by decide) ?_
      refine x_dup2 O dX6_law_61 rfl rfl ?_
      refine x_ialdN O MS.c1 (by omega) rfl dX6_law_62 ?_
      refine x_top (v' := (n_keeps_c1 (lawW (μ 1) ls1) (tn (μ 1 2))) 2) (congrFun mc_s 2) ?_
      refine x_top (v' := nI (tn (μ 1 2))) ((keeps_low (by decide)).trans ((lawW_low (by decide)).trans (hI 2 (by decide)).1)) ?_
      refine x_iconst O (nI 1) dX6_law_63 (by decide) ?_
      refine x_iaddN O dX6_law_64 ?_
      refine x_mastQ O 0 MS.c1 rfl rfl rfl (by omega) rfl dX6_law_65 (μ' := (mc (mset (mset (mset (mset (mset (mset (mset (mset (mset μ 0 0 (nI 0)) 0 5 (nI 0)) 0 6 (nI p1)) 0 7 (nI tp)) 0 8 (nI b1)) 0 9 (nI d1)) 0 10 ((-1))) 0 12 (nI s1)) 0 13 (b2i false)) 1 (ups (n_keeps_c1 (lawW (μ 1) ls1) (tn (μ 1 2))) 2 (nI (tn (μ 1 2) + 1))))) wc_s ?_
      refine x_aload_n O 0 dX6_law_66 rfl rfl ?_
      refine x_mget O k_X6_13_6 (mg_1 _ _) dX6_law_67 ?_
      refine x_iconst O (nI 2) dX6_law_70 (by decide) ?_
      refine x_ialdN O MS.c1 (by omega) rfl dX6_law_71 ?_
      refine x_top (v' := (ups (n_keeps_c1 (lawW (μ 1) ls1) (tn (μ 1 2))) 2 (nI (tn (μ 1 2) + 1))) 2) (congrFun mc_s 2) ?_
      refine x_top (v' := nI (tn (μ 1 2) + 1)) ups_s ?_
      refine x_iconst O (nI 1) dX6_law_72 (by decide) ?_
      refine x_isub O dX6_law_73 ?_
      refine x_top (v' := nI (tn (μ 1 2))) (by rw [pk_sub (by omega), Nat.add_sub_cancel]) ?_
      exact x_iretQ O hQ rfl dX6_law_74 (fun h m => by rw [hr3]; exact ⟨hc1, fun q => absurd q c29, fun _ => ⟨rfl, _, _, _, _, m⟩⟩)
    · refine x_iconst O (nI 1) dX6_law_32 (by decide) ?_
      refine x_goto O 37 dX6_law_33 (by decide) ?_
      refine x_iconst O (nI 2) dX6_law_37 (by decide) ?_
      refine x_eqS (st' := [.int (nI 2), .int (b2i true), .ref (adr 0)]) (by rw [show b2i true = nI 1 by decide] <;> rfl) ?_
      refine x_cV O 2 (c_m_throwsIf_t (μ := (mc (mset (mset (mset (mset (mset (mset (mset (mset (mset μ 0 0 (nI 0)) 0 5 (nI 0)) 0 6 (nI p1)) 0 7 (nI tp)) 0 8 (nI b1)) 0 9 (nI d1)) 0 10 ((-1))) 0 12 (nI s1)) 0 13 (b2i false)) 1 (lawW (μ 1) ls1))) 2) MS.obj uc6 (lw_V q1774 q1776 qs34 q111 q1777) rfl hd_X6_throwsIf rfl (by rw [RF]; rfl) (by rw [RL]; rfl) ⟨Nat.zero_le _, Nat.zero_le _⟩ rfl rfl dX6_law_38 ?_
      refine x_top (v' := b2i true) rfl ?_
      refine x_weak (Ω' := MS G adr h0 (mc (mset (mset (mset (mset (mset (mset (mset (mset (mset μ 0 0 (nI 2)) 0 5 (nI 0)) 0 6 (nI p1)) 0 7 (nI tp)) 0 8 (nI b1)) 0 9 (nI d1)) 0 10 ((-1))) 0 12 (nI s1)) 0 13 (b2i false)) 1 (lawW (μ 1) ls1))) (fun _ m => m.eq ((wc_n (by decide)).trans ((congrArg (fun m_ => mc m_ 1 _) (ff_n (by decide))).trans ((congrArg (fun m_ => mc m_ 1 _) (congrArg (fun m_ => mset m_ 0 13 _) (ff_n (by decide)))).trans ((congrArg (fun m_ => mc m_ 1 _) (congrArg (fun m_ => mset m_ 0 13 _) (congrArg (fun m_ => mset m_ 0 12 _) (ff_n (by decide))))).trans ((congrArg (fun m_ => mc m_ 1 _) (congrArg (fun m_ => mset m_ 0 13 _) (congrArg (fun m_ => mset m_ 0 12 _) (congrArg (fun m_ => mset m_ 0 10 _) (ff_n (by decide)))))).trans ((congrArg (fun m_ => mc m_ 1 _) (congrArg (fun m_ => mset m_ 0 13 _) (congrArg (fun m_ => mset m_ 0 12 _) (congrArg (fun m_ => mset m_ 0 10 _) (congrArg (fun m_ => mset m_ 0 9 _) (ff_n (by decide))))))).trans ((congrArg (fun m_ => mc m_ 1 _) (congrArg (fun m_ => mset m_ 0 13 _) (congrArg (fun m_ => mset m_ 0 12 _) (congrArg (fun m_ => mset m_ 0 10 _) (congrArg (fun m_ => mset m_ 0 9 _) (congrArg (fun m_ => mset m_ 0 8 _) (ff_n (by decide)))))))).trans ((congrArg (fun m_ => mc m_ 1 _) (congrArg (fun m_ => mset m_ 0 13 _) (congrArg (fun m_ => mset m_ 0 12 _) (congrArg (fun m_ => mset m_ 0 10 _) (congrArg (fun m_ => mset m_ 0 9 _) (congrArg (fun m_ => mset m_ 0 8 _) (congrArg (fun m_ => mset m_ 0 7 _) (ff_n (by decide))))))))).trans ((congrArg (fun m_ => mc m_ 1 _) (congrArg (fun m_ => mset m_ 0 13 _) (congrArg (fun m_ => mset m_ 0 12 _) (congrArg (fun m_ => mset m_ 0 10 _) (congrArg (fun m_ => mset m_ 0 9 _) (congrArg (fun m_ => mset m_ 0 8 _) (congrArg (fun m_ => mset m_ 0 7 _) (congrArg (fun m_ => mset m_ 0 6 _) (ff_n (by decide)))))))))).trans (congrArg (fun m_ => mc m_ 1 _) (congrArg (fun m_ => mset m_ 0 13 _) (congrArg (fun m_ => mset m_ 0 12 _) (congrArg (fun m_ => mset m_ 0 10 _) (congrArg (fun m_ => mset m_ 0 9 _) (congrArg (fun m_ => mset m_ 0 8 _) (congrArg (fun m_ => mset m_ 0 7 _) (congrArg (fun m_ => mset m_ 0 6 _) (congrArg (fun m_ => mset m_ 0 5 _) ff_s))))))))))))))))))) ?_
      refine x_ifeqB O 46 dX6_law_41 (by decide) (fun c => absurd rfl c) (fun _ => ?_)
      refine x_iconst O (nI 0) dX6_law_44 (by decide) ?_
      exact x_iretQ O hQ rfl dX6_law_45 (fun h m => by rw [hr3]; exact ⟨hc1, fun _ => ⟨rfl, _, _, _, _, m⟩, fun q => absurd c29 q⟩)
  · refine x_cV O 1 (con_noR (c_m_readsL (μ := μ) tp h5 htp b0 h8) hr3) MS.obj uc6 (lw_V q1830 q1832 qs36 q111 q1833) rfl hd_X6_reads rfl (by rw [RF]; rfl) (by rw [RL]; rfl) ⟨Nat.zero_le _, Nat.zero_le _⟩ rfl rfl dX6_law_3 ?_
    refine x_top (v' := b2i false) rfl ?_
    refine x_exN (fun p1 d1 s1 W1 hW1 => ?_)
    refine x_weak (Ω' := MS G adr h0 ((mc (mset (mset (mset (mset (mset (mset (mset (mset (mset μ 0 0 (nI 0)) 0 5 (nI 0)) 0 6 (nI p1)) 0 7 (nI tp)) 0 8 (nI b1)) 0 9 (nI d1)) 0 10 (nI b1)) 0 12 (nI s1)) 0 13 (b2i false)) 1 W1))) (fun _ m => m) ?_
    refine x_ifneB O 13 dX6_law_6 (by decide) (fun c => absurd c (by decide)) (fun _ => ?_)
    refine x_iconst O (nI 1) dX6_law_9 (by decide) ?_
    refine x_goto O 14 dX6_law_10 (by decide) ?_
    refine x_iconst O (nI 1) dX6_law_14 (by decide) ?_
    refine x_eqS (st' := [.int (nI 1), .int (b2i true), .ref (adr 0)]) (by rw [show b2i true = nI 1 by decide] <;> rfl) ?_
    refine x_cV O 2 (c_m_throwsIf_t (μ := (mc (mset (mset (mset (mset (mset (mset (mset (mset (mset μ 0 0 (nI 0)) 0 5 (nI 0)) 0 6 (nI p1)) 0 7 (nI tp)) 0 8 (nI b1)) 0 9 (nI d1)) 0 10 (nI b1)) 0 12 (nI s1)) 0 13 (b2i false)) 1 W1)) 1) MS.obj uc6 (lw_V q1774 q1776 qs34 q111 q1777) rfl hd_X6_throwsIf rfl (by rw [RF]; rfl) (by rw [RL]; rfl) ⟨Nat.zero_le _, Nat.zero_le _⟩ rfl rfl dX6_law_15 ?_
    refine x_top (v' := b2i true) rfl ?_
    refine x_weak (Ω' := MS G adr h0 (mc (mset (mset (mset (mset (mset (mset (mset (mset (mset μ 0 0 (nI 1)) 0 5 (nI 0)) 0 6 (nI p1)) 0 7 (nI tp)) 0 8 (nI b1)) 0 9 (nI d1)) 0 10 (nI b1)) 0 12 (nI s1)) 0 13 (b2i false)) 1 W1)) (fun _ m => m.eq ((wc_n (by decide)).trans ((congrArg (fun m_ => mc m_ 1 _) (ff_n (by decide))).trans ((congrArg (fun m_ => mc m_ 1 _) (congrArg (fun m_ => mset m_ 0 13 _) (ff_n (by decide)))).trans ((congrArg (fun m_ => mc m_ 1 _) (congrArg (fun m_ => mset m_ 0 13 _) (congrArg (fun m_ => mset m_ 0 12 _) (ff_n (by decide))))).trans ((congrArg (fun m_ => mc m_ 1 _) (congrArg (fun m_ => mset m_ 0 13 _) (congrArg (fun m_ => mset m_ 0 12 _) (congrArg (fun m_ => mset m_ 0 10 _) (ff_n (by decide)))))).trans ((congrArg (fun m_ => mc m_ 1 _) (congrArg (fun m_ => mset m_ 0 13 _) (congrArg (fun m_ => mset m_ 0 12 _) (congrArg (fun m_ => mset m_ 0 10 _) (congrArg (fun m_ => mset m_ 0 9 _) (ff_n (by decide))))))).trans ((congrArg (fun m_ => mc m_ 1 _) (congrArg (fun m_ => mset m_ 0 13 _) (congrArg (fun m_ => mset m_ 0 12 _) (congrArg (fun m_ => mset m_ 0 10 _) (congrArg (fun m_ => mset m_ 0 9 _) (congrArg (fun m_ => mset m_ 0 8 _) (ff_n (by decide)))))))).trans ((congrArg (fun m_ => mc m_ 1 _) (congrArg (fun m_ => mset m_ 0 13 _) (congrArg (fun m_ => mset m_ 0 12 _) (congrArg (fun m_ => mset m_ 0 10 _) (congrArg (fun m_ => mset m_ 0 9 _) (congrArg (fun m_ => mset m_ 0 8 _) (congrArg (fun m_ => mset m_ 0 7 _) (ff_n (by decide))))))))).trans ((congrArg (fun m_ => mc m_ 1 _) (congrArg (fun m_ => mset m_ 0 13 _) (congrArg (fun m_ => mset m_ 0 12 _) (congrArg (fun m_ => mset m_ 0 10 _) (congrArg (fun m_ => mset m_ 0 9 _) (congrArg (fun m_ => mset m_ 0 8 _) (congrArg (fun m_ => mset m_ 0 7 _) (congrArg (fun m_ => mset m_ 0 6 _) (ff_n (by decide)))))))))).trans (congrArg (fun m_ => mc m_ 1 _) (congrArg (fun m_ => mset m_ 0 13 _) (congrArg (fun m_ => mset m_ 0 12 _) (congrArg (fun m_ => mset m_ 0 10 _) (congrArg (fun m_ => mset m_ 0 9 _) (congrArg (fun m_ => mset m_ 0 8 _) (congrArg (fun m_ => mset m_ 0 7 _) (congrArg (fun m_ => mset m_ 0 6 _) (congrArg (fun m_ => mset m_ 0 5 _) ff_s))))))))))))))))))) ?_
    refine x_ifneB O 44 dX6_law_18 (by decide) (fun _ => ?_) (fun c => absurd rfl c)
    refine x_iconst O (nI 0) dX6_law_44 (by decide) ?_
    exact x_iretQ O hQ rfl dX6_law_45 (fun h m => by rw [hr3]; exact ⟨W1, hW1, rfl, _, _, _, _, m⟩)

set_option maxHeartbeats 1000000 in
set_option maxRecDepth 100000 in
theorem c_m_story {G : UG} {adr : Nat → Nat} {h0 : Hp} {μ : Mu} (hI : MI (μ 1)) (tp : Nat) (h5 : μ 0 5 = nI tp) (htp : tp ≤ 400) (b0 : Nat) (h8 : μ 0 8 = nI b0) (w : Int32) : Con G yX6_story cX6_story 3 (some .int) 37 1225 0 0 [.ref (adr 0), .int w] (MS G adr h0 μ) (PostStory G adr h0 μ (μ 1) tp w (pStory (μ 3) tp)) nX := by
  refine con_of2 (plainFor_of_name (by decide)) rfl ?_
  intro F R Q RF RL RC RS hQ O hnh hnm
  have hb6 : tn (μ 1 6) ≤ 5 := (hI 6 (by decide)).2
  refine x_eq (L' := [(0, .ref (adr 0)), (1, .int w)]) ?_ rfl rfl rfl
  refine x_aload_n O 0 dX6_story_0 rfl rfl ?_
  refine x_aload_n O 0 dX6_story_1 rfl rfl ?_
  refine x_iconst O (nI 1) dX6_story_2 (by decide) ?_
  refine x_eqS (st' := [.int (b2i true), .ref (adr 0), .ref (adr 0)]) (by rw [show b2i true = nI 1 by decide] <;> rfl) ?_
  rcases hr3 : pStory (μ 3) tp with ls1 | b1
  · refine x_cV O 1 (con_okR (c_m_readsS (μ := μ) tp h5 htp b0 h8) hr3) MS.obj uc6 (lw_V q1830 q1832 qs36 q111 q1833) rfl hd_X6_reads rfl (by rw [RF]; rfl) (by rw [RL]; rfl) ⟨Nat.zero_le _, Nat.zero_le _⟩ rfl rfl dX6_story_3 ?_
    refine x_top (v' := b2i true) rfl ?_
    refine x_exR (fun hc1 p1 b1 d1 s1 => ?_)
    refine x_weak (Ω' := MS G adr h0 ((mc (mset (mset (mset (mset (mset (mset (mset (mset (mset μ 0 0 (nI 0)) 0 5 (nI 0)) 0 6 (nI p1)) 0 7 (nI tp)) 0 8 (nI b1)) 0 9 (nI d1)) 0 10 ((-1))) 0 12 (nI s1)) 0 13 (b2i true)) 1 (storyW (μ 1) ls1)))) (fun _ m => m) ?_
    refine x_ifeqB O 19 dX6_story_6 (by decide) (fun c => absurd rfl c) (fun _ => ?_)
    refine x_iload_n O 1 dX6_story_9 rfl rfl ?_
    refine x_iconst O (nI 1) dX6_story_10 (by decide) ?_
    refine x_bipush O (nI 99) dX6_story_11 (by decide) ?_
    refine x_cS O 3 (c_m_in w (nI 1) (nI 99)) (lw_S q1771 q1772 q111 q1773) hd_X6_in rfl (by rw [RF]; rfl) (by rw [RL]; rfl) ⟨Nat.zero_le _, Nat.zero_le _⟩ rfl rfl dX6_story_13 ?_
    refine x_top (v' := b2i (m_in w (nI 1) (nI 99))) rfl ?_
    refine x_ifneB O 23 dX6_story_16 (by decide) (fun c16 => ?_) (fun c16 => ?_)
    · refine x_iconst O (nI 0) dX6_story_23 (by decide) ?_
      refine x_iconst O (nI 1) dX6_story_24 (by decide) ?_
      refine x_eqS (st' := [.int (nI 1), .int (b2i false), .ref (adr 0)]) (by rw [show b2i false = nI 0 by decide] <;> rfl) ?_
      refine x_cV O 2 (c_m_throwsIf_f (μ := (mc (mset (mset (mset (mset (mset (mset (mset (mset (mset μ 0 0 (nI 0)) 0 5 (nI 0)) 0 6 (nI p1)) 0 7 (nI tp)) 0 8 (nI b1)) 0 9 (nI d1)) 0 10 ((-1))) 0 12 (nI s1)) 0 13 (b2i true)) 1 (storyW (μ 1) ls1))) 1) MS.obj uc6 (lw_V q1774 q1776 qs34 q111 q1777) rfl hd_X6_throwsIf rfl (by rw [RF]; rfl) (by rw [RL]; rfl) ⟨Nat.zero_le _, Nat.zero_le _⟩ rfl rfl dX6_story_25 ?_
      refine x_top (v' := b2i false) rfl ?_
      refine x_ifneB O 55 dX6_story_28 (by decide) (fun c => absurd c (by decide)) (fun _ => ?_)
      refine x_aload_n O 0 dX6_story_31 rfl rfl ?_
      refine x_aload_n O 0 dX6_story_32 rfl rfl ?_
      refine x_mget O k_X6_13_6 (mg_1 _ _) dX6_story_33 ?_
      refine x_bipush O (nI 6) dX6_story_36 (by decide) ?_
      refine x_ialdN O MS.c1 (by omega) rfl dX6_story_38 ?_
      refine x_top (v' := (storyW (μ 1) ls1) 6) (congrFun mc_s 6) ?_
      refine x_top (v' := nI (tn (μ 1 6))) ((storyW_low (by decide)).trans (hI 6 (by decide)).1) ?_
      refine x_iconst O (nI 5) dX6_story_39 (by decide) ?_
      refine x_icmpneN O 47 (by omega) (by omega) dX6_story_40 (by decide) (fun c40 => ?_) (fun c40 => ?_)
      · refine x_iconst O (nI 0) dX6_story_47 (by decide) ?_
        refine x_iconst O (nI 2) dX6_story_48 (by decide) ?_
        refine x_eqS (st' := [.int (nI 2), .int (b2i false), .ref (adr 0)]) (by rw [show b2i false = nI 0 by decide] <;> rfl) ?_
        refine x_cV O 2 (c_m_throwsIf_f (μ := (mc (mset (mset (mset (mset (mset (mset (mset (mset (mset μ 0 0 (nI 0)) 0 5 (nI 0)) 0 6 (nI p1)) 0 7 (nI tp)) 0 8 (nI b1)) 0 9 (nI d1)) 0 10 ((-1))) 0 12 (nI s1)) 0 13 (b2i true)) 1 (storyW (μ 1) ls1))) 2) MS.obj uc6 (lw_V q1774 q1776 qs34 q111 q1777) rfl hd_X6_throwsIf rfl (by rw [RF]; rfl) (by rw [RL]; rfl) ⟨Nat.zero_le _, Nat.zero_le _⟩ rfl rfl dX6_story_49 ?_
        refine x_top (v' := b2i false) rfl ?_
        refine x_ifeqB O 57 dX6_story_52 (by decide) (fun _ => ?_) (fun c => absurd c (by decide))
        refine x_aload_n O 0 dX6_story_57 rfl rfl ?_
        refine x_mget O k_X6_13_6 (mg_1 _ _) dX6_story_58 ?_
        refine x_bipush O (nI 6) dX6_story_61 (by decide) ?_
        refine x_ialdN O MS.c1 (by omega) rfl dX6_story_63 ?_
        refine x_top (v' := (storyW (μ 1) ls1) 6) (congrFun mc_s 6) ?_
        refine x_top (v' := nI (tn (μ 1 6))) ((storyW_low (by decide)).trans (hI 6 (by decide)).1) ?_
        refine x_istore_n O [(2, .int (nI (tn (μ 1 6)))), (0, .ref (adr 0)), (1, .int w)] dX6_story_64 rfl rfl rfl ?_
        refine x_aload_n O 1 dX6_story_65 rfl rfl ?_
        refine x_iconst O (nI 4) dX6_story_66 (by decide) ?_
        refine x_iload_n O 0 dX6_story_67 rfl rfl ?_
        refine x_iaddN O dX6_story_68 ?_
        refine x_cV O 1 (c_n_keeps (μ := (mc (mset (mset (mset (mset (mset (mset (mset (mset (mset μ 0 0 (nI 0)) 0 5 (nI 0)) 0 6 (nI p1)) 0 7 (nI tp)) 0 8 (nI b1)) 0 9 (nI d1)) 0 10 ((-1))) 0 12 (nI s1)) 0 13 (b2i true)) 1 (storyW (μ 1) ls1))) (4 + tn (μ 1 6)) (by omega)) MS.obj uc6 (lw_V q1952 q1954 qs58 q111 q1955) rfl hd_X6_keeps rfl (by rw [RF]; rfl) (by rw [RL]; rfl) ⟨Nat.zero_le _, Nat.zero_le _⟩ rfl rfl dX6_story_69 ?_
        refine x_weak (Ω' := MS G adr h0 (mc (mset (mset (mset (mset (mset (mset (mset (mset (mset μ 0 0 (nI 0)) 0 5 (nI 0)) 0 6 (nI p1)) 0 7 (nI tp)) 0 8 (nI b1)) 0 9 (nI d1)) 0 10 ((-1))) 0 12 (nI s1)) 0 13 (b2i true)) 1 (n_keeps_c1 (storyW (μ 1) ls1) (4 + tn (μ 1 6))))) (fun _ m => by rw [show (mc (mset (mset (mset (mset (mset (mset (mset (mset (mset μ 0 0 (nI 0)) 0 5 (nI 0)) 0 6 (nI p1)) 0 7 (nI tp)) 0 8 (nI b1)) 0 9 (nI d1)) 0 10 ((-1))) 0 12 (nI s1)) 0 13 (b2i true)) 1 (storyW (μ 1) ls1)) 1 = storyW (μ 1) ls1 from mc_s] at m; exact m.eq cc_s) ?_
        refine x_aload_n O 1 dX6_story_72 rfl rfl ?_
        refine x_mget O k_X6_13_6 (mg_1 _ _) dX6_story_73 ?_
        refine x_sipush O (nI 1161) dX6_story_76 (by decide) ?_
        refine x_iload_n O 0 dX6_story_79 rfl rfl ?_
        refine x_iaddN O dX6_story_80 ?_
        refine x_iload_n O 2 dX6_story_81 rfl rfl ?_
        refine x_mastQ O 0 MS.c1 rfl rfl rfl (by omega) rfl dX6_story_82 (μ' := (mc (mset (mset (mset (mset (mset (mset (mset (mset (mset μ 0 0 (nI 0)) 0 5 (nI 0)) 0 6 (nI p1)) 0 7 (nI tp)) 0 8 (nI b1)) 0 9 (nI d1)) 0 10 ((-1))) 0 12 (nI s1)) 0 13 (b2i true)) 1 (ups (n_keeps_c1 (storyW (μ 1) ls1) (4 + tn (μ 1 6))) (1161 + tn (μ 1 6)) w))) wc_s ?_
        refine x_aload_n O 1 dX6_story_83 rfl rfl ?_
        refine x_mget O k_X6_13_6 (mg_1 _ _) dX6_story_84 ?_
        refine x_bipush O (nI 6) dX6_story_87 (by decide) ?_
        refine x_dup2 O dX6_story_89 rfl rfl ?_
        refine x_ialdN O MS.c1 (by omega) rfl dX6_story_90 ?_
        refine x_top (v' := (ups (n_keeps_c1 (storyW (μ 1) ls1) (4 + tn (μ 1 6))) (1161 + tn (μ 1 6)) w) 6) (congrFun mc_s 6) ?_
        refine x_top (v' := nI (tn (μ 1 6))) ((ups_n (by omega)).trans ((keeps_low (by decide)).trans ((storyW_low (by decide)).trans (hI 6 (by decide)).1))) ?_
        refine x_iconst O (nI 1) dX6_story_91 (by decide) ?_
        refine x_iaddN O dX6_story_92 ?_
        refine x_mastQ O 0 MS.c1 rfl rfl rfl (by omega) rfl dX6_story_93 (μ' := (mc (mset (mset (mset (mset (mset (mset (mset (mset (mset μ 0 0 (nI 0)) 0 5 (nI 0)) 0 6 (nI p1)) 0 7 (nI tp)) 0 8 (nI b1)) 0 9 (nI d1)) 0 10 ((-1))) 0 12 (nI s1)) 0 13 (b2i true)) 1 (ups (ups (n_keeps_c1 (storyW (μ 1) ls1) (4 + tn (μ 1 6))) (1161 + tn (μ 1 6)) w) 6 (nI (tn (μ 1 6) + 1))))) wc_s ?_
        refine x_iload_n O 0 dX6_story_94 rfl rfl ?_
        exact x_iretQ O hQ rfl dX6_story_95 (fun h m => by rw [hr3]; exact ⟨fun q => absurd c16 q, fun _ q => absurd q c40, fun _ _ => ⟨rfl, _, _, _, _, m⟩⟩)
      · refine x_iconst O (nI 1) dX6_story_43 (by decide) ?_
        refine x_goto O 48 dX6_story_44 (by decide) ?_
        refine x_iconst O (nI 2) dX6_story_48 (by decide) ?_
        refine x_eqS (st' := [.int (nI 2), .int (b2i true), .ref (adr 0)]) (by rw [show b2i true = nI 1 by decide] <;> rfl) ?_
        refine x_cV O 2 (c_m_throwsIf_t (μ := (mc (mset (mset (mset (mset (mset (mset (mset (mset (mset μ 0 0 (nI 0)) 0 5 (nI 0)) 0 6 (nI p1)) 0 7 (nI tp)) 0 8 (nI b1)) 0 9 (nI d1)) 0 10 ((-1))) 0 12 (nI s1)) 0 13 (b2i true)) 1 (storyW (μ 1) ls1))) 2) MS.obj uc6 (lw_V q1774 q1776 qs34 q111 q1777) rfl hd_X6_throwsIf rfl (by rw [RF]; rfl) (by rw [RL]; rfl) ⟨Nat.zero_le _, Nat.zero_le _⟩ rfl rfl dX6_story_49 ?_
        refine x_top (v' := b2i true) rfl ?_
        refine x_weak (Ω' := MS G adr h0 (mc (mset (mset (mset (mset (mset (mset (mset (mset (mset μ 0 0 (nI 2)) 0 5 (nI 0)) 0 6 (nI p1)) 0 7 (nI tp)) 0 8 (nI b1)) 0 9 (nI d1)) 0 10 ((-1))) 0 12 (nI s1)) 0 13 (b2i true)) 1 (storyW (μ 1) ls1))) (fun _ m => m.eq ((wc_n (by decide)).trans ((congrArg (fun m_ => mc m_ 1 _) (ff_n (by decide))).trans ((congrArg (fun m_ => mc m_ 1 _) (congrArg (fun m_ => mset m_ 0 13 _) (ff_n (by decide)))).trans ((congrArg (fun m_ => mc m_ 1 _) (congrArg (fun m_ => mset m_ 0 13 _) (congrArg (fun m_ => mset m_ 0 12 _) (ff_n (by decide))))).trans ((congrArg (fun m_ => mc m_ 1 _) (congrArg (fun m_ => mset m_ 0 13 _) (congrArg (fun m_ => mset m_ 0 12 _) (congrArg (fun m_ => mset m_ 0 10 _) (ff_n (by decide)))))).trans ((congrArg (fun m_ => mc m_ 1 _) (congrArg (fun m_ => mset m_ 0 13 _) (congrArg (fun m_ => mset m_ 0 12 _) (congrArg (fun m_ => mset m_ 0 10 _) (congrArg (fun m_ => mset m_ 0 9 _) (ff_n (by decide))))))).trans ((congrArg (fun m_ => mc m_ 1 _) (congrArg (fun m_ => mset m_ 0 13 _) (congrArg (fun m_ => mset m_ 0 12 _) (congrArg (fun m_ => mset m_ 0 10 _) (congrArg (fun m_ => mset m_ 0 9 _) (congrArg (fun m_ => mset m_ 0 8 _) (ff_n (by decide)))))))).trans ((congrArg (fun m_ => mc m_ 1 _) (congrArg (fun m_ => mset m_ 0 13 _) (congrArg (fun m_ => mset m_ 0 12 _) (congrArg (fun m_ => mset m_ 0 10 _) (congrArg (fun m_ => mset m_ 0 9 _) (congrArg (fun m_ => mset m_ 0 8 _) (congrArg (fun m_ => mset m_ 0 7 _) (ff_n (by decide))))))))).trans ((congrArg (fun m_ => mc m_ 1 _) (congrArg (fun m_ => mset m_ 0 13 _) (congrArg (fun m_ => mset m_ 0 12 _) (congrArg (fun m_ => mset m_ 0 10 _) (congrArg (fun m_ => mset m_ 0 9 _) (congrArg (fun m_ => mset m_ 0 8 _) (congrArg (fun m_ => mset m_ 0 7 _) (congrArg (fun m_ => mset m_ 0 6 _) (ff_n (by decide)))))))))).trans (congrArg (fun m_ => mc m_ 1 _) (congrArg (fun m_ => mset m_ 0 13 _) (congrArg (fun m_ => mset m_ 0 12 _) (congrArg (fun m_ => mset m_ 0 10 _) (congrArg (fun m_ => mset m_ 0 9 _) (congrArg (fun m_ => mset m_ 0 8 _) (congrArg (fun m_ => mset m_ 0 7 _) (congrArg (fun m_ => mset m_ 0 6 _) (congrArg (fun m_ => mset m_ 0 5 _) ff_s))))))))))))))))))) ?_
        refine x_ifeqB O 57 dX6_story_52 (by decide) (fun c => absurd rfl c) (fun _ => ?_)
        refine x_sub [0] (L' := [(0, .ref (adr 0))]) rfl ?_
        refine x_iconst O (nI 0) dX6_story_55 (by decide) ?_
        exact x_iretQ O hQ rfl dX6_story_56 (fun h m => by rw [hr3]; exact ⟨fun q => absurd c16 q, fun _ _ => ⟨rfl, _, _, _, _, m⟩, fun _ q => absurd c40 q⟩)
    · refine x_iconst O (nI 1) dX6_story_19 (by decide) ?_
      refine x_goto O 24 dX6_story_20 (by decide) ?_
      refine x_iconst O (nI 1) dX6_story_24 (by decide) ?_
      refine x_eqS (st' := [.int (nI 1), .int (b2i true), .ref (adr 0)]) (by rw [show b2i true = nI 1 by decide] <;> rfl) ?_
      refine x_cV O 2 (c_m_throwsIf_t (μ := (mc (mset (mset (mset (mset (mset (mset (mset (mset (mset μ 0 0 (nI 0)) 0 5 (nI 0)) 0 6 (nI p1)) 0 7 (nI tp)) 0 8 (nI b1)) 0 9 (nI d1)) 0 10 ((-1))) 0 12 (nI s1)) 0 13 (b2i true)) 1 (storyW (μ 1) ls1))) 1) MS.obj uc6 (lw_V q1774 q1776 qs34 q111 q1777) rfl hd_X6_throwsIf rfl (by rw [RF]; rfl) (by rw [RL]; rfl) ⟨Nat.zero_le _, Nat.zero_le _⟩ rfl rfl dX6_story_25 ?_
      refine x_top (v' := b2i true) rfl ?_
      refine x_weak (Ω' := MS G adr h0 (mc (mset (mset (mset (mset (mset (mset (mset (mset (mset μ 0 0 (nI 1)) 0 5 (nI 0)) 0 6 (nI p1)) 0 7 (nI tp)) 0 8 (nI b1)) 0 9 (nI d1)) 0 10 ((-1))) 0 12 (nI s1)) 0 13 (b2i true)) 1 (storyW (μ 1) ls1))) (fun _ m => m.eq ((wc_n (by decide)).trans ((congrArg (fun m_ => mc m_ 1 _) (ff_n (by decide))).trans ((congrArg (fun m_ => mc m_ 1 _) (congrArg (fun m_ => mset m_ 0 13 _) (ff_n (by decide)))).trans ((congrArg (fun m_ => mc m_ 1 _) (congrArg (fun m_ => mset m_ 0 13 _) (congrArg (fun m_ => mset m_ 0 12 _) (ff_n (by decide))))).trans ((congrArg (fun m_ => mc m_ 1 _) (congrArg (fun m_ => mset m_ 0 13 _) (congrArg (fun m_ => mset m_ 0 12 _) (congrArg (fun m_ => mset m_ 0 10 _) (ff_n (by decide)))))).trans ((congrArg (fun m_ => mc m_ 1 _) (congrArg (fun m_ => mset m_ 0 13 _) (congrArg (fun m_ => mset m_ 0 12 _) (congrArg (fun m_ => mset m_ 0 10 _) (congrArg (fun m_ => mset m_ 0 9 _) (ff_n (by decide))))))).trans ((congrArg (fun m_ => mc m_ 1 _) (congrArg (fun m_ => mset m_ 0 13 _) (congrArg (fun m_ => mset m_ 0 12 _) (congrArg (fun m_ => mset m_ 0 10 _) (congrArg (fun m_ => mset m_ 0 9 _) (congrArg (fun m_ => mset m_ 0 8 _) (ff_n (by decide)))))))).trans ((congrArg (fun m_ => mc m_ 1 _) (congrArg (fun m_ => mset m_ 0 13 _) (congrArg (fun m_ => mset m_ 0 12 _) (congrArg (fun m_ => mset m_ 0 10 _) (congrArg (fun m_ => mset m_ 0 9 _) (congrArg (fun m_ => mset m_ 0 8 _) (congrArg (fun m_ => mset m_ 0 7 _) (ff_n (by decide))))))))).trans ((congrArg (fun m_ => mc m_ 1 _) (congrArg (fun m_ => mset m_ 0 13 _) (congrArg (fun m_ => mset m_ 0 12 _) (congrArg (fun m_ => mset m_ 0 10 _) (congrArg (fun m_ => mset m_ 0 9 _) (congrArg (fun m_ => mset m_ 0 8 _) (congrArg (fun m_ => mset m_ 0 7 _) (congrArg (fun m_ => mset m_ 0 6 _) (ff_n (by decide)))))))))).trans (congrArg (fun m_ => mc m_ 1 _) (congrArg (fun m_ => mset m_ 0 13 _) (congrArg (fun m_ => mset m_ 0 12 _) (congrArg (fun m_ => mset m_ 0 10 _) (congrArg (fun m_ => mset m_ 0 9 _) (congrArg (fun m_ => mset m_ 0 8 _) (congrArg (fun m_ => mset m_ 0 7 _) (congrArg (fun m_ => mset m_ 0 6 _) (congrArg (fun m_ => mset m_ 0 5 _) ff_s))))))))))))))))))) ?_
      refine x_ifneB O 55 dX6_story_28 (by decide) (fun _ => ?_) (fun c => absurd rfl c)
      refine x_sub [0] (L' := [(0, .ref (adr 0))]) rfl ?_
      refine x_iconst O (nI 0) dX6_story_55 (by decide) ?_
      exact x_iretQ O hQ rfl dX6_story_56 (fun h m => by rw [hr3]; exact ⟨fun _ => ⟨rfl, _, _, _, _, m⟩, fun q => absurd q c16, fun q => absurd q c16⟩)
  · refine x_cV O 1 (con_noR (c_m_readsS (μ := μ) tp h5 htp b0 h8) hr3) MS.obj uc6 (lw_V q1830 q1832 qs36 q111 q1833) rfl hd_X6_reads rfl (by rw [RF]; rfl) (by rw [RL]; rfl) ⟨Nat.zero_le _, Nat.zero_le _⟩ rfl rfl dX6_story_3 ?_
    refine x_top (v' := b2i false) rfl ?_
    refine x_exN (fun p1 d1 s1 W1 hW1 => ?_)
    refine x_weak (Ω' := MS G adr h0 ((mc (mset (mset (mset (mset (mset (mset (mset (mset (mset μ 0 0 (nI 0)) 0 5 (nI 0)) 0 6 (nI p1)) 0 7 (nI tp)) 0 8 (nI b1)) 0 9 (nI d1)) 0 10 (nI b1)) 0 12 (nI s1)) 0 13 (b2i true)) 1 W1))) (fun _ m => m) ?_
    refine x_ifeqB O 19 dX6_story_6 (by decide) (fun _ => ?_) (fun c => absurd c (by decide))
    refine x_iconst O (nI 1) dX6_story_19 (by decide) ?_
    refine x_goto O 24 dX6_story_20 (by decide) ?_
    refine x_iconst O (nI 1) dX6_story_24 (by decide) ?_
    refine x_eqS (st' := [.int (nI 1), .int (b2i true), .ref (adr 0)]) (by rw [show b2i true = nI 1 by decide] <;> rfl) ?_
    refine x_cV O 2 (c_m_throwsIf_t (μ := (mc (mset (mset (mset (mset (mset (mset (mset (mset (mset μ 0 0 (nI 0)) 0 5 (nI 0)) 0 6 (nI p1)) 0 7 (nI tp)) 0 8 (nI b1)) 0 9 (nI d1)) 0 10 (nI b1)) 0 12 (nI s1)) 0 13 (b2i true)) 1 W1)) 1) MS.obj uc6 (lw_V q1774 q1776 qs34 q111 q1777) rfl hd_X6_throwsIf rfl (by rw [RF]; rfl) (by rw [RL]; rfl) ⟨Nat.zero_le _, Nat.zero_le _⟩ rfl rfl dX6_story_25 ?_
    refine x_top (v' := b2i true) rfl ?_
    refine x_weak (Ω' := MS G adr h0 (mc (mset (mset (mset (mset (mset (mset (mset (mset (mset μ 0 0 (nI 1)) 0 5 (nI 0)) 0 6 (nI p1)) 0 7 (nI tp)) 0 8 (nI b1)) 0 9 (nI d1)) 0 10 (nI b1)) 0 12 (nI s1)) 0 13 (b2i true)) 1 W1)) (fun _ m => m.eq ((wc_n (by decide)).trans ((congrArg (fun m_ => mc m_ 1 _) (ff_n (by decide))).trans ((congrArg (fun m_ => mc m_ 1 _) (congrArg (fun m_ => mset m_ 0 13 _) (ff_n (by decide)))).trans ((congrArg (fun m_ => mc m_ 1 _) (congrArg (fun m_ => mset m_ 0 13 _) (congrArg (fun m_ => mset m_ 0 12 _) (ff_n (by decide))))).trans ((congrArg (fun m_ => mc m_ 1 _) (congrArg (fun m_ => mset m_ 0 13 _) (congrArg (fun m_ => mset m_ 0 12 _) (congrArg (fun m_ => mset m_ 0 10 _) (ff_n (by decide)))))).trans ((congrArg (fun m_ => mc m_ 1 _) (congrArg (fun m_ => mset m_ 0 13 _) (congrArg (fun m_ => mset m_ 0 12 _) (congrArg (fun m_ => mset m_ 0 10 _) (congrArg (fun m_ => mset m_ 0 9 _) (ff_n (by decide))))))).trans ((congrArg (fun m_ => mc m_ 1 _) (congrArg (fun m_ => mset m_ 0 13 _) (congrArg (fun m_ => mset m_ 0 12 _) (congrArg (fun m_ => mset m_ 0 10 _) (congrArg (fun m_ => mset m_ 0 9 _) (congrArg (fun m_ => mset m_ 0 8 _) (ff_n (by decide)))))))).trans ((congrArg (fun m_ => mc m_ 1 _) (congrArg (fun m_ => mset m_ 0 13 _) (congrArg (fun m_ => mset m_ 0 12 _) (congrArg (fun m_ => mset m_ 0 10 _) (congrArg (fun m_ => mset m_ 0 9 _) (congrArg (fun m_ => mset m_ 0 8 _) (congrArg (fun m_ => mset m_ 0 7 _) (ff_n (by decide))))))))).trans ((congrArg (fun m_ => mc m_ 1 _) (congrArg (fun m_ => mset m_ 0 13 _) (congrArg (fun m_ => mset m_ 0 12 _) (congrArg (fun m_ => mset m_ 0 10 _) (congrArg (fun m_ => mset m_ 0 9 _) (congrArg (fun m_ => mset m_ 0 8 _) (congrArg (fun m_ => mset m_ 0 7 _) (congrArg (fun m_ => mset m_ 0 6 _) (ff_n (by decide)))))))))).trans (congrArg (fun m_ => mc m_ 1 _) (congrArg (fun m_ => mset m_ 0 13 _) (congrArg (fun m_ => mset m_ 0 12 _) (congrArg (fun m_ => mset m_ 0 10 _) (congrArg (fun m_ => mset m_ 0 9 _) (congrArg (fun m_ => mset m_ 0 8 _) (congrArg (fun m_ => mset m_ 0 7 _) (congrArg (fun m_ => mset m_ 0 6 _) (congrArg (fun m_ => mset m_ 0 5 _) ff_s))))))))))))))))))) ?_
    refine x_ifneB O 55 dX6_story_28 (by decide) (fun _ => ?_) (fun c => absurd rfl c)
    refine x_sub [0] (L' := [(0, .ref (adr 0))]) rfl ?_
    refine x_iconst O (nI 0) dX6_story_55 (by decide) ?_
    exact x_iretQ O hQ rfl dX6_story_56 (fun h m => by rw [hr3]; exact ⟨W1, hW1, rfl, _, _, _, _, m⟩)
