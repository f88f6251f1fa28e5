abbrev rdm (μ : Mu) (l : Nat) (st : Bool) (fa : Int32) (p b d s : Nat) (W : Nat → Int32) : Mu := (mc (mset (mset (mset (mset (mset (mset (mset (mset (mset μ 0 0 (nI 0)) 0 5 (nI 0)) 0 6 (nI p)) 0 7 (nI l)) 0 8 (nI b)) 0 9 (nI d)) 0 10 fa) 0 12 (nI s)) 0 13 (b2i st)) 1 W)
def PostR {α : Type} (G : UG) (adr : Nat → Nat) (h0 : Hp) (μ : Mu) (W : Nat → Int32) (l : Nat) (st : Bool) (Fn : α → Nat → Int32) (C : α → Nat) (r : α ⊕ Nat) (v : Option Value) (h' : Hp) : Prop := match r with
  | .inl a => v = some (.int (b2i true)) ∧ C a ≤ 10 ∧ ∃ p b d s : Nat, MS G adr h0 (rdm μ l st (-1) p b d s (ups (Fn a) (m_textAt 9) (nI (C a)))) h'
  | .inr bb => v = some (.int (b2i false)) ∧ ∃ (p d s : Nat) (W' : Nat → Int32), (∀ j, j < 8645 → W' j = W j) ∧ MS G adr h0 (rdm μ l st (nI bb) p bb d s W') h'
section PRs
variable {α : Type} {G : UG} {adr : Nat → Nat} {h0 : Hp} {μ : Mu} {W : Nat → Int32} {l : Nat} {st : Bool} {Fn : α → Nat → Int32} {C : α → Nat} {r : α ⊕ Nat}
theorem post_okR {h : Hp} {a : α} {p b d s : Nat} (e : r = .inl a) (hc : C a ≤ 10) (m : MS G adr h0 (rdm μ l st (-1) p b d s (ups (Fn a) (m_textAt 9) (nI (C a)))) h) : PostR G adr h0 μ W l st Fn C r (some (.int (b2i true))) h := by subst e; exact ⟨rfl, hc, p, b, d, s, m⟩
theorem post_noR {h : Hp} {bb p d s : Nat} {W' : Nat → Int32} (e : r = .inr bb) (hW : ∀ j, j < 8645 → W' j = W j) (m : MS G adr h0 (rdm μ l st (nI bb) p bb d s W') h) : PostR G adr h0 μ W l st Fn C r (some (.int (b2i false))) h := by subst e; exact ⟨rfl, p, d, s, W', hW, m⟩
theorem con_okA {Ω : Hp → Prop} {y : MethodName} {code : ByteArray} {maxL : Nat} {ret : Option FieldType} {fr lo mc ms : Nat} {av : List Value} {ls : LN} {r : LN ⊕ Nat} (c : Con G y code maxL ret fr lo mc ms av Ω (PostA G adr h0 μ W r) nX) (e : r = .inl ls) : Con G y code maxL ret fr lo mc ms av Ω (fun v h' => v = some (.int (nI ls.length)) ∧ (ls.length ≤ 10 ∧ ∃ p' b' d' : Nat, MS G adr h0 (ps μ p' b' d' (lsN 0 ls) (lsW W 0 0 ls)) h')) nX := by subst e; exact c
theorem con_noA {Ω : Hp → Prop} {y : MethodName} {code : ByteArray} {maxL : Nat} {ret : Option FieldType} {fr lo mc ms : Nat} {av : List Value} {b' : Nat} {r : LN ⊕ Nat} (c : Con G y code maxL ret fr lo mc ms av Ω (PostA G adr h0 μ W r) nX) (e : r = .inr b') : Con G y code maxL ret fr lo mc ms av Ω (fun v h' => v = some (.int (-1)) ∧ ∃ (p' d' s' : Nat) (W' : Nat → Int32), (∀ j, j < 8645 → W' j = W j) ∧ MS G adr h0 (ps μ p' b' d' s' W') h') nX := by subst e; exact c
theorem con_okO {Ω : Hp → Prop} {y : MethodName} {code : ByteArray} {maxL : Nat} {ret : Option FieldType} {fr lo mc ms : Nat} {av : List Value} {ls : List (Int32 × Int32)} {r : List (Int32 × Int32) ⊕ Nat} (c : Con G y code maxL ret fr lo mc ms av Ω (PostO G adr h0 μ W r) nX) (e : r = .inl ls) : Con G y code maxL ret fr lo mc ms av Ω (fun v h' => v = some (.int (nI 1)) ∧ (1 ≤ 10 ∧ ∃ p' b' d' : Nat, MS G adr h0 (ps μ p' b' d' (0 + ls.length) (stW W ls)) h')) nX := by subst e; exact c
theorem con_noO {Ω : Hp → Prop} {y : MethodName} {code : ByteArray} {maxL : Nat} {ret : Option FieldType} {fr lo mc ms : Nat} {av : List Value} {b' : Nat} {r : List (Int32 × Int32) ⊕ Nat} (c : Con G y code maxL ret fr lo mc ms av Ω (PostO G adr h0 μ W r) nX) (e : r = .inr b') : Con G y code maxL ret fr lo mc ms av Ω (fun v h' => v = some (.int (-1)) ∧ ∃ (p' d' s' : Nat) (W' : Nat → Int32), (∀ j, j < 8645 → W' j = W j) ∧ MS G adr h0 (ps μ p' b' d' s' W') h') nX := by subst e; exact c
theorem x_exA {F : UF} {R : Room} {Q : State → Prop} {nL pc : Nat} {L : List (Nat × Value)} {st : List Value} {k n c : Nat} {S : Nat} {W1 : Nat → Int32} (kk : c ≤ 10 → ∀ (p' b' d' : Nat), X G F R Q nL pc L st (MS G adr h0 (ps μ p' b' d' S W1)) k n) : X G F R Q nL pc L st (fun h' => c ≤ 10 ∧ ∃ p' b' d' : Nat, MS G adr h0 (ps μ p' b' d' S W1) h') k n := by
  rintro h H locs ls ⟨hc, p', b', d', m⟩ hR hS hl
  exact kk hc p' b' d' h H locs ls m hR hS hl
end PRs

set_option maxHeartbeats 1000000 in
set_option maxRecDepth 100000 in
theorem c_m_readsL {G : UG} {adr : Nat → Nat} {h0 : Hp} {μ : Mu} (tp : Nat) (h5 : μ 0 5 = nI tp) (htp : tp ≤ 400) (b0 : Nat) (h8 : μ 0 8 = nI b0) : Con G yX6_reads cX6_reads 3 (some .boolean) 36 1203 0 0 [.ref (adr 0), .int (b2i false)] (MS G adr h0 μ) (PostR G adr h0 μ (μ 1) tp false (fun a => lsW (μ 1) 0 0 a) (fun a => a.length) (pLaw (μ 3) tp)) nX := by
  refine con_of2 (plainFor_of_name (by decide)) rfl ?_
  intro F R Q RF RL RC RS hQ O hnh hnm
  refine x_eq (L' := [(0, .ref (adr 0)), (1, .int (b2i false))]) ?_ rfl rfl rfl
  refine x_aload_n O 0 dX6_reads_0 rfl rfl ?_
  refine x_cV O 0 (c_n_uses (μ := μ) tp h5) MS.obj uc6 (lw_V q1834 q1836 qs37 q111 q1837) rfl hd_X6_uses rfl (by rw [RF]; rfl) (by rw [RL]; rfl) ⟨Nat.zero_le _, Nat.zero_le _⟩ rfl rfl dX6_reads_1 ?_
  refine x_weak (Ω' := MS G adr h0 (mset (mset (mset (mset (mset (mset μ 0 0 (nI (n_uses_f0 tp))) 0 5 (nI (n_uses_f5 tp))) 0 6 (nI (n_uses_f6 tp))) 0 7 (nI (n_uses_f7 tp))) 0 9 (nI (n_uses_f9 tp))) 0 12 (nI (n_uses_f12 tp)))) (fun _ m => m.eq rfl) ?_
  refine x_weak (Ω' := MS G adr h0 ((mset (mset (mset (mset (mset (mset μ 0 0 (nI 0)) 0 5 (nI 0)) 0 6 (nI 0)) 0 7 (nI tp)) 0 9 (nI 0)) 0 12 (nI 0)))) (fun _ m => m) ?_
  refine x_aload_n O 0 dX6_reads_4 rfl rfl ?_
  refine x_iload_n O 1 dX6_reads_5 rfl rfl ?_
  refine x_mputBQ O p_X6_151_6 (mp_13 _ _ _) rfl dX6_reads_6 (μ' := (mset (mset (mset (mset (mset (mset (mset μ 0 0 (nI 0)) 0 5 (nI 0)) 0 6 (nI 0)) 0 7 (nI tp)) 0 9 (nI 0)) 0 12 (nI 0)) 0 13 (b2i false))) rfl ?_
  refine x_iload_n O 1 dX6_reads_9 rfl rfl ?_
  refine x_ifeqB O 20 dX6_reads_10 (by decide) (fun _ => ?_) (fun c => absurd c (by decide))
  refine x_sub [0] (L' := [(0, .ref (adr 0))]) rfl ?_
  refine x_aload_n O 0 dX6_reads_20 rfl rfl ?_
  refine x_weak (Ω' := MS G adr h0 (ps ((mset (mset (mset (mset (mset (mset (mset μ 0 0 (nI 0)) 0 5 (nI 0)) 0 6 (nI 0)) 0 7 (nI tp)) 0 9 (nI 0)) 0 12 (nI 0)) 0 13 (b2i false))) 0 b0 0 0 (μ 1))) (fun _ m => m.eq ((mc_id (by rfl)).trans ((mf_id (by rfl)).trans ((mf_id (by rfl)).trans ((mf_id (by exact h8)).trans (mf_id (by rfl)))))).symm) ?_
  rcases hr21 : pLaw (μ 3) tp with ls1 | b1
  · refine x_cV O 0 (con_okA (c_m_readAll (μ := (mset (mset (mset (mset (mset (mset (mset μ 0 0 (nI 0)) 0 5 (nI 0)) 0 6 (nI 0)) 0 7 (nI tp)) 0 9 (nI 0)) 0 12 (nI 0)) 0 13 (b2i false))) tp ((rd_skip (by decide)).trans ((rd_skip (by decide)).trans ((rd_skip (by decide)).trans rd_hit))) htp rd_hit b0 0 (μ 1)) hr21) MS.obj uc6 (lw_V q1938 q1940 qs56 q111 q1941) rfl hd_X6_readAll rfl (by rw [RF]; rfl) (by rw [RL]; rfl) ⟨Nat.zero_le _, Nat.zero_le _⟩ rfl rfl dX6_reads_21 ?_
    refine x_top (v' := nI ls1.length) rfl ?_
    refine x_exA (fun hc1 p1 b1 d1 => ?_)
    refine x_weak (Ω' := MS G adr h0 ((mc (mset (mset (mset (mset (mset (mset (mset (mset μ 0 0 (nI 0)) 0 5 (nI 0)) 0 6 (nI p1)) 0 7 (nI tp)) 0 8 (nI b1)) 0 9 (nI d1)) 0 12 (nI (lsN 0 ls1))) 0 13 (b2i false)) 1 (lsW (μ 1) 0 0 ls1)))) (fun _ m => m.eq ((congrArg (fun m_ => mc m_ 1 _) (congrArg (fun m_ => mset m_ 0 12 _) (congrArg (fun m_ => mset m_ 0 9 _) (congrArg (fun m_ => mset m_ 0 8 _) (ff_n (by decide)))))).trans ((congrArg (fun m_ => mc m_ 1 _) (congrArg (fun m_ => mset m_ 0 12 _) (congrArg (fun m_ => mset m_ 0 9 _) (congrArg (fun m_ => mset m_ 0 8 _) (congrArg (fun m_ => mset m_ 0 13 _) (ff_n (by decide))))))).trans ((congrArg (fun m_ => mc m_ 1 _) (congrArg (fun m_ => mset m_ 0 12 _) (congrArg (fun m_ => mset m_ 0 9 _) (congrArg (fun m_ => mset m_ 0 8 _) (congrArg (fun m_ => mset m_ 0 13 _) (congrArg (fun m_ => mset m_ 0 12 _) (ff_n (by decide)))))))).trans ((congrArg (fun m_ => mc m_ 1 _) (congrArg (fun m_ => mset m_ 0 12 _) (congrArg (fun m_ => mset m_ 0 9 _) (congrArg (fun m_ => mset m_ 0 8 _) (congrArg (fun m_ => mset m_ 0 13 _) (congrArg (fun m_ => mset m_ 0 12 _) (congrArg (fun m_ => mset m_ 0 9 _) (ff_n (by decide))))))))).trans ((congrArg (fun m_ => mc m_ 1 _) (congrArg (fun m_ => mset m_ 0 12 _) (congrArg (fun m_ => mset m_ 0 9 _) (congrArg (fun m_ => mset m_ 0 8 _) (congrArg (fun m_ => mset m_ 0 13 _) (congrArg (fun m_ => mset m_ 0 12 _) (congrArg (fun m_ => mset m_ 0 9 _) (congrArg (fun m_ => mset m_ 0 7 _) ff_s)))))))).trans ((congrArg (fun m_ => mc m_ 1 _) (congrArg (fun m_ => mset m_ 0 12 _) (congrArg (fun m_ => mset m_ 0 9 _) (ff_n (by decide))))).trans ((congrArg (fun m_ => mc m_ 1 _) (congrArg (fun m_ => mset m_ 0 12 _) (congrArg (fun m_ => mset m_ 0 9 _) (congrArg (fun m_ => mset m_ 0 13 _) (ff_n (by decide)))))).trans ((congrArg (fun m_ => mc m_ 1 _) (congrArg (fun m_ => mset m_ 0 12 _) (congrArg (fun m_ => mset m_ 0 9 _) (congrArg (fun m_ => mset m_ 0 13 _) (congrArg (fun m_ => mset m_ 0 12 _) (ff_n (by decide))))))).trans ((congrArg (fun m_ => mc m_ 1 _) (congrArg (fun m_ => mset m_ 0 12 _) (ff_n (by decide)))).trans ((congrArg (fun m_ => mc m_ 1 _) (congrArg (fun m_ => mset m_ 0 12 _) (congrArg (fun m_ => mset m_ 0 13 _) (ff_n (by decide))))).trans ((congrArg (fun m_ => mc m_ 1 _) (congrArg (fun m_ => mset m_ 0 12 _) (congrArg (fun m_ => mset m_ 0 13 _) (congrArg (fun m_ => mset m_ 0 12 _) ff_s)))).trans ((congrArg (fun m_ => mc m_ 1 _) (ff_n (by decide))).trans (congrArg (fun m_ => mc m_ 1 _) (congrArg (fun m_ => mset m_ 0 13 _) ff_s))))))))))))))) ?_
    refine x_istore_n O [(2, .int (nI ls1.length)), (0, .ref (adr 0))] dX6_reads_24 rfl rfl rfl ?_
    refine x_aload_n O 1 dX6_reads_25 rfl rfl ?_
    refine x_iload_n O 0 dX6_reads_26 rfl rfl ?_
    refine x_ifge O 37 dX6_reads_27 (by decide) (fun c27 => ?_) (fun c27 => ?_)
    · refine x_iconst O ((-1)) dX6_reads_37 (by decide) ?_
      refine x_mputQ O p_X6_24_6 (mp_10 _ _ _) rfl dX6_reads_38 (μ' := (mc (mset (mset (mset (mset (mset (mset (mset (mset (mset μ 0 0 (nI 0)) 0 5 (nI 0)) 0 6 (nI p1)) 0 7 (nI tp)) 0 8 (nI b1)) 0 9 (nI d1)) 0 10 ((-1))) 0 12 (nI (lsN 0 ls1))) 0 13 (b2i false)) 1 (lsW (μ 1) 0 0 ls1))) ((wc_n (by decide)).trans ((congrArg (fun m_ => mc m_ 1 _) (ff_n (by decide))).trans (congrArg (fun m_ => mc m_ 1 _) (congrArg (fun m_ => mset m_ 0 13 _) (ff_n (by decide)))))) ?_
      refine x_aload_n O 1 dX6_reads_41 rfl rfl ?_
      refine x_mget O k_X6_13_6 (mg_1 _ _) dX6_reads_42 ?_
      refine x_bipush O (nI 9) dX6_reads_45 (by decide) ?_
      refine x_cS O 1 (c_m_textAt 9) (lw_S q1845 q1846 q111 q1847) hd_X6_textAt rfl (by rw [RF]; rfl) (by rw [RL]; rfl) ⟨Nat.zero_le _, Nat.zero_le _⟩ rfl rfl dX6_reads_47 ?_
      refine x_top (v' := nI (m_textAt 9)) rfl ?_
      refine x_iload_n O 0 dX6_reads_50 rfl rfl ?_
      refine x_mastQ O 0 MS.c1 rfl rfl rfl (by unfold m_textAt; omega) rfl dX6_reads_51 (μ' := (mc (mset (mset (mset (mset (mset (mset (mset (mset (mset μ 0 0 (nI 0)) 0 5 (nI 0)) 0 6 (nI p1)) 0 7 (nI tp)) 0 8 (nI b1)) 0 9 (nI d1)) 0 10 ((-1))) 0 12 (nI (lsN 0 ls1))) 0 13 (b2i false)) 1 (ups (lsW (μ 1) 0 0 ls1) (m_textAt 9) (nI ls1.length)))) wc_s ?_
      refine x_iload_n O 0 dX6_reads_52 rfl rfl ?_
      refine x_iflt O 60 dX6_reads_53 (by decide) (fun c53 => ?_) (fun c53 => ?_)
      · exact absurd c53 (nI_pos (by omega))
      · refine x_sub [1] (L' := [(0, .ref (adr 0))]) rfl ?_
        refine x_iconst O (nI 1) dX6_reads_56 (by decide) ?_
        refine x_goto O 61 dX6_reads_57 (by decide) ?_
        refine x_top (v' := b2i true) (by decide) ?_
        exact x_zretQ O hQ rfl dX6_reads_61 (fun h m => post_okR hr21 hc1 m)
    · exact absurd (nI_pos' (by omega)) c27
  · refine x_cV O 0 (con_noA (c_m_readAll (μ := (mset (mset (mset (mset (mset (mset (mset μ 0 0 (nI 0)) 0 5 (nI 0)) 0 6 (nI 0)) 0 7 (nI tp)) 0 9 (nI 0)) 0 12 (nI 0)) 0 13 (b2i false))) tp ((rd_skip (by decide)).trans ((rd_skip (by decide)).trans ((rd_skip (by decide)).trans rd_hit))) htp rd_hit b0 0 (μ 1)) hr21) MS.obj uc6 (lw_V q1938 q1940 qs56 q111 q1941) rfl hd_X6_readAll rfl (by rw [RF]; rfl) (by rw [RL]; rfl) ⟨Nat.zero_le _, Nat.zero_le _⟩ rfl rfl dX6_reads_21 ?_
    refine x_top (v' := (-1)) rfl ?_
    refine x_ex4 (fun p1 d1 s1 W1 hW1 => ?_)
    refine x_weak (Ω' := MS G adr h0 ((mc (mset (mset (mset (mset (mset (mset (mset (mset μ 0 0 (nI 0)) 0 5 (nI 0)) 0 6 (nI p1)) 0 7 (nI tp)) 0 8 (nI b1)) 0 9 (nI d1)) 0 12 (nI s1)) 0 13 (b2i false)) 1 W1))) (fun _ m => m.eq ((congrArg (fun m_ => mc m_ 1 _) (congrArg (fun m_ => mset m_ 0 12 _) (congrArg (fun m_ => mset m_ 0 9 _) (congrArg (fun m_ => mset m_ 0 8 _) (ff_n (by decide)))))).trans ((congrArg (fun m_ => mc m_ 1 _) (congrArg (fun m_ => mset m_ 0 12 _) (congrArg (fun m_ => mset m_ 0 9 _) (congrArg (fun m_ => mset m_ 0 8 _) (congrArg (fun m_ => mset m_ 0 13 _) (ff_n (by decide))))))).trans ((congrArg (fun m_ => mc m_ 1 _) (congrArg (fun m_ => mset m_ 0 12 _) (congrArg (fun m_ => mset m_ 0 9 _) (congrArg (fun m_ => mset m_ 0 8 _) (congrArg (fun m_ => mset m_ 0 13 _) (congrArg (fun m_ => mset m_ 0 12 _) (ff_n (by decide)))))))).trans ((congrArg (fun m_ => mc m_ 1 _) (congrArg (fun m_ => mset m_ 0 12 _) (congrArg (fun m_ => mset m_ 0 9 _) (congrArg (fun m_ => mset m_ 0 8 _) (congrArg (fun m_ => mset m_ 0 13 _) (congrArg (fun m_ => mset m_ 0 12 _) (congrArg (fun m_ => mset m_ 0 9 _) (ff_n (by decide))))))))).trans ((congrArg (fun m_ => mc m_ 1 _) (congrArg (fun m_ => mset m_ 0 12 _) (congrArg (fun m_ => mset m_ 0 9 _) (congrArg (fun m_ => mset m_ 0 8 _) (congrArg (fun m_ => mset m_ 0 13 _) (congrArg (fun m_ => mset m_ 0 12 _) (congrArg (fun m_ => mset m_ 0 9 _) (congrArg (fun m_ => mset m_ 0 7 _) ff_s)))))))).trans ((congrArg (fun m_ => mc m_ 1 _) (congrArg (fun m_ => mset m_ 0 12 _) (congrArg (fun m_ => mset m_ 0 9 _) (ff_n (by decide))))).trans ((congrArg (fun m_ => mc m_ 1 _) (congrArg (fun m_ => mset m_ 0 12 _) (congrArg (fun m_ => mset m_ 0 9 _) (congrArg (fun m_ => mset m_ 0 13 _) (ff_n (by decide)))))).trans ((congrArg (fun m_ => mc m_ 1 _) (congrArg (fun m_ => mset m_ 0 12 _) (congrArg (fun m_ => mset m_ 0 9 _) (congrArg (fun m_ => mset m_ 0 13 _) (congrArg (fun m_ => mset m_ 0 12 _) (ff_n (by decide))))))).trans ((congrArg (fun m_ => mc m_ 1 _) (congrArg (fun m_ => mset m_ 0 12 _) (ff_n (by decide)))).trans ((congrArg (fun m_ => mc m_ 1 _) (congrArg (fun m_ => mset m_ 0 12 _) (congrArg (fun m_ => mset m_ 0 13 _) (ff_n (by decide))))).trans ((congrArg (fun m_ => mc m_ 1 _) (congrArg (fun m_ => mset m_ 0 12 _) (congrArg (fun m_ => mset m_ 0 13 _) (congrArg (fun m_ => mset m_ 0 12 _) ff_s)))).trans ((congrArg (fun m_ => mc m_ 1 _) (ff_n (by decide))).trans (congrArg (fun m_ => mc m_ 1 _) (congrArg (fun m_ => mset m_ 0 13 _) ff_s))))))))))))))) ?_
    refine x_istore_n O [(2, .int ((-1))), (0, .ref (adr 0))] dX6_reads_24 rfl rfl rfl ?_
    refine x_aload_n O 1 dX6_reads_25 rfl rfl ?_
    refine x_iload_n O 0 dX6_reads_26 rfl rfl ?_
    refine x_ifge O 37 dX6_reads_27 (by decide) (fun c27 => ?_) (fun c27 => ?_)
    · exact absurd c27 (by decide)
    · refine x_aload_n O 1 dX6_reads_30 rfl rfl ?_
      refine x_mget O k_X6_121_6 (mg_8 _ _) dX6_reads_31 ?_
      refine x_top (v' := nI b1) ((congrFun (mc_n (by decide)) 8).trans ((rd_skip (by decide)).trans ((rd_skip (by decide)).trans ((rd_skip (by decide)).trans rd_hit)))) ?_
      refine x_goto O 38 dX6_reads_34 (by decide) ?_
      refine x_mputQ O p_X6_24_6 (mp_10 _ _ _) rfl dX6_reads_38 (μ' := (mc (mset (mset (mset (mset (mset (mset (mset (mset (mset μ 0 0 (nI 0)) 0 5 (nI 0)) 0 6 (nI p1)) 0 7 (nI tp)) 0 8 (nI b1)) 0 9 (nI d1)) 0 10 (nI b1)) 0 12 (nI s1)) 0 13 (b2i false)) 1 W1)) ((wc_n (by decide)).trans ((congrArg (fun m_ => mc m_ 1 _) (ff_n (by decide))).trans (congrArg (fun m_ => mc m_ 1 _) (congrArg (fun m_ => mset m_ 0 13 _) (ff_n (by decide)))))) ?_
      refine x_aload_n O 1 dX6_reads_41 rfl rfl ?_
      refine x_mget O k_X6_13_6 (mg_1 _ _) dX6_reads_42 ?_
      refine x_bipush O (nI 9) dX6_reads_45 (by decide) ?_
      refine x_cS O 1 (c_m_textAt 9) (lw_S q1845 q1846 q111 q1847) hd_X6_textAt rfl (by rw [RF]; rfl) (by rw [RL]; rfl) ⟨Nat.zero_le _, Nat.zero_le _⟩ rfl rfl dX6_reads_47 ?_
      refine x_top (v' := nI (m_textAt 9)) rfl ?_
      refine x_iload_n O 0 dX6_reads_50 rfl rfl ?_
      refine x_mastQ O 0 MS.c1 rfl rfl rfl (by unfold m_textAt; omega) rfl dX6_reads_51 (μ' := (mc (mset (mset (mset (mset (mset (mset (mset (mset (mset μ 0 0 (nI 0)) 0 5 (nI 0)) 0 6 (nI p1)) 0 7 (nI tp)) 0 8 (nI b1)) 0 9 (nI d1)) 0 10 (nI b1)) 0 12 (nI s1)) 0 13 (b2i false)) 1 (ups W1 (m_textAt 9) ((-1))))) wc_s ?_
      refine x_iload_n O 0 dX6_reads_52 rfl rfl ?_
      refine x_iflt O 60 dX6_reads_53 (by decide) (fun c53 => ?_) (fun c53 => ?_)
      · refine x_sub [1] (L' := [(0, .ref (adr 0))]) rfl ?_
        refine x_iconst O (nI 0) dX6_reads_60 (by decide) ?_
        refine x_top (v' := b2i false) (by decide) ?_
        exact x_zretQ O hQ rfl dX6_reads_61 (fun h m => post_noR hr21 (fun j hj => (ups_n (by unfold m_textAt; omega)).trans (hW1 j hj)) m)
      · exact absurd (by decide) c53

set_option maxHeartbeats 1000000 in
set_option maxRecDepth 100000 in
theorem c_m_readsS {G : UG} {adr : Nat → Nat} {h0 : Hp} {μ : Mu} (tp : Nat) (h5 : μ 0 5 = nI tp) (htp : tp ≤ 400) (b0 : Nat) (h8 : μ 0 8 = nI b0) : Con G yX6_reads cX6_reads 3 (some .boolean) 35 1181 0 0 [.ref (adr 0), .int (b2i true)] (MS G adr h0 μ) (PostR G adr h0 μ (μ 1) tp true (fun a => stW (μ 1) a) (fun _ => 1) (pStory (μ 3) tp)) nX := by
  refine con_of2 (plainFor_of_name (by decide)) rfl ?_
  intro F R Q RF RL RC RS hQ O hnh hnm
  refine x_eq (L' := [(0, .ref (adr 0)), (1, .int (b2i true))]) ?_ rfl rfl rfl
  refine x_aload_n O 0 dX6_reads_0 rfl rfl ?_
  refine x_cV O 0 (c_n_uses (μ := μ) tp h5) MS.obj uc6 (lw_V q1834 q1836 qs37 q111 q1837) rfl hd_X6_uses rfl (by rw [RF]; rfl) (by rw [RL]; rfl) ⟨Nat.zero_le _, Nat.zero_le _⟩ rfl rfl dX6_reads_1 ?_
  refine x_weak (Ω' := MS G adr h0 (mset (mset (mset (mset (mset (mset μ 0 0 (nI (n_uses_f0 tp))) 0 5 (nI (n_uses_f5 tp))) 0 6 (nI (n_uses_f6 tp))) 0 7 (nI (n_uses_f7 tp))) 0 9 (nI (n_uses_f9 tp))) 0 12 (nI (n_uses_f12 tp)))) (fun _ m => m.eq rfl) ?_
  refine x_weak (Ω' := MS G adr h0 ((mset (mset (mset (mset (mset (mset μ 0 0 (nI 0)) 0 5 (nI 0)) 0 6 (nI 0)) 0 7 (nI tp)) 0 9 (nI 0)) 0 12 (nI 0)))) (fun _ m => m) ?_
  refine x_aload_n O 0 dX6_reads_4 rfl rfl ?_
  refine x_iload_n O 1 dX6_reads_5 rfl rfl ?_
  refine x_mputBQ O p_X6_151_6 (mp_13 _ _ _) rfl dX6_reads_6 (μ' := (mset (mset (mset (mset (mset (mset (mset μ 0 0 (nI 0)) 0 5 (nI 0)) 0 6 (nI 0)) 0 7 (nI tp)) 0 9 (nI 0)) 0 12 (nI 0)) 0 13 (b2i true))) rfl ?_
  refine x_iload_n O 1 dX6_reads_9 rfl rfl ?_
  refine x_ifeqB O 20 dX6_reads_10 (by decide) (fun c => absurd rfl c) (fun _ => ?_)
  refine x_sub [0] (L' := [(0, .ref (adr 0))]) rfl ?_
  refine x_aload_n O 0 dX6_reads_13 rfl rfl ?_
  refine x_weak (Ω' := MS G adr h0 (ps ((mset (mset (mset (mset (mset (mset (mset μ 0 0 (nI 0)) 0 5 (nI 0)) 0 6 (nI 0)) 0 7 (nI tp)) 0 9 (nI 0)) 0 12 (nI 0)) 0 13 (b2i true))) 0 b0 0 0 (μ 1))) (fun _ m => m.eq ((mc_id (by rfl)).trans ((mf_id (by rfl)).trans ((mf_id (by rfl)).trans ((mf_id (by exact h8)).trans (mf_id (by rfl)))))).symm) ?_
  rcases hr14 : pStory (μ 3) tp with ls1 | b1
  · refine x_cV O 0 (con_okO (c_m_readOne (μ := (mset (mset (mset (mset (mset (mset (mset μ 0 0 (nI 0)) 0 5 (nI 0)) 0 6 (nI 0)) 0 7 (nI tp)) 0 9 (nI 0)) 0 12 (nI 0)) 0 13 (b2i true))) tp ((rd_skip (by decide)).trans ((rd_skip (by decide)).trans ((rd_skip (by decide)).trans rd_hit))) htp rd_hit b0 (μ 1)) hr14) MS.obj uc6 (lw_V q1838 q1840 qs38 q111 q1841) rfl hd_X6_readOne rfl (by rw [RF]; rfl) (by rw [RL]; rfl) ⟨Nat.zero_le _, Nat.zero_le _⟩ rfl rfl dX6_reads_14 ?_
    refine x_top (v' := nI 1) rfl ?_
    refine x_exA (fun hc1 p1 b1 d1 => ?_)
    refine x_weak (Ω' := MS G adr h0 ((mc (mset (mset (mset (mset (mset (mset (mset (mset μ 0 0 (nI 0)) 0 5 (nI 0)) 0 6 (nI p1)) 0 7 (nI tp)) 0 8 (nI b1)) 0 9 (nI d1)) 0 12 (nI (0 + ls1.length))) 0 13 (b2i true)) 1 (stW (μ 1) ls1)))) (fun _ m => m.eq ((congrArg (fun m_ => mc m_ 1 _) (congrArg (fun m_ => mset m_ 0 12 _) (congrArg (fun m_ => mset m_ 0 9 _) (congrArg (fun m_ => mset m_ 0 8 _) (ff_n (by decide)))))).trans ((congrArg (fun m_ => mc m_ 1 _) (congrArg (fun m_ => mset m_ 0 12 _) (congrArg (fun m_ => mset m_ 0 9 _) (congrArg (fun m_ => mset m_ 0 8 _) (congrArg (fun m_ => mset m_ 0 13 _) (ff_n (by decide))))))).trans ((congrArg (fun m_ => mc m_ 1 _) (congrArg (fun m_ => mset m_ 0 12 _) (congrArg (fun m_ => mset m_ 0 9 _) (congrArg (fun m_ => mset m_ 0 8 _) (congrArg (fun m_ => mset m_ 0 13 _) (congrArg (fun m_ => mset m_ 0 12 _) (ff_n (by decide)))))))).trans ((congrArg (fun m_ => mc m_ 1 _) (congrArg (fun m_ => mset m_ 0 12 _) (congrArg (fun m_ => mset m_ 0 9 _) (congrArg (fun m_ => mset m_ 0 8 _) (congrArg (fun m_ => mset m_ 0 13 _) (congrArg (fun m_ => mset m_ 0 12 _) (congrArg (fun m_ => mset m_ 0 9 _) (ff_n (by decide))))))))).trans ((congrArg (fun m_ => mc m_ 1 _) (congrArg (fun m_ => mset m_ 0 12 _) (congrArg (fun m_ => mset m_ 0 9 _) (congrArg (fun m_ => mset m_ 0 8 _) (congrArg (fun m_ => mset m_ 0 13 _) (congrArg (fun m_ => mset m_ 0 12 _) (congrArg (fun m_ => mset m_ 0 9 _) (congrArg (fun m_ => mset m_ 0 7 _) ff_s)))))))).trans ((congrArg (fun m_ => mc m_ 1 _) (congrArg (fun m_ => mset m_ 0 12 _) (congrArg (fun m_ => mset m_ 0 9 _) (ff_n (by decide))))).trans ((congrArg (fun m_ => mc m_ 1 _) (congrArg (fun m_ => mset m_ 0 12 _) (congrArg (fun m_ => mset m_ 0 9 _) (congrArg (fun m_ => mset m_ 0 13 _) (ff_n (by decide)))))).trans ((congrArg (fun m_ => mc m_ 1 _) (congrArg (fun m_ => mset m_ 0 12 _) (congrArg (fun m_ => mset m_ 0 9 _) (congrArg (fun m_ => mset m_ 0 13 _) (congrArg (fun m_ => mset m_ 0 12 _) (ff_n (by decide))))))).trans ((congrArg (fun m_ => mc m_ 1 _) (congrArg (fun m_ => mset m_ 0 12 _) (ff_n (by decide)))).trans ((congrArg (fun m_ => mc m_ 1 _) (congrArg (fun m_ => mset m_ 0 12 _) (congrArg (fun m_ => mset m_ 0 13 _) (ff_n (by decide))))).trans ((congrArg (fun m_ => mc m_ 1 _) (congrArg (fun m_ => mset m_ 0 12 _) (congrArg (fun m_ => mset m_ 0 13 _) (congrArg (fun m_ => mset m_ 0 12 _) ff_s)))).trans ((congrArg (fun m_ => mc m_ 1 _) (ff_n (by decide))).trans (congrArg (fun m_ => mc m_ 1 _) (congrArg (fun m_ => mset m_ 0 13 _) ff_s))))))))))))))) ?_
    refine x_goto O 24 dX6_reads_17 (by decide) ?_
    refine x_istore_n O [(2, .int (nI 1)), (0, .ref (adr 0))] dX6_reads_24 rfl rfl rfl ?_
    refine x_aload_n O 1 dX6_reads_25 rfl rfl ?_
    refine x_iload_n O 0 dX6_reads_26 rfl rfl ?_
    refine x_ifge O 37 dX6_reads_27 (by decide) (fun c27 => ?_) (fun c27 => ?_)
    · refine x_iconst O ((-1)) dX6_reads_37 (by decide) ?_
      refine x_mputQ O p_X6_24_6 (mp_10 _ _ _) rfl dX6_reads_38 (μ' := (mc (mset (mset (mset (mset (mset (mset (mset (mset (mset μ 0 0 (nI 0)) 0 5 (nI 0)) 0 6 (nI p1)) 0 7 (nI tp)) 0 8 (nI b1)) 0 9 (nI d1)) 0 10 ((-1))) 0 12 (nI (0 + ls1.length))) 0 13 (b2i true)) 1 (stW (μ 1) ls1))) ((wc_n (by decide)).trans ((congrArg (fun m_ => mc m_ 1 _) (ff_n (by decide))).trans (congrArg (fun m_ => mc m_ 1 _) (congrArg (fun m_ => mset m_ 0 13 _) (ff_n (by decide)))))) ?_
      refine x_aload_n O 1 dX6_reads_41 rfl rfl ?_
      refine x_mget O k_X6_13_6 (mg_1 _ _) dX6_reads_42 ?_
      refine x_bipush O (nI 9) dX6_reads_45 (by decide) ?_
      refine x_cS O 1 (c_m_textAt 9) (lw_S q1845 q1846 q111 q1847) hd_X6_textAt rfl (by rw [RF]; rfl) (by rw [RL]; rfl) ⟨Nat.zero_le _, Nat.zero_le _⟩ rfl rfl dX6_reads_47 ?_
      refine x_top (v' := nI (m_textAt 9)) rfl ?_
      refine x_iload_n O 0 dX6_reads_50 rfl rfl ?_
      refine x_mastQ O 0 MS.c1 rfl rfl rfl (by unfold m_textAt; omega) rfl dX6_reads_51 (μ' := (mc (mset (mset (mset (mset (mset (mset (mset (mset (mset μ 0 0 (nI 0)) 0 5 (nI 0)) 0 6 (nI p1)) 0 7 (nI tp)) 0 8 (nI b1)) 0 9 (nI d1)) 0 10 ((-1))) 0 12 (nI (0 + ls1.length))) 0 13 (b2i true)) 1 (ups (stW (μ 1) ls1) (m_textAt 9) (nI 1)))) wc_s ?_
      refine x_iload_n O 0 dX6_reads_52 rfl rfl ?_
      refine x_iflt O 60 dX6_reads_53 (by decide) (fun c53 => ?_) (fun c53 => ?_)
      · exact absurd c53 (nI_pos (by omega))
      · refine x_sub [1] (L' := [(0, .ref (adr 0))]) rfl ?_
        refine x_iconst O (nI 1) dX6_reads_56 (by decide) ?_
        refine x_goto O 61 dX6_reads_57 (by decide) ?_
        refine x_top (v' := b2i true) (by decide) ?_
        exact x_zretQ O hQ rfl dX6_reads_61 (fun h m => post_okR hr14 hc1 m)
    · exact absurd (nI_pos' (by omega)) c27
  · refine x_cV O 0 (con_noO (c_m_readOne (μ := (mset (mset (mset (mset (mset (mset (mset μ 0 0 (nI 0)) 0 5 (nI 0)) 0 6 (nI 0)) 0 7 (nI tp)) 0 9 (nI 0)) 0 12 (nI 0)) 0 13 (b2i true))) tp ((rd_skip (by decide)).trans ((rd_skip (by decide)).trans ((rd_skip (by decide)).trans rd_hit))) htp rd_hit b0 (μ 1)) hr14) MS.obj uc6 (lw_V q1838 q1840 qs38 q111 q1841) rfl hd_X6_readOne rfl (by rw [RF]; rfl) (by rw [RL]; rfl) ⟨Nat.zero_le _, Nat.zero_le _⟩ rfl rfl dX6_reads_14 ?_
    refine x_top (v' := (-1)) rfl ?_
    refine x_ex4 (fun p1 d1 s1 W1 hW1 => ?_)
    refine x_weak (Ω' := MS G adr h0 ((mc (mset (mset (mset (mset (mset (mset (mset (mset μ 0 0 (nI 0)) 0 5 (nI 0)) 0 6 (nI p1)) 0 7 (nI tp)) 0 8 (nI b1)) 0 9 (nI d1)) 0 12 (nI s1)) 0 13 (b2i true)) 1 W1))) (fun _ m => m.eq ((congrArg (fun m_ => mc m_ 1 _) (congrArg (fun m_ => mset m_ 0 12 _) (congrArg (fun m_ => mset m_ 0 9 _) (congrArg (fun m_ => mset m_ 0 8 _) (ff_n (by decide)))))).trans ((congrArg (fun m_ => mc m_ 1 _) (congrArg (fun m_ => mset m_ 0 12 _) (congrArg (fun m_ => mset m_ 0 9 _) (congrArg (fun m_ => mset m_ 0 8 _) (congrArg (fun m_ => mset m_ 0 13 _) (ff_n (by decide))))))).trans ((congrArg (fun m_ => mc m_ 1 _) (congrArg (fun m_ => mset m_ 0 12 _) (congrArg (fun m_ => mset m_ 0 9 _) (congrArg (fun m_ => mset m_ 0 8 _) (congrArg (fun m_ => mset m_ 0 13 _) (congrArg (fun m_ => mset m_ 0 12 _) (ff_n (by decide)))))))).trans ((congrArg (fun m_ => mc m_ 1 _) (congrArg (fun m_ => mset m_ 0 12 _) (congrArg (fun m_ => mset m_ 0 9 _) (congrArg (fun m_ => mset m_ 0 8 _) (congrArg (fun m_ => mset m_ 0 13 _) (congrArg (fun m_ => mset m_ 0 12 _) (congrArg (fun m_ => mset m_ 0 9 _) (ff_n (by decide))))))))).trans ((congrArg (fun m_ => mc m_ 1 _) (congrArg (fun m_ => mset m_ 0 12 _) (congrArg (fun m_ => mset m_ 0 9 _) (congrArg (fun m_ => mset m_ 0 8 _) (congrArg (fun m_ => mset m_ 0 13 _) (congrArg (fun m_ => mset m_ 0 12 _) (congrArg (fun m_ => mset m_ 0 9 _) (congrArg (fun m_ => mset m_ 0 7 _) ff_s)))))))).trans ((congrArg (fun m_ => mc m_ 1 _) (congrArg (fun m_ => mset m_ 0 12 _) (congrArg (fun m_ => mset m_ 0 9 _) (ff_n (by decide))))).trans ((congrArg (fun m_ => mc m_ 1 _) (congrArg (fun m_ => mset m_ 0 12 _) (congrArg (fun m_ => mset m_ 0 9 _) (congrArg (fun m_ => mset m_ 0 13 _) (ff_n (by decide)))))).trans ((congrArg (fun m_ => mc m_ 1 _) (congrArg (fun m_ => mset m_ 0 12 _) (congrArg (fun m_ => mset m_ 0 9 _) (congrArg (fun m_ => mset m_ 0 13 _) (congrArg (fun m_ => mset m_ 0 12 _) (ff_n (by decide))))))).trans ((congrArg (fun m_ => mc m_ 1 _) (congrArg (fun m_ => mset m_ 0 12 _) (ff_n (by decide)))).trans ((congrArg (fun m_ => mc m_ 1 _) (congrArg (fun m_ => mset m_ 0 12 _) (congrArg (fun m_ => mset m_ 0 13 _) (ff_n (by decide))))).trans ((congrArg (fun m_ => mc m_ 1 _) (congrArg (fun m_ => mset m_ 0 12 _) (congrArg (fun m_ => mset m_ 0 13 _) (congrArg (fun m_ => mset m_ 0 12 _) ff_s)))).trans ((congrArg (fun m_ => mc m_ 1 _) (ff_n (by decide))).trans (congrArg (fun m_ => mc m_ 1 _) (congrArg (fun m_ => mset m_ 0 13 _) ff_s))))))))))))))) ?_
    refine x_goto O 24 dX6_reads_17 (by decide) ?_
    refine x_istore_n O [(2, .int ((-1))), (0, .ref (adr 0))] dX6_reads_24 rfl rfl rfl ?_
    refine x_aload_n O 1 dX6_reads_25 rfl rfl ?_
    refine x_iload_n O 0 dX6_reads_26 rfl rfl ?_
    refine x_ifge O 37 dX6_reads_27 (by decide) (fun c27 => ?_) (fun c27 => ?_)
    · exact absurd c27 (by decide)
    · refine x_aload_n O 1 dX6_reads_30 rfl rfl ?_
      refine x_mget O k_X6_121_6 (mg_8 _ _) dX6_reads_31 ?_
      refine x_top (v' := nI b1) ((congrFun (mc_n (by decide)) 8).trans ((rd_skip (by decide)).trans ((rd_skip (by decide)).trans ((rd_skip (by decide)).trans rd_hit)))) ?_
      refine x_goto O 38 dX6_reads_34 (by decide) ?_
      refine x_mputQ O p_X6_24_6 (mp_10 _ _ _) rfl dX6_reads_38 (μ' := (mc (mset (mset (mset (mset (mset (mset (mset (mset (mset μ 0 0 (nI 0)) 0 5 (nI 0)) 0 6 (nI p1)) 0 7 (nI tp)) 0 8 (nI b1)) 0 9 (nI d1)) 0 10 (nI b1)) 0 12 (nI s1)) 0 13 (b2i true)) 1 W1)) ((wc_n (by decide)).trans ((congrArg (fun m_ => mc m_ 1 _) (ff_n (by decide))).trans (congrArg (fun m_ => mc m_ 1 _) (congrArg (fun m_ => mset m_ 0 13 _) (ff_n (by decide)))))) ?_
      refine x_aload_n O 1 dX6_reads_41 rfl rfl ?_
      refine x_mget O k_X6_13_6 (mg_1 _ _) dX6_reads_42 ?_
      refine x_bipush O (nI 9) dX6_reads_45 (by decide) ?_
      refine x_cS O 1 (c_m_textAt 9) (lw_S q1845 q1846 q111 q1847) hd_X6_textAt rfl (by rw [RF]; rfl) (by rw [RL]; rfl) ⟨Nat.zero_le _, Nat.zero_le _⟩ rfl rfl dX6_reads_47 ?_
      refine x_top (v' := nI (m_textAt 9)) rfl ?_
      refine x_iload_n O 0 dX6_reads_50 rfl rfl ?_
      refine x_mastQ O 0 MS.c1 rfl rfl rfl (by unfold m_textAt; omega) rfl dX6_reads_51 (μ' := (mc (mset (mset (mset (mset (mset (mset (mset (mset (mset μ 0 0 (nI 0)) 0 5 (nI 0)) 0 6 (nI p1)) 0 7 (nI tp)) 0 8 (nI b1)) 0 9 (nI d1)) 0 10 (nI b1)) 0 12 (nI s1)) 0 13 (b2i true)) 1 (ups W1 (m_textAt 9) ((-1))))) wc_s ?_
      refine x_iload_n O 0 dX6_reads_52 rfl rfl ?_
      refine x_iflt O 60 dX6_reads_53 (by decide) (fun c53 => ?_) (fun c53 => ?_)
      · refine x_sub [1] (L' := [(0, .ref (adr 0))]) rfl ?_
        refine x_iconst O (nI 0) dX6_reads_60 (by decide) ?_
        refine x_top (v' := b2i false) (by decide) ?_
        exact x_zretQ O hQ rfl dX6_reads_61 (fun h m => post_noR hr14 (fun j hj => (ups_n (by unfold m_textAt; omega)).trans (hW1 j hj)) m)
      · exact absurd (by decide) c53
